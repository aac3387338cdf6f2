section
-- ===== PART A: goes FIRST, ahead of the names: the tables' words, and 'selects' of the private methods out of them =====
/-- a private method of a class that the tables say can be made, by its rows of tables_1 -/
def lw_okq (q : MethodName × Nat) : Prop := (q.1.cls ≠ "java/lang/invoke/MethodHandle" ∧ q.1.cls ≠ "java/lang/invoke/VarHandle") ∧ Cond.instantiable q.1.cls q.2 ∈ tables_1 ∧ Cond.privateMethod q.1 ∈ tables_1 ∧ Cond.instanceMethod q.1 ∈ tables_1
set_option maxRecDepth 100000
theorem lw_t1 {w : Cond} (h : w ∈ tables_1_1) : w ∈ tables_1 := List.mem_append_left _ h
theorem lw_t2 {w : Cond} (h : w ∈ tables_1_2) : w ∈ tables_1 := List.mem_append_right _ h
theorem lw_p0 : lw_okq (⟨"SearchMachine", "choiceSteps", "()I"⟩, 15) := ⟨⟨by decide +kernel, by decide +kernel⟩, lw_t1 (List.mem_of_getElem? (i := 4) rfl), lw_t1 (List.mem_of_getElem? (i := 73) rfl), lw_t1 (List.mem_of_getElem? (i := 74) rfl)⟩
theorem lw_p1 : lw_okq (⟨"SearchMachine", "countAnswers", "(I)I"⟩, 15) := ⟨⟨by decide +kernel, by decide +kernel⟩, lw_t1 (List.mem_of_getElem? (i := 4) rfl), lw_t1 (List.mem_of_getElem? (i := 89) rfl), lw_t1 (List.mem_of_getElem? (i := 90) rfl)⟩
theorem lw_p2 : lw_okq (⟨"SearchMachine", "start", "(I)V"⟩, 15) := ⟨⟨by decide +kernel, by decide +kernel⟩, lw_t1 (List.mem_of_getElem? (i := 4) rfl), lw_t1 (List.mem_of_getElem? (i := 93) rfl), lw_t1 (List.mem_of_getElem? (i := 94) rfl)⟩
theorem lw_p3 : lw_okq (⟨"SearchMachine", "advance", "(Z)Z"⟩, 15) := ⟨⟨by decide +kernel, by decide +kernel⟩, lw_t1 (List.mem_of_getElem? (i := 4) rfl), lw_t1 (List.mem_of_getElem? (i := 97) rfl), lw_t1 (List.mem_of_getElem? (i := 98) rfl)⟩
theorem lw_p4 : lw_okq (⟨"SearchMachine", "goBack", "()Z"⟩, 15) := ⟨⟨by decide +kernel, by decide +kernel⟩, lw_t1 (List.mem_of_getElem? (i := 4) rfl), lw_t1 (List.mem_of_getElem? (i := 101) rfl), lw_t1 (List.mem_of_getElem? (i := 102) rfl)⟩
theorem lw_p5 : lw_okq (⟨"SearchMachine", "undoTo", "(I)V"⟩, 15) := ⟨⟨by decide +kernel, by decide +kernel⟩, lw_t1 (List.mem_of_getElem? (i := 4) rfl), lw_t1 (List.mem_of_getElem? (i := 105) rfl), lw_t1 (List.mem_of_getElem? (i := 106) rfl)⟩
theorem lw_p6 : lw_okq (⟨"SearchMachine", "waysOf", "(I)I"⟩, 15) := ⟨⟨by decide +kernel, by decide +kernel⟩, lw_t1 (List.mem_of_getElem? (i := 4) rfl), lw_t1 (List.mem_of_getElem? (i := 109) rfl), lw_t1 (List.mem_of_getElem? (i := 110) rfl)⟩
theorem lw_p7 : lw_okq (⟨"SearchMachine", "takeWay", "(II)V"⟩, 15) := ⟨⟨by decide +kernel, by decide +kernel⟩, lw_t1 (List.mem_of_getElem? (i := 4) rfl), lw_t1 (List.mem_of_getElem? (i := 113) rfl), lw_t1 (List.mem_of_getElem? (i := 114) rfl)⟩
theorem lw_p8 : lw_okq (⟨"SearchMachine", "assign", "(II)V"⟩, 15) := ⟨⟨by decide +kernel, by decide +kernel⟩, lw_t1 (List.mem_of_getElem? (i := 4) rfl), lw_t1 (List.mem_of_getElem? (i := 117) rfl), lw_t1 (List.mem_of_getElem? (i := 118) rfl)⟩
theorem lw_p9 : lw_okq (⟨"SearchMachine", "doStep", "()Z"⟩, 15) := ⟨⟨by decide +kernel, by decide +kernel⟩, lw_t1 (List.mem_of_getElem? (i := 4) rfl), lw_t1 (List.mem_of_getElem? (i := 121) rfl), lw_t1 (List.mem_of_getElem? (i := 122) rfl)⟩
theorem lw_p10 : lw_okq (⟨"SearchMachine", "beginChoice", "()Z"⟩, 15) := ⟨⟨by decide +kernel, by decide +kernel⟩, lw_t1 (List.mem_of_getElem? (i := 4) rfl), lw_t1 (List.mem_of_getElem? (i := 125) rfl), lw_t1 (List.mem_of_getElem? (i := 126) rfl)⟩
theorem lw_p11 : lw_okq (⟨"SearchMachineModel", "good", "(III)Z"⟩, 7) := ⟨⟨by decide +kernel, by decide +kernel⟩, lw_t1 (List.mem_of_getElem? (i := 150) rfl), lw_t1 (List.mem_of_getElem? (i := 182) rfl), lw_t1 (List.mem_of_getElem? (i := 183) rfl)⟩
theorem lw_p12 : lw_okq (⟨"SearchMachineModel", "variable", "(I)Z"⟩, 7) := ⟨⟨by decide +kernel, by decide +kernel⟩, lw_t1 (List.mem_of_getElem? (i := 150) rfl), lw_t1 (List.mem_of_getElem? (i := 186) rfl), lw_t1 (List.mem_of_getElem? (i := 187) rfl)⟩
theorem lw_p13 : lw_okq (⟨"SearchMachineModel", "choice", "(I)Z"⟩, 7) := ⟨⟨by decide +kernel, by decide +kernel⟩, lw_t1 (List.mem_of_getElem? (i := 150) rfl), lw_t1 (List.mem_of_getElem? (i := 190) rfl), lw_t1 (List.mem_of_getElem? (i := 191) rfl)⟩
theorem lw_p14 : lw_okq (⟨"SearchMachineModel", "choices", "()I"⟩, 7) := ⟨⟨by decide +kernel, by decide +kernel⟩, lw_t1 (List.mem_of_getElem? (i := 150) rfl), lw_t1 (List.mem_of_getElem? (i := 194) rfl), lw_t1 (List.mem_of_getElem? (i := 195) rfl)⟩
theorem lw_p15 : lw_okq (⟨"SearchMachineModel", "begin", "()V"⟩, 7) := ⟨⟨by decide +kernel, by decide +kernel⟩, lw_t1 (List.mem_of_getElem? (i := 150) rfl), lw_t1 (List.mem_of_getElem? (i := 214) rfl), lw_t1 (List.mem_of_getElem? (i := 215) rfl)⟩
def lw_privs_1 : List (MethodName × Nat) := [(⟨"SearchMachine", "choiceSteps", "()I"⟩, 15), (⟨"SearchMachine", "countAnswers", "(I)I"⟩, 15), (⟨"SearchMachine", "start", "(I)V"⟩, 15), (⟨"SearchMachine", "advance", "(Z)Z"⟩, 15), (⟨"SearchMachine", "goBack", "()Z"⟩, 15), (⟨"SearchMachine", "undoTo", "(I)V"⟩, 15), (⟨"SearchMachine", "waysOf", "(I)I"⟩, 15), (⟨"SearchMachine", "takeWay", "(II)V"⟩, 15), (⟨"SearchMachine", "assign", "(II)V"⟩, 15), (⟨"SearchMachine", "doStep", "()Z"⟩, 15), (⟨"SearchMachine", "beginChoice", "()Z"⟩, 15), (⟨"SearchMachineModel", "good", "(III)Z"⟩, 7), (⟨"SearchMachineModel", "variable", "(I)Z"⟩, 7), (⟨"SearchMachineModel", "choice", "(I)Z"⟩, 7), (⟨"SearchMachineModel", "choices", "()I"⟩, 7), (⟨"SearchMachineModel", "begin", "()V"⟩, 7)]
theorem lw_r1 : ∀ q ∈ lw_privs_1, lw_okq q := List.forall_mem_cons.mpr ⟨lw_p0, List.forall_mem_cons.mpr ⟨lw_p1, List.forall_mem_cons.mpr ⟨lw_p2, List.forall_mem_cons.mpr ⟨lw_p3, List.forall_mem_cons.mpr ⟨lw_p4, List.forall_mem_cons.mpr ⟨lw_p5, List.forall_mem_cons.mpr ⟨lw_p6, List.forall_mem_cons.mpr ⟨lw_p7, List.forall_mem_cons.mpr ⟨lw_p8, List.forall_mem_cons.mpr ⟨lw_p9, List.forall_mem_cons.mpr ⟨lw_p10, List.forall_mem_cons.mpr ⟨lw_p11, List.forall_mem_cons.mpr ⟨lw_p12, List.forall_mem_cons.mpr ⟨lw_p13, List.forall_mem_cons.mpr ⟨lw_p14, List.forall_mem_cons.mpr ⟨lw_p15, fun _ h => absurd h List.not_mem_nil⟩⟩⟩⟩⟩⟩⟩⟩⟩⟩⟩⟩⟩⟩⟩⟩
theorem lw_p16 : lw_okq (⟨"SearchMachineModel", "between", "(II)I"⟩, 7) := ⟨⟨by decide +kernel, by decide +kernel⟩, lw_t1 (List.mem_of_getElem? (i := 150) rfl), lw_t1 (List.mem_of_getElem? (i := 218) rfl), lw_t1 (List.mem_of_getElem? (i := 219) rfl)⟩
theorem lw_p17 : lw_okq (⟨"SearchMachineModel", "options", "(I)I"⟩, 7) := ⟨⟨by decide +kernel, by decide +kernel⟩, lw_t1 (List.mem_of_getElem? (i := 150) rfl), lw_t1 (List.mem_of_getElem? (i := 222) rfl), lw_t1 (List.mem_of_getElem? (i := 223) rfl)⟩
theorem lw_p18 : lw_okq (⟨"SearchMachineModel", "run", "(II)Z"⟩, 7) := ⟨⟨by decide +kernel, by decide +kernel⟩, lw_t1 (List.mem_of_getElem? (i := 150) rfl), lw_t1 (List.mem_of_getElem? (i := 226) rfl), lw_t1 (List.mem_of_getElem? (i := 227) rfl)⟩
theorem lw_p19 : lw_okq (⟨"SearchMachineModel", "carryOut", "(III)Z"⟩, 7) := ⟨⟨by decide +kernel, by decide +kernel⟩, lw_t1 (List.mem_of_getElem? (i := 150) rfl), lw_t1 (List.mem_of_getElem? (i := 230) rfl), lw_t1 (List.mem_of_getElem? (i := 231) rfl)⟩
def lw_privs_2 : List (MethodName × Nat) := [(⟨"SearchMachineModel", "between", "(II)I"⟩, 7), (⟨"SearchMachineModel", "options", "(I)I"⟩, 7), (⟨"SearchMachineModel", "run", "(II)Z"⟩, 7), (⟨"SearchMachineModel", "carryOut", "(III)Z"⟩, 7)]
theorem lw_r2 : ∀ q ∈ lw_privs_2, lw_okq q := List.forall_mem_cons.mpr ⟨lw_p16, List.forall_mem_cons.mpr ⟨lw_p17, List.forall_mem_cons.mpr ⟨lw_p18, List.forall_mem_cons.mpr ⟨lw_p19, fun _ h => absurd h List.not_mem_nil⟩⟩⟩⟩
def lw_privs : List (MethodName × Nat) := lw_privs_1 ++ (lw_privs_2)
def lw_tbl : List Cond := k2_sels lw_privs ++ tables_1
theorem lw_privs_ok : ∀ q ∈ lw_privs, lw_okq q := by
  show ∀ q ∈ lw_privs_1 ++ (lw_privs_2), lw_okq q
  exact List.forall_mem_append.mpr ⟨lw_r1, lw_r2⟩
-- ===== ONE list of words for every method: the tables' words that hold all through a run =====
def lw_all : List Cond := lw_tbl.filter goodWord
/-- a word of the tables by its place: claim/WORDS.tsv -/
theorem lw_w {w : Cond} (i : Nat) (h : lw_tbl[i]? = some w) (g : goodWord w = true) : w ∈ lw_all := List.mem_filter.mpr ⟨List.mem_of_getElem? h, g⟩
theorem lw_all_tbl {w : Cond} (h : w ∈ lw_all) : w ∈ lw_tbl := (List.mem_filter.mp h).1
theorem lw_self : GoodIn lw_all lw_all := fun w h => ⟨h, good_of_word (List.mem_filter.mp h).2⟩
/-- a class's field words, by their places -/
theorem lw_in (ws : List Cond) (ps : List Nat) (hp : ws = ps.filterMap (fun i => lw_tbl[i]?)) (hg : ws.all goodWord = true) : ∀ w ∈ ws, w ∈ lw_all := by
  intro w h
  have h1 := List.all_eq_true.mp hg w h
  rw [hp] at h
  obtain ⟨i, -, hi⟩ := List.mem_filterMap.mp h
  exact lw_w i hi h1
/-- the words of a contract for the method y with code b, L locals, answer r -/
abbrev ws_ (y : MethodName) (b : ByteArray) (L : Nat) (r : Option FieldType) : List Cond := Cond.code y b L r :: lw_all
theorem lw_meth {y : MethodName} {b : ByteArray} {L : Nat} {r : Option FieldType} (h : Cond.code y b L r ∈ lw_all) : GoodIn lw_all (ws_ y b L r) := by
  intro w hw
  rcases List.mem_cons.mp hw with e | e
  · rw [e]
    exact lw_self _ h
  · exact lw_self _ e
theorem lw_app {a c : List Cond} (ha : ∀ w ∈ a, w ∈ lw_all) (hc : GoodIn lw_all c) : GoodIn lw_all (a ++ c) := by
  intro w hw
  rcases List.mem_append.mp hw with e | e
  · exact lw_self w (ha w e)
  · exact hc w e
/-- what a call through an object asks: cwV n hts (lw_V ..) -/
theorem lw_V {own : String} {idx : Nat} {C : String} {y : MethodName} {b : ByteArray} {L : Nat} {r : Option FieldType} (h1 : Cond.methodLink own idx y ∈ lw_all) (h2 : Cond.instanceMethod y ∈ lw_all) (h3 : Cond.selects C y y ∈ lw_all) (h4 : Cond.initialized C ∈ lw_all) (h5 : Cond.code y b L r ∈ lw_all) : GoodIn lw_all (wsV own idx C y (ws_ y b L r)) := by
  refine lw_app ?_ (lw_meth h5)
  intro w hw
  simp only [List.mem_cons, List.not_mem_nil, or_false] at hw
  rcases hw with e | e | e | e
  · rw [e]; exact h1
  · rw [e]; exact h2
  · rw [e]; exact h3
  · rw [e]; exact h4
/-- what a static call asks: va_cwS n hts (lw_S ..) -/
theorem lw_S {own : String} {idx : Nat} {y : MethodName} {b : ByteArray} {L : Nat} {r : Option FieldType} (h1 : Cond.methodLink own idx y ∈ lw_all) (h2 : Cond.static y ∈ lw_all) (h3 : Cond.initialized y.cls ∈ lw_all) (h4 : Cond.code y b L r ∈ lw_all) : GoodIn lw_all (va_wsS own idx y (ws_ y b L r)) := by
  refine lw_app ?_ (lw_meth h4)
  intro w hw
  simp only [List.mem_cons, List.not_mem_nil, or_false] at hw
  rcases hw with e | e | e
  · rw [e]; exact h1
  · rw [e]; exact h2
  · rw [e]; exact h3
/-- the words of a contract for a method WITH HANDLERS (hh: its table) -/
abbrev wsW_ (y : MethodName) (b : ByteArray) (L : Nat) (r : Option FieldType) (hh : List (Nat × Nat × Nat × Nat)) : List Cond := Cond.codeWith y b L r hh :: lw_all
theorem lw_methW {y : MethodName} {b : ByteArray} {L : Nat} {r : Option FieldType} {hh : List (Nat × Nat × Nat × Nat)} (h : Cond.codeWith y b L r hh ∈ lw_all) : GoodIn lw_all (wsW_ y b L r hh) := by
  intro w hw
  rcases List.mem_cons.mp hw with e | e
  · rw [e]
    exact lw_self _ h
  · exact lw_self _ e
/-- any list of words by their places (lw_in), good -/
theorem lw_good {ws : List Cond} (h : ∀ w ∈ ws, w ∈ lw_all) : GoodIn lw_all ws := fun w hw => lw_self w (h w hw)
/-- what a call of a method with handlers asks: vx_cwVW n hts (lw_VW ..), vx_cwSW n hts (lw_SW ..) -/
theorem lw_VW {own : String} {idx : Nat} {C : String} {y : MethodName} {b : ByteArray} {L : Nat} {r : Option FieldType} {hh : List (Nat × Nat × Nat × Nat)} (h1 : Cond.methodLink own idx y ∈ lw_all) (h2 : Cond.instanceMethod y ∈ lw_all) (h3 : Cond.selects C y y ∈ lw_all) (h4 : Cond.initialized C ∈ lw_all) (h5 : Cond.codeWith y b L r hh ∈ lw_all) : GoodIn lw_all (wsV own idx C y (wsW_ y b L r hh)) := by
  refine lw_app ?_ (lw_methW h5)
  intro w hw
  simp only [List.mem_cons, List.not_mem_nil, or_false] at hw
  rcases hw with e | e | e | e
  · rw [e]; exact h1
  · rw [e]; exact h2
  · rw [e]; exact h3
  · rw [e]; exact h4
theorem lw_SW {own : String} {idx : Nat} {y : MethodName} {b : ByteArray} {L : Nat} {r : Option FieldType} {hh : List (Nat × Nat × Nat × Nat)} (h1 : Cond.methodLink own idx y ∈ lw_all) (h2 : Cond.static y ∈ lw_all) (h3 : Cond.initialized y.cls ∈ lw_all) (h4 : Cond.codeWith y b L r hh ∈ lw_all) : GoodIn lw_all (va_wsS own idx y (wsW_ y b L r hh)) := by
  refine lw_app ?_ (lw_methW h4)
  intro w hw
  simp only [List.mem_cons, List.not_mem_nil, or_false] at hw
  rcases hw with e | e | e
  · rw [e]; exact h1
  · rw [e]; exact h2
  · rw [e]; exact h3
/-- a word by its place in its run of the tables -/
theorem lw_at {r : List Cond} (hr : ∀ w ∈ r, w ∈ lw_tbl) {w : Cond} (i : Nat) (h : r[i]? = some w) : w ∈ lw_tbl := hr w (List.mem_of_getElem? h)
theorem lw_g {w : Cond} (h : w ∈ lw_tbl) (g : goodWord w = true) : w ∈ lw_all := List.mem_filter.mpr ⟨h, g⟩
theorem lw_ms : ∀ w ∈ k2_sels lw_privs, w ∈ lw_tbl := fun w h => show w ∈ k2_sels lw_privs ++ tables_1 from List.mem_append_left _ h
theorem lw_m1 : ∀ w ∈ tables_1_1, w ∈ lw_tbl := fun w h => show w ∈ k2_sels lw_privs ++ tables_1 from List.mem_append_right (k2_sels lw_privs) (show w ∈ tables_1 from List.mem_append_left _ h)
theorem lw_m2 : ∀ w ∈ tables_1_2, w ∈ lw_tbl := fun w h => show w ∈ k2_sels lw_privs ++ tables_1 from List.mem_append_right (k2_sels lw_privs) (show w ∈ tables_1 from List.mem_append_right _ h)
theorem qs0 : (Cond.selects "SearchMachine" ⟨"SearchMachine", "choiceSteps", "()I"⟩ ⟨"SearchMachine", "choiceSteps", "()I"⟩) ∈ lw_all := lw_g (lw_at lw_ms 0 rfl) rfl
theorem qs1 : (Cond.selects "SearchMachine" ⟨"SearchMachine", "countAnswers", "(I)I"⟩ ⟨"SearchMachine", "countAnswers", "(I)I"⟩) ∈ lw_all := lw_g (lw_at lw_ms 1 rfl) rfl
theorem qs2 : (Cond.selects "SearchMachine" ⟨"SearchMachine", "start", "(I)V"⟩ ⟨"SearchMachine", "start", "(I)V"⟩) ∈ lw_all := lw_g (lw_at lw_ms 2 rfl) rfl
theorem qs3 : (Cond.selects "SearchMachine" ⟨"SearchMachine", "advance", "(Z)Z"⟩ ⟨"SearchMachine", "advance", "(Z)Z"⟩) ∈ lw_all := lw_g (lw_at lw_ms 3 rfl) rfl
theorem qs4 : (Cond.selects "SearchMachine" ⟨"SearchMachine", "goBack", "()Z"⟩ ⟨"SearchMachine", "goBack", "()Z"⟩) ∈ lw_all := lw_g (lw_at lw_ms 4 rfl) rfl
theorem qs5 : (Cond.selects "SearchMachine" ⟨"SearchMachine", "undoTo", "(I)V"⟩ ⟨"SearchMachine", "undoTo", "(I)V"⟩) ∈ lw_all := lw_g (lw_at lw_ms 5 rfl) rfl
theorem qs6 : (Cond.selects "SearchMachine" ⟨"SearchMachine", "waysOf", "(I)I"⟩ ⟨"SearchMachine", "waysOf", "(I)I"⟩) ∈ lw_all := lw_g (lw_at lw_ms 6 rfl) rfl
theorem qs7 : (Cond.selects "SearchMachine" ⟨"SearchMachine", "takeWay", "(II)V"⟩ ⟨"SearchMachine", "takeWay", "(II)V"⟩) ∈ lw_all := lw_g (lw_at lw_ms 7 rfl) rfl
theorem qs8 : (Cond.selects "SearchMachine" ⟨"SearchMachine", "assign", "(II)V"⟩ ⟨"SearchMachine", "assign", "(II)V"⟩) ∈ lw_all := lw_g (lw_at lw_ms 8 rfl) rfl
theorem qs9 : (Cond.selects "SearchMachine" ⟨"SearchMachine", "doStep", "()Z"⟩ ⟨"SearchMachine", "doStep", "()Z"⟩) ∈ lw_all := lw_g (lw_at lw_ms 9 rfl) rfl
theorem qs10 : (Cond.selects "SearchMachine" ⟨"SearchMachine", "beginChoice", "()Z"⟩ ⟨"SearchMachine", "beginChoice", "()Z"⟩) ∈ lw_all := lw_g (lw_at lw_ms 10 rfl) rfl
theorem qs11 : (Cond.selects "SearchMachineModel" ⟨"SearchMachineModel", "good", "(III)Z"⟩ ⟨"SearchMachineModel", "good", "(III)Z"⟩) ∈ lw_all := lw_g (lw_at lw_ms 11 rfl) rfl
theorem qs12 : (Cond.selects "SearchMachineModel" ⟨"SearchMachineModel", "variable", "(I)Z"⟩ ⟨"SearchMachineModel", "variable", "(I)Z"⟩) ∈ lw_all := lw_g (lw_at lw_ms 12 rfl) rfl
theorem qs13 : (Cond.selects "SearchMachineModel" ⟨"SearchMachineModel", "choice", "(I)Z"⟩ ⟨"SearchMachineModel", "choice", "(I)Z"⟩) ∈ lw_all := lw_g (lw_at lw_ms 13 rfl) rfl
theorem qs14 : (Cond.selects "SearchMachineModel" ⟨"SearchMachineModel", "choices", "()I"⟩ ⟨"SearchMachineModel", "choices", "()I"⟩) ∈ lw_all := lw_g (lw_at lw_ms 14 rfl) rfl
theorem qs15 : (Cond.selects "SearchMachineModel" ⟨"SearchMachineModel", "begin", "()V"⟩ ⟨"SearchMachineModel", "begin", "()V"⟩) ∈ lw_all := lw_g (lw_at lw_ms 15 rfl) rfl
theorem qs16 : (Cond.selects "SearchMachineModel" ⟨"SearchMachineModel", "between", "(II)I"⟩ ⟨"SearchMachineModel", "between", "(II)I"⟩) ∈ lw_all := lw_g (lw_at lw_ms 16 rfl) rfl
theorem qs17 : (Cond.selects "SearchMachineModel" ⟨"SearchMachineModel", "options", "(I)I"⟩ ⟨"SearchMachineModel", "options", "(I)I"⟩) ∈ lw_all := lw_g (lw_at lw_ms 17 rfl) rfl
theorem qs18 : (Cond.selects "SearchMachineModel" ⟨"SearchMachineModel", "run", "(II)Z"⟩ ⟨"SearchMachineModel", "run", "(II)Z"⟩) ∈ lw_all := lw_g (lw_at lw_ms 18 rfl) rfl
theorem qs19 : (Cond.selects "SearchMachineModel" ⟨"SearchMachineModel", "carryOut", "(III)Z"⟩ ⟨"SearchMachineModel", "carryOut", "(III)Z"⟩) ∈ lw_all := lw_g (lw_at lw_ms 19 rfl) rfl
end
section
/-! SearchMachine -/
set_option maxRecDepth 100000
def RX0 : String := "SearchMachine"
def TX0 : u_T := fun k => match k with
  | 0 => ("SearchMachine", "kinds", "[B", true)
  | 1 => ("SearchMachine", "firsts", "[B", true)
  | 2 => ("SearchMachine", "seconds", "[B", true)
  | 3 => ("SearchMachine", "thirds", "[B", true)
  | 4 => ("SearchMachine", "size", "I", false)
  | 5 => ("SearchMachine", "variables", "[I", true)
  | 6 => ("SearchMachine", "at", "I", false)
  | 7 => ("SearchMachine", "end", "I", false)
  | 8 => ("SearchMachine", "trailTop", "I", false)
  | 9 => ("SearchMachine", "trailVariable", "[B", true)
  | 10 => ("SearchMachine", "trailValue", "[I", true)
  | 11 => ("SearchMachine", "open", "I", false)
  | 12 => ("SearchMachine", "openStep", "[B", true)
  | 13 => ("SearchMachine", "openNext", "[B", true)
  | _ => ("SearchMachine", "openTrail", "[B", true)
def tyX0 : Nat → FieldType := fun k => match k with
  | 0 => .array .byte
  | 1 => .array .byte
  | 2 => .array .byte
  | 3 => .array .byte
  | 4 => .int
  | 5 => .array .int
  | 6 => .int
  | 7 => .int
  | 8 => .int
  | 9 => .array .byte
  | 10 => .array .int
  | 11 => .int
  | 12 => .array .byte
  | 13 => .array .byte
  | _ => .array .byte
abbrev wsX00 : List Cond := u_ws RX0 TX0 15
set_option maxRecDepth 100000 in
theorem nmX0 : ∀ a, a < 15 → ∀ b, b < 15 → a ≠ b → (TX0 a).2.1 ≠ (TX0 b).2.1 := by decide +kernel
set_option maxRecDepth 100000 in
theorem tyX0_ok : ∀ k, k < 15 → parseFieldDescriptor (TX0 k).2.2.1 = some (tyX0 k) := by decide +kernel
abbrev cX0_init : ByteArray := prog_1_method_1_code
def yX0_init : MethodName := ⟨RX0, "<init>", "()V"⟩
theorem dX0_init_0 : decode cX0_init 0 = .ok (.aload_n 0, 1) := by decide +kernel
theorem dX0_init_1 : decode cX0_init 1 = .ok (.invokespecial 1, 3) := by decide +kernel
theorem dX0_init_4 : decode cX0_init 4 = .ok (.aload_n 0, 1) := by decide +kernel
theorem dX0_init_5 : decode cX0_init 5 = .ok (.bipush 14, 2) := by decide +kernel
theorem dX0_init_7 : decode cX0_init 7 = .ok (.newarray .byte, 2) := by decide +kernel
theorem dX0_init_9 : decode cX0_init 9 = .ok (.putfield 7, 3) := by decide +kernel
theorem dX0_init_12 : decode cX0_init 12 = .ok (.aload_n 0, 1) := by decide +kernel
theorem dX0_init_13 : decode cX0_init 13 = .ok (.bipush 14, 2) := by decide +kernel
theorem dX0_init_15 : decode cX0_init 15 = .ok (.newarray .byte, 2) := by decide +kernel
theorem dX0_init_17 : decode cX0_init 17 = .ok (.putfield 13, 3) := by decide +kernel
theorem dX0_init_20 : decode cX0_init 20 = .ok (.aload_n 0, 1) := by decide +kernel
theorem dX0_init_21 : decode cX0_init 21 = .ok (.bipush 14, 2) := by decide +kernel
theorem dX0_init_23 : decode cX0_init 23 = .ok (.newarray .byte, 2) := by decide +kernel
theorem dX0_init_25 : decode cX0_init 25 = .ok (.putfield 16, 3) := by decide +kernel
theorem dX0_init_28 : decode cX0_init 28 = .ok (.aload_n 0, 1) := by decide +kernel
theorem dX0_init_29 : decode cX0_init 29 = .ok (.bipush 14, 2) := by decide +kernel
theorem dX0_init_31 : decode cX0_init 31 = .ok (.newarray .byte, 2) := by decide +kernel
theorem dX0_init_33 : decode cX0_init 33 = .ok (.putfield 19, 3) := by decide +kernel
theorem dX0_init_36 : decode cX0_init 36 = .ok (.aload_n 0, 1) := by decide +kernel
theorem dX0_init_37 : decode cX0_init 37 = .ok (.iconst 4, 1) := by decide +kernel
theorem dX0_init_38 : decode cX0_init 38 = .ok (.newarray .int, 2) := by decide +kernel
theorem dX0_init_40 : decode cX0_init 40 = .ok (.putfield 22, 3) := by decide +kernel
theorem dX0_init_43 : decode cX0_init 43 = .ok (.aload_n 0, 1) := by decide +kernel
theorem dX0_init_44 : decode cX0_init 44 = .ok (.bipush 16, 2) := by decide +kernel
theorem dX0_init_46 : decode cX0_init 46 = .ok (.newarray .byte, 2) := by decide +kernel
theorem dX0_init_48 : decode cX0_init 48 = .ok (.putfield 26, 3) := by decide +kernel
theorem dX0_init_51 : decode cX0_init 51 = .ok (.aload_n 0, 1) := by decide +kernel
theorem dX0_init_52 : decode cX0_init 52 = .ok (.bipush 16, 2) := by decide +kernel
theorem dX0_init_54 : decode cX0_init 54 = .ok (.newarray .int, 2) := by decide +kernel
theorem dX0_init_56 : decode cX0_init 56 = .ok (.putfield 29, 3) := by decide +kernel
theorem dX0_init_59 : decode cX0_init 59 = .ok (.aload_n 0, 1) := by decide +kernel
theorem dX0_init_60 : decode cX0_init 60 = .ok (.iconst 4, 1) := by decide +kernel
theorem dX0_init_61 : decode cX0_init 61 = .ok (.newarray .byte, 2) := by decide +kernel
theorem dX0_init_63 : decode cX0_init 63 = .ok (.putfield 32, 3) := by decide +kernel
theorem dX0_init_66 : decode cX0_init 66 = .ok (.aload_n 0, 1) := by decide +kernel
theorem dX0_init_67 : decode cX0_init 67 = .ok (.iconst 4, 1) := by decide +kernel
theorem dX0_init_68 : decode cX0_init 68 = .ok (.newarray .byte, 2) := by decide +kernel
theorem dX0_init_70 : decode cX0_init 70 = .ok (.putfield 35, 3) := by decide +kernel
theorem dX0_init_73 : decode cX0_init 73 = .ok (.aload_n 0, 1) := by decide +kernel
theorem dX0_init_74 : decode cX0_init 74 = .ok (.iconst 4, 1) := by decide +kernel
theorem dX0_init_75 : decode cX0_init 75 = .ok (.newarray .byte, 2) := by decide +kernel
theorem dX0_init_77 : decode cX0_init 77 = .ok (.putfield 38, 3) := by decide +kernel
theorem dX0_init_80 : decode cX0_init 80 = .ok (.return_, 1) := by decide +kernel
abbrev cX0_step : ByteArray := prog_1_method_6_code
def yX0_step : MethodName := ⟨RX0, "step", "(III)I"⟩
theorem dX0_step_0 : decode cX0_step 0 = .ok (.iload_n 1, 1) := by decide +kernel
theorem dX0_step_1 : decode cX0_step 1 = .ok (.ifCond .lt 30, 3) := by decide +kernel
theorem dX0_step_4 : decode cX0_step 4 = .ok (.iload_n 1, 1) := by decide +kernel
theorem dX0_step_5 : decode cX0_step 5 = .ok (.bipush 9, 2) := by decide +kernel
theorem dX0_step_7 : decode cX0_step 7 = .ok (.if_icmp .gt 24, 3) := by decide +kernel
theorem dX0_step_10 : decode cX0_step 10 = .ok (.iload_n 1, 1) := by decide +kernel
theorem dX0_step_11 : decode cX0_step 11 = .ok (.bipush 8, 2) := by decide +kernel
theorem dX0_step_13 : decode cX0_step 13 = .ok (.if_icmp .eq 20, 3) := by decide +kernel
theorem dX0_step_16 : decode cX0_step 16 = .ok (.iload_n 2, 1) := by decide +kernel
theorem dX0_step_17 : decode cX0_step 17 = .ok (.invokestatic 49, 3) := by decide +kernel
theorem dX0_step_20 : decode cX0_step 20 = .ok (.ifCond .eq 11, 3) := by decide +kernel
theorem dX0_step_23 : decode cX0_step 23 = .ok (.iload_n 1, 1) := by decide +kernel
theorem dX0_step_24 : decode cX0_step 24 = .ok (.iload_n 3, 1) := by decide +kernel
theorem dX0_step_25 : decode cX0_step 25 = .ok (.invokestatic 52, 3) := by decide +kernel
theorem dX0_step_28 : decode cX0_step 28 = .ok (.ifCond .ne 5, 3) := by decide +kernel
theorem dX0_step_31 : decode cX0_step 31 = .ok (.iconst (-1), 1) := by decide +kernel
theorem dX0_step_32 : decode cX0_step 32 = .ok (.ireturn, 1) := by decide +kernel
theorem dX0_step_33 : decode cX0_step 33 = .ok (.iload_n 1, 1) := by decide +kernel
theorem dX0_step_34 : decode cX0_step 34 = .ok (.invokestatic 45, 3) := by decide +kernel
theorem dX0_step_37 : decode cX0_step 37 = .ok (.ifCond .eq 13, 3) := by decide +kernel
theorem dX0_step_40 : decode cX0_step 40 = .ok (.aload_n 0, 1) := by decide +kernel
theorem dX0_step_41 : decode cX0_step 41 = .ok (.invokevirtual 56, 3) := by decide +kernel
theorem dX0_step_44 : decode cX0_step 44 = .ok (.iconst 3, 1) := by decide +kernel
theorem dX0_step_45 : decode cX0_step 45 = .ok (.if_icmp .lt 5, 3) := by decide +kernel
theorem dX0_step_48 : decode cX0_step 48 = .ok (.iconst (-1), 1) := by decide +kernel
theorem dX0_step_49 : decode cX0_step 49 = .ok (.ireturn, 1) := by decide +kernel
theorem dX0_step_50 : decode cX0_step 50 = .ok (.aload_n 0, 1) := by decide +kernel
theorem dX0_step_51 : decode cX0_step 51 = .ok (.getfield 41, 3) := by decide +kernel
theorem dX0_step_54 : decode cX0_step 54 = .ok (.bipush 14, 2) := by decide +kernel
theorem dX0_step_56 : decode cX0_step 56 = .ok (.if_icmp .lt 6, 3) := by decide +kernel
theorem dX0_step_59 : decode cX0_step 59 = .ok (.bipush (-2), 2) := by decide +kernel
theorem dX0_step_61 : decode cX0_step 61 = .ok (.ireturn, 1) := by decide +kernel
theorem dX0_step_62 : decode cX0_step 62 = .ok (.aload_n 0, 1) := by decide +kernel
theorem dX0_step_63 : decode cX0_step 63 = .ok (.getfield 7, 3) := by decide +kernel
theorem dX0_step_66 : decode cX0_step 66 = .ok (.aload_n 0, 1) := by decide +kernel
theorem dX0_step_67 : decode cX0_step 67 = .ok (.getfield 41, 3) := by decide +kernel
theorem dX0_step_70 : decode cX0_step 70 = .ok (.iload_n 1, 1) := by decide +kernel
theorem dX0_step_71 : decode cX0_step 71 = .ok (.i2b, 1) := by decide +kernel
theorem dX0_step_72 : decode cX0_step 72 = .ok (.bastore, 1) := by decide +kernel
theorem dX0_step_73 : decode cX0_step 73 = .ok (.aload_n 0, 1) := by decide +kernel
theorem dX0_step_74 : decode cX0_step 74 = .ok (.getfield 13, 3) := by decide +kernel
theorem dX0_step_77 : decode cX0_step 77 = .ok (.aload_n 0, 1) := by decide +kernel
theorem dX0_step_78 : decode cX0_step 78 = .ok (.getfield 41, 3) := by decide +kernel
theorem dX0_step_81 : decode cX0_step 81 = .ok (.iload_n 1, 1) := by decide +kernel
theorem dX0_step_82 : decode cX0_step 82 = .ok (.bipush 8, 2) := by decide +kernel
theorem dX0_step_84 : decode cX0_step 84 = .ok (.if_icmp .ne 7, 3) := by decide +kernel
theorem dX0_step_87 : decode cX0_step 87 = .ok (.iconst 0, 1) := by decide +kernel
theorem dX0_step_88 : decode cX0_step 88 = .ok (.goto 4, 3) := by decide +kernel
theorem dX0_step_91 : decode cX0_step 91 = .ok (.iload_n 2, 1) := by decide +kernel
theorem dX0_step_92 : decode cX0_step 92 = .ok (.i2b, 1) := by decide +kernel
theorem dX0_step_93 : decode cX0_step 93 = .ok (.bastore, 1) := by decide +kernel
theorem dX0_step_94 : decode cX0_step 94 = .ok (.aload_n 0, 1) := by decide +kernel
theorem dX0_step_95 : decode cX0_step 95 = .ok (.getfield 16, 3) := by decide +kernel
theorem dX0_step_98 : decode cX0_step 98 = .ok (.aload_n 0, 1) := by decide +kernel
theorem dX0_step_99 : decode cX0_step 99 = .ok (.getfield 41, 3) := by decide +kernel
theorem dX0_step_102 : decode cX0_step 102 = .ok (.iload_n 1, 1) := by decide +kernel
theorem dX0_step_103 : decode cX0_step 103 = .ok (.bipush 8, 2) := by decide +kernel
theorem dX0_step_105 : decode cX0_step 105 = .ok (.if_icmp .ne 7, 3) := by decide +kernel
theorem dX0_step_108 : decode cX0_step 108 = .ok (.iconst 0, 1) := by decide +kernel
theorem dX0_step_109 : decode cX0_step 109 = .ok (.goto 17, 3) := by decide +kernel
theorem dX0_step_112 : decode cX0_step 112 = .ok (.iload_n 1, 1) := by decide +kernel
theorem dX0_step_113 : decode cX0_step 113 = .ok (.ifCond .ne 12, 3) := by decide +kernel
theorem dX0_step_116 : decode cX0_step 116 = .ok (.iload_n 3, 1) := by decide +kernel
theorem dX0_step_117 : decode cX0_step 117 = .ok (.bipush 15, 2) := by decide +kernel
theorem dX0_step_119 : decode cX0_step 119 = .ok (.iand, 1) := by decide +kernel
theorem dX0_step_120 : decode cX0_step 120 = .ok (.iconst 3, 1) := by decide +kernel
theorem dX0_step_121 : decode cX0_step 121 = .ok (.isub, 1) := by decide +kernel
theorem dX0_step_122 : decode cX0_step 122 = .ok (.goto 4, 3) := by decide +kernel
theorem dX0_step_125 : decode cX0_step 125 = .ok (.iload_n 3, 1) := by decide +kernel
theorem dX0_step_126 : decode cX0_step 126 = .ok (.i2b, 1) := by decide +kernel
theorem dX0_step_127 : decode cX0_step 127 = .ok (.bastore, 1) := by decide +kernel
theorem dX0_step_128 : decode cX0_step 128 = .ok (.aload_n 0, 1) := by decide +kernel
theorem dX0_step_129 : decode cX0_step 129 = .ok (.getfield 19, 3) := by decide +kernel
theorem dX0_step_132 : decode cX0_step 132 = .ok (.aload_n 0, 1) := by decide +kernel
theorem dX0_step_133 : decode cX0_step 133 = .ok (.getfield 41, 3) := by decide +kernel
theorem dX0_step_136 : decode cX0_step 136 = .ok (.iload_n 1, 1) := by decide +kernel
theorem dX0_step_137 : decode cX0_step 137 = .ok (.ifCond .ne 11, 3) := by decide +kernel
theorem dX0_step_140 : decode cX0_step 140 = .ok (.iload_n 3, 1) := by decide +kernel
theorem dX0_step_141 : decode cX0_step 141 = .ok (.iconst 4, 1) := by decide +kernel
theorem dX0_step_142 : decode cX0_step 142 = .ok (.ishr, 1) := by decide +kernel
theorem dX0_step_143 : decode cX0_step 143 = .ok (.iconst 3, 1) := by decide +kernel
theorem dX0_step_144 : decode cX0_step 144 = .ok (.isub, 1) := by decide +kernel
theorem dX0_step_145 : decode cX0_step 145 = .ok (.goto 4, 3) := by decide +kernel
theorem dX0_step_148 : decode cX0_step 148 = .ok (.iconst 0, 1) := by decide +kernel
theorem dX0_step_149 : decode cX0_step 149 = .ok (.i2b, 1) := by decide +kernel
theorem dX0_step_150 : decode cX0_step 150 = .ok (.bastore, 1) := by decide +kernel
theorem dX0_step_151 : decode cX0_step 151 = .ok (.aload_n 0, 1) := by decide +kernel
theorem dX0_step_152 : decode cX0_step 152 = .ok (.dup, 1) := by decide +kernel
theorem dX0_step_153 : decode cX0_step 153 = .ok (.getfield 41, 3) := by decide +kernel
theorem dX0_step_156 : decode cX0_step 156 = .ok (.iconst 1, 1) := by decide +kernel
theorem dX0_step_157 : decode cX0_step 157 = .ok (.iadd, 1) := by decide +kernel
theorem dX0_step_158 : decode cX0_step 158 = .ok (.putfield 41, 3) := by decide +kernel
theorem dX0_step_161 : decode cX0_step 161 = .ok (.aload_n 0, 1) := by decide +kernel
theorem dX0_step_162 : decode cX0_step 162 = .ok (.getfield 41, 3) := by decide +kernel
theorem dX0_step_165 : decode cX0_step 165 = .ok (.iconst 1, 1) := by decide +kernel
theorem dX0_step_166 : decode cX0_step 166 = .ok (.isub, 1) := by decide +kernel
theorem dX0_step_167 : decode cX0_step 167 = .ok (.ireturn, 1) := by decide +kernel
abbrev cX0_isVariable : ByteArray := prog_1_method_2_code
def yX0_isVariable : MethodName := ⟨RX0, "isVariable", "(I)Z"⟩
theorem dX0_isVariable_0 : decode cX0_isVariable 0 = .ok (.iload_n 0, 1) := by decide +kernel
theorem dX0_isVariable_1 : decode cX0_isVariable 1 = .ok (.ifCond .lt 12, 3) := by decide +kernel
theorem dX0_isVariable_4 : decode cX0_isVariable 4 = .ok (.iload_n 0, 1) := by decide +kernel
theorem dX0_isVariable_5 : decode cX0_isVariable 5 = .ok (.iconst 4, 1) := by decide +kernel
theorem dX0_isVariable_6 : decode cX0_isVariable 6 = .ok (.if_icmp .ge 7, 3) := by decide +kernel
theorem dX0_isVariable_9 : decode cX0_isVariable 9 = .ok (.iconst 1, 1) := by decide +kernel
theorem dX0_isVariable_10 : decode cX0_isVariable 10 = .ok (.goto 4, 3) := by decide +kernel
theorem dX0_isVariable_13 : decode cX0_isVariable 13 = .ok (.iconst 0, 1) := by decide +kernel
theorem dX0_isVariable_14 : decode cX0_isVariable 14 = .ok (.ireturn, 1) := by decide +kernel
abbrev cX0_secondOk : ByteArray := prog_1_method_5_code
def yX0_secondOk : MethodName := ⟨RX0, "secondOk", "(II)Z"⟩
theorem dX0_secondOk_0 : decode cX0_secondOk 0 = .ok (.iload_n 0, 1) := by decide +kernel
theorem dX0_secondOk_1 : decode cX0_secondOk 1 = .ok (.ifCond .ne 37, 3) := by decide +kernel
theorem dX0_secondOk_4 : decode cX0_secondOk 4 = .ok (.iload_n 1, 1) := by decide +kernel
theorem dX0_secondOk_5 : decode cX0_secondOk 5 = .ok (.ifCond .lt 31, 3) := by decide +kernel
theorem dX0_secondOk_8 : decode cX0_secondOk 8 = .ok (.iload_n 1, 1) := by decide +kernel
theorem dX0_secondOk_9 : decode cX0_secondOk 9 = .ok (.sipush 256, 3) := by decide +kernel
theorem dX0_secondOk_12 : decode cX0_secondOk 12 = .ok (.if_icmp .ge 24, 3) := by decide +kernel
theorem dX0_secondOk_15 : decode cX0_secondOk 15 = .ok (.iload_n 1, 1) := by decide +kernel
theorem dX0_secondOk_16 : decode cX0_secondOk 16 = .ok (.bipush 15, 2) := by decide +kernel
theorem dX0_secondOk_18 : decode cX0_secondOk 18 = .ok (.iand, 1) := by decide +kernel
theorem dX0_secondOk_19 : decode cX0_secondOk 19 = .ok (.bipush 12, 2) := by decide +kernel
theorem dX0_secondOk_21 : decode cX0_secondOk 21 = .ok (.if_icmp .gt 15, 3) := by decide +kernel
theorem dX0_secondOk_24 : decode cX0_secondOk 24 = .ok (.iload_n 1, 1) := by decide +kernel
theorem dX0_secondOk_25 : decode cX0_secondOk 25 = .ok (.iconst 4, 1) := by decide +kernel
theorem dX0_secondOk_26 : decode cX0_secondOk 26 = .ok (.ishr, 1) := by decide +kernel
theorem dX0_secondOk_27 : decode cX0_secondOk 27 = .ok (.bipush 12, 2) := by decide +kernel
theorem dX0_secondOk_29 : decode cX0_secondOk 29 = .ok (.if_icmp .gt 7, 3) := by decide +kernel
theorem dX0_secondOk_32 : decode cX0_secondOk 32 = .ok (.iconst 1, 1) := by decide +kernel
theorem dX0_secondOk_33 : decode cX0_secondOk 33 = .ok (.goto 4, 3) := by decide +kernel
theorem dX0_secondOk_36 : decode cX0_secondOk 36 = .ok (.iconst 0, 1) := by decide +kernel
theorem dX0_secondOk_37 : decode cX0_secondOk 37 = .ok (.ireturn, 1) := by decide +kernel
theorem dX0_secondOk_38 : decode cX0_secondOk 38 = .ok (.iload_n 0, 1) := by decide +kernel
theorem dX0_secondOk_39 : decode cX0_secondOk 39 = .ok (.iconst 1, 1) := by decide +kernel
theorem dX0_secondOk_40 : decode cX0_secondOk 40 = .ok (.if_icmp .ne 23, 3) := by decide +kernel
theorem dX0_secondOk_43 : decode cX0_secondOk 43 = .ok (.iload_n 1, 1) := by decide +kernel
theorem dX0_secondOk_44 : decode cX0_secondOk 44 = .ok (.bipush (-20), 2) := by decide +kernel
theorem dX0_secondOk_46 : decode cX0_secondOk 46 = .ok (.if_icmp .lt 13, 3) := by decide +kernel
theorem dX0_secondOk_49 : decode cX0_secondOk 49 = .ok (.iload_n 1, 1) := by decide +kernel
theorem dX0_secondOk_50 : decode cX0_secondOk 50 = .ok (.bipush 20, 2) := by decide +kernel
theorem dX0_secondOk_52 : decode cX0_secondOk 52 = .ok (.if_icmp .gt 7, 3) := by decide +kernel
theorem dX0_secondOk_55 : decode cX0_secondOk 55 = .ok (.iconst 1, 1) := by decide +kernel
theorem dX0_secondOk_56 : decode cX0_secondOk 56 = .ok (.goto 11, 3) := by decide +kernel
theorem dX0_secondOk_59 : decode cX0_secondOk 59 = .ok (.iconst 0, 1) := by decide +kernel
theorem dX0_secondOk_60 : decode cX0_secondOk 60 = .ok (.goto 7, 3) := by decide +kernel
theorem dX0_secondOk_63 : decode cX0_secondOk 63 = .ok (.iload_n 1, 1) := by decide +kernel
theorem dX0_secondOk_64 : decode cX0_secondOk 64 = .ok (.invokestatic 49, 3) := by decide +kernel
theorem dX0_secondOk_67 : decode cX0_secondOk 67 = .ok (.ireturn, 1) := by decide +kernel
abbrev cX0_chooses : ByteArray := prog_1_method_3_code
def yX0_chooses : MethodName := ⟨RX0, "chooses", "(I)Z"⟩
theorem dX0_chooses_0 : decode cX0_chooses 0 = .ok (.iload_n 0, 1) := by decide +kernel
theorem dX0_chooses_1 : decode cX0_chooses 1 = .ok (.ifCond .eq 14, 3) := by decide +kernel
theorem dX0_chooses_4 : decode cX0_chooses 4 = .ok (.iload_n 0, 1) := by decide +kernel
theorem dX0_chooses_5 : decode cX0_chooses 5 = .ok (.iconst 4, 1) := by decide +kernel
theorem dX0_chooses_6 : decode cX0_chooses 6 = .ok (.if_icmp .eq 9, 3) := by decide +kernel
theorem dX0_chooses_9 : decode cX0_chooses 9 = .ok (.iload_n 0, 1) := by decide +kernel
theorem dX0_chooses_10 : decode cX0_chooses 10 = .ok (.bipush 9, 2) := by decide +kernel
theorem dX0_chooses_12 : decode cX0_chooses 12 = .ok (.if_icmp .ne 7, 3) := by decide +kernel
theorem dX0_chooses_15 : decode cX0_chooses 15 = .ok (.iconst 1, 1) := by decide +kernel
theorem dX0_chooses_16 : decode cX0_chooses 16 = .ok (.goto 4, 3) := by decide +kernel
theorem dX0_chooses_19 : decode cX0_chooses 19 = .ok (.iconst 0, 1) := by decide +kernel
theorem dX0_chooses_20 : decode cX0_chooses 20 = .ok (.ireturn, 1) := by decide +kernel
abbrev cX0_choiceSteps : ByteArray := prog_1_method_4_code
def yX0_choiceSteps : MethodName := ⟨RX0, "choiceSteps", "()I"⟩
theorem dX0_choiceSteps_0 : decode cX0_choiceSteps 0 = .ok (.iconst 0, 1) := by decide +kernel
theorem dX0_choiceSteps_1 : decode cX0_choiceSteps 1 = .ok (.istore_n 1, 1) := by decide +kernel
theorem dX0_choiceSteps_2 : decode cX0_choiceSteps 2 = .ok (.iconst 0, 1) := by decide +kernel
theorem dX0_choiceSteps_3 : decode cX0_choiceSteps 3 = .ok (.istore_n 2, 1) := by decide +kernel
theorem dX0_choiceSteps_4 : decode cX0_choiceSteps 4 = .ok (.iload_n 2, 1) := by decide +kernel
theorem dX0_choiceSteps_5 : decode cX0_choiceSteps 5 = .ok (.aload_n 0, 1) := by decide +kernel
theorem dX0_choiceSteps_6 : decode cX0_choiceSteps 6 = .ok (.getfield 41, 3) := by decide +kernel
theorem dX0_choiceSteps_9 : decode cX0_choiceSteps 9 = .ok (.if_icmp .ge 29, 3) := by decide +kernel
theorem dX0_choiceSteps_12 : decode cX0_choiceSteps 12 = .ok (.iload_n 1, 1) := by decide +kernel
theorem dX0_choiceSteps_13 : decode cX0_choiceSteps 13 = .ok (.aload_n 0, 1) := by decide +kernel
theorem dX0_choiceSteps_14 : decode cX0_choiceSteps 14 = .ok (.getfield 7, 3) := by decide +kernel
theorem dX0_choiceSteps_17 : decode cX0_choiceSteps 17 = .ok (.iload_n 2, 1) := by decide +kernel
theorem dX0_choiceSteps_18 : decode cX0_choiceSteps 18 = .ok (.baload, 1) := by decide +kernel
theorem dX0_choiceSteps_19 : decode cX0_choiceSteps 19 = .ok (.invokestatic 45, 3) := by decide +kernel
theorem dX0_choiceSteps_22 : decode cX0_choiceSteps 22 = .ok (.ifCond .eq 7, 3) := by decide +kernel
theorem dX0_choiceSteps_25 : decode cX0_choiceSteps 25 = .ok (.iconst 1, 1) := by decide +kernel
theorem dX0_choiceSteps_26 : decode cX0_choiceSteps 26 = .ok (.goto 4, 3) := by decide +kernel
theorem dX0_choiceSteps_29 : decode cX0_choiceSteps 29 = .ok (.iconst 0, 1) := by decide +kernel
theorem dX0_choiceSteps_30 : decode cX0_choiceSteps 30 = .ok (.iadd, 1) := by decide +kernel
theorem dX0_choiceSteps_31 : decode cX0_choiceSteps 31 = .ok (.istore_n 1, 1) := by decide +kernel
theorem dX0_choiceSteps_32 : decode cX0_choiceSteps 32 = .ok (.iinc 2 1, 3) := by decide +kernel
theorem dX0_choiceSteps_35 : decode cX0_choiceSteps 35 = .ok (.goto (-31), 3) := by decide +kernel
theorem dX0_choiceSteps_38 : decode cX0_choiceSteps 38 = .ok (.iload_n 1, 1) := by decide +kernel
theorem dX0_choiceSteps_39 : decode cX0_choiceSteps 39 = .ok (.ireturn, 1) := by decide +kernel
end
section
set_option maxRecDepth 100000
abbrev cX0_drop : ByteArray := prog_1_method_7_code
def yX0_drop : MethodName := ⟨RX0, "drop", "()I"⟩
theorem dX0_drop_0 : decode cX0_drop 0 = .ok (.aload_n 0, 1) := by decide +kernel
theorem dX0_drop_1 : decode cX0_drop 1 = .ok (.getfield 41, 3) := by decide +kernel
theorem dX0_drop_4 : decode cX0_drop 4 = .ok (.ifCond .ne 5, 3) := by decide +kernel
theorem dX0_drop_7 : decode cX0_drop 7 = .ok (.iconst (-1), 1) := by decide +kernel
theorem dX0_drop_8 : decode cX0_drop 8 = .ok (.ireturn, 1) := by decide +kernel
theorem dX0_drop_9 : decode cX0_drop 9 = .ok (.aload_n 0, 1) := by decide +kernel
theorem dX0_drop_10 : decode cX0_drop 10 = .ok (.dup, 1) := by decide +kernel
theorem dX0_drop_11 : decode cX0_drop 11 = .ok (.getfield 41, 3) := by decide +kernel
theorem dX0_drop_14 : decode cX0_drop 14 = .ok (.iconst 1, 1) := by decide +kernel
theorem dX0_drop_15 : decode cX0_drop 15 = .ok (.isub, 1) := by decide +kernel
theorem dX0_drop_16 : decode cX0_drop 16 = .ok (.putfield 41, 3) := by decide +kernel
theorem dX0_drop_19 : decode cX0_drop 19 = .ok (.aload_n 0, 1) := by decide +kernel
theorem dX0_drop_20 : decode cX0_drop 20 = .ok (.getfield 41, 3) := by decide +kernel
theorem dX0_drop_23 : decode cX0_drop 23 = .ok (.ireturn, 1) := by decide +kernel
abbrev cX0_length : ByteArray := prog_1_method_8_code
def yX0_length : MethodName := ⟨RX0, "length", "()I"⟩
theorem dX0_length_0 : decode cX0_length 0 = .ok (.aload_n 0, 1) := by decide +kernel
theorem dX0_length_1 : decode cX0_length 1 = .ok (.getfield 41, 3) := by decide +kernel
theorem dX0_length_4 : decode cX0_length 4 = .ok (.ireturn, 1) := by decide +kernel
abbrev cX0_answers : ByteArray := prog_1_method_19_code
def yX0_answers : MethodName := ⟨RX0, "answers", "()I"⟩
theorem dX0_answers_0 : decode cX0_answers 0 = .ok (.aload_n 0, 1) := by decide +kernel
theorem dX0_answers_1 : decode cX0_answers 1 = .ok (.aload_n 0, 1) := by decide +kernel
theorem dX0_answers_2 : decode cX0_answers 2 = .ok (.getfield 41, 3) := by decide +kernel
theorem dX0_answers_5 : decode cX0_answers 5 = .ok (.invokevirtual 104, 3) := by decide +kernel
theorem dX0_answers_8 : decode cX0_answers 8 = .ok (.ireturn, 1) := by decide +kernel
abbrev cX0_countAnswers : ByteArray := prog_1_method_18_code
def yX0_countAnswers : MethodName := ⟨RX0, "countAnswers", "(I)I"⟩
theorem dX0_countAnswers_0 : decode cX0_countAnswers 0 = .ok (.aload_n 0, 1) := by decide +kernel
theorem dX0_countAnswers_1 : decode cX0_countAnswers 1 = .ok (.iload_n 1, 1) := by decide +kernel
theorem dX0_countAnswers_2 : decode cX0_countAnswers 2 = .ok (.invokevirtual 97, 3) := by decide +kernel
theorem dX0_countAnswers_5 : decode cX0_countAnswers 5 = .ok (.iconst 0, 1) := by decide +kernel
theorem dX0_countAnswers_6 : decode cX0_countAnswers 6 = .ok (.istore_n 2, 1) := by decide +kernel
theorem dX0_countAnswers_7 : decode cX0_countAnswers 7 = .ok (.aload_n 0, 1) := by decide +kernel
theorem dX0_countAnswers_8 : decode cX0_countAnswers 8 = .ok (.iconst 1, 1) := by decide +kernel
theorem dX0_countAnswers_9 : decode cX0_countAnswers 9 = .ok (.invokevirtual 100, 3) := by decide +kernel
theorem dX0_countAnswers_12 : decode cX0_countAnswers 12 = .ok (.istore_n 3, 1) := by decide +kernel
theorem dX0_countAnswers_13 : decode cX0_countAnswers 13 = .ok (.iconst 0, 1) := by decide +kernel
theorem dX0_countAnswers_14 : decode cX0_countAnswers 14 = .ok (.istore 4, 2) := by decide +kernel
theorem dX0_countAnswers_16 : decode cX0_countAnswers 16 = .ok (.iload 4, 2) := by decide +kernel
theorem dX0_countAnswers_18 : decode cX0_countAnswers 18 = .ok (.sipush 2200, 3) := by decide +kernel
theorem dX0_countAnswers_21 : decode cX0_countAnswers 21 = .ok (.if_icmp .ge 22, 3) := by decide +kernel
theorem dX0_countAnswers_24 : decode cX0_countAnswers 24 = .ok (.iload_n 3, 1) := by decide +kernel
theorem dX0_countAnswers_25 : decode cX0_countAnswers 25 = .ok (.ifCond .eq 18, 3) := by decide +kernel
theorem dX0_countAnswers_28 : decode cX0_countAnswers 28 = .ok (.iinc 2 1, 3) := by decide +kernel
theorem dX0_countAnswers_31 : decode cX0_countAnswers 31 = .ok (.aload_n 0, 1) := by decide +kernel
theorem dX0_countAnswers_32 : decode cX0_countAnswers 32 = .ok (.iconst 0, 1) := by decide +kernel
theorem dX0_countAnswers_33 : decode cX0_countAnswers 33 = .ok (.invokevirtual 100, 3) := by decide +kernel
theorem dX0_countAnswers_36 : decode cX0_countAnswers 36 = .ok (.istore_n 3, 1) := by decide +kernel
theorem dX0_countAnswers_37 : decode cX0_countAnswers 37 = .ok (.iinc 4 1, 3) := by decide +kernel
theorem dX0_countAnswers_40 : decode cX0_countAnswers 40 = .ok (.goto (-24), 3) := by decide +kernel
theorem dX0_countAnswers_43 : decode cX0_countAnswers 43 = .ok (.iload_n 2, 1) := by decide +kernel
theorem dX0_countAnswers_44 : decode cX0_countAnswers 44 = .ok (.ireturn, 1) := by decide +kernel
abbrev cX0_start : ByteArray := prog_1_method_9_code
def yX0_start : MethodName := ⟨RX0, "start", "(I)V"⟩
theorem dX0_start_0 : decode cX0_start 0 = .ok (.iconst 0, 1) := by decide +kernel
theorem dX0_start_1 : decode cX0_start 1 = .ok (.istore_n 2, 1) := by decide +kernel
theorem dX0_start_2 : decode cX0_start 2 = .ok (.iload_n 2, 1) := by decide +kernel
theorem dX0_start_3 : decode cX0_start 3 = .ok (.iconst 4, 1) := by decide +kernel
theorem dX0_start_4 : decode cX0_start 4 = .ok (.if_icmp .ge 16, 3) := by decide +kernel
theorem dX0_start_7 : decode cX0_start 7 = .ok (.aload_n 0, 1) := by decide +kernel
theorem dX0_start_8 : decode cX0_start 8 = .ok (.getfield 22, 3) := by decide +kernel
theorem dX0_start_11 : decode cX0_start 11 = .ok (.iload_n 2, 1) := by decide +kernel
theorem dX0_start_12 : decode cX0_start 12 = .ok (.iconst 0, 1) := by decide +kernel
theorem dX0_start_13 : decode cX0_start 13 = .ok (.iastore, 1) := by decide +kernel
theorem dX0_start_14 : decode cX0_start 14 = .ok (.iinc 2 1, 3) := by decide +kernel
theorem dX0_start_17 : decode cX0_start 17 = .ok (.goto (-15), 3) := by decide +kernel
theorem dX0_start_20 : decode cX0_start 20 = .ok (.aload_n 0, 1) := by decide +kernel
theorem dX0_start_21 : decode cX0_start 21 = .ok (.iconst 0, 1) := by decide +kernel
theorem dX0_start_22 : decode cX0_start 22 = .ok (.putfield 60, 3) := by decide +kernel
theorem dX0_start_25 : decode cX0_start 25 = .ok (.aload_n 0, 1) := by decide +kernel
theorem dX0_start_26 : decode cX0_start 26 = .ok (.iload_n 1, 1) := by decide +kernel
theorem dX0_start_27 : decode cX0_start 27 = .ok (.putfield 63, 3) := by decide +kernel
theorem dX0_start_30 : decode cX0_start 30 = .ok (.aload_n 0, 1) := by decide +kernel
theorem dX0_start_31 : decode cX0_start 31 = .ok (.iconst 0, 1) := by decide +kernel
theorem dX0_start_32 : decode cX0_start 32 = .ok (.putfield 66, 3) := by decide +kernel
theorem dX0_start_35 : decode cX0_start 35 = .ok (.aload_n 0, 1) := by decide +kernel
theorem dX0_start_36 : decode cX0_start 36 = .ok (.iconst 0, 1) := by decide +kernel
theorem dX0_start_37 : decode cX0_start 37 = .ok (.putfield 69, 3) := by decide +kernel
theorem dX0_start_40 : decode cX0_start 40 = .ok (.return_, 1) := by decide +kernel
abbrev cX0_advance : ByteArray := prog_1_method_17_code
def yX0_advance : MethodName := ⟨RX0, "advance", "(Z)Z"⟩
theorem dX0_advance_0 : decode cX0_advance 0 = .ok (.iload_n 1, 1) := by decide +kernel
theorem dX0_advance_1 : decode cX0_advance 1 = .ok (.ifCond .ne 10, 3) := by decide +kernel
theorem dX0_advance_4 : decode cX0_advance 4 = .ok (.aload_n 0, 1) := by decide +kernel
theorem dX0_advance_5 : decode cX0_advance 5 = .ok (.invokevirtual 91, 3) := by decide +kernel
theorem dX0_advance_8 : decode cX0_advance 8 = .ok (.ifCond .eq 7, 3) := by decide +kernel
theorem dX0_advance_11 : decode cX0_advance 11 = .ok (.iconst 1, 1) := by decide +kernel
theorem dX0_advance_12 : decode cX0_advance 12 = .ok (.goto 4, 3) := by decide +kernel
theorem dX0_advance_15 : decode cX0_advance 15 = .ok (.iconst 0, 1) := by decide +kernel
theorem dX0_advance_16 : decode cX0_advance 16 = .ok (.istore_n 2, 1) := by decide +kernel
theorem dX0_advance_17 : decode cX0_advance 17 = .ok (.iconst 0, 1) := by decide +kernel
theorem dX0_advance_18 : decode cX0_advance 18 = .ok (.istore_n 3, 1) := by decide +kernel
theorem dX0_advance_19 : decode cX0_advance 19 = .ok (.iload_n 3, 1) := by decide +kernel
theorem dX0_advance_20 : decode cX0_advance 20 = .ok (.sipush 30800, 3) := by decide +kernel
theorem dX0_advance_23 : decode cX0_advance 23 = .ok (.if_icmp .ge 50, 3) := by decide +kernel
theorem dX0_advance_26 : decode cX0_advance 26 = .ok (.iload_n 2, 1) := by decide +kernel
theorem dX0_advance_27 : decode cX0_advance 27 = .ok (.ifCond .eq 46, 3) := by decide +kernel
theorem dX0_advance_30 : decode cX0_advance 30 = .ok (.aload_n 0, 1) := by decide +kernel
theorem dX0_advance_31 : decode cX0_advance 31 = .ok (.getfield 60, 3) := by decide +kernel
theorem dX0_advance_34 : decode cX0_advance 34 = .ok (.aload_n 0, 1) := by decide +kernel
theorem dX0_advance_35 : decode cX0_advance 35 = .ok (.getfield 63, 3) := by decide +kernel
theorem dX0_advance_38 : decode cX0_advance 38 = .ok (.if_icmp .ne 5, 3) := by decide +kernel
theorem dX0_advance_41 : decode cX0_advance 41 = .ok (.iconst 1, 1) := by decide +kernel
theorem dX0_advance_42 : decode cX0_advance 42 = .ok (.ireturn, 1) := by decide +kernel
theorem dX0_advance_43 : decode cX0_advance 43 = .ok (.aload_n 0, 1) := by decide +kernel
theorem dX0_advance_44 : decode cX0_advance 44 = .ok (.invokevirtual 94, 3) := by decide +kernel
theorem dX0_advance_47 : decode cX0_advance 47 = .ok (.istore 4, 2) := by decide +kernel
theorem dX0_advance_49 : decode cX0_advance 49 = .ok (.iload 4, 2) := by decide +kernel
theorem dX0_advance_51 : decode cX0_advance 51 = .ok (.ifCond .ne 10, 3) := by decide +kernel
theorem dX0_advance_54 : decode cX0_advance 54 = .ok (.aload_n 0, 1) := by decide +kernel
theorem dX0_advance_55 : decode cX0_advance 55 = .ok (.invokevirtual 91, 3) := by decide +kernel
theorem dX0_advance_58 : decode cX0_advance 58 = .ok (.ifCond .eq 7, 3) := by decide +kernel
theorem dX0_advance_61 : decode cX0_advance 61 = .ok (.iconst 1, 1) := by decide +kernel
theorem dX0_advance_62 : decode cX0_advance 62 = .ok (.goto 4, 3) := by decide +kernel
theorem dX0_advance_65 : decode cX0_advance 65 = .ok (.iconst 0, 1) := by decide +kernel
theorem dX0_advance_66 : decode cX0_advance 66 = .ok (.istore_n 2, 1) := by decide +kernel
theorem dX0_advance_67 : decode cX0_advance 67 = .ok (.iinc 3 1, 3) := by decide +kernel
theorem dX0_advance_70 : decode cX0_advance 70 = .ok (.goto (-51), 3) := by decide +kernel
theorem dX0_advance_73 : decode cX0_advance 73 = .ok (.iconst 0, 1) := by decide +kernel
theorem dX0_advance_74 : decode cX0_advance 74 = .ok (.ireturn, 1) := by decide +kernel
abbrev cX0_goBack : ByteArray := prog_1_method_14_code
def yX0_goBack : MethodName := ⟨RX0, "goBack", "()Z"⟩
theorem dX0_goBack_0 : decode cX0_goBack 0 = .ok (.aload_n 0, 1) := by decide +kernel
theorem dX0_goBack_1 : decode cX0_goBack 1 = .ok (.getfield 69, 3) := by decide +kernel
theorem dX0_goBack_4 : decode cX0_goBack 4 = .ok (.ifCond .ne 5, 3) := by decide +kernel
theorem dX0_goBack_7 : decode cX0_goBack 7 = .ok (.iconst 0, 1) := by decide +kernel
theorem dX0_goBack_8 : decode cX0_goBack 8 = .ok (.ireturn, 1) := by decide +kernel
theorem dX0_goBack_9 : decode cX0_goBack 9 = .ok (.aload_n 0, 1) := by decide +kernel
theorem dX0_goBack_10 : decode cX0_goBack 10 = .ok (.getfield 69, 3) := by decide +kernel
theorem dX0_goBack_13 : decode cX0_goBack 13 = .ok (.iconst 1, 1) := by decide +kernel
theorem dX0_goBack_14 : decode cX0_goBack 14 = .ok (.isub, 1) := by decide +kernel
theorem dX0_goBack_15 : decode cX0_goBack 15 = .ok (.istore_n 1, 1) := by decide +kernel
theorem dX0_goBack_16 : decode cX0_goBack 16 = .ok (.aload_n 0, 1) := by decide +kernel
theorem dX0_goBack_17 : decode cX0_goBack 17 = .ok (.aload_n 0, 1) := by decide +kernel
theorem dX0_goBack_18 : decode cX0_goBack 18 = .ok (.getfield 38, 3) := by decide +kernel
theorem dX0_goBack_21 : decode cX0_goBack 21 = .ok (.iload_n 1, 1) := by decide +kernel
theorem dX0_goBack_22 : decode cX0_goBack 22 = .ok (.baload, 1) := by decide +kernel
theorem dX0_goBack_23 : decode cX0_goBack 23 = .ok (.invokevirtual 76, 3) := by decide +kernel
theorem dX0_goBack_26 : decode cX0_goBack 26 = .ok (.aload_n 0, 1) := by decide +kernel
theorem dX0_goBack_27 : decode cX0_goBack 27 = .ok (.getfield 32, 3) := by decide +kernel
theorem dX0_goBack_30 : decode cX0_goBack 30 = .ok (.iload_n 1, 1) := by decide +kernel
theorem dX0_goBack_31 : decode cX0_goBack 31 = .ok (.baload, 1) := by decide +kernel
theorem dX0_goBack_32 : decode cX0_goBack 32 = .ok (.istore_n 2, 1) := by decide +kernel
theorem dX0_goBack_33 : decode cX0_goBack 33 = .ok (.aload_n 0, 1) := by decide +kernel
theorem dX0_goBack_34 : decode cX0_goBack 34 = .ok (.getfield 35, 3) := by decide +kernel
theorem dX0_goBack_37 : decode cX0_goBack 37 = .ok (.iload_n 1, 1) := by decide +kernel
theorem dX0_goBack_38 : decode cX0_goBack 38 = .ok (.baload, 1) := by decide +kernel
theorem dX0_goBack_39 : decode cX0_goBack 39 = .ok (.istore_n 3, 1) := by decide +kernel
theorem dX0_goBack_40 : decode cX0_goBack 40 = .ok (.aload_n 0, 1) := by decide +kernel
theorem dX0_goBack_41 : decode cX0_goBack 41 = .ok (.getfield 35, 3) := by decide +kernel
theorem dX0_goBack_44 : decode cX0_goBack 44 = .ok (.iload_n 1, 1) := by decide +kernel
theorem dX0_goBack_45 : decode cX0_goBack 45 = .ok (.dup2, 1) := by decide +kernel
theorem dX0_goBack_46 : decode cX0_goBack 46 = .ok (.baload, 1) := by decide +kernel
theorem dX0_goBack_47 : decode cX0_goBack 47 = .ok (.iconst 1, 1) := by decide +kernel
theorem dX0_goBack_48 : decode cX0_goBack 48 = .ok (.iadd, 1) := by decide +kernel
theorem dX0_goBack_49 : decode cX0_goBack 49 = .ok (.i2b, 1) := by decide +kernel
theorem dX0_goBack_50 : decode cX0_goBack 50 = .ok (.bastore, 1) := by decide +kernel
theorem dX0_goBack_51 : decode cX0_goBack 51 = .ok (.aload_n 0, 1) := by decide +kernel
theorem dX0_goBack_52 : decode cX0_goBack 52 = .ok (.getfield 35, 3) := by decide +kernel
theorem dX0_goBack_55 : decode cX0_goBack 55 = .ok (.iload_n 1, 1) := by decide +kernel
theorem dX0_goBack_56 : decode cX0_goBack 56 = .ok (.baload, 1) := by decide +kernel
theorem dX0_goBack_57 : decode cX0_goBack 57 = .ok (.aload_n 0, 1) := by decide +kernel
theorem dX0_goBack_58 : decode cX0_goBack 58 = .ok (.iload_n 2, 1) := by decide +kernel
theorem dX0_goBack_59 : decode cX0_goBack 59 = .ok (.invokevirtual 80, 3) := by decide +kernel
theorem dX0_goBack_62 : decode cX0_goBack 62 = .ok (.if_icmp .ne 13, 3) := by decide +kernel
theorem dX0_goBack_65 : decode cX0_goBack 65 = .ok (.aload_n 0, 1) := by decide +kernel
theorem dX0_goBack_66 : decode cX0_goBack 66 = .ok (.dup, 1) := by decide +kernel
theorem dX0_goBack_67 : decode cX0_goBack 67 = .ok (.getfield 69, 3) := by decide +kernel
theorem dX0_goBack_70 : decode cX0_goBack 70 = .ok (.iconst 1, 1) := by decide +kernel
theorem dX0_goBack_71 : decode cX0_goBack 71 = .ok (.isub, 1) := by decide +kernel
theorem dX0_goBack_72 : decode cX0_goBack 72 = .ok (.putfield 69, 3) := by decide +kernel
theorem dX0_goBack_75 : decode cX0_goBack 75 = .ok (.aload_n 0, 1) := by decide +kernel
theorem dX0_goBack_76 : decode cX0_goBack 76 = .ok (.iload_n 2, 1) := by decide +kernel
theorem dX0_goBack_77 : decode cX0_goBack 77 = .ok (.iload_n 3, 1) := by decide +kernel
theorem dX0_goBack_78 : decode cX0_goBack 78 = .ok (.invokevirtual 84, 3) := by decide +kernel
theorem dX0_goBack_81 : decode cX0_goBack 81 = .ok (.aload_n 0, 1) := by decide +kernel
theorem dX0_goBack_82 : decode cX0_goBack 82 = .ok (.iload_n 2, 1) := by decide +kernel
theorem dX0_goBack_83 : decode cX0_goBack 83 = .ok (.iconst 1, 1) := by decide +kernel
theorem dX0_goBack_84 : decode cX0_goBack 84 = .ok (.iadd, 1) := by decide +kernel
theorem dX0_goBack_85 : decode cX0_goBack 85 = .ok (.putfield 60, 3) := by decide +kernel
theorem dX0_goBack_88 : decode cX0_goBack 88 = .ok (.iconst 1, 1) := by decide +kernel
theorem dX0_goBack_89 : decode cX0_goBack 89 = .ok (.ireturn, 1) := by decide +kernel
abbrev cX0_undoTo : ByteArray := prog_1_method_11_code
def yX0_undoTo : MethodName := ⟨RX0, "undoTo", "(I)V"⟩
theorem dX0_undoTo_0 : decode cX0_undoTo 0 = .ok (.aload_n 0, 1) := by decide +kernel
theorem dX0_undoTo_1 : decode cX0_undoTo 1 = .ok (.getfield 66, 3) := by decide +kernel
theorem dX0_undoTo_4 : decode cX0_undoTo 4 = .ok (.iload_n 1, 1) := by decide +kernel
theorem dX0_undoTo_5 : decode cX0_undoTo 5 = .ok (.if_icmp .le 39, 3) := by decide +kernel
theorem dX0_undoTo_8 : decode cX0_undoTo 8 = .ok (.aload_n 0, 1) := by decide +kernel
theorem dX0_undoTo_9 : decode cX0_undoTo 9 = .ok (.dup, 1) := by decide +kernel
theorem dX0_undoTo_10 : decode cX0_undoTo 10 = .ok (.getfield 66, 3) := by decide +kernel
theorem dX0_undoTo_13 : decode cX0_undoTo 13 = .ok (.iconst 1, 1) := by decide +kernel
theorem dX0_undoTo_14 : decode cX0_undoTo 14 = .ok (.isub, 1) := by decide +kernel
theorem dX0_undoTo_15 : decode cX0_undoTo 15 = .ok (.putfield 66, 3) := by decide +kernel
theorem dX0_undoTo_18 : decode cX0_undoTo 18 = .ok (.aload_n 0, 1) := by decide +kernel
theorem dX0_undoTo_19 : decode cX0_undoTo 19 = .ok (.getfield 22, 3) := by decide +kernel
theorem dX0_undoTo_22 : decode cX0_undoTo 22 = .ok (.aload_n 0, 1) := by decide +kernel
theorem dX0_undoTo_23 : decode cX0_undoTo 23 = .ok (.getfield 26, 3) := by decide +kernel
theorem dX0_undoTo_26 : decode cX0_undoTo 26 = .ok (.aload_n 0, 1) := by decide +kernel
theorem dX0_undoTo_27 : decode cX0_undoTo 27 = .ok (.getfield 66, 3) := by decide +kernel
theorem dX0_undoTo_30 : decode cX0_undoTo 30 = .ok (.baload, 1) := by decide +kernel
theorem dX0_undoTo_31 : decode cX0_undoTo 31 = .ok (.aload_n 0, 1) := by decide +kernel
theorem dX0_undoTo_32 : decode cX0_undoTo 32 = .ok (.getfield 29, 3) := by decide +kernel
theorem dX0_undoTo_35 : decode cX0_undoTo 35 = .ok (.aload_n 0, 1) := by decide +kernel
theorem dX0_undoTo_36 : decode cX0_undoTo 36 = .ok (.getfield 66, 3) := by decide +kernel
theorem dX0_undoTo_39 : decode cX0_undoTo 39 = .ok (.iaload, 1) := by decide +kernel
theorem dX0_undoTo_40 : decode cX0_undoTo 40 = .ok (.iastore, 1) := by decide +kernel
theorem dX0_undoTo_41 : decode cX0_undoTo 41 = .ok (.goto (-41), 3) := by decide +kernel
theorem dX0_undoTo_44 : decode cX0_undoTo 44 = .ok (.return_, 1) := by decide +kernel
abbrev cX0_waysOf : ByteArray := prog_1_method_12_code
def yX0_waysOf : MethodName := ⟨RX0, "waysOf", "(I)I"⟩
theorem dX0_waysOf_0 : decode cX0_waysOf 0 = .ok (.aload_n 0, 1) := by decide +kernel
theorem dX0_waysOf_1 : decode cX0_waysOf 1 = .ok (.getfield 7, 3) := by decide +kernel
theorem dX0_waysOf_4 : decode cX0_waysOf 4 = .ok (.iload_n 1, 1) := by decide +kernel
theorem dX0_waysOf_5 : decode cX0_waysOf 5 = .ok (.baload, 1) := by decide +kernel
theorem dX0_waysOf_6 : decode cX0_waysOf 6 = .ok (.ifCond .eq 5, 3) := by decide +kernel
theorem dX0_waysOf_9 : decode cX0_waysOf 9 = .ok (.iconst 2, 1) := by decide +kernel
theorem dX0_waysOf_10 : decode cX0_waysOf 10 = .ok (.ireturn, 1) := by decide +kernel
theorem dX0_waysOf_11 : decode cX0_waysOf 11 = .ok (.aload_n 0, 1) := by decide +kernel
theorem dX0_waysOf_12 : decode cX0_waysOf 12 = .ok (.getfield 19, 3) := by decide +kernel
theorem dX0_waysOf_15 : decode cX0_waysOf 15 = .ok (.iload_n 1, 1) := by decide +kernel
theorem dX0_waysOf_16 : decode cX0_waysOf 16 = .ok (.baload, 1) := by decide +kernel
theorem dX0_waysOf_17 : decode cX0_waysOf 17 = .ok (.aload_n 0, 1) := by decide +kernel
theorem dX0_waysOf_18 : decode cX0_waysOf 18 = .ok (.getfield 16, 3) := by decide +kernel
theorem dX0_waysOf_21 : decode cX0_waysOf 21 = .ok (.iload_n 1, 1) := by decide +kernel
theorem dX0_waysOf_22 : decode cX0_waysOf 22 = .ok (.baload, 1) := by decide +kernel
theorem dX0_waysOf_23 : decode cX0_waysOf 23 = .ok (.isub, 1) := by decide +kernel
theorem dX0_waysOf_24 : decode cX0_waysOf 24 = .ok (.iconst 1, 1) := by decide +kernel
theorem dX0_waysOf_25 : decode cX0_waysOf 25 = .ok (.iadd, 1) := by decide +kernel
theorem dX0_waysOf_26 : decode cX0_waysOf 26 = .ok (.istore_n 2, 1) := by decide +kernel
theorem dX0_waysOf_27 : decode cX0_waysOf 27 = .ok (.iload_n 2, 1) := by decide +kernel
theorem dX0_waysOf_28 : decode cX0_waysOf 28 = .ok (.ifCond .ge 7, 3) := by decide +kernel
theorem dX0_waysOf_31 : decode cX0_waysOf 31 = .ok (.iconst 0, 1) := by decide +kernel
theorem dX0_waysOf_32 : decode cX0_waysOf 32 = .ok (.goto 4, 3) := by decide +kernel
theorem dX0_waysOf_35 : decode cX0_waysOf 35 = .ok (.iload_n 2, 1) := by decide +kernel
theorem dX0_waysOf_36 : decode cX0_waysOf 36 = .ok (.ireturn, 1) := by decide +kernel
end
section
set_option maxRecDepth 100000
abbrev cX0_takeWay : ByteArray := prog_1_method_13_code
def yX0_takeWay : MethodName := ⟨RX0, "takeWay", "(II)V"⟩
theorem dX0_takeWay_0 : decode cX0_takeWay 0 = .ok (.aload_n 0, 1) := by decide +kernel
theorem dX0_takeWay_1 : decode cX0_takeWay 1 = .ok (.getfield 13, 3) := by decide +kernel
theorem dX0_takeWay_4 : decode cX0_takeWay 4 = .ok (.iload_n 1, 1) := by decide +kernel
theorem dX0_takeWay_5 : decode cX0_takeWay 5 = .ok (.baload, 1) := by decide +kernel
theorem dX0_takeWay_6 : decode cX0_takeWay 6 = .ok (.istore_n 3, 1) := by decide +kernel
theorem dX0_takeWay_7 : decode cX0_takeWay 7 = .ok (.aload_n 0, 1) := by decide +kernel
theorem dX0_takeWay_8 : decode cX0_takeWay 8 = .ok (.getfield 16, 3) := by decide +kernel
theorem dX0_takeWay_11 : decode cX0_takeWay 11 = .ok (.iload_n 1, 1) := by decide +kernel
theorem dX0_takeWay_12 : decode cX0_takeWay 12 = .ok (.baload, 1) := by decide +kernel
theorem dX0_takeWay_13 : decode cX0_takeWay 13 = .ok (.istore 4, 2) := by decide +kernel
theorem dX0_takeWay_15 : decode cX0_takeWay 15 = .ok (.aload_n 0, 1) := by decide +kernel
theorem dX0_takeWay_16 : decode cX0_takeWay 16 = .ok (.getfield 7, 3) := by decide +kernel
theorem dX0_takeWay_19 : decode cX0_takeWay 19 = .ok (.iload_n 1, 1) := by decide +kernel
theorem dX0_takeWay_20 : decode cX0_takeWay 20 = .ok (.baload, 1) := by decide +kernel
theorem dX0_takeWay_21 : decode cX0_takeWay 21 = .ok (.ifCond .ne 15, 3) := by decide +kernel
theorem dX0_takeWay_24 : decode cX0_takeWay 24 = .ok (.aload_n 0, 1) := by decide +kernel
theorem dX0_takeWay_25 : decode cX0_takeWay 25 = .ok (.iload_n 3, 1) := by decide +kernel
theorem dX0_takeWay_26 : decode cX0_takeWay 26 = .ok (.iload 4, 2) := by decide +kernel
theorem dX0_takeWay_28 : decode cX0_takeWay 28 = .ok (.iload_n 2, 1) := by decide +kernel
theorem dX0_takeWay_29 : decode cX0_takeWay 29 = .ok (.iadd, 1) := by decide +kernel
theorem dX0_takeWay_30 : decode cX0_takeWay 30 = .ok (.invokevirtual 72, 3) := by decide +kernel
theorem dX0_takeWay_33 : decode cX0_takeWay 33 = .ok (.goto 68, 3) := by decide +kernel
theorem dX0_takeWay_36 : decode cX0_takeWay 36 = .ok (.aload_n 0, 1) := by decide +kernel
theorem dX0_takeWay_37 : decode cX0_takeWay 37 = .ok (.getfield 7, 3) := by decide +kernel
theorem dX0_takeWay_40 : decode cX0_takeWay 40 = .ok (.iload_n 1, 1) := by decide +kernel
theorem dX0_takeWay_41 : decode cX0_takeWay 41 = .ok (.baload, 1) := by decide +kernel
theorem dX0_takeWay_42 : decode cX0_takeWay 42 = .ok (.iconst 4, 1) := by decide +kernel
theorem dX0_takeWay_43 : decode cX0_takeWay 43 = .ok (.if_icmp .ne 31, 3) := by decide +kernel
theorem dX0_takeWay_46 : decode cX0_takeWay 46 = .ok (.aload_n 0, 1) := by decide +kernel
theorem dX0_takeWay_47 : decode cX0_takeWay 47 = .ok (.iload_n 3, 1) := by decide +kernel
theorem dX0_takeWay_48 : decode cX0_takeWay 48 = .ok (.iload_n 2, 1) := by decide +kernel
theorem dX0_takeWay_49 : decode cX0_takeWay 49 = .ok (.ifCond .ne 13, 3) := by decide +kernel
theorem dX0_takeWay_52 : decode cX0_takeWay 52 = .ok (.aload_n 0, 1) := by decide +kernel
theorem dX0_takeWay_53 : decode cX0_takeWay 53 = .ok (.getfield 22, 3) := by decide +kernel
theorem dX0_takeWay_56 : decode cX0_takeWay 56 = .ok (.iload 4, 2) := by decide +kernel
theorem dX0_takeWay_58 : decode cX0_takeWay 58 = .ok (.iaload, 1) := by decide +kernel
theorem dX0_takeWay_59 : decode cX0_takeWay 59 = .ok (.goto 9, 3) := by decide +kernel
theorem dX0_takeWay_62 : decode cX0_takeWay 62 = .ok (.aload_n 0, 1) := by decide +kernel
theorem dX0_takeWay_63 : decode cX0_takeWay 63 = .ok (.getfield 22, 3) := by decide +kernel
theorem dX0_takeWay_66 : decode cX0_takeWay 66 = .ok (.iload_n 3, 1) := by decide +kernel
theorem dX0_takeWay_67 : decode cX0_takeWay 67 = .ok (.iaload, 1) := by decide +kernel
theorem dX0_takeWay_68 : decode cX0_takeWay 68 = .ok (.invokevirtual 72, 3) := by decide +kernel
theorem dX0_takeWay_71 : decode cX0_takeWay 71 = .ok (.goto 30, 3) := by decide +kernel
theorem dX0_takeWay_74 : decode cX0_takeWay 74 = .ok (.iload_n 2, 1) := by decide +kernel
theorem dX0_takeWay_75 : decode cX0_takeWay 75 = .ok (.ifCond .ne 7, 3) := by decide +kernel
theorem dX0_takeWay_78 : decode cX0_takeWay 78 = .ok (.iload_n 3, 1) := by decide +kernel
theorem dX0_takeWay_79 : decode cX0_takeWay 79 = .ok (.goto 5, 3) := by decide +kernel
theorem dX0_takeWay_82 : decode cX0_takeWay 82 = .ok (.iload 4, 2) := by decide +kernel
theorem dX0_takeWay_84 : decode cX0_takeWay 84 = .ok (.istore 5, 2) := by decide +kernel
theorem dX0_takeWay_86 : decode cX0_takeWay 86 = .ok (.aload_n 0, 1) := by decide +kernel
theorem dX0_takeWay_87 : decode cX0_takeWay 87 = .ok (.iload 5, 2) := by decide +kernel
theorem dX0_takeWay_89 : decode cX0_takeWay 89 = .ok (.aload_n 0, 1) := by decide +kernel
theorem dX0_takeWay_90 : decode cX0_takeWay 90 = .ok (.getfield 22, 3) := by decide +kernel
theorem dX0_takeWay_93 : decode cX0_takeWay 93 = .ok (.iload 5, 2) := by decide +kernel
theorem dX0_takeWay_95 : decode cX0_takeWay 95 = .ok (.iaload, 1) := by decide +kernel
theorem dX0_takeWay_96 : decode cX0_takeWay 96 = .ok (.iconst 1, 1) := by decide +kernel
theorem dX0_takeWay_97 : decode cX0_takeWay 97 = .ok (.iadd, 1) := by decide +kernel
theorem dX0_takeWay_98 : decode cX0_takeWay 98 = .ok (.invokevirtual 72, 3) := by decide +kernel
theorem dX0_takeWay_101 : decode cX0_takeWay 101 = .ok (.return_, 1) := by decide +kernel
abbrev cX0_assign : ByteArray := prog_1_method_10_code
def yX0_assign : MethodName := ⟨RX0, "assign", "(II)V"⟩
theorem dX0_assign_0 : decode cX0_assign 0 = .ok (.aload_n 0, 1) := by decide +kernel
theorem dX0_assign_1 : decode cX0_assign 1 = .ok (.getfield 26, 3) := by decide +kernel
theorem dX0_assign_4 : decode cX0_assign 4 = .ok (.aload_n 0, 1) := by decide +kernel
theorem dX0_assign_5 : decode cX0_assign 5 = .ok (.getfield 66, 3) := by decide +kernel
theorem dX0_assign_8 : decode cX0_assign 8 = .ok (.iload_n 1, 1) := by decide +kernel
theorem dX0_assign_9 : decode cX0_assign 9 = .ok (.i2b, 1) := by decide +kernel
theorem dX0_assign_10 : decode cX0_assign 10 = .ok (.bastore, 1) := by decide +kernel
theorem dX0_assign_11 : decode cX0_assign 11 = .ok (.aload_n 0, 1) := by decide +kernel
theorem dX0_assign_12 : decode cX0_assign 12 = .ok (.getfield 29, 3) := by decide +kernel
theorem dX0_assign_15 : decode cX0_assign 15 = .ok (.aload_n 0, 1) := by decide +kernel
theorem dX0_assign_16 : decode cX0_assign 16 = .ok (.getfield 66, 3) := by decide +kernel
theorem dX0_assign_19 : decode cX0_assign 19 = .ok (.aload_n 0, 1) := by decide +kernel
theorem dX0_assign_20 : decode cX0_assign 20 = .ok (.getfield 22, 3) := by decide +kernel
theorem dX0_assign_23 : decode cX0_assign 23 = .ok (.iload_n 1, 1) := by decide +kernel
theorem dX0_assign_24 : decode cX0_assign 24 = .ok (.iaload, 1) := by decide +kernel
theorem dX0_assign_25 : decode cX0_assign 25 = .ok (.iastore, 1) := by decide +kernel
theorem dX0_assign_26 : decode cX0_assign 26 = .ok (.aload_n 0, 1) := by decide +kernel
theorem dX0_assign_27 : decode cX0_assign 27 = .ok (.dup, 1) := by decide +kernel
theorem dX0_assign_28 : decode cX0_assign 28 = .ok (.getfield 66, 3) := by decide +kernel
theorem dX0_assign_31 : decode cX0_assign 31 = .ok (.iconst 1, 1) := by decide +kernel
theorem dX0_assign_32 : decode cX0_assign 32 = .ok (.iadd, 1) := by decide +kernel
theorem dX0_assign_33 : decode cX0_assign 33 = .ok (.putfield 66, 3) := by decide +kernel
theorem dX0_assign_36 : decode cX0_assign 36 = .ok (.aload_n 0, 1) := by decide +kernel
theorem dX0_assign_37 : decode cX0_assign 37 = .ok (.getfield 22, 3) := by decide +kernel
theorem dX0_assign_40 : decode cX0_assign 40 = .ok (.iload_n 1, 1) := by decide +kernel
theorem dX0_assign_41 : decode cX0_assign 41 = .ok (.iload_n 2, 1) := by decide +kernel
theorem dX0_assign_42 : decode cX0_assign 42 = .ok (.iastore, 1) := by decide +kernel
theorem dX0_assign_43 : decode cX0_assign 43 = .ok (.return_, 1) := by decide +kernel
abbrev cX0_doStep : ByteArray := prog_1_method_15_code
def yX0_doStep : MethodName := ⟨RX0, "doStep", "()Z"⟩
theorem dX0_doStep_0 : decode cX0_doStep 0 = .ok (.aload_n 0, 1) := by decide +kernel
theorem dX0_doStep_1 : decode cX0_doStep 1 = .ok (.getfield 7, 3) := by decide +kernel
theorem dX0_doStep_4 : decode cX0_doStep 4 = .ok (.aload_n 0, 1) := by decide +kernel
theorem dX0_doStep_5 : decode cX0_doStep 5 = .ok (.getfield 60, 3) := by decide +kernel
theorem dX0_doStep_8 : decode cX0_doStep 8 = .ok (.baload, 1) := by decide +kernel
theorem dX0_doStep_9 : decode cX0_doStep 9 = .ok (.istore_n 1, 1) := by decide +kernel
theorem dX0_doStep_10 : decode cX0_doStep 10 = .ok (.aload_n 0, 1) := by decide +kernel
theorem dX0_doStep_11 : decode cX0_doStep 11 = .ok (.getfield 13, 3) := by decide +kernel
theorem dX0_doStep_14 : decode cX0_doStep 14 = .ok (.aload_n 0, 1) := by decide +kernel
theorem dX0_doStep_15 : decode cX0_doStep 15 = .ok (.getfield 60, 3) := by decide +kernel
theorem dX0_doStep_18 : decode cX0_doStep 18 = .ok (.baload, 1) := by decide +kernel
theorem dX0_doStep_19 : decode cX0_doStep 19 = .ok (.istore_n 2, 1) := by decide +kernel
theorem dX0_doStep_20 : decode cX0_doStep 20 = .ok (.aload_n 0, 1) := by decide +kernel
theorem dX0_doStep_21 : decode cX0_doStep 21 = .ok (.getfield 16, 3) := by decide +kernel
theorem dX0_doStep_24 : decode cX0_doStep 24 = .ok (.aload_n 0, 1) := by decide +kernel
theorem dX0_doStep_25 : decode cX0_doStep 25 = .ok (.getfield 60, 3) := by decide +kernel
theorem dX0_doStep_28 : decode cX0_doStep 28 = .ok (.baload, 1) := by decide +kernel
theorem dX0_doStep_29 : decode cX0_doStep 29 = .ok (.istore_n 3, 1) := by decide +kernel
theorem dX0_doStep_30 : decode cX0_doStep 30 = .ok (.iload_n 1, 1) := by decide +kernel
theorem dX0_doStep_31 : decode cX0_doStep 31 = .ok (.invokestatic 45, 3) := by decide +kernel
theorem dX0_doStep_34 : decode cX0_doStep 34 = .ok (.ifCond .eq 8, 3) := by decide +kernel
theorem dX0_doStep_37 : decode cX0_doStep 37 = .ok (.aload_n 0, 1) := by decide +kernel
theorem dX0_doStep_38 : decode cX0_doStep 38 = .ok (.invokevirtual 87, 3) := by decide +kernel
theorem dX0_doStep_41 : decode cX0_doStep 41 = .ok (.ireturn, 1) := by decide +kernel
theorem dX0_doStep_42 : decode cX0_doStep 42 = .ok (.aload_n 0, 1) := by decide +kernel
theorem dX0_doStep_43 : decode cX0_doStep 43 = .ok (.dup, 1) := by decide +kernel
theorem dX0_doStep_44 : decode cX0_doStep 44 = .ok (.getfield 60, 3) := by decide +kernel
theorem dX0_doStep_47 : decode cX0_doStep 47 = .ok (.iconst 1, 1) := by decide +kernel
theorem dX0_doStep_48 : decode cX0_doStep 48 = .ok (.iadd, 1) := by decide +kernel
theorem dX0_doStep_49 : decode cX0_doStep 49 = .ok (.putfield 60, 3) := by decide +kernel
theorem dX0_doStep_52 : decode cX0_doStep 52 = .ok (.iload_n 1, 1) := by decide +kernel
theorem dX0_doStep_53 : decode cX0_doStep 53 = .ok (.tableswitch 154 1 7 #[43, 51, 71, 154, 91, 112, 133], 43) := by decide +kernel
theorem dX0_doStep_96 : decode cX0_doStep 96 = .ok (.aload_n 0, 1) := by decide +kernel
theorem dX0_doStep_97 : decode cX0_doStep 97 = .ok (.iload_n 2, 1) := by decide +kernel
theorem dX0_doStep_98 : decode cX0_doStep 98 = .ok (.iload_n 3, 1) := by decide +kernel
theorem dX0_doStep_99 : decode cX0_doStep 99 = .ok (.invokevirtual 72, 3) := by decide +kernel
theorem dX0_doStep_102 : decode cX0_doStep 102 = .ok (.iconst 1, 1) := by decide +kernel
theorem dX0_doStep_103 : decode cX0_doStep 103 = .ok (.ireturn, 1) := by decide +kernel
theorem dX0_doStep_104 : decode cX0_doStep 104 = .ok (.aload_n 0, 1) := by decide +kernel
theorem dX0_doStep_105 : decode cX0_doStep 105 = .ok (.iload_n 2, 1) := by decide +kernel
theorem dX0_doStep_106 : decode cX0_doStep 106 = .ok (.aload_n 0, 1) := by decide +kernel
theorem dX0_doStep_107 : decode cX0_doStep 107 = .ok (.getfield 22, 3) := by decide +kernel
theorem dX0_doStep_110 : decode cX0_doStep 110 = .ok (.iload_n 2, 1) := by decide +kernel
theorem dX0_doStep_111 : decode cX0_doStep 111 = .ok (.iaload, 1) := by decide +kernel
theorem dX0_doStep_112 : decode cX0_doStep 112 = .ok (.aload_n 0, 1) := by decide +kernel
theorem dX0_doStep_113 : decode cX0_doStep 113 = .ok (.getfield 22, 3) := by decide +kernel
theorem dX0_doStep_116 : decode cX0_doStep 116 = .ok (.iload_n 3, 1) := by decide +kernel
theorem dX0_doStep_117 : decode cX0_doStep 117 = .ok (.iaload, 1) := by decide +kernel
theorem dX0_doStep_118 : decode cX0_doStep 118 = .ok (.iadd, 1) := by decide +kernel
theorem dX0_doStep_119 : decode cX0_doStep 119 = .ok (.invokevirtual 72, 3) := by decide +kernel
theorem dX0_doStep_122 : decode cX0_doStep 122 = .ok (.iconst 1, 1) := by decide +kernel
theorem dX0_doStep_123 : decode cX0_doStep 123 = .ok (.ireturn, 1) := by decide +kernel
theorem dX0_doStep_124 : decode cX0_doStep 124 = .ok (.aload_n 0, 1) := by decide +kernel
theorem dX0_doStep_125 : decode cX0_doStep 125 = .ok (.iload_n 2, 1) := by decide +kernel
theorem dX0_doStep_126 : decode cX0_doStep 126 = .ok (.aload_n 0, 1) := by decide +kernel
theorem dX0_doStep_127 : decode cX0_doStep 127 = .ok (.getfield 22, 3) := by decide +kernel
theorem dX0_doStep_130 : decode cX0_doStep 130 = .ok (.iload_n 2, 1) := by decide +kernel
theorem dX0_doStep_131 : decode cX0_doStep 131 = .ok (.iaload, 1) := by decide +kernel
theorem dX0_doStep_132 : decode cX0_doStep 132 = .ok (.aload_n 0, 1) := by decide +kernel
theorem dX0_doStep_133 : decode cX0_doStep 133 = .ok (.getfield 22, 3) := by decide +kernel
theorem dX0_doStep_136 : decode cX0_doStep 136 = .ok (.iload_n 3, 1) := by decide +kernel
theorem dX0_doStep_137 : decode cX0_doStep 137 = .ok (.iaload, 1) := by decide +kernel
theorem dX0_doStep_138 : decode cX0_doStep 138 = .ok (.imul, 1) := by decide +kernel
theorem dX0_doStep_139 : decode cX0_doStep 139 = .ok (.invokevirtual 72, 3) := by decide +kernel
theorem dX0_doStep_142 : decode cX0_doStep 142 = .ok (.iconst 1, 1) := by decide +kernel
theorem dX0_doStep_143 : decode cX0_doStep 143 = .ok (.ireturn, 1) := by decide +kernel
theorem dX0_doStep_144 : decode cX0_doStep 144 = .ok (.aload_n 0, 1) := by decide +kernel
theorem dX0_doStep_145 : decode cX0_doStep 145 = .ok (.getfield 22, 3) := by decide +kernel
theorem dX0_doStep_148 : decode cX0_doStep 148 = .ok (.iload_n 2, 1) := by decide +kernel
theorem dX0_doStep_149 : decode cX0_doStep 149 = .ok (.iaload, 1) := by decide +kernel
theorem dX0_doStep_150 : decode cX0_doStep 150 = .ok (.aload_n 0, 1) := by decide +kernel
theorem dX0_doStep_151 : decode cX0_doStep 151 = .ok (.getfield 22, 3) := by decide +kernel
theorem dX0_doStep_154 : decode cX0_doStep 154 = .ok (.iload_n 3, 1) := by decide +kernel
theorem dX0_doStep_155 : decode cX0_doStep 155 = .ok (.iaload, 1) := by decide +kernel
theorem dX0_doStep_156 : decode cX0_doStep 156 = .ok (.if_icmp .ge 7, 3) := by decide +kernel
theorem dX0_doStep_159 : decode cX0_doStep 159 = .ok (.iconst 1, 1) := by decide +kernel
theorem dX0_doStep_160 : decode cX0_doStep 160 = .ok (.goto 4, 3) := by decide +kernel
theorem dX0_doStep_163 : decode cX0_doStep 163 = .ok (.iconst 0, 1) := by decide +kernel
theorem dX0_doStep_164 : decode cX0_doStep 164 = .ok (.ireturn, 1) := by decide +kernel
theorem dX0_doStep_165 : decode cX0_doStep 165 = .ok (.aload_n 0, 1) := by decide +kernel
theorem dX0_doStep_166 : decode cX0_doStep 166 = .ok (.getfield 22, 3) := by decide +kernel
theorem dX0_doStep_169 : decode cX0_doStep 169 = .ok (.iload_n 2, 1) := by decide +kernel
theorem dX0_doStep_170 : decode cX0_doStep 170 = .ok (.iaload, 1) := by decide +kernel
theorem dX0_doStep_171 : decode cX0_doStep 171 = .ok (.aload_n 0, 1) := by decide +kernel
theorem dX0_doStep_172 : decode cX0_doStep 172 = .ok (.getfield 22, 3) := by decide +kernel
theorem dX0_doStep_175 : decode cX0_doStep 175 = .ok (.iload_n 3, 1) := by decide +kernel
theorem dX0_doStep_176 : decode cX0_doStep 176 = .ok (.iaload, 1) := by decide +kernel
theorem dX0_doStep_177 : decode cX0_doStep 177 = .ok (.if_icmp .ne 7, 3) := by decide +kernel
theorem dX0_doStep_180 : decode cX0_doStep 180 = .ok (.iconst 1, 1) := by decide +kernel
theorem dX0_doStep_181 : decode cX0_doStep 181 = .ok (.goto 4, 3) := by decide +kernel
theorem dX0_doStep_184 : decode cX0_doStep 184 = .ok (.iconst 0, 1) := by decide +kernel
theorem dX0_doStep_185 : decode cX0_doStep 185 = .ok (.ireturn, 1) := by decide +kernel
theorem dX0_doStep_186 : decode cX0_doStep 186 = .ok (.aload_n 0, 1) := by decide +kernel
theorem dX0_doStep_187 : decode cX0_doStep 187 = .ok (.getfield 22, 3) := by decide +kernel
theorem dX0_doStep_190 : decode cX0_doStep 190 = .ok (.iload_n 2, 1) := by decide +kernel
theorem dX0_doStep_191 : decode cX0_doStep 191 = .ok (.iaload, 1) := by decide +kernel
theorem dX0_doStep_192 : decode cX0_doStep 192 = .ok (.aload_n 0, 1) := by decide +kernel
theorem dX0_doStep_193 : decode cX0_doStep 193 = .ok (.getfield 22, 3) := by decide +kernel
theorem dX0_doStep_196 : decode cX0_doStep 196 = .ok (.iload_n 3, 1) := by decide +kernel
theorem dX0_doStep_197 : decode cX0_doStep 197 = .ok (.iaload, 1) := by decide +kernel
theorem dX0_doStep_198 : decode cX0_doStep 198 = .ok (.if_icmp .eq 7, 3) := by decide +kernel
theorem dX0_doStep_201 : decode cX0_doStep 201 = .ok (.iconst 1, 1) := by decide +kernel
theorem dX0_doStep_202 : decode cX0_doStep 202 = .ok (.goto 4, 3) := by decide +kernel
theorem dX0_doStep_205 : decode cX0_doStep 205 = .ok (.iconst 0, 1) := by decide +kernel
theorem dX0_doStep_206 : decode cX0_doStep 206 = .ok (.ireturn, 1) := by decide +kernel
theorem dX0_doStep_207 : decode cX0_doStep 207 = .ok (.aload_n 0, 1) := by decide +kernel
theorem dX0_doStep_208 : decode cX0_doStep 208 = .ok (.iconst 0, 1) := by decide +kernel
theorem dX0_doStep_209 : decode cX0_doStep 209 = .ok (.putfield 69, 3) := by decide +kernel
theorem dX0_doStep_212 : decode cX0_doStep 212 = .ok (.iconst 1, 1) := by decide +kernel
theorem dX0_doStep_213 : decode cX0_doStep 213 = .ok (.ireturn, 1) := by decide +kernel
abbrev cX0_beginChoice : ByteArray := prog_1_method_16_code
def yX0_beginChoice : MethodName := ⟨RX0, "beginChoice", "()Z"⟩
theorem dX0_beginChoice_0 : decode cX0_beginChoice 0 = .ok (.aload_n 0, 1) := by decide +kernel
theorem dX0_beginChoice_1 : decode cX0_beginChoice 1 = .ok (.aload_n 0, 1) := by decide +kernel
theorem dX0_beginChoice_2 : decode cX0_beginChoice 2 = .ok (.getfield 60, 3) := by decide +kernel
theorem dX0_beginChoice_5 : decode cX0_beginChoice 5 = .ok (.invokevirtual 80, 3) := by decide +kernel
theorem dX0_beginChoice_8 : decode cX0_beginChoice 8 = .ok (.istore_n 1, 1) := by decide +kernel
theorem dX0_beginChoice_9 : decode cX0_beginChoice 9 = .ok (.iload_n 1, 1) := by decide +kernel
theorem dX0_beginChoice_10 : decode cX0_beginChoice 10 = .ok (.ifCond .ne 5, 3) := by decide +kernel
theorem dX0_beginChoice_13 : decode cX0_beginChoice 13 = .ok (.iconst 0, 1) := by decide +kernel
theorem dX0_beginChoice_14 : decode cX0_beginChoice 14 = .ok (.ireturn, 1) := by decide +kernel
theorem dX0_beginChoice_15 : decode cX0_beginChoice 15 = .ok (.iload_n 1, 1) := by decide +kernel
theorem dX0_beginChoice_16 : decode cX0_beginChoice 16 = .ok (.iconst 1, 1) := by decide +kernel
theorem dX0_beginChoice_17 : decode cX0_beginChoice 17 = .ok (.if_icmp .le 51, 3) := by decide +kernel
theorem dX0_beginChoice_20 : decode cX0_beginChoice 20 = .ok (.aload_n 0, 1) := by decide +kernel
theorem dX0_beginChoice_21 : decode cX0_beginChoice 21 = .ok (.getfield 32, 3) := by decide +kernel
theorem dX0_beginChoice_24 : decode cX0_beginChoice 24 = .ok (.aload_n 0, 1) := by decide +kernel
theorem dX0_beginChoice_25 : decode cX0_beginChoice 25 = .ok (.getfield 69, 3) := by decide +kernel
theorem dX0_beginChoice_28 : decode cX0_beginChoice 28 = .ok (.aload_n 0, 1) := by decide +kernel
theorem dX0_beginChoice_29 : decode cX0_beginChoice 29 = .ok (.getfield 60, 3) := by decide +kernel
theorem dX0_beginChoice_32 : decode cX0_beginChoice 32 = .ok (.i2b, 1) := by decide +kernel
theorem dX0_beginChoice_33 : decode cX0_beginChoice 33 = .ok (.bastore, 1) := by decide +kernel
theorem dX0_beginChoice_34 : decode cX0_beginChoice 34 = .ok (.aload_n 0, 1) := by decide +kernel
theorem dX0_beginChoice_35 : decode cX0_beginChoice 35 = .ok (.getfield 35, 3) := by decide +kernel
theorem dX0_beginChoice_38 : decode cX0_beginChoice 38 = .ok (.aload_n 0, 1) := by decide +kernel
theorem dX0_beginChoice_39 : decode cX0_beginChoice 39 = .ok (.getfield 69, 3) := by decide +kernel
theorem dX0_beginChoice_42 : decode cX0_beginChoice 42 = .ok (.iconst 1, 1) := by decide +kernel
theorem dX0_beginChoice_43 : decode cX0_beginChoice 43 = .ok (.bastore, 1) := by decide +kernel
theorem dX0_beginChoice_44 : decode cX0_beginChoice 44 = .ok (.aload_n 0, 1) := by decide +kernel
theorem dX0_beginChoice_45 : decode cX0_beginChoice 45 = .ok (.getfield 38, 3) := by decide +kernel
theorem dX0_beginChoice_48 : decode cX0_beginChoice 48 = .ok (.aload_n 0, 1) := by decide +kernel
theorem dX0_beginChoice_49 : decode cX0_beginChoice 49 = .ok (.getfield 69, 3) := by decide +kernel
theorem dX0_beginChoice_52 : decode cX0_beginChoice 52 = .ok (.aload_n 0, 1) := by decide +kernel
theorem dX0_beginChoice_53 : decode cX0_beginChoice 53 = .ok (.getfield 66, 3) := by decide +kernel
theorem dX0_beginChoice_56 : decode cX0_beginChoice 56 = .ok (.i2b, 1) := by decide +kernel
theorem dX0_beginChoice_57 : decode cX0_beginChoice 57 = .ok (.bastore, 1) := by decide +kernel
theorem dX0_beginChoice_58 : decode cX0_beginChoice 58 = .ok (.aload_n 0, 1) := by decide +kernel
theorem dX0_beginChoice_59 : decode cX0_beginChoice 59 = .ok (.dup, 1) := by decide +kernel
theorem dX0_beginChoice_60 : decode cX0_beginChoice 60 = .ok (.getfield 69, 3) := by decide +kernel
theorem dX0_beginChoice_63 : decode cX0_beginChoice 63 = .ok (.iconst 1, 1) := by decide +kernel
theorem dX0_beginChoice_64 : decode cX0_beginChoice 64 = .ok (.iadd, 1) := by decide +kernel
theorem dX0_beginChoice_65 : decode cX0_beginChoice 65 = .ok (.putfield 69, 3) := by decide +kernel
theorem dX0_beginChoice_68 : decode cX0_beginChoice 68 = .ok (.aload_n 0, 1) := by decide +kernel
theorem dX0_beginChoice_69 : decode cX0_beginChoice 69 = .ok (.aload_n 0, 1) := by decide +kernel
theorem dX0_beginChoice_70 : decode cX0_beginChoice 70 = .ok (.getfield 60, 3) := by decide +kernel
theorem dX0_beginChoice_73 : decode cX0_beginChoice 73 = .ok (.iconst 0, 1) := by decide +kernel
theorem dX0_beginChoice_74 : decode cX0_beginChoice 74 = .ok (.invokevirtual 84, 3) := by decide +kernel
theorem dX0_beginChoice_77 : decode cX0_beginChoice 77 = .ok (.aload_n 0, 1) := by decide +kernel
theorem dX0_beginChoice_78 : decode cX0_beginChoice 78 = .ok (.dup, 1) := by decide +kernel
theorem dX0_beginChoice_79 : decode cX0_beginChoice 79 = .ok (.getfield 60, 3) := by decide +kernel
theorem dX0_beginChoice_82 : decode cX0_beginChoice 82 = .ok (.iconst 1, 1) := by decide +kernel
theorem dX0_beginChoice_83 : decode cX0_beginChoice 83 = .ok (.iadd, 1) := by decide +kernel
theorem dX0_beginChoice_84 : decode cX0_beginChoice 84 = .ok (.putfield 60, 3) := by decide +kernel
theorem dX0_beginChoice_87 : decode cX0_beginChoice 87 = .ok (.iconst 1, 1) := by decide +kernel
theorem dX0_beginChoice_88 : decode cX0_beginChoice 88 = .ok (.ireturn, 1) := by decide +kernel
end
section
set_option maxRecDepth 100000
abbrev cX0_value : ByteArray := prog_1_method_20_code
def yX0_value : MethodName := ⟨RX0, "value", "(II)I"⟩
theorem dX0_value_0 : decode cX0_value 0 = .ok (.iload_n 1, 1) := by decide +kernel
theorem dX0_value_1 : decode cX0_value 1 = .ok (.ifCond .lt 10, 3) := by decide +kernel
theorem dX0_value_4 : decode cX0_value 4 = .ok (.iload_n 2, 1) := by decide +kernel
theorem dX0_value_5 : decode cX0_value 5 = .ok (.invokestatic 49, 3) := by decide +kernel
theorem dX0_value_8 : decode cX0_value 8 = .ok (.ifCond .ne 6, 3) := by decide +kernel
theorem dX0_value_11 : decode cX0_value 11 = .ok (.ldc 107, 2) := by decide +kernel
theorem dX0_value_13 : decode cX0_value 13 = .ok (.ireturn, 1) := by decide +kernel
theorem dX0_value_14 : decode cX0_value 14 = .ok (.aload_n 0, 1) := by decide +kernel
theorem dX0_value_15 : decode cX0_value 15 = .ok (.aload_n 0, 1) := by decide +kernel
theorem dX0_value_16 : decode cX0_value 16 = .ok (.getfield 41, 3) := by decide +kernel
theorem dX0_value_19 : decode cX0_value 19 = .ok (.invokevirtual 97, 3) := by decide +kernel
theorem dX0_value_22 : decode cX0_value 22 = .ok (.aload_n 0, 1) := by decide +kernel
theorem dX0_value_23 : decode cX0_value 23 = .ok (.iconst 1, 1) := by decide +kernel
theorem dX0_value_24 : decode cX0_value 24 = .ok (.invokevirtual 100, 3) := by decide +kernel
theorem dX0_value_27 : decode cX0_value 27 = .ok (.istore_n 3, 1) := by decide +kernel
theorem dX0_value_28 : decode cX0_value 28 = .ok (.iconst 0, 1) := by decide +kernel
theorem dX0_value_29 : decode cX0_value 29 = .ok (.istore 4, 2) := by decide +kernel
theorem dX0_value_31 : decode cX0_value 31 = .ok (.iload 4, 2) := by decide +kernel
theorem dX0_value_33 : decode cX0_value 33 = .ok (.iload_n 1, 1) := by decide +kernel
theorem dX0_value_34 : decode cX0_value 34 = .ok (.if_icmp .ge 19, 3) := by decide +kernel
theorem dX0_value_37 : decode cX0_value 37 = .ok (.iload_n 3, 1) := by decide +kernel
theorem dX0_value_38 : decode cX0_value 38 = .ok (.ifCond .eq 15, 3) := by decide +kernel
theorem dX0_value_41 : decode cX0_value 41 = .ok (.aload_n 0, 1) := by decide +kernel
theorem dX0_value_42 : decode cX0_value 42 = .ok (.iconst 0, 1) := by decide +kernel
theorem dX0_value_43 : decode cX0_value 43 = .ok (.invokevirtual 100, 3) := by decide +kernel
theorem dX0_value_46 : decode cX0_value 46 = .ok (.istore_n 3, 1) := by decide +kernel
theorem dX0_value_47 : decode cX0_value 47 = .ok (.iinc 4 1, 3) := by decide +kernel
theorem dX0_value_50 : decode cX0_value 50 = .ok (.goto (-19), 3) := by decide +kernel
theorem dX0_value_53 : decode cX0_value 53 = .ok (.iload_n 3, 1) := by decide +kernel
theorem dX0_value_54 : decode cX0_value 54 = .ok (.ifCond .eq 12, 3) := by decide +kernel
theorem dX0_value_57 : decode cX0_value 57 = .ok (.aload_n 0, 1) := by decide +kernel
theorem dX0_value_58 : decode cX0_value 58 = .ok (.getfield 22, 3) := by decide +kernel
theorem dX0_value_61 : decode cX0_value 61 = .ok (.iload_n 2, 1) := by decide +kernel
theorem dX0_value_62 : decode cX0_value 62 = .ok (.iaload, 1) := by decide +kernel
theorem dX0_value_63 : decode cX0_value 63 = .ok (.goto 5, 3) := by decide +kernel
theorem dX0_value_66 : decode cX0_value 66 = .ok (.ldc 107, 2) := by decide +kernel
theorem dX0_value_68 : decode cX0_value 68 = .ok (.ireturn, 1) := by decide +kernel
abbrev cX0_countWith : ByteArray := prog_1_method_21_code
def yX0_countWith : MethodName := ⟨RX0, "countWith", "(II)I"⟩
theorem dX0_countWith_0 : decode cX0_countWith 0 = .ok (.iload_n 1, 1) := by decide +kernel
theorem dX0_countWith_1 : decode cX0_countWith 1 = .ok (.invokestatic 49, 3) := by decide +kernel
theorem dX0_countWith_4 : decode cX0_countWith 4 = .ok (.ifCond .ne 5, 3) := by decide +kernel
theorem dX0_countWith_7 : decode cX0_countWith 7 = .ok (.iconst 0, 1) := by decide +kernel
theorem dX0_countWith_8 : decode cX0_countWith 8 = .ok (.ireturn, 1) := by decide +kernel
theorem dX0_countWith_9 : decode cX0_countWith 9 = .ok (.aload_n 0, 1) := by decide +kernel
theorem dX0_countWith_10 : decode cX0_countWith 10 = .ok (.aload_n 0, 1) := by decide +kernel
theorem dX0_countWith_11 : decode cX0_countWith 11 = .ok (.getfield 41, 3) := by decide +kernel
theorem dX0_countWith_14 : decode cX0_countWith 14 = .ok (.invokevirtual 97, 3) := by decide +kernel
theorem dX0_countWith_17 : decode cX0_countWith 17 = .ok (.iconst 0, 1) := by decide +kernel
theorem dX0_countWith_18 : decode cX0_countWith 18 = .ok (.istore_n 3, 1) := by decide +kernel
theorem dX0_countWith_19 : decode cX0_countWith 19 = .ok (.aload_n 0, 1) := by decide +kernel
theorem dX0_countWith_20 : decode cX0_countWith 20 = .ok (.iconst 1, 1) := by decide +kernel
theorem dX0_countWith_21 : decode cX0_countWith 21 = .ok (.invokevirtual 100, 3) := by decide +kernel
theorem dX0_countWith_24 : decode cX0_countWith 24 = .ok (.istore 4, 2) := by decide +kernel
theorem dX0_countWith_26 : decode cX0_countWith 26 = .ok (.iconst 0, 1) := by decide +kernel
theorem dX0_countWith_27 : decode cX0_countWith 27 = .ok (.istore 5, 2) := by decide +kernel
theorem dX0_countWith_29 : decode cX0_countWith 29 = .ok (.iload 5, 2) := by decide +kernel
theorem dX0_countWith_31 : decode cX0_countWith 31 = .ok (.sipush 2200, 3) := by decide +kernel
theorem dX0_countWith_34 : decode cX0_countWith 34 = .ok (.if_icmp .ge 39, 3) := by decide +kernel
theorem dX0_countWith_37 : decode cX0_countWith 37 = .ok (.iload 4, 2) := by decide +kernel
theorem dX0_countWith_39 : decode cX0_countWith 39 = .ok (.ifCond .eq 34, 3) := by decide +kernel
theorem dX0_countWith_42 : decode cX0_countWith 42 = .ok (.iload_n 3, 1) := by decide +kernel
theorem dX0_countWith_43 : decode cX0_countWith 43 = .ok (.aload_n 0, 1) := by decide +kernel
theorem dX0_countWith_44 : decode cX0_countWith 44 = .ok (.getfield 22, 3) := by decide +kernel
theorem dX0_countWith_47 : decode cX0_countWith 47 = .ok (.iload_n 1, 1) := by decide +kernel
theorem dX0_countWith_48 : decode cX0_countWith 48 = .ok (.iaload, 1) := by decide +kernel
theorem dX0_countWith_49 : decode cX0_countWith 49 = .ok (.iload_n 2, 1) := by decide +kernel
theorem dX0_countWith_50 : decode cX0_countWith 50 = .ok (.if_icmp .ne 7, 3) := by decide +kernel
theorem dX0_countWith_53 : decode cX0_countWith 53 = .ok (.iconst 1, 1) := by decide +kernel
theorem dX0_countWith_54 : decode cX0_countWith 54 = .ok (.goto 4, 3) := by decide +kernel
theorem dX0_countWith_57 : decode cX0_countWith 57 = .ok (.iconst 0, 1) := by decide +kernel
theorem dX0_countWith_58 : decode cX0_countWith 58 = .ok (.iadd, 1) := by decide +kernel
theorem dX0_countWith_59 : decode cX0_countWith 59 = .ok (.istore_n 3, 1) := by decide +kernel
theorem dX0_countWith_60 : decode cX0_countWith 60 = .ok (.aload_n 0, 1) := by decide +kernel
theorem dX0_countWith_61 : decode cX0_countWith 61 = .ok (.iconst 0, 1) := by decide +kernel
theorem dX0_countWith_62 : decode cX0_countWith 62 = .ok (.invokevirtual 100, 3) := by decide +kernel
theorem dX0_countWith_65 : decode cX0_countWith 65 = .ok (.istore 4, 2) := by decide +kernel
theorem dX0_countWith_67 : decode cX0_countWith 67 = .ok (.iinc 5 1, 3) := by decide +kernel
theorem dX0_countWith_70 : decode cX0_countWith 70 = .ok (.goto (-41), 3) := by decide +kernel
theorem dX0_countWith_73 : decode cX0_countWith 73 = .ok (.iload_n 3, 1) := by decide +kernel
theorem dX0_countWith_74 : decode cX0_countWith 74 = .ok (.ireturn, 1) := by decide +kernel
abbrev cX0_firstWith : ByteArray := prog_1_method_22_code
def yX0_firstWith : MethodName := ⟨RX0, "firstWith", "(II)I"⟩
theorem dX0_firstWith_0 : decode cX0_firstWith 0 = .ok (.iload_n 1, 1) := by decide +kernel
theorem dX0_firstWith_1 : decode cX0_firstWith 1 = .ok (.invokestatic 49, 3) := by decide +kernel
theorem dX0_firstWith_4 : decode cX0_firstWith 4 = .ok (.ifCond .ne 5, 3) := by decide +kernel
theorem dX0_firstWith_7 : decode cX0_firstWith 7 = .ok (.iconst (-1), 1) := by decide +kernel
theorem dX0_firstWith_8 : decode cX0_firstWith 8 = .ok (.ireturn, 1) := by decide +kernel
theorem dX0_firstWith_9 : decode cX0_firstWith 9 = .ok (.aload_n 0, 1) := by decide +kernel
theorem dX0_firstWith_10 : decode cX0_firstWith 10 = .ok (.aload_n 0, 1) := by decide +kernel
theorem dX0_firstWith_11 : decode cX0_firstWith 11 = .ok (.getfield 41, 3) := by decide +kernel
theorem dX0_firstWith_14 : decode cX0_firstWith 14 = .ok (.invokevirtual 97, 3) := by decide +kernel
theorem dX0_firstWith_17 : decode cX0_firstWith 17 = .ok (.aload_n 0, 1) := by decide +kernel
theorem dX0_firstWith_18 : decode cX0_firstWith 18 = .ok (.iconst 1, 1) := by decide +kernel
theorem dX0_firstWith_19 : decode cX0_firstWith 19 = .ok (.invokevirtual 100, 3) := by decide +kernel
theorem dX0_firstWith_22 : decode cX0_firstWith 22 = .ok (.istore_n 3, 1) := by decide +kernel
theorem dX0_firstWith_23 : decode cX0_firstWith 23 = .ok (.iconst 0, 1) := by decide +kernel
theorem dX0_firstWith_24 : decode cX0_firstWith 24 = .ok (.istore 4, 2) := by decide +kernel
theorem dX0_firstWith_26 : decode cX0_firstWith 26 = .ok (.iload 4, 2) := by decide +kernel
theorem dX0_firstWith_28 : decode cX0_firstWith 28 = .ok (.sipush 2200, 3) := by decide +kernel
theorem dX0_firstWith_31 : decode cX0_firstWith 31 = .ok (.if_icmp .ge 32, 3) := by decide +kernel
theorem dX0_firstWith_34 : decode cX0_firstWith 34 = .ok (.iload_n 3, 1) := by decide +kernel
theorem dX0_firstWith_35 : decode cX0_firstWith 35 = .ok (.ifCond .eq 28, 3) := by decide +kernel
theorem dX0_firstWith_38 : decode cX0_firstWith 38 = .ok (.aload_n 0, 1) := by decide +kernel
theorem dX0_firstWith_39 : decode cX0_firstWith 39 = .ok (.getfield 22, 3) := by decide +kernel
theorem dX0_firstWith_42 : decode cX0_firstWith 42 = .ok (.iload_n 1, 1) := by decide +kernel
theorem dX0_firstWith_43 : decode cX0_firstWith 43 = .ok (.iaload, 1) := by decide +kernel
theorem dX0_firstWith_44 : decode cX0_firstWith 44 = .ok (.iload_n 2, 1) := by decide +kernel
theorem dX0_firstWith_45 : decode cX0_firstWith 45 = .ok (.if_icmp .ne 6, 3) := by decide +kernel
theorem dX0_firstWith_48 : decode cX0_firstWith 48 = .ok (.iload 4, 2) := by decide +kernel
theorem dX0_firstWith_50 : decode cX0_firstWith 50 = .ok (.ireturn, 1) := by decide +kernel
theorem dX0_firstWith_51 : decode cX0_firstWith 51 = .ok (.aload_n 0, 1) := by decide +kernel
theorem dX0_firstWith_52 : decode cX0_firstWith 52 = .ok (.iconst 0, 1) := by decide +kernel
theorem dX0_firstWith_53 : decode cX0_firstWith 53 = .ok (.invokevirtual 100, 3) := by decide +kernel
theorem dX0_firstWith_56 : decode cX0_firstWith 56 = .ok (.istore_n 3, 1) := by decide +kernel
theorem dX0_firstWith_57 : decode cX0_firstWith 57 = .ok (.iinc 4 1, 3) := by decide +kernel
theorem dX0_firstWith_60 : decode cX0_firstWith 60 = .ok (.goto (-34), 3) := by decide +kernel
theorem dX0_firstWith_63 : decode cX0_firstWith 63 = .ok (.iconst (-1), 1) := by decide +kernel
theorem dX0_firstWith_64 : decode cX0_firstWith 64 = .ok (.ireturn, 1) := by decide +kernel
abbrev cX0_extreme : ByteArray := prog_1_method_23_code
def yX0_extreme : MethodName := ⟨RX0, "extreme", "(II)I"⟩
theorem dX0_extreme_0 : decode cX0_extreme 0 = .ok (.iload_n 1, 1) := by decide +kernel
theorem dX0_extreme_1 : decode cX0_extreme 1 = .ok (.invokestatic 49, 3) := by decide +kernel
theorem dX0_extreme_4 : decode cX0_extreme 4 = .ok (.ifCond .eq 12, 3) := by decide +kernel
theorem dX0_extreme_7 : decode cX0_extreme 7 = .ok (.iload_n 2, 1) := by decide +kernel
theorem dX0_extreme_8 : decode cX0_extreme 8 = .ok (.ifCond .lt 8, 3) := by decide +kernel
theorem dX0_extreme_11 : decode cX0_extreme 11 = .ok (.iload_n 2, 1) := by decide +kernel
theorem dX0_extreme_12 : decode cX0_extreme 12 = .ok (.iconst 1, 1) := by decide +kernel
theorem dX0_extreme_13 : decode cX0_extreme 13 = .ok (.if_icmp .le 6, 3) := by decide +kernel
theorem dX0_extreme_16 : decode cX0_extreme 16 = .ok (.ldc 107, 2) := by decide +kernel
theorem dX0_extreme_18 : decode cX0_extreme 18 = .ok (.ireturn, 1) := by decide +kernel
theorem dX0_extreme_19 : decode cX0_extreme 19 = .ok (.aload_n 0, 1) := by decide +kernel
theorem dX0_extreme_20 : decode cX0_extreme 20 = .ok (.aload_n 0, 1) := by decide +kernel
theorem dX0_extreme_21 : decode cX0_extreme 21 = .ok (.getfield 41, 3) := by decide +kernel
theorem dX0_extreme_24 : decode cX0_extreme 24 = .ok (.invokevirtual 97, 3) := by decide +kernel
theorem dX0_extreme_27 : decode cX0_extreme 27 = .ok (.ldc 107, 2) := by decide +kernel
theorem dX0_extreme_29 : decode cX0_extreme 29 = .ok (.istore_n 3, 1) := by decide +kernel
theorem dX0_extreme_30 : decode cX0_extreme 30 = .ok (.aload_n 0, 1) := by decide +kernel
theorem dX0_extreme_31 : decode cX0_extreme 31 = .ok (.iconst 1, 1) := by decide +kernel
theorem dX0_extreme_32 : decode cX0_extreme 32 = .ok (.invokevirtual 100, 3) := by decide +kernel
theorem dX0_extreme_35 : decode cX0_extreme 35 = .ok (.istore 4, 2) := by decide +kernel
theorem dX0_extreme_37 : decode cX0_extreme 37 = .ok (.iconst 0, 1) := by decide +kernel
theorem dX0_extreme_38 : decode cX0_extreme 38 = .ok (.istore 5, 2) := by decide +kernel
theorem dX0_extreme_40 : decode cX0_extreme 40 = .ok (.iload 5, 2) := by decide +kernel
theorem dX0_extreme_42 : decode cX0_extreme 42 = .ok (.sipush 2200, 3) := by decide +kernel
theorem dX0_extreme_45 : decode cX0_extreme 45 = .ok (.if_icmp .ge 77, 3) := by decide +kernel
theorem dX0_extreme_48 : decode cX0_extreme 48 = .ok (.iload 4, 2) := by decide +kernel
theorem dX0_extreme_50 : decode cX0_extreme 50 = .ok (.ifCond .eq 72, 3) := by decide +kernel
theorem dX0_extreme_53 : decode cX0_extreme 53 = .ok (.aload_n 0, 1) := by decide +kernel
theorem dX0_extreme_54 : decode cX0_extreme 54 = .ok (.getfield 22, 3) := by decide +kernel
theorem dX0_extreme_57 : decode cX0_extreme 57 = .ok (.iload_n 1, 1) := by decide +kernel
theorem dX0_extreme_58 : decode cX0_extreme 58 = .ok (.iaload, 1) := by decide +kernel
theorem dX0_extreme_59 : decode cX0_extreme 59 = .ok (.istore 6, 2) := by decide +kernel
theorem dX0_extreme_61 : decode cX0_extreme 61 = .ok (.iload_n 2, 1) := by decide +kernel
theorem dX0_extreme_62 : decode cX0_extreme 62 = .ok (.ifCond .ne 17, 3) := by decide +kernel
theorem dX0_extreme_65 : decode cX0_extreme 65 = .ok (.iload 6, 2) := by decide +kernel
theorem dX0_extreme_67 : decode cX0_extreme 67 = .ok (.iload_n 3, 1) := by decide +kernel
theorem dX0_extreme_68 : decode cX0_extreme 68 = .ok (.if_icmp .ge 7, 3) := by decide +kernel
theorem dX0_extreme_71 : decode cX0_extreme 71 = .ok (.iconst 1, 1) := by decide +kernel
theorem dX0_extreme_72 : decode cX0_extreme 72 = .ok (.goto 18, 3) := by decide +kernel
theorem dX0_extreme_75 : decode cX0_extreme 75 = .ok (.iconst 0, 1) := by decide +kernel
theorem dX0_extreme_76 : decode cX0_extreme 76 = .ok (.goto 14, 3) := by decide +kernel
theorem dX0_extreme_79 : decode cX0_extreme 79 = .ok (.iload 6, 2) := by decide +kernel
theorem dX0_extreme_81 : decode cX0_extreme 81 = .ok (.iload_n 3, 1) := by decide +kernel
theorem dX0_extreme_82 : decode cX0_extreme 82 = .ok (.if_icmp .le 7, 3) := by decide +kernel
theorem dX0_extreme_85 : decode cX0_extreme 85 = .ok (.iconst 1, 1) := by decide +kernel
theorem dX0_extreme_86 : decode cX0_extreme 86 = .ok (.goto 4, 3) := by decide +kernel
theorem dX0_extreme_89 : decode cX0_extreme 89 = .ok (.iconst 0, 1) := by decide +kernel
theorem dX0_extreme_90 : decode cX0_extreme 90 = .ok (.istore 7, 2) := by decide +kernel
theorem dX0_extreme_92 : decode cX0_extreme 92 = .ok (.iload 5, 2) := by decide +kernel
theorem dX0_extreme_94 : decode cX0_extreme 94 = .ok (.ifCond .eq 8, 3) := by decide +kernel
theorem dX0_extreme_97 : decode cX0_extreme 97 = .ok (.iload 7, 2) := by decide +kernel
theorem dX0_extreme_99 : decode cX0_extreme 99 = .ok (.ifCond .eq 8, 3) := by decide +kernel
theorem dX0_extreme_102 : decode cX0_extreme 102 = .ok (.iload 6, 2) := by decide +kernel
theorem dX0_extreme_104 : decode cX0_extreme 104 = .ok (.goto 4, 3) := by decide +kernel
theorem dX0_extreme_107 : decode cX0_extreme 107 = .ok (.iload_n 3, 1) := by decide +kernel
theorem dX0_extreme_108 : decode cX0_extreme 108 = .ok (.istore_n 3, 1) := by decide +kernel
theorem dX0_extreme_109 : decode cX0_extreme 109 = .ok (.aload_n 0, 1) := by decide +kernel
theorem dX0_extreme_110 : decode cX0_extreme 110 = .ok (.iconst 0, 1) := by decide +kernel
theorem dX0_extreme_111 : decode cX0_extreme 111 = .ok (.invokevirtual 100, 3) := by decide +kernel
theorem dX0_extreme_114 : decode cX0_extreme 114 = .ok (.istore 4, 2) := by decide +kernel
theorem dX0_extreme_116 : decode cX0_extreme 116 = .ok (.iinc 5 1, 3) := by decide +kernel
theorem dX0_extreme_119 : decode cX0_extreme 119 = .ok (.goto (-79), 3) := by decide +kernel
theorem dX0_extreme_122 : decode cX0_extreme 122 = .ok (.iload_n 3, 1) := by decide +kernel
theorem dX0_extreme_123 : decode cX0_extreme 123 = .ok (.ireturn, 1) := by decide +kernel
abbrev cX0_ways : ByteArray := prog_1_method_24_code
def yX0_ways : MethodName := ⟨RX0, "ways", "(I)I"⟩
theorem dX0_ways_0 : decode cX0_ways 0 = .ok (.iload_n 1, 1) := by decide +kernel
theorem dX0_ways_1 : decode cX0_ways 1 = .ok (.ifCond .lt 11, 3) := by decide +kernel
theorem dX0_ways_4 : decode cX0_ways 4 = .ok (.iload_n 1, 1) := by decide +kernel
theorem dX0_ways_5 : decode cX0_ways 5 = .ok (.aload_n 0, 1) := by decide +kernel
theorem dX0_ways_6 : decode cX0_ways 6 = .ok (.getfield 41, 3) := by decide +kernel
theorem dX0_ways_9 : decode cX0_ways 9 = .ok (.if_icmp .le 7, 3) := by decide +kernel
theorem dX0_ways_12 : decode cX0_ways 12 = .ok (.iconst (-1), 1) := by decide +kernel
theorem dX0_ways_13 : decode cX0_ways 13 = .ok (.goto 8, 3) := by decide +kernel
theorem dX0_ways_16 : decode cX0_ways 16 = .ok (.aload_n 0, 1) := by decide +kernel
theorem dX0_ways_17 : decode cX0_ways 17 = .ok (.iload_n 1, 1) := by decide +kernel
theorem dX0_ways_18 : decode cX0_ways 18 = .ok (.invokevirtual 104, 3) := by decide +kernel
theorem dX0_ways_21 : decode cX0_ways 21 = .ok (.ireturn, 1) := by decide +kernel
end
section
set_option maxRecDepth 100000
theorem q21 : (Jvm.Cond.initialized "SearchMachine") ∈ lw_all := lw_g (lw_at lw_m1 1 rfl) rfl
theorem q24 : (Jvm.Cond.instantiable "SearchMachine" (15 : Nat)) ∈ lw_all := lw_g (lw_at lw_m1 4 rfl) rfl
theorem q26 : (Jvm.Cond.instanceMethod ({ cls := "SearchMachine", name := "<init>", desc := "()V" } : Jvm.MethodName)) ∈ lw_all := lw_g (lw_at lw_m1 6 rfl) rfl
theorem q27 : (Jvm.Cond.code ({ cls := "SearchMachine", name := "<init>", desc := "()V" } : Jvm.MethodName) prog_1_method_1_code (1 : Nat) (Option.none : Option Jvm.ClassFile.FieldType)) ∈ lw_all := lw_g (lw_at lw_m1 7 rfl) rfl
theorem q28 : (Jvm.Cond.methodLink "SearchMachine" (1 : Nat) ({ cls := "java/lang/Object", name := "<init>", desc := "()V" } : Jvm.MethodName)) ∈ lw_all := lw_g (lw_at lw_m1 8 rfl) rfl
theorem q31 : (Jvm.Cond.fieldLink "SearchMachine" (7 : Nat) "SearchMachine" "kinds" "[B") ∈ lw_all := lw_g (lw_at lw_m1 11 rfl) rfl
theorem q32 : (Jvm.Cond.fieldLink "SearchMachine" (13 : Nat) "SearchMachine" "firsts" "[B") ∈ lw_all := lw_g (lw_at lw_m1 12 rfl) rfl
theorem q33 : (Jvm.Cond.fieldLink "SearchMachine" (16 : Nat) "SearchMachine" "seconds" "[B") ∈ lw_all := lw_g (lw_at lw_m1 13 rfl) rfl
theorem q34 : (Jvm.Cond.fieldLink "SearchMachine" (19 : Nat) "SearchMachine" "thirds" "[B") ∈ lw_all := lw_g (lw_at lw_m1 14 rfl) rfl
theorem q35 : (Jvm.Cond.fieldLink "SearchMachine" (41 : Nat) "SearchMachine" "size" "I") ∈ lw_all := lw_g (lw_at lw_m1 15 rfl) rfl
theorem q36 : (Jvm.Cond.fieldLink "SearchMachine" (22 : Nat) "SearchMachine" "variables" "[I") ∈ lw_all := lw_g (lw_at lw_m1 16 rfl) rfl
theorem q37 : (Jvm.Cond.fieldLink "SearchMachine" (60 : Nat) "SearchMachine" "at" "I") ∈ lw_all := lw_g (lw_at lw_m1 17 rfl) rfl
theorem q38 : (Jvm.Cond.fieldLink "SearchMachine" (63 : Nat) "SearchMachine" "end" "I") ∈ lw_all := lw_g (lw_at lw_m1 18 rfl) rfl
theorem q39 : (Jvm.Cond.fieldLink "SearchMachine" (66 : Nat) "SearchMachine" "trailTop" "I") ∈ lw_all := lw_g (lw_at lw_m1 19 rfl) rfl
theorem q40 : (Jvm.Cond.fieldLink "SearchMachine" (26 : Nat) "SearchMachine" "trailVariable" "[B") ∈ lw_all := lw_g (lw_at lw_m1 20 rfl) rfl
theorem q41 : (Jvm.Cond.fieldLink "SearchMachine" (29 : Nat) "SearchMachine" "trailValue" "[I") ∈ lw_all := lw_g (lw_at lw_m1 21 rfl) rfl
theorem q42 : (Jvm.Cond.fieldLink "SearchMachine" (69 : Nat) "SearchMachine" "open" "I") ∈ lw_all := lw_g (lw_at lw_m1 22 rfl) rfl
theorem q43 : (Jvm.Cond.fieldLink "SearchMachine" (32 : Nat) "SearchMachine" "openStep" "[B") ∈ lw_all := lw_g (lw_at lw_m1 23 rfl) rfl
theorem q44 : (Jvm.Cond.fieldLink "SearchMachine" (35 : Nat) "SearchMachine" "openNext" "[B") ∈ lw_all := lw_g (lw_at lw_m1 24 rfl) rfl
theorem q45 : (Jvm.Cond.fieldLink "SearchMachine" (38 : Nat) "SearchMachine" "openTrail" "[B") ∈ lw_all := lw_g (lw_at lw_m1 25 rfl) rfl
theorem q46 : (Jvm.Cond.laysFinal "SearchMachine" "SearchMachine" "kinds" "[B") ∈ lw_all := lw_g (lw_at lw_m1 26 rfl) rfl
theorem q47 : (Jvm.Cond.soleField "SearchMachine" "kinds") ∈ lw_all := lw_g (lw_at lw_m1 27 rfl) rfl
theorem q48 : (Jvm.Cond.laysFinal "SearchMachine" "SearchMachine" "firsts" "[B") ∈ lw_all := lw_g (lw_at lw_m1 28 rfl) rfl
theorem q49 : (Jvm.Cond.soleField "SearchMachine" "firsts") ∈ lw_all := lw_g (lw_at lw_m1 29 rfl) rfl
theorem q50 : (Jvm.Cond.laysFinal "SearchMachine" "SearchMachine" "seconds" "[B") ∈ lw_all := lw_g (lw_at lw_m1 30 rfl) rfl
theorem q51 : (Jvm.Cond.soleField "SearchMachine" "seconds") ∈ lw_all := lw_g (lw_at lw_m1 31 rfl) rfl
theorem q52 : (Jvm.Cond.laysFinal "SearchMachine" "SearchMachine" "thirds" "[B") ∈ lw_all := lw_g (lw_at lw_m1 32 rfl) rfl
theorem q53 : (Jvm.Cond.soleField "SearchMachine" "thirds") ∈ lw_all := lw_g (lw_at lw_m1 33 rfl) rfl
theorem q54 : (Jvm.Cond.lays "SearchMachine" "SearchMachine" "size" "I") ∈ lw_all := lw_g (lw_at lw_m1 34 rfl) rfl
theorem q55 : (Jvm.Cond.soleField "SearchMachine" "size") ∈ lw_all := lw_g (lw_at lw_m1 35 rfl) rfl
theorem q56 : (Jvm.Cond.laysFinal "SearchMachine" "SearchMachine" "variables" "[I") ∈ lw_all := lw_g (lw_at lw_m1 36 rfl) rfl
theorem q57 : (Jvm.Cond.soleField "SearchMachine" "variables") ∈ lw_all := lw_g (lw_at lw_m1 37 rfl) rfl
theorem q58 : (Jvm.Cond.lays "SearchMachine" "SearchMachine" "at" "I") ∈ lw_all := lw_g (lw_at lw_m1 38 rfl) rfl
theorem q59 : (Jvm.Cond.soleField "SearchMachine" "at") ∈ lw_all := lw_g (lw_at lw_m1 39 rfl) rfl
theorem q60 : (Jvm.Cond.lays "SearchMachine" "SearchMachine" "end" "I") ∈ lw_all := lw_g (lw_at lw_m1 40 rfl) rfl
theorem q61 : (Jvm.Cond.soleField "SearchMachine" "end") ∈ lw_all := lw_g (lw_at lw_m1 41 rfl) rfl
theorem q62 : (Jvm.Cond.lays "SearchMachine" "SearchMachine" "trailTop" "I") ∈ lw_all := lw_g (lw_at lw_m1 42 rfl) rfl
theorem q63 : (Jvm.Cond.soleField "SearchMachine" "trailTop") ∈ lw_all := lw_g (lw_at lw_m1 43 rfl) rfl
theorem q64 : (Jvm.Cond.laysFinal "SearchMachine" "SearchMachine" "trailVariable" "[B") ∈ lw_all := lw_g (lw_at lw_m1 44 rfl) rfl
theorem q65 : (Jvm.Cond.soleField "SearchMachine" "trailVariable") ∈ lw_all := lw_g (lw_at lw_m1 45 rfl) rfl
theorem q66 : (Jvm.Cond.laysFinal "SearchMachine" "SearchMachine" "trailValue" "[I") ∈ lw_all := lw_g (lw_at lw_m1 46 rfl) rfl
theorem q67 : (Jvm.Cond.soleField "SearchMachine" "trailValue") ∈ lw_all := lw_g (lw_at lw_m1 47 rfl) rfl
theorem q68 : (Jvm.Cond.lays "SearchMachine" "SearchMachine" "open" "I") ∈ lw_all := lw_g (lw_at lw_m1 48 rfl) rfl
theorem q69 : (Jvm.Cond.soleField "SearchMachine" "open") ∈ lw_all := lw_g (lw_at lw_m1 49 rfl) rfl
theorem q70 : (Jvm.Cond.laysFinal "SearchMachine" "SearchMachine" "openStep" "[B") ∈ lw_all := lw_g (lw_at lw_m1 50 rfl) rfl
theorem q71 : (Jvm.Cond.soleField "SearchMachine" "openStep") ∈ lw_all := lw_g (lw_at lw_m1 51 rfl) rfl
theorem q72 : (Jvm.Cond.laysFinal "SearchMachine" "SearchMachine" "openNext" "[B") ∈ lw_all := lw_g (lw_at lw_m1 52 rfl) rfl
theorem q73 : (Jvm.Cond.soleField "SearchMachine" "openNext") ∈ lw_all := lw_g (lw_at lw_m1 53 rfl) rfl
theorem q74 : (Jvm.Cond.laysFinal "SearchMachine" "SearchMachine" "openTrail" "[B") ∈ lw_all := lw_g (lw_at lw_m1 54 rfl) rfl
theorem q75 : (Jvm.Cond.soleField "SearchMachine" "openTrail") ∈ lw_all := lw_g (lw_at lw_m1 55 rfl) rfl
theorem q76 : (Jvm.Cond.superclass "SearchMachine" "java/lang/Object") ∈ lw_all := lw_g (lw_at lw_m1 56 rfl) rfl
theorem q80 : (Jvm.Cond.instanceMethod ({ cls := "SearchMachine", name := "step", desc := "(III)I" } : Jvm.MethodName)) ∈ lw_all := lw_g (lw_at lw_m1 60 rfl) rfl
theorem q81 : (Jvm.Cond.selects "SearchMachine" ({ cls := "SearchMachine", name := "step", desc := "(III)I" } : Jvm.MethodName) ({ cls := "SearchMachine", name := "step", desc := "(III)I" } : Jvm.MethodName)) ∈ lw_all := lw_g (lw_at lw_m1 61 rfl) rfl
theorem q82 : (Jvm.Cond.code ({ cls := "SearchMachine", name := "step", desc := "(III)I" } : Jvm.MethodName) prog_1_method_6_code (4 : Nat) (Option.some Jvm.ClassFile.FieldType.int)) ∈ lw_all := lw_g (lw_at lw_m1 62 rfl) rfl
theorem q83 : (Jvm.Cond.methodLink "SearchMachine" (49 : Nat) ({ cls := "SearchMachine", name := "isVariable", desc := "(I)Z" } : Jvm.MethodName)) ∈ lw_all := lw_g (lw_at lw_m1 63 rfl) rfl
theorem q84 : (Jvm.Cond.static ({ cls := "SearchMachine", name := "isVariable", desc := "(I)Z" } : Jvm.MethodName)) ∈ lw_all := lw_g (lw_at lw_m1 64 rfl) rfl
theorem q85 : (Jvm.Cond.code ({ cls := "SearchMachine", name := "isVariable", desc := "(I)Z" } : Jvm.MethodName) prog_1_method_2_code (1 : Nat) (Option.some Jvm.ClassFile.FieldType.boolean)) ∈ lw_all := lw_g (lw_at lw_m1 65 rfl) rfl
theorem q86 : (Jvm.Cond.methodLink "SearchMachine" (52 : Nat) ({ cls := "SearchMachine", name := "secondOk", desc := "(II)Z" } : Jvm.MethodName)) ∈ lw_all := lw_g (lw_at lw_m1 66 rfl) rfl
theorem q87 : (Jvm.Cond.static ({ cls := "SearchMachine", name := "secondOk", desc := "(II)Z" } : Jvm.MethodName)) ∈ lw_all := lw_g (lw_at lw_m1 67 rfl) rfl
theorem q88 : (Jvm.Cond.code ({ cls := "SearchMachine", name := "secondOk", desc := "(II)Z" } : Jvm.MethodName) prog_1_method_5_code (2 : Nat) (Option.some Jvm.ClassFile.FieldType.boolean)) ∈ lw_all := lw_g (lw_at lw_m1 68 rfl) rfl
theorem q89 : (Jvm.Cond.methodLink "SearchMachine" (45 : Nat) ({ cls := "SearchMachine", name := "chooses", desc := "(I)Z" } : Jvm.MethodName)) ∈ lw_all := lw_g (lw_at lw_m1 69 rfl) rfl
theorem q90 : (Jvm.Cond.static ({ cls := "SearchMachine", name := "chooses", desc := "(I)Z" } : Jvm.MethodName)) ∈ lw_all := lw_g (lw_at lw_m1 70 rfl) rfl
theorem q91 : (Jvm.Cond.code ({ cls := "SearchMachine", name := "chooses", desc := "(I)Z" } : Jvm.MethodName) prog_1_method_3_code (1 : Nat) (Option.some Jvm.ClassFile.FieldType.boolean)) ∈ lw_all := lw_g (lw_at lw_m1 71 rfl) rfl
theorem q92 : (Jvm.Cond.methodLink "SearchMachine" (56 : Nat) ({ cls := "SearchMachine", name := "choiceSteps", desc := "()I" } : Jvm.MethodName)) ∈ lw_all := lw_g (lw_at lw_m1 72 rfl) rfl
theorem q93 : (Jvm.Cond.privateMethod ({ cls := "SearchMachine", name := "choiceSteps", desc := "()I" } : Jvm.MethodName)) ∈ lw_tbl := lw_at lw_m1 73 rfl
theorem q94 : (Jvm.Cond.instanceMethod ({ cls := "SearchMachine", name := "choiceSteps", desc := "()I" } : Jvm.MethodName)) ∈ lw_all := lw_g (lw_at lw_m1 74 rfl) rfl
theorem q95 : (Jvm.Cond.code ({ cls := "SearchMachine", name := "choiceSteps", desc := "()I" } : Jvm.MethodName) prog_1_method_4_code (3 : Nat) (Option.some Jvm.ClassFile.FieldType.int)) ∈ lw_all := lw_g (lw_at lw_m1 75 rfl) rfl
theorem q97 : (Jvm.Cond.instanceMethod ({ cls := "SearchMachine", name := "drop", desc := "()I" } : Jvm.MethodName)) ∈ lw_all := lw_g (lw_at lw_m1 77 rfl) rfl
theorem q98 : (Jvm.Cond.selects "SearchMachine" ({ cls := "SearchMachine", name := "drop", desc := "()I" } : Jvm.MethodName) ({ cls := "SearchMachine", name := "drop", desc := "()I" } : Jvm.MethodName)) ∈ lw_all := lw_g (lw_at lw_m1 78 rfl) rfl
theorem q99 : (Jvm.Cond.code ({ cls := "SearchMachine", name := "drop", desc := "()I" } : Jvm.MethodName) prog_1_method_7_code (1 : Nat) (Option.some Jvm.ClassFile.FieldType.int)) ∈ lw_all := lw_g (lw_at lw_m1 79 rfl) rfl
theorem q101 : (Jvm.Cond.instanceMethod ({ cls := "SearchMachine", name := "length", desc := "()I" } : Jvm.MethodName)) ∈ lw_all := lw_g (lw_at lw_m1 81 rfl) rfl
theorem q102 : (Jvm.Cond.selects "SearchMachine" ({ cls := "SearchMachine", name := "length", desc := "()I" } : Jvm.MethodName) ({ cls := "SearchMachine", name := "length", desc := "()I" } : Jvm.MethodName)) ∈ lw_all := lw_g (lw_at lw_m1 82 rfl) rfl
theorem q103 : (Jvm.Cond.code ({ cls := "SearchMachine", name := "length", desc := "()I" } : Jvm.MethodName) prog_1_method_8_code (1 : Nat) (Option.some Jvm.ClassFile.FieldType.int)) ∈ lw_all := lw_g (lw_at lw_m1 83 rfl) rfl
theorem q105 : (Jvm.Cond.instanceMethod ({ cls := "SearchMachine", name := "answers", desc := "()I" } : Jvm.MethodName)) ∈ lw_all := lw_g (lw_at lw_m1 85 rfl) rfl
theorem q106 : (Jvm.Cond.selects "SearchMachine" ({ cls := "SearchMachine", name := "answers", desc := "()I" } : Jvm.MethodName) ({ cls := "SearchMachine", name := "answers", desc := "()I" } : Jvm.MethodName)) ∈ lw_all := lw_g (lw_at lw_m1 86 rfl) rfl
theorem q107 : (Jvm.Cond.code ({ cls := "SearchMachine", name := "answers", desc := "()I" } : Jvm.MethodName) prog_1_method_19_code (1 : Nat) (Option.some Jvm.ClassFile.FieldType.int)) ∈ lw_all := lw_g (lw_at lw_m1 87 rfl) rfl
theorem q108 : (Jvm.Cond.methodLink "SearchMachine" (104 : Nat) ({ cls := "SearchMachine", name := "countAnswers", desc := "(I)I" } : Jvm.MethodName)) ∈ lw_all := lw_g (lw_at lw_m1 88 rfl) rfl
theorem q109 : (Jvm.Cond.privateMethod ({ cls := "SearchMachine", name := "countAnswers", desc := "(I)I" } : Jvm.MethodName)) ∈ lw_tbl := lw_at lw_m1 89 rfl
theorem q110 : (Jvm.Cond.instanceMethod ({ cls := "SearchMachine", name := "countAnswers", desc := "(I)I" } : Jvm.MethodName)) ∈ lw_all := lw_g (lw_at lw_m1 90 rfl) rfl
theorem q111 : (Jvm.Cond.code ({ cls := "SearchMachine", name := "countAnswers", desc := "(I)I" } : Jvm.MethodName) prog_1_method_18_code (5 : Nat) (Option.some Jvm.ClassFile.FieldType.int)) ∈ lw_all := lw_g (lw_at lw_m1 91 rfl) rfl
theorem q112 : (Jvm.Cond.methodLink "SearchMachine" (97 : Nat) ({ cls := "SearchMachine", name := "start", desc := "(I)V" } : Jvm.MethodName)) ∈ lw_all := lw_g (lw_at lw_m1 92 rfl) rfl
theorem q113 : (Jvm.Cond.privateMethod ({ cls := "SearchMachine", name := "start", desc := "(I)V" } : Jvm.MethodName)) ∈ lw_tbl := lw_at lw_m1 93 rfl
theorem q114 : (Jvm.Cond.instanceMethod ({ cls := "SearchMachine", name := "start", desc := "(I)V" } : Jvm.MethodName)) ∈ lw_all := lw_g (lw_at lw_m1 94 rfl) rfl
theorem q115 : (Jvm.Cond.code ({ cls := "SearchMachine", name := "start", desc := "(I)V" } : Jvm.MethodName) prog_1_method_9_code (3 : Nat) (Option.none : Option Jvm.ClassFile.FieldType)) ∈ lw_all := lw_g (lw_at lw_m1 95 rfl) rfl
theorem q116 : (Jvm.Cond.methodLink "SearchMachine" (100 : Nat) ({ cls := "SearchMachine", name := "advance", desc := "(Z)Z" } : Jvm.MethodName)) ∈ lw_all := lw_g (lw_at lw_m1 96 rfl) rfl
theorem q117 : (Jvm.Cond.privateMethod ({ cls := "SearchMachine", name := "advance", desc := "(Z)Z" } : Jvm.MethodName)) ∈ lw_tbl := lw_at lw_m1 97 rfl
theorem q118 : (Jvm.Cond.instanceMethod ({ cls := "SearchMachine", name := "advance", desc := "(Z)Z" } : Jvm.MethodName)) ∈ lw_all := lw_g (lw_at lw_m1 98 rfl) rfl
theorem q119 : (Jvm.Cond.code ({ cls := "SearchMachine", name := "advance", desc := "(Z)Z" } : Jvm.MethodName) prog_1_method_17_code (5 : Nat) (Option.some Jvm.ClassFile.FieldType.boolean)) ∈ lw_all := lw_g (lw_at lw_m1 99 rfl) rfl
theorem q120 : (Jvm.Cond.methodLink "SearchMachine" (91 : Nat) ({ cls := "SearchMachine", name := "goBack", desc := "()Z" } : Jvm.MethodName)) ∈ lw_all := lw_g (lw_at lw_m1 100 rfl) rfl
theorem q121 : (Jvm.Cond.privateMethod ({ cls := "SearchMachine", name := "goBack", desc := "()Z" } : Jvm.MethodName)) ∈ lw_tbl := lw_at lw_m1 101 rfl
theorem q122 : (Jvm.Cond.instanceMethod ({ cls := "SearchMachine", name := "goBack", desc := "()Z" } : Jvm.MethodName)) ∈ lw_all := lw_g (lw_at lw_m1 102 rfl) rfl
theorem q123 : (Jvm.Cond.code ({ cls := "SearchMachine", name := "goBack", desc := "()Z" } : Jvm.MethodName) prog_1_method_14_code (4 : Nat) (Option.some Jvm.ClassFile.FieldType.boolean)) ∈ lw_all := lw_g (lw_at lw_m1 103 rfl) rfl
theorem q124 : (Jvm.Cond.methodLink "SearchMachine" (76 : Nat) ({ cls := "SearchMachine", name := "undoTo", desc := "(I)V" } : Jvm.MethodName)) ∈ lw_all := lw_g (lw_at lw_m1 104 rfl) rfl
theorem q125 : (Jvm.Cond.privateMethod ({ cls := "SearchMachine", name := "undoTo", desc := "(I)V" } : Jvm.MethodName)) ∈ lw_tbl := lw_at lw_m1 105 rfl
theorem q126 : (Jvm.Cond.instanceMethod ({ cls := "SearchMachine", name := "undoTo", desc := "(I)V" } : Jvm.MethodName)) ∈ lw_all := lw_g (lw_at lw_m1 106 rfl) rfl
theorem q127 : (Jvm.Cond.code ({ cls := "SearchMachine", name := "undoTo", desc := "(I)V" } : Jvm.MethodName) prog_1_method_11_code (2 : Nat) (Option.none : Option Jvm.ClassFile.FieldType)) ∈ lw_all := lw_g (lw_at lw_m1 107 rfl) rfl
theorem q128 : (Jvm.Cond.methodLink "SearchMachine" (80 : Nat) ({ cls := "SearchMachine", name := "waysOf", desc := "(I)I" } : Jvm.MethodName)) ∈ lw_all := lw_g (lw_at lw_m1 108 rfl) rfl
theorem q129 : (Jvm.Cond.privateMethod ({ cls := "SearchMachine", name := "waysOf", desc := "(I)I" } : Jvm.MethodName)) ∈ lw_tbl := lw_at lw_m1 109 rfl
theorem q130 : (Jvm.Cond.instanceMethod ({ cls := "SearchMachine", name := "waysOf", desc := "(I)I" } : Jvm.MethodName)) ∈ lw_all := lw_g (lw_at lw_m1 110 rfl) rfl
theorem q131 : (Jvm.Cond.code ({ cls := "SearchMachine", name := "waysOf", desc := "(I)I" } : Jvm.MethodName) prog_1_method_12_code (3 : Nat) (Option.some Jvm.ClassFile.FieldType.int)) ∈ lw_all := lw_g (lw_at lw_m1 111 rfl) rfl
theorem q132 : (Jvm.Cond.methodLink "SearchMachine" (84 : Nat) ({ cls := "SearchMachine", name := "takeWay", desc := "(II)V" } : Jvm.MethodName)) ∈ lw_all := lw_g (lw_at lw_m1 112 rfl) rfl
theorem q133 : (Jvm.Cond.privateMethod ({ cls := "SearchMachine", name := "takeWay", desc := "(II)V" } : Jvm.MethodName)) ∈ lw_tbl := lw_at lw_m1 113 rfl
theorem q134 : (Jvm.Cond.instanceMethod ({ cls := "SearchMachine", name := "takeWay", desc := "(II)V" } : Jvm.MethodName)) ∈ lw_all := lw_g (lw_at lw_m1 114 rfl) rfl
theorem q135 : (Jvm.Cond.code ({ cls := "SearchMachine", name := "takeWay", desc := "(II)V" } : Jvm.MethodName) prog_1_method_13_code (6 : Nat) (Option.none : Option Jvm.ClassFile.FieldType)) ∈ lw_all := lw_g (lw_at lw_m1 115 rfl) rfl
theorem q136 : (Jvm.Cond.methodLink "SearchMachine" (72 : Nat) ({ cls := "SearchMachine", name := "assign", desc := "(II)V" } : Jvm.MethodName)) ∈ lw_all := lw_g (lw_at lw_m1 116 rfl) rfl
theorem q137 : (Jvm.Cond.privateMethod ({ cls := "SearchMachine", name := "assign", desc := "(II)V" } : Jvm.MethodName)) ∈ lw_tbl := lw_at lw_m1 117 rfl
theorem q138 : (Jvm.Cond.instanceMethod ({ cls := "SearchMachine", name := "assign", desc := "(II)V" } : Jvm.MethodName)) ∈ lw_all := lw_g (lw_at lw_m1 118 rfl) rfl
theorem q139 : (Jvm.Cond.code ({ cls := "SearchMachine", name := "assign", desc := "(II)V" } : Jvm.MethodName) prog_1_method_10_code (3 : Nat) (Option.none : Option Jvm.ClassFile.FieldType)) ∈ lw_all := lw_g (lw_at lw_m1 119 rfl) rfl
theorem q140 : (Jvm.Cond.methodLink "SearchMachine" (94 : Nat) ({ cls := "SearchMachine", name := "doStep", desc := "()Z" } : Jvm.MethodName)) ∈ lw_all := lw_g (lw_at lw_m1 120 rfl) rfl
theorem q141 : (Jvm.Cond.privateMethod ({ cls := "SearchMachine", name := "doStep", desc := "()Z" } : Jvm.MethodName)) ∈ lw_tbl := lw_at lw_m1 121 rfl
theorem q142 : (Jvm.Cond.instanceMethod ({ cls := "SearchMachine", name := "doStep", desc := "()Z" } : Jvm.MethodName)) ∈ lw_all := lw_g (lw_at lw_m1 122 rfl) rfl
theorem q143 : (Jvm.Cond.code ({ cls := "SearchMachine", name := "doStep", desc := "()Z" } : Jvm.MethodName) prog_1_method_15_code (4 : Nat) (Option.some Jvm.ClassFile.FieldType.boolean)) ∈ lw_all := lw_g (lw_at lw_m1 123 rfl) rfl
theorem q144 : (Jvm.Cond.methodLink "SearchMachine" (87 : Nat) ({ cls := "SearchMachine", name := "beginChoice", desc := "()Z" } : Jvm.MethodName)) ∈ lw_all := lw_g (lw_at lw_m1 124 rfl) rfl
theorem q145 : (Jvm.Cond.privateMethod ({ cls := "SearchMachine", name := "beginChoice", desc := "()Z" } : Jvm.MethodName)) ∈ lw_tbl := lw_at lw_m1 125 rfl
theorem q146 : (Jvm.Cond.instanceMethod ({ cls := "SearchMachine", name := "beginChoice", desc := "()Z" } : Jvm.MethodName)) ∈ lw_all := lw_g (lw_at lw_m1 126 rfl) rfl
theorem q147 : (Jvm.Cond.code ({ cls := "SearchMachine", name := "beginChoice", desc := "()Z" } : Jvm.MethodName) prog_1_method_16_code (2 : Nat) (Option.some Jvm.ClassFile.FieldType.boolean)) ∈ lw_all := lw_g (lw_at lw_m1 127 rfl) rfl
theorem q149 : (Jvm.Cond.instanceMethod ({ cls := "SearchMachine", name := "value", desc := "(II)I" } : Jvm.MethodName)) ∈ lw_all := lw_g (lw_at lw_m1 129 rfl) rfl
theorem q150 : (Jvm.Cond.selects "SearchMachine" ({ cls := "SearchMachine", name := "value", desc := "(II)I" } : Jvm.MethodName) ({ cls := "SearchMachine", name := "value", desc := "(II)I" } : Jvm.MethodName)) ∈ lw_all := lw_g (lw_at lw_m1 130 rfl) rfl
theorem q151 : (Jvm.Cond.code ({ cls := "SearchMachine", name := "value", desc := "(II)I" } : Jvm.MethodName) prog_1_method_20_code (5 : Nat) (Option.some Jvm.ClassFile.FieldType.int)) ∈ lw_all := lw_g (lw_at lw_m1 131 rfl) rfl
theorem q152 : (Jvm.Cond.constant "SearchMachine" (107 : Nat) (-1000000000 : Int32)) ∈ lw_all := lw_g (lw_at lw_m1 132 rfl) rfl
theorem q154 : (Jvm.Cond.instanceMethod ({ cls := "SearchMachine", name := "countWith", desc := "(II)I" } : Jvm.MethodName)) ∈ lw_all := lw_g (lw_at lw_m1 134 rfl) rfl
theorem q155 : (Jvm.Cond.selects "SearchMachine" ({ cls := "SearchMachine", name := "countWith", desc := "(II)I" } : Jvm.MethodName) ({ cls := "SearchMachine", name := "countWith", desc := "(II)I" } : Jvm.MethodName)) ∈ lw_all := lw_g (lw_at lw_m1 135 rfl) rfl
theorem q156 : (Jvm.Cond.code ({ cls := "SearchMachine", name := "countWith", desc := "(II)I" } : Jvm.MethodName) prog_1_method_21_code (6 : Nat) (Option.some Jvm.ClassFile.FieldType.int)) ∈ lw_all := lw_g (lw_at lw_m1 136 rfl) rfl
theorem q158 : (Jvm.Cond.instanceMethod ({ cls := "SearchMachine", name := "firstWith", desc := "(II)I" } : Jvm.MethodName)) ∈ lw_all := lw_g (lw_at lw_m1 138 rfl) rfl
theorem q159 : (Jvm.Cond.selects "SearchMachine" ({ cls := "SearchMachine", name := "firstWith", desc := "(II)I" } : Jvm.MethodName) ({ cls := "SearchMachine", name := "firstWith", desc := "(II)I" } : Jvm.MethodName)) ∈ lw_all := lw_g (lw_at lw_m1 139 rfl) rfl
theorem q160 : (Jvm.Cond.code ({ cls := "SearchMachine", name := "firstWith", desc := "(II)I" } : Jvm.MethodName) prog_1_method_22_code (5 : Nat) (Option.some Jvm.ClassFile.FieldType.int)) ∈ lw_all := lw_g (lw_at lw_m1 140 rfl) rfl
theorem q162 : (Jvm.Cond.instanceMethod ({ cls := "SearchMachine", name := "extreme", desc := "(II)I" } : Jvm.MethodName)) ∈ lw_all := lw_g (lw_at lw_m1 142 rfl) rfl
theorem q163 : (Jvm.Cond.selects "SearchMachine" ({ cls := "SearchMachine", name := "extreme", desc := "(II)I" } : Jvm.MethodName) ({ cls := "SearchMachine", name := "extreme", desc := "(II)I" } : Jvm.MethodName)) ∈ lw_all := lw_g (lw_at lw_m1 143 rfl) rfl
theorem q164 : (Jvm.Cond.code ({ cls := "SearchMachine", name := "extreme", desc := "(II)I" } : Jvm.MethodName) prog_1_method_23_code (8 : Nat) (Option.some Jvm.ClassFile.FieldType.int)) ∈ lw_all := lw_g (lw_at lw_m1 144 rfl) rfl
theorem q166 : (Jvm.Cond.instanceMethod ({ cls := "SearchMachine", name := "ways", desc := "(I)I" } : Jvm.MethodName)) ∈ lw_all := lw_g (lw_at lw_m1 146 rfl) rfl
theorem q167 : (Jvm.Cond.selects "SearchMachine" ({ cls := "SearchMachine", name := "ways", desc := "(I)I" } : Jvm.MethodName) ({ cls := "SearchMachine", name := "ways", desc := "(I)I" } : Jvm.MethodName)) ∈ lw_all := lw_g (lw_at lw_m1 147 rfl) rfl
theorem q168 : (Jvm.Cond.code ({ cls := "SearchMachine", name := "ways", desc := "(I)I" } : Jvm.MethodName) prog_1_method_24_code (2 : Nat) (Option.some Jvm.ClassFile.FieldType.int)) ∈ lw_all := lw_g (lw_at lw_m1 148 rfl) rfl
theorem in_X0 : ∀ w ∈ wsX00, w ∈ lw_all := lw_in wsX00 [46, 48, 50, 52, 54, 56, 58, 60, 62, 64, 66, 68, 70, 72, 74] (by decide +kernel) (by decide +kernel)
end
section
/-! SearchMachineModel -/
set_option maxRecDepth 100000
def RX1 : String := "SearchMachineModel"
def TX1 : u_T := fun k => match k with
  | 0 => ("SearchMachineModel", "size", "I", false)
  | 1 => ("SearchMachineModel", "kinds", "[I", false)
  | 2 => ("SearchMachineModel", "as", "[I", false)
  | 3 => ("SearchMachineModel", "bs", "[I", false)
  | 4 => ("SearchMachineModel", "cs", "[I", false)
  | 5 => ("SearchMachineModel", "vars", "[I", false)
  | _ => ("SearchMachineModel", "first", "[I", false)
def tyX1 : Nat → FieldType := fun k => match k with
  | 0 => .int
  | 1 => .array .int
  | 2 => .array .int
  | 3 => .array .int
  | 4 => .array .int
  | 5 => .array .int
  | _ => .array .int
abbrev wsX10 : List Cond := u_ws RX1 TX1 7
theorem nmX1 : ∀ a, a < 7 → ∀ b, b < 7 → a ≠ b → (TX1 a).2.1 ≠ (TX1 b).2.1 := by decide +kernel
theorem tyX1_ok : ∀ k, k < 7 → parseFieldDescriptor (TX1 k).2.2.1 = some (tyX1 k) := by decide +kernel
abbrev cX1_init : ByteArray := prog_3_method_1_code
def yX1_init : MethodName := ⟨RX1, "<init>", "()V"⟩
theorem dX1_init_0 : decode cX1_init 0 = .ok (.aload_n 0, 1) := by decide +kernel
theorem dX1_init_1 : decode cX1_init 1 = .ok (.invokespecial 1, 3) := by decide +kernel
theorem dX1_init_4 : decode cX1_init 4 = .ok (.aload_n 0, 1) := by decide +kernel
theorem dX1_init_5 : decode cX1_init 5 = .ok (.bipush 14, 2) := by decide +kernel
theorem dX1_init_7 : decode cX1_init 7 = .ok (.newarray .int, 2) := by decide +kernel
theorem dX1_init_9 : decode cX1_init 9 = .ok (.putfield 7, 3) := by decide +kernel
theorem dX1_init_12 : decode cX1_init 12 = .ok (.aload_n 0, 1) := by decide +kernel
theorem dX1_init_13 : decode cX1_init 13 = .ok (.bipush 14, 2) := by decide +kernel
theorem dX1_init_15 : decode cX1_init 15 = .ok (.newarray .int, 2) := by decide +kernel
theorem dX1_init_17 : decode cX1_init 17 = .ok (.putfield 13, 3) := by decide +kernel
theorem dX1_init_20 : decode cX1_init 20 = .ok (.aload_n 0, 1) := by decide +kernel
theorem dX1_init_21 : decode cX1_init 21 = .ok (.bipush 14, 2) := by decide +kernel
theorem dX1_init_23 : decode cX1_init 23 = .ok (.newarray .int, 2) := by decide +kernel
theorem dX1_init_25 : decode cX1_init 25 = .ok (.putfield 16, 3) := by decide +kernel
theorem dX1_init_28 : decode cX1_init 28 = .ok (.aload_n 0, 1) := by decide +kernel
theorem dX1_init_29 : decode cX1_init 29 = .ok (.bipush 14, 2) := by decide +kernel
theorem dX1_init_31 : decode cX1_init 31 = .ok (.newarray .int, 2) := by decide +kernel
theorem dX1_init_33 : decode cX1_init 33 = .ok (.putfield 19, 3) := by decide +kernel
theorem dX1_init_36 : decode cX1_init 36 = .ok (.aload_n 0, 1) := by decide +kernel
theorem dX1_init_37 : decode cX1_init 37 = .ok (.iconst 4, 1) := by decide +kernel
theorem dX1_init_38 : decode cX1_init 38 = .ok (.newarray .int, 2) := by decide +kernel
theorem dX1_init_40 : decode cX1_init 40 = .ok (.putfield 22, 3) := by decide +kernel
theorem dX1_init_43 : decode cX1_init 43 = .ok (.aload_n 0, 1) := by decide +kernel
theorem dX1_init_44 : decode cX1_init 44 = .ok (.bipush 14, 2) := by decide +kernel
theorem dX1_init_46 : decode cX1_init 46 = .ok (.newarray .int, 2) := by decide +kernel
theorem dX1_init_48 : decode cX1_init 48 = .ok (.putfield 25, 3) := by decide +kernel
theorem dX1_init_51 : decode cX1_init 51 = .ok (.return_, 1) := by decide +kernel
abbrev cX1_step : ByteArray := prog_3_method_6_code
def yX1_step : MethodName := ⟨RX1, "step", "(III)I"⟩
theorem dX1_step_0 : decode cX1_step 0 = .ok (.aload_n 0, 1) := by decide +kernel
theorem dX1_step_1 : decode cX1_step 1 = .ok (.iload_n 1, 1) := by decide +kernel
theorem dX1_step_2 : decode cX1_step 2 = .ok (.iload_n 2, 1) := by decide +kernel
theorem dX1_step_3 : decode cX1_step 3 = .ok (.iload_n 3, 1) := by decide +kernel
theorem dX1_step_4 : decode cX1_step 4 = .ok (.invokevirtual 39, 3) := by decide +kernel
theorem dX1_step_7 : decode cX1_step 7 = .ok (.ifCond .eq 19, 3) := by decide +kernel
theorem dX1_step_10 : decode cX1_step 10 = .ok (.aload_n 0, 1) := by decide +kernel
theorem dX1_step_11 : decode cX1_step 11 = .ok (.iload_n 1, 1) := by decide +kernel
theorem dX1_step_12 : decode cX1_step 12 = .ok (.invokevirtual 32, 3) := by decide +kernel
theorem dX1_step_15 : decode cX1_step 15 = .ok (.ifCond .eq 13, 3) := by decide +kernel
theorem dX1_step_18 : decode cX1_step 18 = .ok (.aload_n 0, 1) := by decide +kernel
theorem dX1_step_19 : decode cX1_step 19 = .ok (.invokevirtual 43, 3) := by decide +kernel
theorem dX1_step_22 : decode cX1_step 22 = .ok (.iconst 3, 1) := by decide +kernel
theorem dX1_step_23 : decode cX1_step 23 = .ok (.if_icmp .lt 5, 3) := by decide +kernel
theorem dX1_step_26 : decode cX1_step 26 = .ok (.iconst (-1), 1) := by decide +kernel
theorem dX1_step_27 : decode cX1_step 27 = .ok (.ireturn, 1) := by decide +kernel
theorem dX1_step_28 : decode cX1_step 28 = .ok (.aload_n 0, 1) := by decide +kernel
theorem dX1_step_29 : decode cX1_step 29 = .ok (.getfield 28, 3) := by decide +kernel
theorem dX1_step_32 : decode cX1_step 32 = .ok (.bipush 14, 2) := by decide +kernel
theorem dX1_step_34 : decode cX1_step 34 = .ok (.if_icmp .lt 6, 3) := by decide +kernel
theorem dX1_step_37 : decode cX1_step 37 = .ok (.bipush (-2), 2) := by decide +kernel
theorem dX1_step_39 : decode cX1_step 39 = .ok (.ireturn, 1) := by decide +kernel
theorem dX1_step_40 : decode cX1_step 40 = .ok (.aload_n 0, 1) := by decide +kernel
theorem dX1_step_41 : decode cX1_step 41 = .ok (.getfield 7, 3) := by decide +kernel
theorem dX1_step_44 : decode cX1_step 44 = .ok (.aload_n 0, 1) := by decide +kernel
theorem dX1_step_45 : decode cX1_step 45 = .ok (.getfield 28, 3) := by decide +kernel
theorem dX1_step_48 : decode cX1_step 48 = .ok (.iload_n 1, 1) := by decide +kernel
theorem dX1_step_49 : decode cX1_step 49 = .ok (.iastore, 1) := by decide +kernel
theorem dX1_step_50 : decode cX1_step 50 = .ok (.aload_n 0, 1) := by decide +kernel
theorem dX1_step_51 : decode cX1_step 51 = .ok (.getfield 13, 3) := by decide +kernel
theorem dX1_step_54 : decode cX1_step 54 = .ok (.aload_n 0, 1) := by decide +kernel
theorem dX1_step_55 : decode cX1_step 55 = .ok (.getfield 28, 3) := by decide +kernel
theorem dX1_step_58 : decode cX1_step 58 = .ok (.iload_n 1, 1) := by decide +kernel
theorem dX1_step_59 : decode cX1_step 59 = .ok (.bipush 8, 2) := by decide +kernel
theorem dX1_step_61 : decode cX1_step 61 = .ok (.if_icmp .ne 7, 3) := by decide +kernel
theorem dX1_step_64 : decode cX1_step 64 = .ok (.iconst 0, 1) := by decide +kernel
theorem dX1_step_65 : decode cX1_step 65 = .ok (.goto 4, 3) := by decide +kernel
theorem dX1_step_68 : decode cX1_step 68 = .ok (.iload_n 2, 1) := by decide +kernel
theorem dX1_step_69 : decode cX1_step 69 = .ok (.iastore, 1) := by decide +kernel
theorem dX1_step_70 : decode cX1_step 70 = .ok (.aload_n 0, 1) := by decide +kernel
theorem dX1_step_71 : decode cX1_step 71 = .ok (.getfield 16, 3) := by decide +kernel
theorem dX1_step_74 : decode cX1_step 74 = .ok (.aload_n 0, 1) := by decide +kernel
theorem dX1_step_75 : decode cX1_step 75 = .ok (.getfield 28, 3) := by decide +kernel
theorem dX1_step_78 : decode cX1_step 78 = .ok (.iload_n 1, 1) := by decide +kernel
theorem dX1_step_79 : decode cX1_step 79 = .ok (.ifCond .ne 12, 3) := by decide +kernel
theorem dX1_step_82 : decode cX1_step 82 = .ok (.iload_n 3, 1) := by decide +kernel
theorem dX1_step_83 : decode cX1_step 83 = .ok (.bipush 15, 2) := by decide +kernel
theorem dX1_step_85 : decode cX1_step 85 = .ok (.iand, 1) := by decide +kernel
theorem dX1_step_86 : decode cX1_step 86 = .ok (.iconst 3, 1) := by decide +kernel
theorem dX1_step_87 : decode cX1_step 87 = .ok (.isub, 1) := by decide +kernel
theorem dX1_step_88 : decode cX1_step 88 = .ok (.goto 14, 3) := by decide +kernel
theorem dX1_step_91 : decode cX1_step 91 = .ok (.iload_n 1, 1) := by decide +kernel
theorem dX1_step_92 : decode cX1_step 92 = .ok (.bipush 8, 2) := by decide +kernel
theorem dX1_step_94 : decode cX1_step 94 = .ok (.if_icmp .ne 7, 3) := by decide +kernel
theorem dX1_step_97 : decode cX1_step 97 = .ok (.iconst 0, 1) := by decide +kernel
theorem dX1_step_98 : decode cX1_step 98 = .ok (.goto 4, 3) := by decide +kernel
theorem dX1_step_101 : decode cX1_step 101 = .ok (.iload_n 3, 1) := by decide +kernel
theorem dX1_step_102 : decode cX1_step 102 = .ok (.iastore, 1) := by decide +kernel
theorem dX1_step_103 : decode cX1_step 103 = .ok (.aload_n 0, 1) := by decide +kernel
theorem dX1_step_104 : decode cX1_step 104 = .ok (.getfield 19, 3) := by decide +kernel
theorem dX1_step_107 : decode cX1_step 107 = .ok (.aload_n 0, 1) := by decide +kernel
theorem dX1_step_108 : decode cX1_step 108 = .ok (.getfield 28, 3) := by decide +kernel
theorem dX1_step_111 : decode cX1_step 111 = .ok (.iload_n 1, 1) := by decide +kernel
theorem dX1_step_112 : decode cX1_step 112 = .ok (.ifCond .ne 11, 3) := by decide +kernel
theorem dX1_step_115 : decode cX1_step 115 = .ok (.iload_n 3, 1) := by decide +kernel
theorem dX1_step_116 : decode cX1_step 116 = .ok (.iconst 4, 1) := by decide +kernel
theorem dX1_step_117 : decode cX1_step 117 = .ok (.ishr, 1) := by decide +kernel
theorem dX1_step_118 : decode cX1_step 118 = .ok (.iconst 3, 1) := by decide +kernel
theorem dX1_step_119 : decode cX1_step 119 = .ok (.isub, 1) := by decide +kernel
theorem dX1_step_120 : decode cX1_step 120 = .ok (.goto 4, 3) := by decide +kernel
theorem dX1_step_123 : decode cX1_step 123 = .ok (.iconst 0, 1) := by decide +kernel
theorem dX1_step_124 : decode cX1_step 124 = .ok (.iastore, 1) := by decide +kernel
theorem dX1_step_125 : decode cX1_step 125 = .ok (.aload_n 0, 1) := by decide +kernel
theorem dX1_step_126 : decode cX1_step 126 = .ok (.dup, 1) := by decide +kernel
theorem dX1_step_127 : decode cX1_step 127 = .ok (.getfield 28, 3) := by decide +kernel
theorem dX1_step_130 : decode cX1_step 130 = .ok (.iconst 1, 1) := by decide +kernel
theorem dX1_step_131 : decode cX1_step 131 = .ok (.iadd, 1) := by decide +kernel
theorem dX1_step_132 : decode cX1_step 132 = .ok (.putfield 28, 3) := by decide +kernel
theorem dX1_step_135 : decode cX1_step 135 = .ok (.aload_n 0, 1) := by decide +kernel
theorem dX1_step_136 : decode cX1_step 136 = .ok (.getfield 28, 3) := by decide +kernel
theorem dX1_step_139 : decode cX1_step 139 = .ok (.iconst 1, 1) := by decide +kernel
theorem dX1_step_140 : decode cX1_step 140 = .ok (.isub, 1) := by decide +kernel
theorem dX1_step_141 : decode cX1_step 141 = .ok (.ireturn, 1) := by decide +kernel
abbrev cX1_good : ByteArray := prog_3_method_5_code
def yX1_good : MethodName := ⟨RX1, "good", "(III)Z"⟩
theorem dX1_good_0 : decode cX1_good 0 = .ok (.iload_n 1, 1) := by decide +kernel
theorem dX1_good_1 : decode cX1_good 1 = .ok (.ifCond .ne 38, 3) := by decide +kernel
theorem dX1_good_4 : decode cX1_good 4 = .ok (.aload_n 0, 1) := by decide +kernel
theorem dX1_good_5 : decode cX1_good 5 = .ok (.iload_n 2, 1) := by decide +kernel
theorem dX1_good_6 : decode cX1_good 6 = .ok (.invokevirtual 36, 3) := by decide +kernel
theorem dX1_good_9 : decode cX1_good 9 = .ok (.ifCond .eq 28, 3) := by decide +kernel
theorem dX1_good_12 : decode cX1_good 12 = .ok (.iload_n 3, 1) := by decide +kernel
theorem dX1_good_13 : decode cX1_good 13 = .ok (.ifCond .lt 24, 3) := by decide +kernel
theorem dX1_good_16 : decode cX1_good 16 = .ok (.iload_n 3, 1) := by decide +kernel
theorem dX1_good_17 : decode cX1_good 17 = .ok (.bipush 15, 2) := by decide +kernel
theorem dX1_good_19 : decode cX1_good 19 = .ok (.iand, 1) := by decide +kernel
theorem dX1_good_20 : decode cX1_good 20 = .ok (.bipush 12, 2) := by decide +kernel
theorem dX1_good_22 : decode cX1_good 22 = .ok (.if_icmp .gt 15, 3) := by decide +kernel
theorem dX1_good_25 : decode cX1_good 25 = .ok (.iload_n 3, 1) := by decide +kernel
theorem dX1_good_26 : decode cX1_good 26 = .ok (.iconst 4, 1) := by decide +kernel
theorem dX1_good_27 : decode cX1_good 27 = .ok (.ishr, 1) := by decide +kernel
theorem dX1_good_28 : decode cX1_good 28 = .ok (.bipush 12, 2) := by decide +kernel
theorem dX1_good_30 : decode cX1_good 30 = .ok (.if_icmp .gt 7, 3) := by decide +kernel
theorem dX1_good_33 : decode cX1_good 33 = .ok (.iconst 1, 1) := by decide +kernel
theorem dX1_good_34 : decode cX1_good 34 = .ok (.goto 4, 3) := by decide +kernel
theorem dX1_good_37 : decode cX1_good 37 = .ok (.iconst 0, 1) := by decide +kernel
theorem dX1_good_38 : decode cX1_good 38 = .ok (.ireturn, 1) := by decide +kernel
theorem dX1_good_39 : decode cX1_good 39 = .ok (.iload_n 1, 1) := by decide +kernel
theorem dX1_good_40 : decode cX1_good 40 = .ok (.iconst 1, 1) := by decide +kernel
theorem dX1_good_41 : decode cX1_good 41 = .ok (.if_icmp .ne 29, 3) := by decide +kernel
theorem dX1_good_44 : decode cX1_good 44 = .ok (.aload_n 0, 1) := by decide +kernel
theorem dX1_good_45 : decode cX1_good 45 = .ok (.iload_n 2, 1) := by decide +kernel
theorem dX1_good_46 : decode cX1_good 46 = .ok (.invokevirtual 36, 3) := by decide +kernel
theorem dX1_good_49 : decode cX1_good 49 = .ok (.ifCond .eq 19, 3) := by decide +kernel
theorem dX1_good_52 : decode cX1_good 52 = .ok (.iload_n 3, 1) := by decide +kernel
theorem dX1_good_53 : decode cX1_good 53 = .ok (.bipush (-20), 2) := by decide +kernel
theorem dX1_good_55 : decode cX1_good 55 = .ok (.if_icmp .lt 13, 3) := by decide +kernel
theorem dX1_good_58 : decode cX1_good 58 = .ok (.iload_n 3, 1) := by decide +kernel
theorem dX1_good_59 : decode cX1_good 59 = .ok (.bipush 20, 2) := by decide +kernel
theorem dX1_good_61 : decode cX1_good 61 = .ok (.if_icmp .gt 7, 3) := by decide +kernel
theorem dX1_good_64 : decode cX1_good 64 = .ok (.iconst 1, 1) := by decide +kernel
theorem dX1_good_65 : decode cX1_good 65 = .ok (.goto 4, 3) := by decide +kernel
theorem dX1_good_68 : decode cX1_good 68 = .ok (.iconst 0, 1) := by decide +kernel
theorem dX1_good_69 : decode cX1_good 69 = .ok (.ireturn, 1) := by decide +kernel
theorem dX1_good_70 : decode cX1_good 70 = .ok (.iload_n 1, 1) := by decide +kernel
theorem dX1_good_71 : decode cX1_good 71 = .ok (.bipush 8, 2) := by decide +kernel
theorem dX1_good_73 : decode cX1_good 73 = .ok (.if_icmp .eq 30, 3) := by decide +kernel
theorem dX1_good_76 : decode cX1_good 76 = .ok (.iload_n 1, 1) := by decide +kernel
theorem dX1_good_77 : decode cX1_good 77 = .ok (.iconst 2, 1) := by decide +kernel
theorem dX1_good_78 : decode cX1_good 78 = .ok (.if_icmp .lt 29, 3) := by decide +kernel
theorem dX1_good_81 : decode cX1_good 81 = .ok (.iload_n 1, 1) := by decide +kernel
theorem dX1_good_82 : decode cX1_good 82 = .ok (.bipush 9, 2) := by decide +kernel
theorem dX1_good_84 : decode cX1_good 84 = .ok (.if_icmp .gt 23, 3) := by decide +kernel
theorem dX1_good_87 : decode cX1_good 87 = .ok (.aload_n 0, 1) := by decide +kernel
theorem dX1_good_88 : decode cX1_good 88 = .ok (.iload_n 2, 1) := by decide +kernel
theorem dX1_good_89 : decode cX1_good 89 = .ok (.invokevirtual 36, 3) := by decide +kernel
theorem dX1_good_92 : decode cX1_good 92 = .ok (.ifCond .eq 15, 3) := by decide +kernel
theorem dX1_good_95 : decode cX1_good 95 = .ok (.aload_n 0, 1) := by decide +kernel
theorem dX1_good_96 : decode cX1_good 96 = .ok (.iload_n 3, 1) := by decide +kernel
theorem dX1_good_97 : decode cX1_good 97 = .ok (.invokevirtual 36, 3) := by decide +kernel
theorem dX1_good_100 : decode cX1_good 100 = .ok (.ifCond .eq 7, 3) := by decide +kernel
theorem dX1_good_103 : decode cX1_good 103 = .ok (.iconst 1, 1) := by decide +kernel
theorem dX1_good_104 : decode cX1_good 104 = .ok (.goto 4, 3) := by decide +kernel
theorem dX1_good_107 : decode cX1_good 107 = .ok (.iconst 0, 1) := by decide +kernel
theorem dX1_good_108 : decode cX1_good 108 = .ok (.ireturn, 1) := by decide +kernel
abbrev cX1_variable : ByteArray := prog_3_method_2_code
def yX1_variable : MethodName := ⟨RX1, "variable", "(I)Z"⟩
theorem dX1_variable_0 : decode cX1_variable 0 = .ok (.iload_n 1, 1) := by decide +kernel
theorem dX1_variable_1 : decode cX1_variable 1 = .ok (.ifCond .lt 12, 3) := by decide +kernel
theorem dX1_variable_4 : decode cX1_variable 4 = .ok (.iload_n 1, 1) := by decide +kernel
theorem dX1_variable_5 : decode cX1_variable 5 = .ok (.iconst 3, 1) := by decide +kernel
theorem dX1_variable_6 : decode cX1_variable 6 = .ok (.if_icmp .gt 7, 3) := by decide +kernel
theorem dX1_variable_9 : decode cX1_variable 9 = .ok (.iconst 1, 1) := by decide +kernel
theorem dX1_variable_10 : decode cX1_variable 10 = .ok (.goto 4, 3) := by decide +kernel
theorem dX1_variable_13 : decode cX1_variable 13 = .ok (.iconst 0, 1) := by decide +kernel
theorem dX1_variable_14 : decode cX1_variable 14 = .ok (.ireturn, 1) := by decide +kernel
abbrev cX1_choice : ByteArray := prog_3_method_3_code
def yX1_choice : MethodName := ⟨RX1, "choice", "(I)Z"⟩
theorem dX1_choice_0 : decode cX1_choice 0 = .ok (.iload_n 1, 1) := by decide +kernel
theorem dX1_choice_1 : decode cX1_choice 1 = .ok (.ifCond .eq 14, 3) := by decide +kernel
theorem dX1_choice_4 : decode cX1_choice 4 = .ok (.iload_n 1, 1) := by decide +kernel
theorem dX1_choice_5 : decode cX1_choice 5 = .ok (.iconst 4, 1) := by decide +kernel
theorem dX1_choice_6 : decode cX1_choice 6 = .ok (.if_icmp .eq 9, 3) := by decide +kernel
theorem dX1_choice_9 : decode cX1_choice 9 = .ok (.iload_n 1, 1) := by decide +kernel
theorem dX1_choice_10 : decode cX1_choice 10 = .ok (.bipush 9, 2) := by decide +kernel
theorem dX1_choice_12 : decode cX1_choice 12 = .ok (.if_icmp .ne 7, 3) := by decide +kernel
theorem dX1_choice_15 : decode cX1_choice 15 = .ok (.iconst 1, 1) := by decide +kernel
theorem dX1_choice_16 : decode cX1_choice 16 = .ok (.goto 4, 3) := by decide +kernel
theorem dX1_choice_19 : decode cX1_choice 19 = .ok (.iconst 0, 1) := by decide +kernel
theorem dX1_choice_20 : decode cX1_choice 20 = .ok (.ireturn, 1) := by decide +kernel
abbrev cX1_choices : ByteArray := prog_3_method_4_code
def yX1_choices : MethodName := ⟨RX1, "choices", "()I"⟩
theorem dX1_choices_0 : decode cX1_choices 0 = .ok (.iconst 0, 1) := by decide +kernel
theorem dX1_choices_1 : decode cX1_choices 1 = .ok (.istore_n 1, 1) := by decide +kernel
theorem dX1_choices_2 : decode cX1_choices 2 = .ok (.iconst 0, 1) := by decide +kernel
theorem dX1_choices_3 : decode cX1_choices 3 = .ok (.istore_n 2, 1) := by decide +kernel
theorem dX1_choices_4 : decode cX1_choices 4 = .ok (.iload_n 2, 1) := by decide +kernel
theorem dX1_choices_5 : decode cX1_choices 5 = .ok (.aload_n 0, 1) := by decide +kernel
theorem dX1_choices_6 : decode cX1_choices 6 = .ok (.getfield 28, 3) := by decide +kernel
theorem dX1_choices_9 : decode cX1_choices 9 = .ok (.if_icmp .ge 30, 3) := by decide +kernel
theorem dX1_choices_12 : decode cX1_choices 12 = .ok (.aload_n 0, 1) := by decide +kernel
theorem dX1_choices_13 : decode cX1_choices 13 = .ok (.aload_n 0, 1) := by decide +kernel
theorem dX1_choices_14 : decode cX1_choices 14 = .ok (.getfield 7, 3) := by decide +kernel
theorem dX1_choices_17 : decode cX1_choices 17 = .ok (.iload_n 2, 1) := by decide +kernel
theorem dX1_choices_18 : decode cX1_choices 18 = .ok (.iaload, 1) := by decide +kernel
theorem dX1_choices_19 : decode cX1_choices 19 = .ok (.invokevirtual 32, 3) := by decide +kernel
theorem dX1_choices_22 : decode cX1_choices 22 = .ok (.ifCond .eq 9, 3) := by decide +kernel
theorem dX1_choices_25 : decode cX1_choices 25 = .ok (.iload_n 1, 1) := by decide +kernel
theorem dX1_choices_26 : decode cX1_choices 26 = .ok (.iconst 1, 1) := by decide +kernel
theorem dX1_choices_27 : decode cX1_choices 27 = .ok (.iadd, 1) := by decide +kernel
theorem dX1_choices_28 : decode cX1_choices 28 = .ok (.goto 4, 3) := by decide +kernel
theorem dX1_choices_31 : decode cX1_choices 31 = .ok (.iload_n 1, 1) := by decide +kernel
theorem dX1_choices_32 : decode cX1_choices 32 = .ok (.istore_n 1, 1) := by decide +kernel
theorem dX1_choices_33 : decode cX1_choices 33 = .ok (.iinc 2 1, 3) := by decide +kernel
theorem dX1_choices_36 : decode cX1_choices 36 = .ok (.goto (-32), 3) := by decide +kernel
theorem dX1_choices_39 : decode cX1_choices 39 = .ok (.iload_n 1, 1) := by decide +kernel
theorem dX1_choices_40 : decode cX1_choices 40 = .ok (.ireturn, 1) := by decide +kernel
abbrev cX1_drop : ByteArray := prog_3_method_7_code
def yX1_drop : MethodName := ⟨RX1, "drop", "()I"⟩
theorem dX1_drop_0 : decode cX1_drop 0 = .ok (.aload_n 0, 1) := by decide +kernel
theorem dX1_drop_1 : decode cX1_drop 1 = .ok (.getfield 28, 3) := by decide +kernel
theorem dX1_drop_4 : decode cX1_drop 4 = .ok (.ifCond .ne 5, 3) := by decide +kernel
theorem dX1_drop_7 : decode cX1_drop 7 = .ok (.iconst (-1), 1) := by decide +kernel
theorem dX1_drop_8 : decode cX1_drop 8 = .ok (.ireturn, 1) := by decide +kernel
theorem dX1_drop_9 : decode cX1_drop 9 = .ok (.aload_n 0, 1) := by decide +kernel
theorem dX1_drop_10 : decode cX1_drop 10 = .ok (.dup, 1) := by decide +kernel
theorem dX1_drop_11 : decode cX1_drop 11 = .ok (.getfield 28, 3) := by decide +kernel
theorem dX1_drop_14 : decode cX1_drop 14 = .ok (.iconst 1, 1) := by decide +kernel
theorem dX1_drop_15 : decode cX1_drop 15 = .ok (.isub, 1) := by decide +kernel
theorem dX1_drop_16 : decode cX1_drop 16 = .ok (.putfield 28, 3) := by decide +kernel
theorem dX1_drop_19 : decode cX1_drop 19 = .ok (.aload_n 0, 1) := by decide +kernel
theorem dX1_drop_20 : decode cX1_drop 20 = .ok (.getfield 28, 3) := by decide +kernel
theorem dX1_drop_23 : decode cX1_drop 23 = .ok (.ireturn, 1) := by decide +kernel
end
section
set_option maxRecDepth 100000
abbrev cX1_length : ByteArray := prog_3_method_8_code
def yX1_length : MethodName := ⟨RX1, "length", "()I"⟩
theorem dX1_length_0 : decode cX1_length 0 = .ok (.aload_n 0, 1) := by decide +kernel
theorem dX1_length_1 : decode cX1_length 1 = .ok (.getfield 28, 3) := by decide +kernel
theorem dX1_length_4 : decode cX1_length 4 = .ok (.ireturn, 1) := by decide +kernel
abbrev cX1_answers : ByteArray := prog_3_method_14_code
def yX1_answers : MethodName := ⟨RX1, "answers", "()I"⟩
theorem dX1_answers_0 : decode cX1_answers 0 = .ok (.aload_n 0, 1) := by decide +kernel
theorem dX1_answers_1 : decode cX1_answers 1 = .ok (.aload_n 0, 1) := by decide +kernel
theorem dX1_answers_2 : decode cX1_answers 2 = .ok (.getfield 28, 3) := by decide +kernel
theorem dX1_answers_5 : decode cX1_answers 5 = .ok (.invokevirtual 58, 3) := by decide +kernel
theorem dX1_answers_8 : decode cX1_answers 8 = .ok (.ireturn, 1) := by decide +kernel
abbrev cX1_ways : ByteArray := prog_3_method_19_code
def yX1_ways : MethodName := ⟨RX1, "ways", "(I)I"⟩
theorem dX1_ways_0 : decode cX1_ways 0 = .ok (.iload_n 1, 1) := by decide +kernel
theorem dX1_ways_1 : decode cX1_ways 1 = .ok (.ifCond .lt 11, 3) := by decide +kernel
theorem dX1_ways_4 : decode cX1_ways 4 = .ok (.iload_n 1, 1) := by decide +kernel
theorem dX1_ways_5 : decode cX1_ways 5 = .ok (.aload_n 0, 1) := by decide +kernel
theorem dX1_ways_6 : decode cX1_ways 6 = .ok (.getfield 28, 3) := by decide +kernel
theorem dX1_ways_9 : decode cX1_ways 9 = .ok (.if_icmp .le 5, 3) := by decide +kernel
theorem dX1_ways_12 : decode cX1_ways 12 = .ok (.iconst (-1), 1) := by decide +kernel
theorem dX1_ways_13 : decode cX1_ways 13 = .ok (.ireturn, 1) := by decide +kernel
theorem dX1_ways_14 : decode cX1_ways 14 = .ok (.aload_n 0, 1) := by decide +kernel
theorem dX1_ways_15 : decode cX1_ways 15 = .ok (.invokevirtual 61, 3) := by decide +kernel
theorem dX1_ways_18 : decode cX1_ways 18 = .ok (.aload_n 0, 1) := by decide +kernel
theorem dX1_ways_19 : decode cX1_ways 19 = .ok (.iconst 0, 1) := by decide +kernel
theorem dX1_ways_20 : decode cX1_ways 20 = .ok (.iload_n 1, 1) := by decide +kernel
theorem dX1_ways_21 : decode cX1_ways 21 = .ok (.invokevirtual 51, 3) := by decide +kernel
theorem dX1_ways_24 : decode cX1_ways 24 = .ok (.istore_n 2, 1) := by decide +kernel
theorem dX1_ways_25 : decode cX1_ways 25 = .ok (.iconst 0, 1) := by decide +kernel
theorem dX1_ways_26 : decode cX1_ways 26 = .ok (.istore_n 3, 1) := by decide +kernel
theorem dX1_ways_27 : decode cX1_ways 27 = .ok (.iconst 0, 1) := by decide +kernel
theorem dX1_ways_28 : decode cX1_ways 28 = .ok (.istore 4, 2) := by decide +kernel
theorem dX1_ways_30 : decode cX1_ways 30 = .ok (.iload 4, 2) := by decide +kernel
theorem dX1_ways_32 : decode cX1_ways 32 = .ok (.iload_n 2, 1) := by decide +kernel
theorem dX1_ways_33 : decode cX1_ways 33 = .ok (.if_icmp .ge 27, 3) := by decide +kernel
theorem dX1_ways_36 : decode cX1_ways 36 = .ok (.aload_n 0, 1) := by decide +kernel
theorem dX1_ways_37 : decode cX1_ways 37 = .ok (.iload 4, 2) := by decide +kernel
theorem dX1_ways_39 : decode cX1_ways 39 = .ok (.iload_n 1, 1) := by decide +kernel
theorem dX1_ways_40 : decode cX1_ways 40 = .ok (.invokevirtual 64, 3) := by decide +kernel
theorem dX1_ways_43 : decode cX1_ways 43 = .ok (.ifCond .eq 9, 3) := by decide +kernel
theorem dX1_ways_46 : decode cX1_ways 46 = .ok (.iload_n 3, 1) := by decide +kernel
theorem dX1_ways_47 : decode cX1_ways 47 = .ok (.iconst 1, 1) := by decide +kernel
theorem dX1_ways_48 : decode cX1_ways 48 = .ok (.iadd, 1) := by decide +kernel
theorem dX1_ways_49 : decode cX1_ways 49 = .ok (.goto 4, 3) := by decide +kernel
theorem dX1_ways_52 : decode cX1_ways 52 = .ok (.iload_n 3, 1) := by decide +kernel
theorem dX1_ways_53 : decode cX1_ways 53 = .ok (.istore_n 3, 1) := by decide +kernel
theorem dX1_ways_54 : decode cX1_ways 54 = .ok (.iinc 4 1, 3) := by decide +kernel
theorem dX1_ways_57 : decode cX1_ways 57 = .ok (.goto (-27), 3) := by decide +kernel
theorem dX1_ways_60 : decode cX1_ways 60 = .ok (.iload_n 3, 1) := by decide +kernel
theorem dX1_ways_61 : decode cX1_ways 61 = .ok (.ireturn, 1) := by decide +kernel
abbrev cX1_begin : ByteArray := prog_3_method_13_code
def yX1_begin : MethodName := ⟨RX1, "begin", "()V"⟩
theorem dX1_begin_0 : decode cX1_begin 0 = .ok (.iconst 0, 1) := by decide +kernel
theorem dX1_begin_1 : decode cX1_begin 1 = .ok (.istore_n 1, 1) := by decide +kernel
theorem dX1_begin_2 : decode cX1_begin 2 = .ok (.iload_n 1, 1) := by decide +kernel
theorem dX1_begin_3 : decode cX1_begin 3 = .ok (.bipush 14, 2) := by decide +kernel
theorem dX1_begin_5 : decode cX1_begin 5 = .ok (.if_icmp .ge 16, 3) := by decide +kernel
theorem dX1_begin_8 : decode cX1_begin 8 = .ok (.aload_n 0, 1) := by decide +kernel
theorem dX1_begin_9 : decode cX1_begin 9 = .ok (.getfield 25, 3) := by decide +kernel
theorem dX1_begin_12 : decode cX1_begin 12 = .ok (.iload_n 1, 1) := by decide +kernel
theorem dX1_begin_13 : decode cX1_begin 13 = .ok (.iconst (-1), 1) := by decide +kernel
theorem dX1_begin_14 : decode cX1_begin 14 = .ok (.iastore, 1) := by decide +kernel
theorem dX1_begin_15 : decode cX1_begin 15 = .ok (.iinc 1 1, 3) := by decide +kernel
theorem dX1_begin_18 : decode cX1_begin 18 = .ok (.goto (-16), 3) := by decide +kernel
theorem dX1_begin_21 : decode cX1_begin 21 = .ok (.return_, 1) := by decide +kernel
abbrev cX1_between : ByteArray := prog_3_method_10_code
def yX1_between : MethodName := ⟨RX1, "between", "(II)I"⟩
theorem dX1_between_0 : decode cX1_between 0 = .ok (.iconst 1, 1) := by decide +kernel
theorem dX1_between_1 : decode cX1_between 1 = .ok (.istore_n 3, 1) := by decide +kernel
theorem dX1_between_2 : decode cX1_between 2 = .ok (.iload_n 1, 1) := by decide +kernel
theorem dX1_between_3 : decode cX1_between 3 = .ok (.istore 4, 2) := by decide +kernel
theorem dX1_between_5 : decode cX1_between 5 = .ok (.iload 4, 2) := by decide +kernel
theorem dX1_between_7 : decode cX1_between 7 = .ok (.iload_n 2, 1) := by decide +kernel
theorem dX1_between_8 : decode cX1_between 8 = .ok (.if_icmp .ge 18, 3) := by decide +kernel
theorem dX1_between_11 : decode cX1_between 11 = .ok (.iload_n 3, 1) := by decide +kernel
theorem dX1_between_12 : decode cX1_between 12 = .ok (.aload_n 0, 1) := by decide +kernel
theorem dX1_between_13 : decode cX1_between 13 = .ok (.iload 4, 2) := by decide +kernel
theorem dX1_between_15 : decode cX1_between 15 = .ok (.invokevirtual 47, 3) := by decide +kernel
theorem dX1_between_18 : decode cX1_between 18 = .ok (.imul, 1) := by decide +kernel
theorem dX1_between_19 : decode cX1_between 19 = .ok (.istore_n 3, 1) := by decide +kernel
theorem dX1_between_20 : decode cX1_between 20 = .ok (.iinc 4 1, 3) := by decide +kernel
theorem dX1_between_23 : decode cX1_between 23 = .ok (.goto (-18), 3) := by decide +kernel
theorem dX1_between_26 : decode cX1_between 26 = .ok (.iload_n 3, 1) := by decide +kernel
theorem dX1_between_27 : decode cX1_between 27 = .ok (.ireturn, 1) := by decide +kernel
abbrev cX1_options : ByteArray := prog_3_method_9_code
def yX1_options : MethodName := ⟨RX1, "options", "(I)I"⟩
theorem dX1_options_0 : decode cX1_options 0 = .ok (.aload_n 0, 1) := by decide +kernel
theorem dX1_options_1 : decode cX1_options 1 = .ok (.getfield 7, 3) := by decide +kernel
theorem dX1_options_4 : decode cX1_options 4 = .ok (.iload_n 1, 1) := by decide +kernel
theorem dX1_options_5 : decode cX1_options 5 = .ok (.iaload, 1) := by decide +kernel
theorem dX1_options_6 : decode cX1_options 6 = .ok (.ifCond .ne 40, 3) := by decide +kernel
theorem dX1_options_9 : decode cX1_options 9 = .ok (.aload_n 0, 1) := by decide +kernel
theorem dX1_options_10 : decode cX1_options 10 = .ok (.getfield 19, 3) := by decide +kernel
theorem dX1_options_13 : decode cX1_options 13 = .ok (.iload_n 1, 1) := by decide +kernel
theorem dX1_options_14 : decode cX1_options 14 = .ok (.iaload, 1) := by decide +kernel
theorem dX1_options_15 : decode cX1_options 15 = .ok (.aload_n 0, 1) := by decide +kernel
theorem dX1_options_16 : decode cX1_options 16 = .ok (.getfield 16, 3) := by decide +kernel
theorem dX1_options_19 : decode cX1_options 19 = .ok (.iload_n 1, 1) := by decide +kernel
theorem dX1_options_20 : decode cX1_options 20 = .ok (.iaload, 1) := by decide +kernel
theorem dX1_options_21 : decode cX1_options 21 = .ok (.if_icmp .ge 7, 3) := by decide +kernel
theorem dX1_options_24 : decode cX1_options 24 = .ok (.iconst 0, 1) := by decide +kernel
theorem dX1_options_25 : decode cX1_options 25 = .ok (.goto 47, 3) := by decide +kernel
theorem dX1_options_28 : decode cX1_options 28 = .ok (.aload_n 0, 1) := by decide +kernel
theorem dX1_options_29 : decode cX1_options 29 = .ok (.getfield 19, 3) := by decide +kernel
theorem dX1_options_32 : decode cX1_options 32 = .ok (.iload_n 1, 1) := by decide +kernel
theorem dX1_options_33 : decode cX1_options 33 = .ok (.iaload, 1) := by decide +kernel
theorem dX1_options_34 : decode cX1_options 34 = .ok (.aload_n 0, 1) := by decide +kernel
theorem dX1_options_35 : decode cX1_options 35 = .ok (.getfield 16, 3) := by decide +kernel
theorem dX1_options_38 : decode cX1_options 38 = .ok (.iload_n 1, 1) := by decide +kernel
theorem dX1_options_39 : decode cX1_options 39 = .ok (.iaload, 1) := by decide +kernel
theorem dX1_options_40 : decode cX1_options 40 = .ok (.isub, 1) := by decide +kernel
theorem dX1_options_41 : decode cX1_options 41 = .ok (.iconst 1, 1) := by decide +kernel
theorem dX1_options_42 : decode cX1_options 42 = .ok (.iadd, 1) := by decide +kernel
theorem dX1_options_43 : decode cX1_options 43 = .ok (.goto 29, 3) := by decide +kernel
theorem dX1_options_46 : decode cX1_options 46 = .ok (.aload_n 0, 1) := by decide +kernel
theorem dX1_options_47 : decode cX1_options 47 = .ok (.getfield 7, 3) := by decide +kernel
theorem dX1_options_50 : decode cX1_options 50 = .ok (.iload_n 1, 1) := by decide +kernel
theorem dX1_options_51 : decode cX1_options 51 = .ok (.iaload, 1) := by decide +kernel
theorem dX1_options_52 : decode cX1_options 52 = .ok (.iconst 4, 1) := by decide +kernel
theorem dX1_options_53 : decode cX1_options 53 = .ok (.if_icmp .eq 14, 3) := by decide +kernel
theorem dX1_options_56 : decode cX1_options 56 = .ok (.aload_n 0, 1) := by decide +kernel
theorem dX1_options_57 : decode cX1_options 57 = .ok (.getfield 7, 3) := by decide +kernel
theorem dX1_options_60 : decode cX1_options 60 = .ok (.iload_n 1, 1) := by decide +kernel
theorem dX1_options_61 : decode cX1_options 61 = .ok (.iaload, 1) := by decide +kernel
theorem dX1_options_62 : decode cX1_options 62 = .ok (.bipush 9, 2) := by decide +kernel
theorem dX1_options_64 : decode cX1_options 64 = .ok (.if_icmp .ne 7, 3) := by decide +kernel
theorem dX1_options_67 : decode cX1_options 67 = .ok (.iconst 2, 1) := by decide +kernel
theorem dX1_options_68 : decode cX1_options 68 = .ok (.goto 4, 3) := by decide +kernel
theorem dX1_options_71 : decode cX1_options 71 = .ok (.iconst 1, 1) := by decide +kernel
theorem dX1_options_72 : decode cX1_options 72 = .ok (.ireturn, 1) := by decide +kernel
abbrev cX1_run : ByteArray := prog_3_method_12_code
def yX1_run : MethodName := ⟨RX1, "run", "(II)Z"⟩
theorem dX1_run_0 : decode cX1_run 0 = .ok (.iconst 0, 1) := by decide +kernel
theorem dX1_run_1 : decode cX1_run 1 = .ok (.istore_n 3, 1) := by decide +kernel
theorem dX1_run_2 : decode cX1_run 2 = .ok (.iload_n 3, 1) := by decide +kernel
theorem dX1_run_3 : decode cX1_run 3 = .ok (.iconst 4, 1) := by decide +kernel
theorem dX1_run_4 : decode cX1_run 4 = .ok (.if_icmp .ge 16, 3) := by decide +kernel
theorem dX1_run_7 : decode cX1_run 7 = .ok (.aload_n 0, 1) := by decide +kernel
theorem dX1_run_8 : decode cX1_run 8 = .ok (.getfield 22, 3) := by decide +kernel
theorem dX1_run_11 : decode cX1_run 11 = .ok (.iload_n 3, 1) := by decide +kernel
theorem dX1_run_12 : decode cX1_run 12 = .ok (.iconst 0, 1) := by decide +kernel
theorem dX1_run_13 : decode cX1_run 13 = .ok (.iastore, 1) := by decide +kernel
theorem dX1_run_14 : decode cX1_run 14 = .ok (.iinc 3 1, 3) := by decide +kernel
theorem dX1_run_17 : decode cX1_run 17 = .ok (.goto (-15), 3) := by decide +kernel
theorem dX1_run_20 : decode cX1_run 20 = .ok (.iconst 1, 1) := by decide +kernel
theorem dX1_run_21 : decode cX1_run 21 = .ok (.istore_n 3, 1) := by decide +kernel
theorem dX1_run_22 : decode cX1_run 22 = .ok (.iconst 0, 1) := by decide +kernel
theorem dX1_run_23 : decode cX1_run 23 = .ok (.istore 4, 2) := by decide +kernel
theorem dX1_run_25 : decode cX1_run 25 = .ok (.iload 4, 2) := by decide +kernel
theorem dX1_run_27 : decode cX1_run 27 = .ok (.iload_n 2, 1) := by decide +kernel
theorem dX1_run_28 : decode cX1_run 28 = .ok (.if_icmp .ge 74, 3) := by decide +kernel
theorem dX1_run_31 : decode cX1_run 31 = .ok (.iload_n 3, 1) := by decide +kernel
theorem dX1_run_32 : decode cX1_run 32 = .ok (.ifCond .eq 70, 3) := by decide +kernel
theorem dX1_run_35 : decode cX1_run 35 = .ok (.aload_n 0, 1) := by decide +kernel
theorem dX1_run_36 : decode cX1_run 36 = .ok (.iload 4, 2) := by decide +kernel
theorem dX1_run_38 : decode cX1_run 38 = .ok (.iconst 1, 1) := by decide +kernel
theorem dX1_run_39 : decode cX1_run 39 = .ok (.iadd, 1) := by decide +kernel
theorem dX1_run_40 : decode cX1_run 40 = .ok (.iload_n 2, 1) := by decide +kernel
theorem dX1_run_41 : decode cX1_run 41 = .ok (.invokevirtual 51, 3) := by decide +kernel
theorem dX1_run_44 : decode cX1_run 44 = .ok (.istore 5, 2) := by decide +kernel
theorem dX1_run_46 : decode cX1_run 46 = .ok (.aload_n 0, 1) := by decide +kernel
theorem dX1_run_47 : decode cX1_run 47 = .ok (.iload 4, 2) := by decide +kernel
theorem dX1_run_49 : decode cX1_run 49 = .ok (.invokevirtual 47, 3) := by decide +kernel
theorem dX1_run_52 : decode cX1_run 52 = .ok (.istore 6, 2) := by decide +kernel
theorem dX1_run_54 : decode cX1_run 54 = .ok (.iload 5, 2) := by decide +kernel
theorem dX1_run_56 : decode cX1_run 56 = .ok (.ifCond .le 10, 3) := by decide +kernel
theorem dX1_run_59 : decode cX1_run 59 = .ok (.iload_n 1, 1) := by decide +kernel
theorem dX1_run_60 : decode cX1_run 60 = .ok (.iload 5, 2) := by decide +kernel
theorem dX1_run_62 : decode cX1_run 62 = .ok (.idiv, 1) := by decide +kernel
theorem dX1_run_63 : decode cX1_run 63 = .ok (.goto 4, 3) := by decide +kernel
theorem dX1_run_66 : decode cX1_run 66 = .ok (.iconst 0, 1) := by decide +kernel
theorem dX1_run_67 : decode cX1_run 67 = .ok (.istore 7, 2) := by decide +kernel
theorem dX1_run_69 : decode cX1_run 69 = .ok (.iload 6, 2) := by decide +kernel
theorem dX1_run_71 : decode cX1_run 71 = .ok (.ifCond .le 11, 3) := by decide +kernel
theorem dX1_run_74 : decode cX1_run 74 = .ok (.iload 7, 2) := by decide +kernel
theorem dX1_run_76 : decode cX1_run 76 = .ok (.iload 6, 2) := by decide +kernel
theorem dX1_run_78 : decode cX1_run 78 = .ok (.irem, 1) := by decide +kernel
theorem dX1_run_79 : decode cX1_run 79 = .ok (.goto 4, 3) := by decide +kernel
theorem dX1_run_82 : decode cX1_run 82 = .ok (.iconst 0, 1) := by decide +kernel
theorem dX1_run_83 : decode cX1_run 83 = .ok (.istore 8, 2) := by decide +kernel
theorem dX1_run_85 : decode cX1_run 85 = .ok (.aload_n 0, 1) := by decide +kernel
theorem dX1_run_86 : decode cX1_run 86 = .ok (.iload 4, 2) := by decide +kernel
theorem dX1_run_88 : decode cX1_run 88 = .ok (.iload 8, 2) := by decide +kernel
theorem dX1_run_90 : decode cX1_run 90 = .ok (.iload 7, 2) := by decide +kernel
theorem dX1_run_92 : decode cX1_run 92 = .ok (.invokevirtual 55, 3) := by decide +kernel
theorem dX1_run_95 : decode cX1_run 95 = .ok (.istore_n 3, 1) := by decide +kernel
theorem dX1_run_96 : decode cX1_run 96 = .ok (.iinc 4 1, 3) := by decide +kernel
theorem dX1_run_99 : decode cX1_run 99 = .ok (.goto (-74), 3) := by decide +kernel
theorem dX1_run_102 : decode cX1_run 102 = .ok (.iload_n 3, 1) := by decide +kernel
theorem dX1_run_103 : decode cX1_run 103 = .ok (.ireturn, 1) := by decide +kernel
abbrev cX1_carryOut : ByteArray := prog_3_method_11_code
def yX1_carryOut : MethodName := ⟨RX1, "carryOut", "(III)Z"⟩
theorem dX1_carryOut_0 : decode cX1_carryOut 0 = .ok (.aload_n 0, 1) := by decide +kernel
theorem dX1_carryOut_1 : decode cX1_carryOut 1 = .ok (.getfield 7, 3) := by decide +kernel
theorem dX1_carryOut_4 : decode cX1_carryOut 4 = .ok (.iload_n 1, 1) := by decide +kernel
theorem dX1_carryOut_5 : decode cX1_carryOut 5 = .ok (.iaload, 1) := by decide +kernel
theorem dX1_carryOut_6 : decode cX1_carryOut 6 = .ok (.istore 4, 2) := by decide +kernel
theorem dX1_carryOut_8 : decode cX1_carryOut 8 = .ok (.aload_n 0, 1) := by decide +kernel
theorem dX1_carryOut_9 : decode cX1_carryOut 9 = .ok (.getfield 13, 3) := by decide +kernel
theorem dX1_carryOut_12 : decode cX1_carryOut 12 = .ok (.iload_n 1, 1) := by decide +kernel
theorem dX1_carryOut_13 : decode cX1_carryOut 13 = .ok (.iaload, 1) := by decide +kernel
theorem dX1_carryOut_14 : decode cX1_carryOut 14 = .ok (.istore 5, 2) := by decide +kernel
theorem dX1_carryOut_16 : decode cX1_carryOut 16 = .ok (.aload_n 0, 1) := by decide +kernel
theorem dX1_carryOut_17 : decode cX1_carryOut 17 = .ok (.getfield 16, 3) := by decide +kernel
theorem dX1_carryOut_20 : decode cX1_carryOut 20 = .ok (.iload_n 1, 1) := by decide +kernel
theorem dX1_carryOut_21 : decode cX1_carryOut 21 = .ok (.iaload, 1) := by decide +kernel
theorem dX1_carryOut_22 : decode cX1_carryOut 22 = .ok (.istore 6, 2) := by decide +kernel
theorem dX1_carryOut_24 : decode cX1_carryOut 24 = .ok (.aload_n 0, 1) := by decide +kernel
theorem dX1_carryOut_25 : decode cX1_carryOut 25 = .ok (.getfield 22, 3) := by decide +kernel
theorem dX1_carryOut_28 : decode cX1_carryOut 28 = .ok (.iload 5, 2) := by decide +kernel
theorem dX1_carryOut_30 : decode cX1_carryOut 30 = .ok (.iaload, 1) := by decide +kernel
theorem dX1_carryOut_31 : decode cX1_carryOut 31 = .ok (.istore 7, 2) := by decide +kernel
theorem dX1_carryOut_33 : decode cX1_carryOut 33 = .ok (.iload 4, 2) := by decide +kernel
theorem dX1_carryOut_35 : decode cX1_carryOut 35 = .ok (.iconst 2, 1) := by decide +kernel
theorem dX1_carryOut_36 : decode cX1_carryOut 36 = .ok (.if_icmp .lt 22, 3) := by decide +kernel
theorem dX1_carryOut_39 : decode cX1_carryOut 39 = .ok (.iload 4, 2) := by decide +kernel
theorem dX1_carryOut_41 : decode cX1_carryOut 41 = .ok (.bipush 8, 2) := by decide +kernel
theorem dX1_carryOut_43 : decode cX1_carryOut 43 = .ok (.if_icmp .eq 15, 3) := by decide +kernel
theorem dX1_carryOut_46 : decode cX1_carryOut 46 = .ok (.aload_n 0, 1) := by decide +kernel
theorem dX1_carryOut_47 : decode cX1_carryOut 47 = .ok (.getfield 22, 3) := by decide +kernel
theorem dX1_carryOut_50 : decode cX1_carryOut 50 = .ok (.iload 6, 2) := by decide +kernel
theorem dX1_carryOut_52 : decode cX1_carryOut 52 = .ok (.iconst 3, 1) := by decide +kernel
theorem dX1_carryOut_53 : decode cX1_carryOut 53 = .ok (.iand, 1) := by decide +kernel
theorem dX1_carryOut_54 : decode cX1_carryOut 54 = .ok (.iaload, 1) := by decide +kernel
theorem dX1_carryOut_55 : decode cX1_carryOut 55 = .ok (.goto 4, 3) := by decide +kernel
theorem dX1_carryOut_58 : decode cX1_carryOut 58 = .ok (.iconst 0, 1) := by decide +kernel
theorem dX1_carryOut_59 : decode cX1_carryOut 59 = .ok (.istore 8, 2) := by decide +kernel
theorem dX1_carryOut_61 : decode cX1_carryOut 61 = .ok (.iload 4, 2) := by decide +kernel
theorem dX1_carryOut_63 : decode cX1_carryOut 63 = .ok (.ifCond .ne 17, 3) := by decide +kernel
theorem dX1_carryOut_66 : decode cX1_carryOut 66 = .ok (.aload_n 0, 1) := by decide +kernel
theorem dX1_carryOut_67 : decode cX1_carryOut 67 = .ok (.getfield 22, 3) := by decide +kernel
theorem dX1_carryOut_70 : decode cX1_carryOut 70 = .ok (.iload 5, 2) := by decide +kernel
theorem dX1_carryOut_72 : decode cX1_carryOut 72 = .ok (.iload 6, 2) := by decide +kernel
theorem dX1_carryOut_74 : decode cX1_carryOut 74 = .ok (.iload_n 2, 1) := by decide +kernel
theorem dX1_carryOut_75 : decode cX1_carryOut 75 = .ok (.iadd, 1) := by decide +kernel
theorem dX1_carryOut_76 : decode cX1_carryOut 76 = .ok (.iastore, 1) := by decide +kernel
theorem dX1_carryOut_77 : decode cX1_carryOut 77 = .ok (.goto 123, 3) := by decide +kernel
theorem dX1_carryOut_80 : decode cX1_carryOut 80 = .ok (.iload 4, 2) := by decide +kernel
theorem dX1_carryOut_82 : decode cX1_carryOut 82 = .ok (.iconst 1, 1) := by decide +kernel
theorem dX1_carryOut_83 : decode cX1_carryOut 83 = .ok (.if_icmp .ne 15, 3) := by decide +kernel
theorem dX1_carryOut_86 : decode cX1_carryOut 86 = .ok (.aload_n 0, 1) := by decide +kernel
theorem dX1_carryOut_87 : decode cX1_carryOut 87 = .ok (.getfield 22, 3) := by decide +kernel
theorem dX1_carryOut_90 : decode cX1_carryOut 90 = .ok (.iload 5, 2) := by decide +kernel
theorem dX1_carryOut_92 : decode cX1_carryOut 92 = .ok (.iload 6, 2) := by decide +kernel
theorem dX1_carryOut_94 : decode cX1_carryOut 94 = .ok (.iastore, 1) := by decide +kernel
theorem dX1_carryOut_95 : decode cX1_carryOut 95 = .ok (.goto 105, 3) := by decide +kernel
theorem dX1_carryOut_98 : decode cX1_carryOut 98 = .ok (.iload 4, 2) := by decide +kernel
theorem dX1_carryOut_100 : decode cX1_carryOut 100 = .ok (.iconst 2, 1) := by decide +kernel
theorem dX1_carryOut_101 : decode cX1_carryOut 101 = .ok (.if_icmp .ne 18, 3) := by decide +kernel
theorem dX1_carryOut_104 : decode cX1_carryOut 104 = .ok (.aload_n 0, 1) := by decide +kernel
theorem dX1_carryOut_105 : decode cX1_carryOut 105 = .ok (.getfield 22, 3) := by decide +kernel
theorem dX1_carryOut_108 : decode cX1_carryOut 108 = .ok (.iload 5, 2) := by decide +kernel
theorem dX1_carryOut_110 : decode cX1_carryOut 110 = .ok (.iload 7, 2) := by decide +kernel
theorem dX1_carryOut_112 : decode cX1_carryOut 112 = .ok (.iload 8, 2) := by decide +kernel
theorem dX1_carryOut_114 : decode cX1_carryOut 114 = .ok (.iadd, 1) := by decide +kernel
theorem dX1_carryOut_115 : decode cX1_carryOut 115 = .ok (.iastore, 1) := by decide +kernel
theorem dX1_carryOut_116 : decode cX1_carryOut 116 = .ok (.goto 84, 3) := by decide +kernel
theorem dX1_carryOut_119 : decode cX1_carryOut 119 = .ok (.iload 4, 2) := by decide +kernel
theorem dX1_carryOut_121 : decode cX1_carryOut 121 = .ok (.iconst 3, 1) := by decide +kernel
theorem dX1_carryOut_122 : decode cX1_carryOut 122 = .ok (.if_icmp .ne 18, 3) := by decide +kernel
theorem dX1_carryOut_125 : decode cX1_carryOut 125 = .ok (.aload_n 0, 1) := by decide +kernel
theorem dX1_carryOut_126 : decode cX1_carryOut 126 = .ok (.getfield 22, 3) := by decide +kernel
theorem dX1_carryOut_129 : decode cX1_carryOut 129 = .ok (.iload 5, 2) := by decide +kernel
theorem dX1_carryOut_131 : decode cX1_carryOut 131 = .ok (.iload 7, 2) := by decide +kernel
theorem dX1_carryOut_133 : decode cX1_carryOut 133 = .ok (.iload 8, 2) := by decide +kernel
theorem dX1_carryOut_135 : decode cX1_carryOut 135 = .ok (.imul, 1) := by decide +kernel
theorem dX1_carryOut_136 : decode cX1_carryOut 136 = .ok (.iastore, 1) := by decide +kernel
theorem dX1_carryOut_137 : decode cX1_carryOut 137 = .ok (.goto 63, 3) := by decide +kernel
theorem dX1_carryOut_140 : decode cX1_carryOut 140 = .ok (.iload 4, 2) := by decide +kernel
theorem dX1_carryOut_142 : decode cX1_carryOut 142 = .ok (.iconst 4, 1) := by decide +kernel
theorem dX1_carryOut_143 : decode cX1_carryOut 143 = .ok (.if_icmp .ne 24, 3) := by decide +kernel
theorem dX1_carryOut_146 : decode cX1_carryOut 146 = .ok (.aload_n 0, 1) := by decide +kernel
theorem dX1_carryOut_147 : decode cX1_carryOut 147 = .ok (.getfield 22, 3) := by decide +kernel
theorem dX1_carryOut_150 : decode cX1_carryOut 150 = .ok (.iload 5, 2) := by decide +kernel
theorem dX1_carryOut_152 : decode cX1_carryOut 152 = .ok (.iload_n 2, 1) := by decide +kernel
theorem dX1_carryOut_153 : decode cX1_carryOut 153 = .ok (.ifCond .ne 8, 3) := by decide +kernel
theorem dX1_carryOut_156 : decode cX1_carryOut 156 = .ok (.iload 8, 2) := by decide +kernel
theorem dX1_carryOut_158 : decode cX1_carryOut 158 = .ok (.goto 5, 3) := by decide +kernel
theorem dX1_carryOut_161 : decode cX1_carryOut 161 = .ok (.iload 7, 2) := by decide +kernel
theorem dX1_carryOut_163 : decode cX1_carryOut 163 = .ok (.iastore, 1) := by decide +kernel
theorem dX1_carryOut_164 : decode cX1_carryOut 164 = .ok (.goto 36, 3) := by decide +kernel
theorem dX1_carryOut_167 : decode cX1_carryOut 167 = .ok (.iload 4, 2) := by decide +kernel
theorem dX1_carryOut_169 : decode cX1_carryOut 169 = .ok (.bipush 9, 2) := by decide +kernel
theorem dX1_carryOut_171 : decode cX1_carryOut 171 = .ok (.if_icmp .ne 29, 3) := by decide +kernel
theorem dX1_carryOut_174 : decode cX1_carryOut 174 = .ok (.iload_n 2, 1) := by decide +kernel
theorem dX1_carryOut_175 : decode cX1_carryOut 175 = .ok (.ifCond .ne 8, 3) := by decide +kernel
theorem dX1_carryOut_178 : decode cX1_carryOut 178 = .ok (.iload 5, 2) := by decide +kernel
theorem dX1_carryOut_180 : decode cX1_carryOut 180 = .ok (.goto 7, 3) := by decide +kernel
theorem dX1_carryOut_183 : decode cX1_carryOut 183 = .ok (.iload 6, 2) := by decide +kernel
theorem dX1_carryOut_185 : decode cX1_carryOut 185 = .ok (.iconst 3, 1) := by decide +kernel
theorem dX1_carryOut_186 : decode cX1_carryOut 186 = .ok (.iand, 1) := by decide +kernel
theorem dX1_carryOut_187 : decode cX1_carryOut 187 = .ok (.istore 9, 2) := by decide +kernel
theorem dX1_carryOut_189 : decode cX1_carryOut 189 = .ok (.aload_n 0, 1) := by decide +kernel
theorem dX1_carryOut_190 : decode cX1_carryOut 190 = .ok (.getfield 22, 3) := by decide +kernel
theorem dX1_carryOut_193 : decode cX1_carryOut 193 = .ok (.iload 9, 2) := by decide +kernel
theorem dX1_carryOut_195 : decode cX1_carryOut 195 = .ok (.dup2, 1) := by decide +kernel
theorem dX1_carryOut_196 : decode cX1_carryOut 196 = .ok (.iaload, 1) := by decide +kernel
theorem dX1_carryOut_197 : decode cX1_carryOut 197 = .ok (.iconst 1, 1) := by decide +kernel
theorem dX1_carryOut_198 : decode cX1_carryOut 198 = .ok (.iadd, 1) := by decide +kernel
theorem dX1_carryOut_199 : decode cX1_carryOut 199 = .ok (.iastore, 1) := by decide +kernel
theorem dX1_carryOut_200 : decode cX1_carryOut 200 = .ok (.iload 4, 2) := by decide +kernel
theorem dX1_carryOut_202 : decode cX1_carryOut 202 = .ok (.bipush 8, 2) := by decide +kernel
theorem dX1_carryOut_204 : decode cX1_carryOut 204 = .ok (.if_icmp .ne 44, 3) := by decide +kernel
theorem dX1_carryOut_207 : decode cX1_carryOut 207 = .ok (.aload_n 0, 1) := by decide +kernel
theorem dX1_carryOut_208 : decode cX1_carryOut 208 = .ok (.getfield 25, 3) := by decide +kernel
theorem dX1_carryOut_211 : decode cX1_carryOut 211 = .ok (.iload_n 1, 1) := by decide +kernel
theorem dX1_carryOut_212 : decode cX1_carryOut 212 = .ok (.aload_n 0, 1) := by decide +kernel
theorem dX1_carryOut_213 : decode cX1_carryOut 213 = .ok (.getfield 25, 3) := by decide +kernel
theorem dX1_carryOut_216 : decode cX1_carryOut 216 = .ok (.iload_n 1, 1) := by decide +kernel
theorem dX1_carryOut_217 : decode cX1_carryOut 217 = .ok (.iaload, 1) := by decide +kernel
theorem dX1_carryOut_218 : decode cX1_carryOut 218 = .ok (.ifCond .ge 7, 3) := by decide +kernel
theorem dX1_carryOut_221 : decode cX1_carryOut 221 = .ok (.iload_n 3, 1) := by decide +kernel
theorem dX1_carryOut_222 : decode cX1_carryOut 222 = .ok (.goto 9, 3) := by decide +kernel
theorem dX1_carryOut_225 : decode cX1_carryOut 225 = .ok (.aload_n 0, 1) := by decide +kernel
theorem dX1_carryOut_226 : decode cX1_carryOut 226 = .ok (.getfield 25, 3) := by decide +kernel
theorem dX1_carryOut_229 : decode cX1_carryOut 229 = .ok (.iload_n 1, 1) := by decide +kernel
theorem dX1_carryOut_230 : decode cX1_carryOut 230 = .ok (.iaload, 1) := by decide +kernel
theorem dX1_carryOut_231 : decode cX1_carryOut 231 = .ok (.iastore, 1) := by decide +kernel
theorem dX1_carryOut_232 : decode cX1_carryOut 232 = .ok (.aload_n 0, 1) := by decide +kernel
theorem dX1_carryOut_233 : decode cX1_carryOut 233 = .ok (.getfield 25, 3) := by decide +kernel
theorem dX1_carryOut_236 : decode cX1_carryOut 236 = .ok (.iload_n 1, 1) := by decide +kernel
theorem dX1_carryOut_237 : decode cX1_carryOut 237 = .ok (.iaload, 1) := by decide +kernel
theorem dX1_carryOut_238 : decode cX1_carryOut 238 = .ok (.iload_n 3, 1) := by decide +kernel
theorem dX1_carryOut_239 : decode cX1_carryOut 239 = .ok (.if_icmp .ne 7, 3) := by decide +kernel
theorem dX1_carryOut_242 : decode cX1_carryOut 242 = .ok (.iconst 1, 1) := by decide +kernel
theorem dX1_carryOut_243 : decode cX1_carryOut 243 = .ok (.goto 4, 3) := by decide +kernel
theorem dX1_carryOut_246 : decode cX1_carryOut 246 = .ok (.iconst 0, 1) := by decide +kernel
theorem dX1_carryOut_247 : decode cX1_carryOut 247 = .ok (.ireturn, 1) := by decide +kernel
theorem dX1_carryOut_248 : decode cX1_carryOut 248 = .ok (.iload 4, 2) := by decide +kernel
theorem dX1_carryOut_250 : decode cX1_carryOut 250 = .ok (.iconst 5, 1) := by decide +kernel
theorem dX1_carryOut_251 : decode cX1_carryOut 251 = .ok (.if_icmp .ne 18, 3) := by decide +kernel
theorem dX1_carryOut_254 : decode cX1_carryOut 254 = .ok (.iload 7, 2) := by decide +kernel
theorem dX1_carryOut_256 : decode cX1_carryOut 256 = .ok (.iload 8, 2) := by decide +kernel
theorem dX1_carryOut_258 : decode cX1_carryOut 258 = .ok (.if_icmp .ge 7, 3) := by decide +kernel
theorem dX1_carryOut_261 : decode cX1_carryOut 261 = .ok (.iconst 1, 1) := by decide +kernel
theorem dX1_carryOut_262 : decode cX1_carryOut 262 = .ok (.goto 48, 3) := by decide +kernel
theorem dX1_carryOut_265 : decode cX1_carryOut 265 = .ok (.iconst 0, 1) := by decide +kernel
theorem dX1_carryOut_266 : decode cX1_carryOut 266 = .ok (.goto 44, 3) := by decide +kernel
theorem dX1_carryOut_269 : decode cX1_carryOut 269 = .ok (.iload 4, 2) := by decide +kernel
theorem dX1_carryOut_271 : decode cX1_carryOut 271 = .ok (.bipush 6, 2) := by decide +kernel
theorem dX1_carryOut_273 : decode cX1_carryOut 273 = .ok (.if_icmp .ne 18, 3) := by decide +kernel
theorem dX1_carryOut_276 : decode cX1_carryOut 276 = .ok (.iload 7, 2) := by decide +kernel
theorem dX1_carryOut_278 : decode cX1_carryOut 278 = .ok (.iload 8, 2) := by decide +kernel
theorem dX1_carryOut_280 : decode cX1_carryOut 280 = .ok (.if_icmp .ne 7, 3) := by decide +kernel
theorem dX1_carryOut_283 : decode cX1_carryOut 283 = .ok (.iconst 1, 1) := by decide +kernel
theorem dX1_carryOut_284 : decode cX1_carryOut 284 = .ok (.goto 26, 3) := by decide +kernel
theorem dX1_carryOut_287 : decode cX1_carryOut 287 = .ok (.iconst 0, 1) := by decide +kernel
theorem dX1_carryOut_288 : decode cX1_carryOut 288 = .ok (.goto 22, 3) := by decide +kernel
theorem dX1_carryOut_291 : decode cX1_carryOut 291 = .ok (.iload 4, 2) := by decide +kernel
theorem dX1_carryOut_293 : decode cX1_carryOut 293 = .ok (.bipush 7, 2) := by decide +kernel
theorem dX1_carryOut_295 : decode cX1_carryOut 295 = .ok (.if_icmp .ne 10, 3) := by decide +kernel
theorem dX1_carryOut_298 : decode cX1_carryOut 298 = .ok (.iload 7, 2) := by decide +kernel
theorem dX1_carryOut_300 : decode cX1_carryOut 300 = .ok (.iload 8, 2) := by decide +kernel
theorem dX1_carryOut_302 : decode cX1_carryOut 302 = .ok (.if_icmp .eq 7, 3) := by decide +kernel
theorem dX1_carryOut_305 : decode cX1_carryOut 305 = .ok (.iconst 1, 1) := by decide +kernel
theorem dX1_carryOut_306 : decode cX1_carryOut 306 = .ok (.goto 4, 3) := by decide +kernel
theorem dX1_carryOut_309 : decode cX1_carryOut 309 = .ok (.iconst 0, 1) := by decide +kernel
theorem dX1_carryOut_310 : decode cX1_carryOut 310 = .ok (.ireturn, 1) := by decide +kernel
end
section
set_option maxRecDepth 100000
abbrev cX1_value : ByteArray := prog_3_method_15_code
def yX1_value : MethodName := ⟨RX1, "value", "(II)I"⟩
theorem dX1_value_0 : decode cX1_value 0 = .ok (.aload_n 0, 1) := by decide +kernel
theorem dX1_value_1 : decode cX1_value 1 = .ok (.invokevirtual 61, 3) := by decide +kernel
theorem dX1_value_4 : decode cX1_value 4 = .ok (.aload_n 0, 1) := by decide +kernel
theorem dX1_value_5 : decode cX1_value 5 = .ok (.iconst 0, 1) := by decide +kernel
theorem dX1_value_6 : decode cX1_value 6 = .ok (.aload_n 0, 1) := by decide +kernel
theorem dX1_value_7 : decode cX1_value 7 = .ok (.getfield 28, 3) := by decide +kernel
theorem dX1_value_10 : decode cX1_value 10 = .ok (.invokevirtual 51, 3) := by decide +kernel
theorem dX1_value_13 : decode cX1_value 13 = .ok (.istore_n 3, 1) := by decide +kernel
theorem dX1_value_14 : decode cX1_value 14 = .ok (.iconst 0, 1) := by decide +kernel
theorem dX1_value_15 : decode cX1_value 15 = .ok (.istore 4, 2) := by decide +kernel
theorem dX1_value_17 : decode cX1_value 17 = .ok (.iconst 0, 1) := by decide +kernel
theorem dX1_value_18 : decode cX1_value 18 = .ok (.istore 5, 2) := by decide +kernel
theorem dX1_value_20 : decode cX1_value 20 = .ok (.iload 5, 2) := by decide +kernel
theorem dX1_value_22 : decode cX1_value 22 = .ok (.iload_n 3, 1) := by decide +kernel
theorem dX1_value_23 : decode cX1_value 23 = .ok (.if_icmp .ge 46, 3) := by decide +kernel
theorem dX1_value_26 : decode cX1_value 26 = .ok (.aload_n 0, 1) := by decide +kernel
theorem dX1_value_27 : decode cX1_value 27 = .ok (.iload_n 2, 1) := by decide +kernel
theorem dX1_value_28 : decode cX1_value 28 = .ok (.invokevirtual 36, 3) := by decide +kernel
theorem dX1_value_31 : decode cX1_value 31 = .ok (.ifCond .eq 38, 3) := by decide +kernel
theorem dX1_value_34 : decode cX1_value 34 = .ok (.aload_n 0, 1) := by decide +kernel
theorem dX1_value_35 : decode cX1_value 35 = .ok (.iload 5, 2) := by decide +kernel
theorem dX1_value_37 : decode cX1_value 37 = .ok (.aload_n 0, 1) := by decide +kernel
theorem dX1_value_38 : decode cX1_value 38 = .ok (.getfield 28, 3) := by decide +kernel
theorem dX1_value_41 : decode cX1_value 41 = .ok (.invokevirtual 64, 3) := by decide +kernel
theorem dX1_value_44 : decode cX1_value 44 = .ok (.ifCond .eq 19, 3) := by decide +kernel
theorem dX1_value_47 : decode cX1_value 47 = .ok (.iload 4, 2) := by decide +kernel
theorem dX1_value_49 : decode cX1_value 49 = .ok (.iload_n 1, 1) := by decide +kernel
theorem dX1_value_50 : decode cX1_value 50 = .ok (.if_icmp .ne 10, 3) := by decide +kernel
theorem dX1_value_53 : decode cX1_value 53 = .ok (.aload_n 0, 1) := by decide +kernel
theorem dX1_value_54 : decode cX1_value 54 = .ok (.getfield 22, 3) := by decide +kernel
theorem dX1_value_57 : decode cX1_value 57 = .ok (.iload_n 2, 1) := by decide +kernel
theorem dX1_value_58 : decode cX1_value 58 = .ok (.iaload, 1) := by decide +kernel
theorem dX1_value_59 : decode cX1_value 59 = .ok (.ireturn, 1) := by decide +kernel
theorem dX1_value_60 : decode cX1_value 60 = .ok (.iinc 4 1, 3) := by decide +kernel
theorem dX1_value_63 : decode cX1_value 63 = .ok (.iinc 5 1, 3) := by decide +kernel
theorem dX1_value_66 : decode cX1_value 66 = .ok (.goto (-46), 3) := by decide +kernel
theorem dX1_value_69 : decode cX1_value 69 = .ok (.ldc 68, 2) := by decide +kernel
theorem dX1_value_71 : decode cX1_value 71 = .ok (.ireturn, 1) := by decide +kernel
abbrev cX1_countWith : ByteArray := prog_3_method_16_code
def yX1_countWith : MethodName := ⟨RX1, "countWith", "(II)I"⟩
theorem dX1_countWith_0 : decode cX1_countWith 0 = .ok (.aload_n 0, 1) := by decide +kernel
theorem dX1_countWith_1 : decode cX1_countWith 1 = .ok (.invokevirtual 61, 3) := by decide +kernel
theorem dX1_countWith_4 : decode cX1_countWith 4 = .ok (.aload_n 0, 1) := by decide +kernel
theorem dX1_countWith_5 : decode cX1_countWith 5 = .ok (.iconst 0, 1) := by decide +kernel
theorem dX1_countWith_6 : decode cX1_countWith 6 = .ok (.aload_n 0, 1) := by decide +kernel
theorem dX1_countWith_7 : decode cX1_countWith 7 = .ok (.getfield 28, 3) := by decide +kernel
theorem dX1_countWith_10 : decode cX1_countWith 10 = .ok (.invokevirtual 51, 3) := by decide +kernel
theorem dX1_countWith_13 : decode cX1_countWith 13 = .ok (.istore_n 3, 1) := by decide +kernel
theorem dX1_countWith_14 : decode cX1_countWith 14 = .ok (.iconst 0, 1) := by decide +kernel
theorem dX1_countWith_15 : decode cX1_countWith 15 = .ok (.istore 4, 2) := by decide +kernel
theorem dX1_countWith_17 : decode cX1_countWith 17 = .ok (.iconst 0, 1) := by decide +kernel
theorem dX1_countWith_18 : decode cX1_countWith 18 = .ok (.istore 5, 2) := by decide +kernel
theorem dX1_countWith_20 : decode cX1_countWith 20 = .ok (.iload 5, 2) := by decide +kernel
theorem dX1_countWith_22 : decode cX1_countWith 22 = .ok (.iload_n 3, 1) := by decide +kernel
theorem dX1_countWith_23 : decode cX1_countWith 23 = .ok (.if_icmp .ge 51, 3) := by decide +kernel
theorem dX1_countWith_26 : decode cX1_countWith 26 = .ok (.aload_n 0, 1) := by decide +kernel
theorem dX1_countWith_27 : decode cX1_countWith 27 = .ok (.iload_n 1, 1) := by decide +kernel
theorem dX1_countWith_28 : decode cX1_countWith 28 = .ok (.invokevirtual 36, 3) := by decide +kernel
theorem dX1_countWith_31 : decode cX1_countWith 31 = .ok (.ifCond .eq 43, 3) := by decide +kernel
theorem dX1_countWith_34 : decode cX1_countWith 34 = .ok (.aload_n 0, 1) := by decide +kernel
theorem dX1_countWith_35 : decode cX1_countWith 35 = .ok (.iload 5, 2) := by decide +kernel
theorem dX1_countWith_37 : decode cX1_countWith 37 = .ok (.aload_n 0, 1) := by decide +kernel
theorem dX1_countWith_38 : decode cX1_countWith 38 = .ok (.getfield 28, 3) := by decide +kernel
theorem dX1_countWith_41 : decode cX1_countWith 41 = .ok (.invokevirtual 64, 3) := by decide +kernel
theorem dX1_countWith_44 : decode cX1_countWith 44 = .ok (.ifCond .eq 20, 3) := by decide +kernel
theorem dX1_countWith_47 : decode cX1_countWith 47 = .ok (.aload_n 0, 1) := by decide +kernel
theorem dX1_countWith_48 : decode cX1_countWith 48 = .ok (.getfield 22, 3) := by decide +kernel
theorem dX1_countWith_51 : decode cX1_countWith 51 = .ok (.iload_n 1, 1) := by decide +kernel
theorem dX1_countWith_52 : decode cX1_countWith 52 = .ok (.iaload, 1) := by decide +kernel
theorem dX1_countWith_53 : decode cX1_countWith 53 = .ok (.iload_n 2, 1) := by decide +kernel
theorem dX1_countWith_54 : decode cX1_countWith 54 = .ok (.if_icmp .ne 10, 3) := by decide +kernel
theorem dX1_countWith_57 : decode cX1_countWith 57 = .ok (.iload 4, 2) := by decide +kernel
theorem dX1_countWith_59 : decode cX1_countWith 59 = .ok (.iconst 1, 1) := by decide +kernel
theorem dX1_countWith_60 : decode cX1_countWith 60 = .ok (.iadd, 1) := by decide +kernel
theorem dX1_countWith_61 : decode cX1_countWith 61 = .ok (.goto 5, 3) := by decide +kernel
theorem dX1_countWith_64 : decode cX1_countWith 64 = .ok (.iload 4, 2) := by decide +kernel
theorem dX1_countWith_66 : decode cX1_countWith 66 = .ok (.istore 4, 2) := by decide +kernel
theorem dX1_countWith_68 : decode cX1_countWith 68 = .ok (.iinc 5 1, 3) := by decide +kernel
theorem dX1_countWith_71 : decode cX1_countWith 71 = .ok (.goto (-51), 3) := by decide +kernel
theorem dX1_countWith_74 : decode cX1_countWith 74 = .ok (.iload 4, 2) := by decide +kernel
theorem dX1_countWith_76 : decode cX1_countWith 76 = .ok (.ireturn, 1) := by decide +kernel
abbrev cX1_firstWith : ByteArray := prog_3_method_17_code
def yX1_firstWith : MethodName := ⟨RX1, "firstWith", "(II)I"⟩
theorem dX1_firstWith_0 : decode cX1_firstWith 0 = .ok (.aload_n 0, 1) := by decide +kernel
theorem dX1_firstWith_1 : decode cX1_firstWith 1 = .ok (.invokevirtual 61, 3) := by decide +kernel
theorem dX1_firstWith_4 : decode cX1_firstWith 4 = .ok (.aload_n 0, 1) := by decide +kernel
theorem dX1_firstWith_5 : decode cX1_firstWith 5 = .ok (.iconst 0, 1) := by decide +kernel
theorem dX1_firstWith_6 : decode cX1_firstWith 6 = .ok (.aload_n 0, 1) := by decide +kernel
theorem dX1_firstWith_7 : decode cX1_firstWith 7 = .ok (.getfield 28, 3) := by decide +kernel
theorem dX1_firstWith_10 : decode cX1_firstWith 10 = .ok (.invokevirtual 51, 3) := by decide +kernel
theorem dX1_firstWith_13 : decode cX1_firstWith 13 = .ok (.istore_n 3, 1) := by decide +kernel
theorem dX1_firstWith_14 : decode cX1_firstWith 14 = .ok (.iconst 0, 1) := by decide +kernel
theorem dX1_firstWith_15 : decode cX1_firstWith 15 = .ok (.istore 4, 2) := by decide +kernel
theorem dX1_firstWith_17 : decode cX1_firstWith 17 = .ok (.iconst 0, 1) := by decide +kernel
theorem dX1_firstWith_18 : decode cX1_firstWith 18 = .ok (.istore 5, 2) := by decide +kernel
theorem dX1_firstWith_20 : decode cX1_firstWith 20 = .ok (.iload 5, 2) := by decide +kernel
theorem dX1_firstWith_22 : decode cX1_firstWith 22 = .ok (.iload_n 3, 1) := by decide +kernel
theorem dX1_firstWith_23 : decode cX1_firstWith 23 = .ok (.if_icmp .ge 46, 3) := by decide +kernel
theorem dX1_firstWith_26 : decode cX1_firstWith 26 = .ok (.aload_n 0, 1) := by decide +kernel
theorem dX1_firstWith_27 : decode cX1_firstWith 27 = .ok (.iload_n 1, 1) := by decide +kernel
theorem dX1_firstWith_28 : decode cX1_firstWith 28 = .ok (.invokevirtual 36, 3) := by decide +kernel
theorem dX1_firstWith_31 : decode cX1_firstWith 31 = .ok (.ifCond .eq 38, 3) := by decide +kernel
theorem dX1_firstWith_34 : decode cX1_firstWith 34 = .ok (.aload_n 0, 1) := by decide +kernel
theorem dX1_firstWith_35 : decode cX1_firstWith 35 = .ok (.iload 5, 2) := by decide +kernel
theorem dX1_firstWith_37 : decode cX1_firstWith 37 = .ok (.aload_n 0, 1) := by decide +kernel
theorem dX1_firstWith_38 : decode cX1_firstWith 38 = .ok (.getfield 28, 3) := by decide +kernel
theorem dX1_firstWith_41 : decode cX1_firstWith 41 = .ok (.invokevirtual 64, 3) := by decide +kernel
theorem dX1_firstWith_44 : decode cX1_firstWith 44 = .ok (.ifCond .eq 19, 3) := by decide +kernel
theorem dX1_firstWith_47 : decode cX1_firstWith 47 = .ok (.aload_n 0, 1) := by decide +kernel
theorem dX1_firstWith_48 : decode cX1_firstWith 48 = .ok (.getfield 22, 3) := by decide +kernel
theorem dX1_firstWith_51 : decode cX1_firstWith 51 = .ok (.iload_n 1, 1) := by decide +kernel
theorem dX1_firstWith_52 : decode cX1_firstWith 52 = .ok (.iaload, 1) := by decide +kernel
theorem dX1_firstWith_53 : decode cX1_firstWith 53 = .ok (.iload_n 2, 1) := by decide +kernel
theorem dX1_firstWith_54 : decode cX1_firstWith 54 = .ok (.if_icmp .ne 6, 3) := by decide +kernel
theorem dX1_firstWith_57 : decode cX1_firstWith 57 = .ok (.iload 4, 2) := by decide +kernel
theorem dX1_firstWith_59 : decode cX1_firstWith 59 = .ok (.ireturn, 1) := by decide +kernel
theorem dX1_firstWith_60 : decode cX1_firstWith 60 = .ok (.iinc 4 1, 3) := by decide +kernel
theorem dX1_firstWith_63 : decode cX1_firstWith 63 = .ok (.iinc 5 1, 3) := by decide +kernel
theorem dX1_firstWith_66 : decode cX1_firstWith 66 = .ok (.goto (-46), 3) := by decide +kernel
theorem dX1_firstWith_69 : decode cX1_firstWith 69 = .ok (.iconst (-1), 1) := by decide +kernel
theorem dX1_firstWith_70 : decode cX1_firstWith 70 = .ok (.ireturn, 1) := by decide +kernel
abbrev cX1_extreme : ByteArray := prog_3_method_18_code
def yX1_extreme : MethodName := ⟨RX1, "extreme", "(II)I"⟩
theorem dX1_extreme_0 : decode cX1_extreme 0 = .ok (.aload_n 0, 1) := by decide +kernel
theorem dX1_extreme_1 : decode cX1_extreme 1 = .ok (.invokevirtual 61, 3) := by decide +kernel
theorem dX1_extreme_4 : decode cX1_extreme 4 = .ok (.aload_n 0, 1) := by decide +kernel
theorem dX1_extreme_5 : decode cX1_extreme 5 = .ok (.iconst 0, 1) := by decide +kernel
theorem dX1_extreme_6 : decode cX1_extreme 6 = .ok (.aload_n 0, 1) := by decide +kernel
theorem dX1_extreme_7 : decode cX1_extreme 7 = .ok (.getfield 28, 3) := by decide +kernel
theorem dX1_extreme_10 : decode cX1_extreme 10 = .ok (.invokevirtual 51, 3) := by decide +kernel
theorem dX1_extreme_13 : decode cX1_extreme 13 = .ok (.istore_n 3, 1) := by decide +kernel
theorem dX1_extreme_14 : decode cX1_extreme 14 = .ok (.ldc 68, 2) := by decide +kernel
theorem dX1_extreme_16 : decode cX1_extreme 16 = .ok (.istore 4, 2) := by decide +kernel
theorem dX1_extreme_18 : decode cX1_extreme 18 = .ok (.iconst 0, 1) := by decide +kernel
theorem dX1_extreme_19 : decode cX1_extreme 19 = .ok (.istore 5, 2) := by decide +kernel
theorem dX1_extreme_21 : decode cX1_extreme 21 = .ok (.iconst 0, 1) := by decide +kernel
theorem dX1_extreme_22 : decode cX1_extreme 22 = .ok (.istore 6, 2) := by decide +kernel
theorem dX1_extreme_24 : decode cX1_extreme 24 = .ok (.iload 6, 2) := by decide +kernel
theorem dX1_extreme_26 : decode cX1_extreme 26 = .ok (.iload_n 3, 1) := by decide +kernel
theorem dX1_extreme_27 : decode cX1_extreme 27 = .ok (.if_icmp .ge 101, 3) := by decide +kernel
theorem dX1_extreme_30 : decode cX1_extreme 30 = .ok (.aload_n 0, 1) := by decide +kernel
theorem dX1_extreme_31 : decode cX1_extreme 31 = .ok (.iload_n 1, 1) := by decide +kernel
theorem dX1_extreme_32 : decode cX1_extreme 32 = .ok (.invokevirtual 36, 3) := by decide +kernel
theorem dX1_extreme_35 : decode cX1_extreme 35 = .ok (.ifCond .eq 93, 3) := by decide +kernel
theorem dX1_extreme_38 : decode cX1_extreme 38 = .ok (.iload_n 2, 1) := by decide +kernel
theorem dX1_extreme_39 : decode cX1_extreme 39 = .ok (.ifCond .eq 8, 3) := by decide +kernel
theorem dX1_extreme_42 : decode cX1_extreme 42 = .ok (.iload_n 2, 1) := by decide +kernel
theorem dX1_extreme_43 : decode cX1_extreme 43 = .ok (.iconst 1, 1) := by decide +kernel
theorem dX1_extreme_44 : decode cX1_extreme 44 = .ok (.if_icmp .ne 84, 3) := by decide +kernel
theorem dX1_extreme_47 : decode cX1_extreme 47 = .ok (.aload_n 0, 1) := by decide +kernel
theorem dX1_extreme_48 : decode cX1_extreme 48 = .ok (.iload 6, 2) := by decide +kernel
theorem dX1_extreme_50 : decode cX1_extreme 50 = .ok (.aload_n 0, 1) := by decide +kernel
theorem dX1_extreme_51 : decode cX1_extreme 51 = .ok (.getfield 28, 3) := by decide +kernel
theorem dX1_extreme_54 : decode cX1_extreme 54 = .ok (.invokevirtual 64, 3) := by decide +kernel
theorem dX1_extreme_57 : decode cX1_extreme 57 = .ok (.ifCond .eq 65, 3) := by decide +kernel
theorem dX1_extreme_60 : decode cX1_extreme 60 = .ok (.iload 5, 2) := by decide +kernel
theorem dX1_extreme_62 : decode cX1_extreme 62 = .ok (.ifCond .eq 32, 3) := by decide +kernel
theorem dX1_extreme_65 : decode cX1_extreme 65 = .ok (.iload_n 2, 1) := by decide +kernel
theorem dX1_extreme_66 : decode cX1_extreme 66 = .ok (.ifCond .ne 17, 3) := by decide +kernel
theorem dX1_extreme_69 : decode cX1_extreme 69 = .ok (.aload_n 0, 1) := by decide +kernel
theorem dX1_extreme_70 : decode cX1_extreme 70 = .ok (.getfield 22, 3) := by decide +kernel
theorem dX1_extreme_73 : decode cX1_extreme 73 = .ok (.iload_n 1, 1) := by decide +kernel
theorem dX1_extreme_74 : decode cX1_extreme 74 = .ok (.iaload, 1) := by decide +kernel
theorem dX1_extreme_75 : decode cX1_extreme 75 = .ok (.iload 4, 2) := by decide +kernel
theorem dX1_extreme_77 : decode cX1_extreme 77 = .ok (.if_icmp .ge 21, 3) := by decide +kernel
theorem dX1_extreme_80 : decode cX1_extreme 80 = .ok (.goto 14, 3) := by decide +kernel
theorem dX1_extreme_83 : decode cX1_extreme 83 = .ok (.aload_n 0, 1) := by decide +kernel
theorem dX1_extreme_84 : decode cX1_extreme 84 = .ok (.getfield 22, 3) := by decide +kernel
theorem dX1_extreme_87 : decode cX1_extreme 87 = .ok (.iload_n 1, 1) := by decide +kernel
theorem dX1_extreme_88 : decode cX1_extreme 88 = .ok (.iaload, 1) := by decide +kernel
theorem dX1_extreme_89 : decode cX1_extreme 89 = .ok (.iload 4, 2) := by decide +kernel
theorem dX1_extreme_91 : decode cX1_extreme 91 = .ok (.if_icmp .le 7, 3) := by decide +kernel
theorem dX1_extreme_94 : decode cX1_extreme 94 = .ok (.iconst 1, 1) := by decide +kernel
theorem dX1_extreme_95 : decode cX1_extreme 95 = .ok (.goto 4, 3) := by decide +kernel
theorem dX1_extreme_98 : decode cX1_extreme 98 = .ok (.iconst 0, 1) := by decide +kernel
theorem dX1_extreme_99 : decode cX1_extreme 99 = .ok (.istore 7, 2) := by decide +kernel
theorem dX1_extreme_101 : decode cX1_extreme 101 = .ok (.iload 7, 2) := by decide +kernel
theorem dX1_extreme_103 : decode cX1_extreme 103 = .ok (.ifCond .eq 12, 3) := by decide +kernel
theorem dX1_extreme_106 : decode cX1_extreme 106 = .ok (.aload_n 0, 1) := by decide +kernel
theorem dX1_extreme_107 : decode cX1_extreme 107 = .ok (.getfield 22, 3) := by decide +kernel
theorem dX1_extreme_110 : decode cX1_extreme 110 = .ok (.iload_n 1, 1) := by decide +kernel
theorem dX1_extreme_111 : decode cX1_extreme 111 = .ok (.iaload, 1) := by decide +kernel
theorem dX1_extreme_112 : decode cX1_extreme 112 = .ok (.goto 5, 3) := by decide +kernel
theorem dX1_extreme_115 : decode cX1_extreme 115 = .ok (.iload 4, 2) := by decide +kernel
theorem dX1_extreme_117 : decode cX1_extreme 117 = .ok (.istore 4, 2) := by decide +kernel
theorem dX1_extreme_119 : decode cX1_extreme 119 = .ok (.iconst 1, 1) := by decide +kernel
theorem dX1_extreme_120 : decode cX1_extreme 120 = .ok (.istore 5, 2) := by decide +kernel
theorem dX1_extreme_122 : decode cX1_extreme 122 = .ok (.iinc 6 1, 3) := by decide +kernel
theorem dX1_extreme_125 : decode cX1_extreme 125 = .ok (.goto (-101), 3) := by decide +kernel
theorem dX1_extreme_128 : decode cX1_extreme 128 = .ok (.iload 4, 2) := by decide +kernel
theorem dX1_extreme_130 : decode cX1_extreme 130 = .ok (.ireturn, 1) := by decide +kernel
end
section
set_option maxRecDepth 100000
theorem q22 : (Jvm.Cond.initialized "SearchMachineModel") ∈ lw_all := lw_g (lw_at lw_m1 2 rfl) rfl
theorem q170 : (Jvm.Cond.instantiable "SearchMachineModel" (7 : Nat)) ∈ lw_all := lw_g (lw_at lw_m1 150 rfl) rfl
theorem q172 : (Jvm.Cond.instanceMethod ({ cls := "SearchMachineModel", name := "<init>", desc := "()V" } : Jvm.MethodName)) ∈ lw_all := lw_g (lw_at lw_m1 152 rfl) rfl
theorem q173 : (Jvm.Cond.code ({ cls := "SearchMachineModel", name := "<init>", desc := "()V" } : Jvm.MethodName) prog_3_method_1_code (1 : Nat) (Option.none : Option Jvm.ClassFile.FieldType)) ∈ lw_all := lw_g (lw_at lw_m1 153 rfl) rfl
theorem q174 : (Jvm.Cond.methodLink "SearchMachineModel" (1 : Nat) ({ cls := "java/lang/Object", name := "<init>", desc := "()V" } : Jvm.MethodName)) ∈ lw_all := lw_g (lw_at lw_m1 154 rfl) rfl
theorem q175 : (Jvm.Cond.fieldLink "SearchMachineModel" (28 : Nat) "SearchMachineModel" "size" "I") ∈ lw_all := lw_g (lw_at lw_m1 155 rfl) rfl
theorem q176 : (Jvm.Cond.fieldLink "SearchMachineModel" (7 : Nat) "SearchMachineModel" "kinds" "[I") ∈ lw_all := lw_g (lw_at lw_m1 156 rfl) rfl
theorem q177 : (Jvm.Cond.fieldLink "SearchMachineModel" (13 : Nat) "SearchMachineModel" "as" "[I") ∈ lw_all := lw_g (lw_at lw_m1 157 rfl) rfl
theorem q178 : (Jvm.Cond.fieldLink "SearchMachineModel" (16 : Nat) "SearchMachineModel" "bs" "[I") ∈ lw_all := lw_g (lw_at lw_m1 158 rfl) rfl
theorem q179 : (Jvm.Cond.fieldLink "SearchMachineModel" (19 : Nat) "SearchMachineModel" "cs" "[I") ∈ lw_all := lw_g (lw_at lw_m1 159 rfl) rfl
theorem q180 : (Jvm.Cond.fieldLink "SearchMachineModel" (22 : Nat) "SearchMachineModel" "vars" "[I") ∈ lw_all := lw_g (lw_at lw_m1 160 rfl) rfl
theorem q181 : (Jvm.Cond.fieldLink "SearchMachineModel" (25 : Nat) "SearchMachineModel" "first" "[I") ∈ lw_all := lw_g (lw_at lw_m1 161 rfl) rfl
theorem q182 : (Jvm.Cond.lays "SearchMachineModel" "SearchMachineModel" "size" "I") ∈ lw_all := lw_g (lw_at lw_m1 162 rfl) rfl
theorem q183 : (Jvm.Cond.soleField "SearchMachineModel" "size") ∈ lw_all := lw_g (lw_at lw_m1 163 rfl) rfl
theorem q184 : (Jvm.Cond.lays "SearchMachineModel" "SearchMachineModel" "kinds" "[I") ∈ lw_all := lw_g (lw_at lw_m1 164 rfl) rfl
theorem q185 : (Jvm.Cond.soleField "SearchMachineModel" "kinds") ∈ lw_all := lw_g (lw_at lw_m1 165 rfl) rfl
theorem q186 : (Jvm.Cond.lays "SearchMachineModel" "SearchMachineModel" "as" "[I") ∈ lw_all := lw_g (lw_at lw_m1 166 rfl) rfl
theorem q187 : (Jvm.Cond.soleField "SearchMachineModel" "as") ∈ lw_all := lw_g (lw_at lw_m1 167 rfl) rfl
theorem q188 : (Jvm.Cond.lays "SearchMachineModel" "SearchMachineModel" "bs" "[I") ∈ lw_all := lw_g (lw_at lw_m1 168 rfl) rfl
theorem q189 : (Jvm.Cond.soleField "SearchMachineModel" "bs") ∈ lw_all := lw_g (lw_at lw_m1 169 rfl) rfl
theorem q190 : (Jvm.Cond.lays "SearchMachineModel" "SearchMachineModel" "cs" "[I") ∈ lw_all := lw_g (lw_at lw_m1 170 rfl) rfl
theorem q191 : (Jvm.Cond.soleField "SearchMachineModel" "cs") ∈ lw_all := lw_g (lw_at lw_m1 171 rfl) rfl
theorem q192 : (Jvm.Cond.lays "SearchMachineModel" "SearchMachineModel" "vars" "[I") ∈ lw_all := lw_g (lw_at lw_m1 172 rfl) rfl
theorem q193 : (Jvm.Cond.soleField "SearchMachineModel" "vars") ∈ lw_all := lw_g (lw_at lw_m1 173 rfl) rfl
theorem q194 : (Jvm.Cond.lays "SearchMachineModel" "SearchMachineModel" "first" "[I") ∈ lw_all := lw_g (lw_at lw_m1 174 rfl) rfl
theorem q195 : (Jvm.Cond.soleField "SearchMachineModel" "first") ∈ lw_all := lw_g (lw_at lw_m1 175 rfl) rfl
theorem q196 : (Jvm.Cond.superclass "SearchMachineModel" "java/lang/Object") ∈ lw_all := lw_g (lw_at lw_m1 176 rfl) rfl
theorem q198 : (Jvm.Cond.instanceMethod ({ cls := "SearchMachineModel", name := "step", desc := "(III)I" } : Jvm.MethodName)) ∈ lw_all := lw_g (lw_at lw_m1 178 rfl) rfl
theorem q199 : (Jvm.Cond.selects "SearchMachineModel" ({ cls := "SearchMachineModel", name := "step", desc := "(III)I" } : Jvm.MethodName) ({ cls := "SearchMachineModel", name := "step", desc := "(III)I" } : Jvm.MethodName)) ∈ lw_all := lw_g (lw_at lw_m1 179 rfl) rfl
theorem q200 : (Jvm.Cond.code ({ cls := "SearchMachineModel", name := "step", desc := "(III)I" } : Jvm.MethodName) prog_3_method_6_code (4 : Nat) (Option.some Jvm.ClassFile.FieldType.int)) ∈ lw_all := lw_g (lw_at lw_m1 180 rfl) rfl
theorem q201 : (Jvm.Cond.methodLink "SearchMachineModel" (39 : Nat) ({ cls := "SearchMachineModel", name := "good", desc := "(III)Z" } : Jvm.MethodName)) ∈ lw_all := lw_g (lw_at lw_m1 181 rfl) rfl
theorem q202 : (Jvm.Cond.privateMethod ({ cls := "SearchMachineModel", name := "good", desc := "(III)Z" } : Jvm.MethodName)) ∈ lw_tbl := lw_at lw_m1 182 rfl
theorem q203 : (Jvm.Cond.instanceMethod ({ cls := "SearchMachineModel", name := "good", desc := "(III)Z" } : Jvm.MethodName)) ∈ lw_all := lw_g (lw_at lw_m1 183 rfl) rfl
theorem q204 : (Jvm.Cond.code ({ cls := "SearchMachineModel", name := "good", desc := "(III)Z" } : Jvm.MethodName) prog_3_method_5_code (4 : Nat) (Option.some Jvm.ClassFile.FieldType.boolean)) ∈ lw_all := lw_g (lw_at lw_m1 184 rfl) rfl
theorem q205 : (Jvm.Cond.methodLink "SearchMachineModel" (36 : Nat) ({ cls := "SearchMachineModel", name := "variable", desc := "(I)Z" } : Jvm.MethodName)) ∈ lw_all := lw_g (lw_at lw_m1 185 rfl) rfl
theorem q206 : (Jvm.Cond.privateMethod ({ cls := "SearchMachineModel", name := "variable", desc := "(I)Z" } : Jvm.MethodName)) ∈ lw_tbl := lw_at lw_m1 186 rfl
theorem q207 : (Jvm.Cond.instanceMethod ({ cls := "SearchMachineModel", name := "variable", desc := "(I)Z" } : Jvm.MethodName)) ∈ lw_all := lw_g (lw_at lw_m1 187 rfl) rfl
theorem q208 : (Jvm.Cond.code ({ cls := "SearchMachineModel", name := "variable", desc := "(I)Z" } : Jvm.MethodName) prog_3_method_2_code (2 : Nat) (Option.some Jvm.ClassFile.FieldType.boolean)) ∈ lw_all := lw_g (lw_at lw_m1 188 rfl) rfl
theorem q209 : (Jvm.Cond.methodLink "SearchMachineModel" (32 : Nat) ({ cls := "SearchMachineModel", name := "choice", desc := "(I)Z" } : Jvm.MethodName)) ∈ lw_all := lw_g (lw_at lw_m1 189 rfl) rfl
theorem q210 : (Jvm.Cond.privateMethod ({ cls := "SearchMachineModel", name := "choice", desc := "(I)Z" } : Jvm.MethodName)) ∈ lw_tbl := lw_at lw_m1 190 rfl
theorem q211 : (Jvm.Cond.instanceMethod ({ cls := "SearchMachineModel", name := "choice", desc := "(I)Z" } : Jvm.MethodName)) ∈ lw_all := lw_g (lw_at lw_m1 191 rfl) rfl
theorem q212 : (Jvm.Cond.code ({ cls := "SearchMachineModel", name := "choice", desc := "(I)Z" } : Jvm.MethodName) prog_3_method_3_code (2 : Nat) (Option.some Jvm.ClassFile.FieldType.boolean)) ∈ lw_all := lw_g (lw_at lw_m1 192 rfl) rfl
theorem q213 : (Jvm.Cond.methodLink "SearchMachineModel" (43 : Nat) ({ cls := "SearchMachineModel", name := "choices", desc := "()I" } : Jvm.MethodName)) ∈ lw_all := lw_g (lw_at lw_m1 193 rfl) rfl
theorem q214 : (Jvm.Cond.privateMethod ({ cls := "SearchMachineModel", name := "choices", desc := "()I" } : Jvm.MethodName)) ∈ lw_tbl := lw_at lw_m1 194 rfl
theorem q215 : (Jvm.Cond.instanceMethod ({ cls := "SearchMachineModel", name := "choices", desc := "()I" } : Jvm.MethodName)) ∈ lw_all := lw_g (lw_at lw_m1 195 rfl) rfl
theorem q216 : (Jvm.Cond.code ({ cls := "SearchMachineModel", name := "choices", desc := "()I" } : Jvm.MethodName) prog_3_method_4_code (3 : Nat) (Option.some Jvm.ClassFile.FieldType.int)) ∈ lw_all := lw_g (lw_at lw_m1 196 rfl) rfl
theorem q218 : (Jvm.Cond.instanceMethod ({ cls := "SearchMachineModel", name := "drop", desc := "()I" } : Jvm.MethodName)) ∈ lw_all := lw_g (lw_at lw_m1 198 rfl) rfl
theorem q219 : (Jvm.Cond.selects "SearchMachineModel" ({ cls := "SearchMachineModel", name := "drop", desc := "()I" } : Jvm.MethodName) ({ cls := "SearchMachineModel", name := "drop", desc := "()I" } : Jvm.MethodName)) ∈ lw_all := lw_g (lw_at lw_m1 199 rfl) rfl
theorem q220 : (Jvm.Cond.code ({ cls := "SearchMachineModel", name := "drop", desc := "()I" } : Jvm.MethodName) prog_3_method_7_code (1 : Nat) (Option.some Jvm.ClassFile.FieldType.int)) ∈ lw_all := lw_g (lw_at lw_m1 200 rfl) rfl
theorem q222 : (Jvm.Cond.instanceMethod ({ cls := "SearchMachineModel", name := "length", desc := "()I" } : Jvm.MethodName)) ∈ lw_all := lw_g (lw_at lw_m1 202 rfl) rfl
theorem q223 : (Jvm.Cond.selects "SearchMachineModel" ({ cls := "SearchMachineModel", name := "length", desc := "()I" } : Jvm.MethodName) ({ cls := "SearchMachineModel", name := "length", desc := "()I" } : Jvm.MethodName)) ∈ lw_all := lw_g (lw_at lw_m1 203 rfl) rfl
theorem q224 : (Jvm.Cond.code ({ cls := "SearchMachineModel", name := "length", desc := "()I" } : Jvm.MethodName) prog_3_method_8_code (1 : Nat) (Option.some Jvm.ClassFile.FieldType.int)) ∈ lw_all := lw_g (lw_at lw_m1 204 rfl) rfl
theorem q226 : (Jvm.Cond.instanceMethod ({ cls := "SearchMachineModel", name := "answers", desc := "()I" } : Jvm.MethodName)) ∈ lw_all := lw_g (lw_at lw_m1 206 rfl) rfl
theorem q227 : (Jvm.Cond.selects "SearchMachineModel" ({ cls := "SearchMachineModel", name := "answers", desc := "()I" } : Jvm.MethodName) ({ cls := "SearchMachineModel", name := "answers", desc := "()I" } : Jvm.MethodName)) ∈ lw_all := lw_g (lw_at lw_m1 207 rfl) rfl
theorem q228 : (Jvm.Cond.code ({ cls := "SearchMachineModel", name := "answers", desc := "()I" } : Jvm.MethodName) prog_3_method_14_code (1 : Nat) (Option.some Jvm.ClassFile.FieldType.int)) ∈ lw_all := lw_g (lw_at lw_m1 208 rfl) rfl
theorem q229 : (Jvm.Cond.methodLink "SearchMachineModel" (58 : Nat) ({ cls := "SearchMachineModel", name := "ways", desc := "(I)I" } : Jvm.MethodName)) ∈ lw_all := lw_g (lw_at lw_m1 209 rfl) rfl
theorem q230 : (Jvm.Cond.instanceMethod ({ cls := "SearchMachineModel", name := "ways", desc := "(I)I" } : Jvm.MethodName)) ∈ lw_all := lw_g (lw_at lw_m1 210 rfl) rfl
theorem q231 : (Jvm.Cond.selects "SearchMachineModel" ({ cls := "SearchMachineModel", name := "ways", desc := "(I)I" } : Jvm.MethodName) ({ cls := "SearchMachineModel", name := "ways", desc := "(I)I" } : Jvm.MethodName)) ∈ lw_all := lw_g (lw_at lw_m1 211 rfl) rfl
theorem q232 : (Jvm.Cond.code ({ cls := "SearchMachineModel", name := "ways", desc := "(I)I" } : Jvm.MethodName) prog_3_method_19_code (5 : Nat) (Option.some Jvm.ClassFile.FieldType.int)) ∈ lw_all := lw_g (lw_at lw_m1 212 rfl) rfl
theorem q233 : (Jvm.Cond.methodLink "SearchMachineModel" (61 : Nat) ({ cls := "SearchMachineModel", name := "begin", desc := "()V" } : Jvm.MethodName)) ∈ lw_all := lw_g (lw_at lw_m1 213 rfl) rfl
theorem q234 : (Jvm.Cond.privateMethod ({ cls := "SearchMachineModel", name := "begin", desc := "()V" } : Jvm.MethodName)) ∈ lw_tbl := lw_at lw_m1 214 rfl
theorem q235 : (Jvm.Cond.instanceMethod ({ cls := "SearchMachineModel", name := "begin", desc := "()V" } : Jvm.MethodName)) ∈ lw_all := lw_g (lw_at lw_m1 215 rfl) rfl
theorem q236 : (Jvm.Cond.code ({ cls := "SearchMachineModel", name := "begin", desc := "()V" } : Jvm.MethodName) prog_3_method_13_code (2 : Nat) (Option.none : Option Jvm.ClassFile.FieldType)) ∈ lw_all := lw_g (lw_at lw_m1 216 rfl) rfl
theorem q237 : (Jvm.Cond.methodLink "SearchMachineModel" (51 : Nat) ({ cls := "SearchMachineModel", name := "between", desc := "(II)I" } : Jvm.MethodName)) ∈ lw_all := lw_g (lw_at lw_m1 217 rfl) rfl
theorem q238 : (Jvm.Cond.privateMethod ({ cls := "SearchMachineModel", name := "between", desc := "(II)I" } : Jvm.MethodName)) ∈ lw_tbl := lw_at lw_m1 218 rfl
theorem q239 : (Jvm.Cond.instanceMethod ({ cls := "SearchMachineModel", name := "between", desc := "(II)I" } : Jvm.MethodName)) ∈ lw_all := lw_g (lw_at lw_m1 219 rfl) rfl
theorem q240 : (Jvm.Cond.code ({ cls := "SearchMachineModel", name := "between", desc := "(II)I" } : Jvm.MethodName) prog_3_method_10_code (5 : Nat) (Option.some Jvm.ClassFile.FieldType.int)) ∈ lw_all := lw_g (lw_at lw_m1 220 rfl) rfl
theorem q241 : (Jvm.Cond.methodLink "SearchMachineModel" (47 : Nat) ({ cls := "SearchMachineModel", name := "options", desc := "(I)I" } : Jvm.MethodName)) ∈ lw_all := lw_g (lw_at lw_m1 221 rfl) rfl
theorem q242 : (Jvm.Cond.privateMethod ({ cls := "SearchMachineModel", name := "options", desc := "(I)I" } : Jvm.MethodName)) ∈ lw_tbl := lw_at lw_m1 222 rfl
theorem q243 : (Jvm.Cond.instanceMethod ({ cls := "SearchMachineModel", name := "options", desc := "(I)I" } : Jvm.MethodName)) ∈ lw_all := lw_g (lw_at lw_m1 223 rfl) rfl
theorem q244 : (Jvm.Cond.code ({ cls := "SearchMachineModel", name := "options", desc := "(I)I" } : Jvm.MethodName) prog_3_method_9_code (2 : Nat) (Option.some Jvm.ClassFile.FieldType.int)) ∈ lw_all := lw_g (lw_at lw_m1 224 rfl) rfl
theorem q245 : (Jvm.Cond.methodLink "SearchMachineModel" (64 : Nat) ({ cls := "SearchMachineModel", name := "run", desc := "(II)Z" } : Jvm.MethodName)) ∈ lw_all := lw_g (lw_at lw_m1 225 rfl) rfl
theorem q246 : (Jvm.Cond.privateMethod ({ cls := "SearchMachineModel", name := "run", desc := "(II)Z" } : Jvm.MethodName)) ∈ lw_tbl := lw_at lw_m1 226 rfl
theorem q247 : (Jvm.Cond.instanceMethod ({ cls := "SearchMachineModel", name := "run", desc := "(II)Z" } : Jvm.MethodName)) ∈ lw_all := lw_g (lw_at lw_m1 227 rfl) rfl
theorem q248 : (Jvm.Cond.code ({ cls := "SearchMachineModel", name := "run", desc := "(II)Z" } : Jvm.MethodName) prog_3_method_12_code (9 : Nat) (Option.some Jvm.ClassFile.FieldType.boolean)) ∈ lw_all := lw_g (lw_at lw_m1 228 rfl) rfl
theorem q249 : (Jvm.Cond.methodLink "SearchMachineModel" (55 : Nat) ({ cls := "SearchMachineModel", name := "carryOut", desc := "(III)Z" } : Jvm.MethodName)) ∈ lw_all := lw_g (lw_at lw_m1 229 rfl) rfl
theorem q250 : (Jvm.Cond.privateMethod ({ cls := "SearchMachineModel", name := "carryOut", desc := "(III)Z" } : Jvm.MethodName)) ∈ lw_tbl := lw_at lw_m1 230 rfl
theorem q251 : (Jvm.Cond.instanceMethod ({ cls := "SearchMachineModel", name := "carryOut", desc := "(III)Z" } : Jvm.MethodName)) ∈ lw_all := lw_g (lw_at lw_m1 231 rfl) rfl
theorem q252 : (Jvm.Cond.code ({ cls := "SearchMachineModel", name := "carryOut", desc := "(III)Z" } : Jvm.MethodName) prog_3_method_11_code (10 : Nat) (Option.some Jvm.ClassFile.FieldType.boolean)) ∈ lw_all := lw_g (lw_at lw_m1 232 rfl) rfl
theorem q254 : (Jvm.Cond.instanceMethod ({ cls := "SearchMachineModel", name := "value", desc := "(II)I" } : Jvm.MethodName)) ∈ lw_all := lw_g (lw_at lw_m1 234 rfl) rfl
theorem q255 : (Jvm.Cond.selects "SearchMachineModel" ({ cls := "SearchMachineModel", name := "value", desc := "(II)I" } : Jvm.MethodName) ({ cls := "SearchMachineModel", name := "value", desc := "(II)I" } : Jvm.MethodName)) ∈ lw_all := lw_g (lw_at lw_m1 235 rfl) rfl
theorem q256 : (Jvm.Cond.code ({ cls := "SearchMachineModel", name := "value", desc := "(II)I" } : Jvm.MethodName) prog_3_method_15_code (6 : Nat) (Option.some Jvm.ClassFile.FieldType.int)) ∈ lw_all := lw_g (lw_at lw_m1 236 rfl) rfl
theorem q257 : (Jvm.Cond.constant "SearchMachineModel" (68 : Nat) (-1000000000 : Int32)) ∈ lw_all := lw_g (lw_at lw_m1 237 rfl) rfl
theorem q259 : (Jvm.Cond.instanceMethod ({ cls := "SearchMachineModel", name := "countWith", desc := "(II)I" } : Jvm.MethodName)) ∈ lw_all := lw_g (lw_at lw_m1 239 rfl) rfl
theorem q260 : (Jvm.Cond.selects "SearchMachineModel" ({ cls := "SearchMachineModel", name := "countWith", desc := "(II)I" } : Jvm.MethodName) ({ cls := "SearchMachineModel", name := "countWith", desc := "(II)I" } : Jvm.MethodName)) ∈ lw_all := lw_g (lw_at lw_m2 0 rfl) rfl
theorem q261 : (Jvm.Cond.code ({ cls := "SearchMachineModel", name := "countWith", desc := "(II)I" } : Jvm.MethodName) prog_3_method_16_code (6 : Nat) (Option.some Jvm.ClassFile.FieldType.int)) ∈ lw_all := lw_g (lw_at lw_m2 1 rfl) rfl
theorem q263 : (Jvm.Cond.instanceMethod ({ cls := "SearchMachineModel", name := "firstWith", desc := "(II)I" } : Jvm.MethodName)) ∈ lw_all := lw_g (lw_at lw_m2 3 rfl) rfl
theorem q264 : (Jvm.Cond.selects "SearchMachineModel" ({ cls := "SearchMachineModel", name := "firstWith", desc := "(II)I" } : Jvm.MethodName) ({ cls := "SearchMachineModel", name := "firstWith", desc := "(II)I" } : Jvm.MethodName)) ∈ lw_all := lw_g (lw_at lw_m2 4 rfl) rfl
theorem q265 : (Jvm.Cond.code ({ cls := "SearchMachineModel", name := "firstWith", desc := "(II)I" } : Jvm.MethodName) prog_3_method_17_code (6 : Nat) (Option.some Jvm.ClassFile.FieldType.int)) ∈ lw_all := lw_g (lw_at lw_m2 5 rfl) rfl
theorem q267 : (Jvm.Cond.instanceMethod ({ cls := "SearchMachineModel", name := "extreme", desc := "(II)I" } : Jvm.MethodName)) ∈ lw_all := lw_g (lw_at lw_m2 7 rfl) rfl
theorem q268 : (Jvm.Cond.selects "SearchMachineModel" ({ cls := "SearchMachineModel", name := "extreme", desc := "(II)I" } : Jvm.MethodName) ({ cls := "SearchMachineModel", name := "extreme", desc := "(II)I" } : Jvm.MethodName)) ∈ lw_all := lw_g (lw_at lw_m2 8 rfl) rfl
theorem q269 : (Jvm.Cond.code ({ cls := "SearchMachineModel", name := "extreme", desc := "(II)I" } : Jvm.MethodName) prog_3_method_18_code (8 : Nat) (Option.some Jvm.ClassFile.FieldType.int)) ∈ lw_all := lw_g (lw_at lw_m2 9 rfl) rfl
theorem in_X1 : ∀ w ∈ wsX10, w ∈ lw_all := lw_in wsX10 [182, 184, 186, 188, 190, 192, 194] (by decide +kernel) (by decide +kernel)
end
section
/-! java/lang/Object -/
set_option maxRecDepth 100000
def RJ0 : String := "java/lang/Object"
abbrev cJ0_init : ByteArray := object_method_1_code
def yJ0_init : MethodName := ⟨RJ0, "<init>", "()V"⟩
theorem dJ0_init_0 : decode cJ0_init 0 = .ok (.return_, 1) := by decide +kernel
theorem q29 : (Jvm.Cond.instanceMethod ({ cls := "java/lang/Object", name := "<init>", desc := "()V" } : Jvm.MethodName)) ∈ lw_all := lw_g (lw_at lw_m1 9 rfl) rfl
theorem q30 : (Jvm.Cond.code ({ cls := "java/lang/Object", name := "<init>", desc := "()V" } : Jvm.MethodName) object_method_1_code (1 : Nat) (Option.none : Option Jvm.ClassFile.FieldType)) ∈ lw_all := lw_g (lw_at lw_m1 10 rfl) rfl

theorem q20 : (Jvm.Cond.initialized "SearchMachineLaw") ∈ lw_all := lw_g (lw_at lw_m1 0 rfl) rfl
set_option maxRecDepth 100000
theorem q23 : (Jvm.Cond.classLink "SearchMachineLaw" (7 : Nat) "SearchMachine") ∈ lw_all := lw_g (lw_at lw_m1 3 rfl) rfl
theorem q25 : (Jvm.Cond.methodLink "SearchMachineLaw" (9 : Nat) ({ cls := "SearchMachine", name := "<init>", desc := "()V" } : Jvm.MethodName)) ∈ lw_all := lw_g (lw_at lw_m1 5 rfl) rfl
theorem q79 : (Jvm.Cond.methodLink "SearchMachineLaw" (13 : Nat) ({ cls := "SearchMachine", name := "step", desc := "(III)I" } : Jvm.MethodName)) ∈ lw_all := lw_g (lw_at lw_m1 59 rfl) rfl
theorem q96 : (Jvm.Cond.methodLink "SearchMachineLaw" (18 : Nat) ({ cls := "SearchMachine", name := "drop", desc := "()I" } : Jvm.MethodName)) ∈ lw_all := lw_g (lw_at lw_m1 76 rfl) rfl
theorem q100 : (Jvm.Cond.methodLink "SearchMachineLaw" (23 : Nat) ({ cls := "SearchMachine", name := "length", desc := "()I" } : Jvm.MethodName)) ∈ lw_all := lw_g (lw_at lw_m1 80 rfl) rfl
theorem q104 : (Jvm.Cond.methodLink "SearchMachineLaw" (27 : Nat) ({ cls := "SearchMachine", name := "answers", desc := "()I" } : Jvm.MethodName)) ∈ lw_all := lw_g (lw_at lw_m1 84 rfl) rfl
theorem q148 : (Jvm.Cond.methodLink "SearchMachineLaw" (31 : Nat) ({ cls := "SearchMachine", name := "value", desc := "(II)I" } : Jvm.MethodName)) ∈ lw_all := lw_g (lw_at lw_m1 128 rfl) rfl
theorem q153 : (Jvm.Cond.methodLink "SearchMachineLaw" (36 : Nat) ({ cls := "SearchMachine", name := "countWith", desc := "(II)I" } : Jvm.MethodName)) ∈ lw_all := lw_g (lw_at lw_m1 133 rfl) rfl
theorem q157 : (Jvm.Cond.methodLink "SearchMachineLaw" (40 : Nat) ({ cls := "SearchMachine", name := "firstWith", desc := "(II)I" } : Jvm.MethodName)) ∈ lw_all := lw_g (lw_at lw_m1 137 rfl) rfl
theorem q161 : (Jvm.Cond.methodLink "SearchMachineLaw" (44 : Nat) ({ cls := "SearchMachine", name := "extreme", desc := "(II)I" } : Jvm.MethodName)) ∈ lw_all := lw_g (lw_at lw_m1 141 rfl) rfl
theorem q165 : (Jvm.Cond.methodLink "SearchMachineLaw" (48 : Nat) ({ cls := "SearchMachine", name := "ways", desc := "(I)I" } : Jvm.MethodName)) ∈ lw_all := lw_g (lw_at lw_m1 145 rfl) rfl
theorem q169 : (Jvm.Cond.classLink "SearchMachineLaw" (10 : Nat) "SearchMachineModel") ∈ lw_all := lw_g (lw_at lw_m1 149 rfl) rfl
theorem q171 : (Jvm.Cond.methodLink "SearchMachineLaw" (12 : Nat) ({ cls := "SearchMachineModel", name := "<init>", desc := "()V" } : Jvm.MethodName)) ∈ lw_all := lw_g (lw_at lw_m1 151 rfl) rfl
theorem q197 : (Jvm.Cond.methodLink "SearchMachineLaw" (17 : Nat) ({ cls := "SearchMachineModel", name := "step", desc := "(III)I" } : Jvm.MethodName)) ∈ lw_all := lw_g (lw_at lw_m1 177 rfl) rfl
theorem q217 : (Jvm.Cond.methodLink "SearchMachineLaw" (22 : Nat) ({ cls := "SearchMachineModel", name := "drop", desc := "()I" } : Jvm.MethodName)) ∈ lw_all := lw_g (lw_at lw_m1 197 rfl) rfl
theorem q221 : (Jvm.Cond.methodLink "SearchMachineLaw" (26 : Nat) ({ cls := "SearchMachineModel", name := "length", desc := "()I" } : Jvm.MethodName)) ∈ lw_all := lw_g (lw_at lw_m1 201 rfl) rfl
theorem q225 : (Jvm.Cond.methodLink "SearchMachineLaw" (30 : Nat) ({ cls := "SearchMachineModel", name := "answers", desc := "()I" } : Jvm.MethodName)) ∈ lw_all := lw_g (lw_at lw_m1 205 rfl) rfl
theorem q253 : (Jvm.Cond.methodLink "SearchMachineLaw" (35 : Nat) ({ cls := "SearchMachineModel", name := "value", desc := "(II)I" } : Jvm.MethodName)) ∈ lw_all := lw_g (lw_at lw_m1 233 rfl) rfl
theorem q258 : (Jvm.Cond.methodLink "SearchMachineLaw" (39 : Nat) ({ cls := "SearchMachineModel", name := "countWith", desc := "(II)I" } : Jvm.MethodName)) ∈ lw_all := lw_g (lw_at lw_m1 238 rfl) rfl
theorem q262 : (Jvm.Cond.methodLink "SearchMachineLaw" (43 : Nat) ({ cls := "SearchMachineModel", name := "firstWith", desc := "(II)I" } : Jvm.MethodName)) ∈ lw_all := lw_g (lw_at lw_m2 2 rfl) rfl
theorem q266 : (Jvm.Cond.methodLink "SearchMachineLaw" (47 : Nat) ({ cls := "SearchMachineModel", name := "extreme", desc := "(II)I" } : Jvm.MethodName)) ∈ lw_all := lw_g (lw_at lw_m2 6 rfl) rfl
theorem q270 : (Jvm.Cond.methodLink "SearchMachineLaw" (52 : Nat) ({ cls := "SearchMachineModel", name := "ways", desc := "(I)I" } : Jvm.MethodName)) ∈ lw_all := lw_g (lw_at lw_m2 10 rfl) rfl

theorem q77 : (Jvm.Cond.arrayClass Jvm.ClassFile.FieldType.byte) ∈ lw_all := lw_g (lw_at lw_m1 57 rfl) rfl
set_option maxRecDepth 100000
theorem q78 : (Jvm.Cond.arrayClass Jvm.ClassFile.FieldType.int) ∈ lw_all := lw_g (lw_at lw_m1 58 rfl) rfl

/-! the law's own entry -/
set_option maxRecDepth 100000
abbrev cL_law : ByteArray := code
theorem dL_law_0 : decode cL_law 0 = .ok (.new 7, 3) := by decide +kernel
theorem dL_law_3 : decode cL_law 3 = .ok (.dup, 1) := by decide +kernel
theorem dL_law_4 : decode cL_law 4 = .ok (.invokespecial 9, 3) := by decide +kernel
theorem dL_law_7 : decode cL_law 7 = .ok (.astore_n 1, 1) := by decide +kernel
theorem dL_law_8 : decode cL_law 8 = .ok (.new 10, 3) := by decide +kernel
theorem dL_law_11 : decode cL_law 11 = .ok (.dup, 1) := by decide +kernel
theorem dL_law_12 : decode cL_law 12 = .ok (.invokespecial 12, 3) := by decide +kernel
theorem dL_law_15 : decode cL_law 15 = .ok (.astore_n 2, 1) := by decide +kernel
theorem dL_law_16 : decode cL_law 16 = .ok (.iconst 0, 1) := by decide +kernel
theorem dL_law_17 : decode cL_law 17 = .ok (.istore_n 3, 1) := by decide +kernel
theorem dL_law_18 : decode cL_law 18 = .ok (.iload_n 3, 1) := by decide +kernel
theorem dL_law_19 : decode cL_law 19 = .ok (.aload_n 0, 1) := by decide +kernel
theorem dL_law_20 : decode cL_law 20 = .ok (.arraylength, 1) := by decide +kernel
theorem dL_law_21 : decode cL_law 21 = .ok (.iconst 4, 1) := by decide +kernel
theorem dL_law_22 : decode cL_law 22 = .ok (.isub, 1) := by decide +kernel
theorem dL_law_23 : decode cL_law 23 = .ok (.if_icmp .gt 304, 3) := by decide +kernel
theorem dL_law_26 : decode cL_law 26 = .ok (.aload_n 0, 1) := by decide +kernel
theorem dL_law_27 : decode cL_law 27 = .ok (.iload_n 3, 1) := by decide +kernel
theorem dL_law_28 : decode cL_law 28 = .ok (.iaload, 1) := by decide +kernel
theorem dL_law_29 : decode cL_law 29 = .ok (.bipush 15, 2) := by decide +kernel
theorem dL_law_31 : decode cL_law 31 = .ok (.iand, 1) := by decide +kernel
theorem dL_law_32 : decode cL_law 32 = .ok (.tableswitch 289 0 8 #[52, 95, 108, 121, 134, 167, 200, 233, 266], 52) := by decide +kernel
theorem dL_law_84 : decode cL_law 84 = .ok (.aload_n 1, 1) := by decide +kernel
theorem dL_law_85 : decode cL_law 85 = .ok (.aload_n 0, 1) := by decide +kernel
theorem dL_law_86 : decode cL_law 86 = .ok (.iload_n 3, 1) := by decide +kernel
theorem dL_law_87 : decode cL_law 87 = .ok (.iconst 1, 1) := by decide +kernel
theorem dL_law_88 : decode cL_law 88 = .ok (.iadd, 1) := by decide +kernel
theorem dL_law_89 : decode cL_law 89 = .ok (.iaload, 1) := by decide +kernel
theorem dL_law_90 : decode cL_law 90 = .ok (.aload_n 0, 1) := by decide +kernel
theorem dL_law_91 : decode cL_law 91 = .ok (.iload_n 3, 1) := by decide +kernel
theorem dL_law_92 : decode cL_law 92 = .ok (.iconst 2, 1) := by decide +kernel
theorem dL_law_93 : decode cL_law 93 = .ok (.iadd, 1) := by decide +kernel
theorem dL_law_94 : decode cL_law 94 = .ok (.iaload, 1) := by decide +kernel
theorem dL_law_95 : decode cL_law 95 = .ok (.aload_n 0, 1) := by decide +kernel
theorem dL_law_96 : decode cL_law 96 = .ok (.iload_n 3, 1) := by decide +kernel
theorem dL_law_97 : decode cL_law 97 = .ok (.iconst 3, 1) := by decide +kernel
theorem dL_law_98 : decode cL_law 98 = .ok (.iadd, 1) := by decide +kernel
theorem dL_law_99 : decode cL_law 99 = .ok (.iaload, 1) := by decide +kernel
theorem dL_law_100 : decode cL_law 100 = .ok (.invokevirtual 13, 3) := by decide +kernel
theorem dL_law_103 : decode cL_law 103 = .ok (.aload_n 2, 1) := by decide +kernel
theorem dL_law_104 : decode cL_law 104 = .ok (.aload_n 0, 1) := by decide +kernel
theorem dL_law_105 : decode cL_law 105 = .ok (.iload_n 3, 1) := by decide +kernel
theorem dL_law_106 : decode cL_law 106 = .ok (.iconst 1, 1) := by decide +kernel
theorem dL_law_107 : decode cL_law 107 = .ok (.iadd, 1) := by decide +kernel
theorem dL_law_108 : decode cL_law 108 = .ok (.iaload, 1) := by decide +kernel
theorem dL_law_109 : decode cL_law 109 = .ok (.aload_n 0, 1) := by decide +kernel
theorem dL_law_110 : decode cL_law 110 = .ok (.iload_n 3, 1) := by decide +kernel
theorem dL_law_111 : decode cL_law 111 = .ok (.iconst 2, 1) := by decide +kernel
theorem dL_law_112 : decode cL_law 112 = .ok (.iadd, 1) := by decide +kernel
theorem dL_law_113 : decode cL_law 113 = .ok (.iaload, 1) := by decide +kernel
theorem dL_law_114 : decode cL_law 114 = .ok (.aload_n 0, 1) := by decide +kernel
theorem dL_law_115 : decode cL_law 115 = .ok (.iload_n 3, 1) := by decide +kernel
theorem dL_law_116 : decode cL_law 116 = .ok (.iconst 3, 1) := by decide +kernel
theorem dL_law_117 : decode cL_law 117 = .ok (.iadd, 1) := by decide +kernel
theorem dL_law_118 : decode cL_law 118 = .ok (.iaload, 1) := by decide +kernel
theorem dL_law_119 : decode cL_law 119 = .ok (.invokevirtual 17, 3) := by decide +kernel
theorem dL_law_122 : decode cL_law 122 = .ok (.if_icmp .eq 199, 3) := by decide +kernel
theorem dL_law_125 : decode cL_law 125 = .ok (.iconst 0, 1) := by decide +kernel
theorem dL_law_126 : decode cL_law 126 = .ok (.ireturn, 1) := by decide +kernel
theorem dL_law_127 : decode cL_law 127 = .ok (.aload_n 1, 1) := by decide +kernel
theorem dL_law_128 : decode cL_law 128 = .ok (.invokevirtual 18, 3) := by decide +kernel
theorem dL_law_131 : decode cL_law 131 = .ok (.aload_n 2, 1) := by decide +kernel
theorem dL_law_132 : decode cL_law 132 = .ok (.invokevirtual 22, 3) := by decide +kernel
theorem dL_law_135 : decode cL_law 135 = .ok (.if_icmp .eq 186, 3) := by decide +kernel
theorem dL_law_138 : decode cL_law 138 = .ok (.iconst 0, 1) := by decide +kernel
theorem dL_law_139 : decode cL_law 139 = .ok (.ireturn, 1) := by decide +kernel
theorem dL_law_140 : decode cL_law 140 = .ok (.aload_n 1, 1) := by decide +kernel
theorem dL_law_141 : decode cL_law 141 = .ok (.invokevirtual 23, 3) := by decide +kernel
theorem dL_law_144 : decode cL_law 144 = .ok (.aload_n 2, 1) := by decide +kernel
theorem dL_law_145 : decode cL_law 145 = .ok (.invokevirtual 26, 3) := by decide +kernel
theorem dL_law_148 : decode cL_law 148 = .ok (.if_icmp .eq 173, 3) := by decide +kernel
theorem dL_law_151 : decode cL_law 151 = .ok (.iconst 0, 1) := by decide +kernel
theorem dL_law_152 : decode cL_law 152 = .ok (.ireturn, 1) := by decide +kernel
theorem dL_law_153 : decode cL_law 153 = .ok (.aload_n 1, 1) := by decide +kernel
theorem dL_law_154 : decode cL_law 154 = .ok (.invokevirtual 27, 3) := by decide +kernel
theorem dL_law_157 : decode cL_law 157 = .ok (.aload_n 2, 1) := by decide +kernel
theorem dL_law_158 : decode cL_law 158 = .ok (.invokevirtual 30, 3) := by decide +kernel
theorem dL_law_161 : decode cL_law 161 = .ok (.if_icmp .eq 160, 3) := by decide +kernel
theorem dL_law_164 : decode cL_law 164 = .ok (.iconst 0, 1) := by decide +kernel
theorem dL_law_165 : decode cL_law 165 = .ok (.ireturn, 1) := by decide +kernel
theorem dL_law_166 : decode cL_law 166 = .ok (.aload_n 1, 1) := by decide +kernel
theorem dL_law_167 : decode cL_law 167 = .ok (.aload_n 0, 1) := by decide +kernel
theorem dL_law_168 : decode cL_law 168 = .ok (.iload_n 3, 1) := by decide +kernel
theorem dL_law_169 : decode cL_law 169 = .ok (.iconst 1, 1) := by decide +kernel
theorem dL_law_170 : decode cL_law 170 = .ok (.iadd, 1) := by decide +kernel
theorem dL_law_171 : decode cL_law 171 = .ok (.iaload, 1) := by decide +kernel
theorem dL_law_172 : decode cL_law 172 = .ok (.aload_n 0, 1) := by decide +kernel
theorem dL_law_173 : decode cL_law 173 = .ok (.iload_n 3, 1) := by decide +kernel
theorem dL_law_174 : decode cL_law 174 = .ok (.iconst 2, 1) := by decide +kernel
theorem dL_law_175 : decode cL_law 175 = .ok (.iadd, 1) := by decide +kernel
theorem dL_law_176 : decode cL_law 176 = .ok (.iaload, 1) := by decide +kernel
theorem dL_law_177 : decode cL_law 177 = .ok (.invokevirtual 31, 3) := by decide +kernel
theorem dL_law_180 : decode cL_law 180 = .ok (.aload_n 2, 1) := by decide +kernel
theorem dL_law_181 : decode cL_law 181 = .ok (.aload_n 0, 1) := by decide +kernel
theorem dL_law_182 : decode cL_law 182 = .ok (.iload_n 3, 1) := by decide +kernel
theorem dL_law_183 : decode cL_law 183 = .ok (.iconst 1, 1) := by decide +kernel
theorem dL_law_184 : decode cL_law 184 = .ok (.iadd, 1) := by decide +kernel
theorem dL_law_185 : decode cL_law 185 = .ok (.iaload, 1) := by decide +kernel
theorem dL_law_186 : decode cL_law 186 = .ok (.aload_n 0, 1) := by decide +kernel
theorem dL_law_187 : decode cL_law 187 = .ok (.iload_n 3, 1) := by decide +kernel
theorem dL_law_188 : decode cL_law 188 = .ok (.iconst 2, 1) := by decide +kernel
theorem dL_law_189 : decode cL_law 189 = .ok (.iadd, 1) := by decide +kernel
theorem dL_law_190 : decode cL_law 190 = .ok (.iaload, 1) := by decide +kernel
theorem dL_law_191 : decode cL_law 191 = .ok (.invokevirtual 35, 3) := by decide +kernel
theorem dL_law_194 : decode cL_law 194 = .ok (.if_icmp .eq 127, 3) := by decide +kernel
theorem dL_law_197 : decode cL_law 197 = .ok (.iconst 0, 1) := by decide +kernel
theorem dL_law_198 : decode cL_law 198 = .ok (.ireturn, 1) := by decide +kernel
theorem dL_law_199 : decode cL_law 199 = .ok (.aload_n 1, 1) := by decide +kernel
theorem dL_law_200 : decode cL_law 200 = .ok (.aload_n 0, 1) := by decide +kernel
theorem dL_law_201 : decode cL_law 201 = .ok (.iload_n 3, 1) := by decide +kernel
theorem dL_law_202 : decode cL_law 202 = .ok (.iconst 1, 1) := by decide +kernel
theorem dL_law_203 : decode cL_law 203 = .ok (.iadd, 1) := by decide +kernel
theorem dL_law_204 : decode cL_law 204 = .ok (.iaload, 1) := by decide +kernel
theorem dL_law_205 : decode cL_law 205 = .ok (.aload_n 0, 1) := by decide +kernel
theorem dL_law_206 : decode cL_law 206 = .ok (.iload_n 3, 1) := by decide +kernel
theorem dL_law_207 : decode cL_law 207 = .ok (.iconst 2, 1) := by decide +kernel
theorem dL_law_208 : decode cL_law 208 = .ok (.iadd, 1) := by decide +kernel
theorem dL_law_209 : decode cL_law 209 = .ok (.iaload, 1) := by decide +kernel
theorem dL_law_210 : decode cL_law 210 = .ok (.invokevirtual 36, 3) := by decide +kernel
theorem dL_law_213 : decode cL_law 213 = .ok (.aload_n 2, 1) := by decide +kernel
theorem dL_law_214 : decode cL_law 214 = .ok (.aload_n 0, 1) := by decide +kernel
theorem dL_law_215 : decode cL_law 215 = .ok (.iload_n 3, 1) := by decide +kernel
theorem dL_law_216 : decode cL_law 216 = .ok (.iconst 1, 1) := by decide +kernel
theorem dL_law_217 : decode cL_law 217 = .ok (.iadd, 1) := by decide +kernel
theorem dL_law_218 : decode cL_law 218 = .ok (.iaload, 1) := by decide +kernel
theorem dL_law_219 : decode cL_law 219 = .ok (.aload_n 0, 1) := by decide +kernel
theorem dL_law_220 : decode cL_law 220 = .ok (.iload_n 3, 1) := by decide +kernel
theorem dL_law_221 : decode cL_law 221 = .ok (.iconst 2, 1) := by decide +kernel
theorem dL_law_222 : decode cL_law 222 = .ok (.iadd, 1) := by decide +kernel
theorem dL_law_223 : decode cL_law 223 = .ok (.iaload, 1) := by decide +kernel
theorem dL_law_224 : decode cL_law 224 = .ok (.invokevirtual 39, 3) := by decide +kernel
theorem dL_law_227 : decode cL_law 227 = .ok (.if_icmp .eq 94, 3) := by decide +kernel
theorem dL_law_230 : decode cL_law 230 = .ok (.iconst 0, 1) := by decide +kernel
theorem dL_law_231 : decode cL_law 231 = .ok (.ireturn, 1) := by decide +kernel
theorem dL_law_232 : decode cL_law 232 = .ok (.aload_n 1, 1) := by decide +kernel
theorem dL_law_233 : decode cL_law 233 = .ok (.aload_n 0, 1) := by decide +kernel
theorem dL_law_234 : decode cL_law 234 = .ok (.iload_n 3, 1) := by decide +kernel
theorem dL_law_235 : decode cL_law 235 = .ok (.iconst 1, 1) := by decide +kernel
theorem dL_law_236 : decode cL_law 236 = .ok (.iadd, 1) := by decide +kernel
theorem dL_law_237 : decode cL_law 237 = .ok (.iaload, 1) := by decide +kernel
theorem dL_law_238 : decode cL_law 238 = .ok (.aload_n 0, 1) := by decide +kernel
theorem dL_law_239 : decode cL_law 239 = .ok (.iload_n 3, 1) := by decide +kernel
theorem dL_law_240 : decode cL_law 240 = .ok (.iconst 2, 1) := by decide +kernel
theorem dL_law_241 : decode cL_law 241 = .ok (.iadd, 1) := by decide +kernel
theorem dL_law_242 : decode cL_law 242 = .ok (.iaload, 1) := by decide +kernel
theorem dL_law_243 : decode cL_law 243 = .ok (.invokevirtual 40, 3) := by decide +kernel
theorem dL_law_246 : decode cL_law 246 = .ok (.aload_n 2, 1) := by decide +kernel
theorem dL_law_247 : decode cL_law 247 = .ok (.aload_n 0, 1) := by decide +kernel
theorem dL_law_248 : decode cL_law 248 = .ok (.iload_n 3, 1) := by decide +kernel
theorem dL_law_249 : decode cL_law 249 = .ok (.iconst 1, 1) := by decide +kernel
theorem dL_law_250 : decode cL_law 250 = .ok (.iadd, 1) := by decide +kernel
theorem dL_law_251 : decode cL_law 251 = .ok (.iaload, 1) := by decide +kernel
theorem dL_law_252 : decode cL_law 252 = .ok (.aload_n 0, 1) := by decide +kernel
theorem dL_law_253 : decode cL_law 253 = .ok (.iload_n 3, 1) := by decide +kernel
theorem dL_law_254 : decode cL_law 254 = .ok (.iconst 2, 1) := by decide +kernel
theorem dL_law_255 : decode cL_law 255 = .ok (.iadd, 1) := by decide +kernel
theorem dL_law_256 : decode cL_law 256 = .ok (.iaload, 1) := by decide +kernel
theorem dL_law_257 : decode cL_law 257 = .ok (.invokevirtual 43, 3) := by decide +kernel
theorem dL_law_260 : decode cL_law 260 = .ok (.if_icmp .eq 61, 3) := by decide +kernel
theorem dL_law_263 : decode cL_law 263 = .ok (.iconst 0, 1) := by decide +kernel
theorem dL_law_264 : decode cL_law 264 = .ok (.ireturn, 1) := by decide +kernel
theorem dL_law_265 : decode cL_law 265 = .ok (.aload_n 1, 1) := by decide +kernel
theorem dL_law_266 : decode cL_law 266 = .ok (.aload_n 0, 1) := by decide +kernel
theorem dL_law_267 : decode cL_law 267 = .ok (.iload_n 3, 1) := by decide +kernel
theorem dL_law_268 : decode cL_law 268 = .ok (.iconst 1, 1) := by decide +kernel
theorem dL_law_269 : decode cL_law 269 = .ok (.iadd, 1) := by decide +kernel
theorem dL_law_270 : decode cL_law 270 = .ok (.iaload, 1) := by decide +kernel
theorem dL_law_271 : decode cL_law 271 = .ok (.aload_n 0, 1) := by decide +kernel
theorem dL_law_272 : decode cL_law 272 = .ok (.iload_n 3, 1) := by decide +kernel
theorem dL_law_273 : decode cL_law 273 = .ok (.iconst 2, 1) := by decide +kernel
theorem dL_law_274 : decode cL_law 274 = .ok (.iadd, 1) := by decide +kernel
theorem dL_law_275 : decode cL_law 275 = .ok (.iaload, 1) := by decide +kernel
theorem dL_law_276 : decode cL_law 276 = .ok (.invokevirtual 44, 3) := by decide +kernel
theorem dL_law_279 : decode cL_law 279 = .ok (.aload_n 2, 1) := by decide +kernel
theorem dL_law_280 : decode cL_law 280 = .ok (.aload_n 0, 1) := by decide +kernel
theorem dL_law_281 : decode cL_law 281 = .ok (.iload_n 3, 1) := by decide +kernel
theorem dL_law_282 : decode cL_law 282 = .ok (.iconst 1, 1) := by decide +kernel
theorem dL_law_283 : decode cL_law 283 = .ok (.iadd, 1) := by decide +kernel
theorem dL_law_284 : decode cL_law 284 = .ok (.iaload, 1) := by decide +kernel
theorem dL_law_285 : decode cL_law 285 = .ok (.aload_n 0, 1) := by decide +kernel
theorem dL_law_286 : decode cL_law 286 = .ok (.iload_n 3, 1) := by decide +kernel
theorem dL_law_287 : decode cL_law 287 = .ok (.iconst 2, 1) := by decide +kernel
theorem dL_law_288 : decode cL_law 288 = .ok (.iadd, 1) := by decide +kernel
theorem dL_law_289 : decode cL_law 289 = .ok (.iaload, 1) := by decide +kernel
theorem dL_law_290 : decode cL_law 290 = .ok (.invokevirtual 47, 3) := by decide +kernel
theorem dL_law_293 : decode cL_law 293 = .ok (.if_icmp .eq 28, 3) := by decide +kernel
theorem dL_law_296 : decode cL_law 296 = .ok (.iconst 0, 1) := by decide +kernel
theorem dL_law_297 : decode cL_law 297 = .ok (.ireturn, 1) := by decide +kernel
theorem dL_law_298 : decode cL_law 298 = .ok (.aload_n 1, 1) := by decide +kernel
theorem dL_law_299 : decode cL_law 299 = .ok (.aload_n 0, 1) := by decide +kernel
theorem dL_law_300 : decode cL_law 300 = .ok (.iload_n 3, 1) := by decide +kernel
theorem dL_law_301 : decode cL_law 301 = .ok (.iconst 1, 1) := by decide +kernel
theorem dL_law_302 : decode cL_law 302 = .ok (.iadd, 1) := by decide +kernel
theorem dL_law_303 : decode cL_law 303 = .ok (.iaload, 1) := by decide +kernel
theorem dL_law_304 : decode cL_law 304 = .ok (.invokevirtual 48, 3) := by decide +kernel
theorem dL_law_307 : decode cL_law 307 = .ok (.aload_n 2, 1) := by decide +kernel
theorem dL_law_308 : decode cL_law 308 = .ok (.aload_n 0, 1) := by decide +kernel
theorem dL_law_309 : decode cL_law 309 = .ok (.iload_n 3, 1) := by decide +kernel
theorem dL_law_310 : decode cL_law 310 = .ok (.iconst 1, 1) := by decide +kernel
theorem dL_law_311 : decode cL_law 311 = .ok (.iadd, 1) := by decide +kernel
theorem dL_law_312 : decode cL_law 312 = .ok (.iaload, 1) := by decide +kernel
theorem dL_law_313 : decode cL_law 313 = .ok (.invokevirtual 52, 3) := by decide +kernel
theorem dL_law_316 : decode cL_law 316 = .ok (.if_icmp .eq 5, 3) := by decide +kernel
theorem dL_law_319 : decode cL_law 319 = .ok (.iconst 0, 1) := by decide +kernel
theorem dL_law_320 : decode cL_law 320 = .ok (.ireturn, 1) := by decide +kernel
theorem dL_law_321 : decode cL_law 321 = .ok (.iinc 3 4, 3) := by decide +kernel
theorem dL_law_324 : decode cL_law 324 = .ok (.goto (-306), 3) := by decide +kernel
theorem dL_law_327 : decode cL_law 327 = .ok (.iconst 1, 1) := by decide +kernel
theorem dL_law_328 : decode cL_law 328 = .ok (.ireturn, 1) := by decide +kernel
end
section
/-! THE PLAIN LAW: programs, their search with cut, the choice stack, the reference's runs. No machine in sight. -/
/-- a program: kinds, firsts, seconds, thirds -/
abbrev Pg : Type := (Nat → Int32) × (Nat → Int32) × (Nat → Int32) × (Nat → Int32)
abbrev Vs : Type := Nat → Int32
abbrev ix (x : Int32) : Nat := x.toNatClampNeg
abbrev sm_ch (P : Pg) (i : Nat) : Prop := P.1 i = 0 ∨ P.1 i = 4 ∨ P.1 i = 9
/-- in how many ways a step can be decided -/
def sm_op (P : Pg) (i : Nat) : Nat := if P.1 i = 0 then ((P.2.2.2 i).toInt - (P.2.2.1 i).toInt + 1).toNat else if P.1 i = 4 ∨ P.1 i = 9 then 2 else 1
/-- what a step does to the numbers, by its decision -/
def sm_ap (P : Pg) (i d : Nat) (v : Vs) : Vs :=
  if P.1 i = 0 then upd v (ix (P.2.1 i)) (P.2.2.1 i + nI d)
  else if P.1 i = 1 then upd v (ix (P.2.1 i)) (P.2.2.1 i)
  else if P.1 i = 2 then upd v (ix (P.2.1 i)) (v (ix (P.2.1 i)) + v (ix (P.2.2.1 i)))
  else if P.1 i = 3 then upd v (ix (P.2.1 i)) (v (ix (P.2.1 i)) * v (ix (P.2.2.1 i)))
  else if P.1 i = 4 then upd v (ix (P.2.1 i)) (if d = 0 then v (ix (P.2.2.1 i)) else v (ix (P.2.1 i)))
  else if P.1 i = 9 then upd v (if d = 0 then ix (P.2.1 i) else ix (P.2.2.1 i)) (v (if d = 0 then ix (P.2.1 i) else ix (P.2.2.1 i)) + 1)
  else v
/-- whether a testing step lets the run go on -/
def sm_ok (P : Pg) (i : Nat) (v : Vs) : Bool :=
  if P.1 i = 5 then decide (v (ix (P.2.1 i)) < v (ix (P.2.2.1 i)))
  else if P.1 i = 6 then decide (v (ix (P.2.1 i)) = v (ix (P.2.2.1 i)))
  else if P.1 i = 7 then decide (¬ v (ix (P.2.1 i)) = v (ix (P.2.2.1 i)))
  else true
/-- alternatives d, d + 1, .. (c of them), up to the first cut -/
def sm_sq (g : Nat → List Vs × Bool) : Nat → Nat → List Vs × Bool
  | 0, _ => ([], false)
  | c + 1, d => if (g d).2 = true then g d else ((g d).1 ++ (sm_sq g c (d + 1)).1, (sm_sq g c (d + 1)).2)
/-- the search: f steps from i on; the answers in order, and whether a cut was passed -/
def sm_sr (P : Pg) : Nat → Nat → Vs → List Vs × Bool
  | 0, _, v => ([v], false)
  | f + 1, i, v =>
    if sm_ch P i then sm_sq (fun d => sm_sr P f (i + 1) (sm_ap P i d v)) (sm_op P i) 0
    else if P.1 i = 8 then ((sm_sr P f (i + 1) v).1, true)
    else if sm_ok P i v = true then sm_sr P f (i + 1) (sm_ap P i 0 v) else ([], false)
/-- a part's answers, and what comes behind it if no cut was passed -/
def sm_X (q : List Vs × Bool) (r : List Vs) : List Vs := q.1 ++ (if q.2 = true then [] else r)
theorem sm_X_nil (r : List Vs) : sm_X ([], false) r = r := rfl
theorem sm_X_sq (g : Nat → List Vs × Bool) (c d : Nat) (r : List Vs) : sm_X (sm_sq g (c + 1) d) r = sm_X (g d) (sm_X (sm_sq g c (d + 1)) r) := by
  unfold sm_X
  rw [sm_sq]
  by_cases h : (g d).2 = true
  · rw [if_pos h, if_pos h, if_pos h]
  · rw [if_neg h, if_neg h]
    simp only [List.append_assoc]
/-- an open choice: its step, the way to be taken next, the numbers before it -/
abbrev Ch : Type := Nat × Nat × Vs
/-- the answers that the stack of open choices holds -/
def sm_as (P : Pg) (n : Nat) : List Ch → List Vs
  | [] => []
  | q :: r => sm_X (sm_sq (fun d => sm_sr P (n - (q.1 + 1)) (q.1 + 1) (sm_ap P q.1 d q.2.2)) (sm_op P q.1 - q.2.1) q.2.1) (sm_as P n r)
/-- the answers of a machine at step i with the numbers v and the stack k -/
def sm_an (P : Pg) (n i : Nat) (v : Vs) (k : List Ch) : List Vs := sm_X (sm_sr P (n - i) i v) (sm_as P n k)
/-- the steps that a machine may have to do from step i on -/
def sm_co (P : Pg) : Nat → Nat → Nat
  | 0, _ => 0
  | f + 1, i => 1 + (if sm_ch P i then sm_op P i * sm_co P f (i + 1) else sm_co P f (i + 1))
def sm_cs (P : Pg) (n : Nat) : List Ch → Nat
  | [] => 0
  | q :: r => (sm_op P q.1 - q.2.1) * sm_co P (n - (q.1 + 1)) (q.1 + 1) + sm_cs P n r
def sm_ct (P : Pg) (n i : Nat) (k : List Ch) : Nat := sm_co P (n - i) i + sm_cs P n k
/-- choices among the f steps from i on; choices ahead of i -/
def sm_cc (P : Pg) : Nat → Nat → Nat
  | 0, _ => 0
  | f + 1, i => (if sm_ch P i then 1 else 0) + sm_cc P f (i + 1)
def sm_cb (P : Pg) : Nat → Nat
  | 0 => 0
  | i + 1 => sm_cb P i + (if sm_ch P i then 1 else 0)
theorem sm_cc_cb (P : Pg) : ∀ f i, sm_cb P i + sm_cc P f i = sm_cb P (i + f) := by
  intro f
  induction f with
  | zero => intro i; rfl
  | succ f ih =>
    intro i
    have h := ih (i + 1)
    rw [show i + (f + 1) = i + 1 + f by omega, ← h]
    simp only [sm_cc, sm_cb]
    omega
theorem sm_cb_mono (P : Pg) {i j : Nat} (h : i ≤ j) : sm_cb P i ≤ sm_cb P j := by
  have := sm_cc_cb P (j - i) i
  rw [show i + (j - i) = j by omega] at this
  omega
/-! the machine's steps keep the answers and lower the cost -/
theorem sm_fuel {n i : Nat} (h : i < n) : n - i = (n - (i + 1)) + 1 := by omega
theorem sm_an_end (P : Pg) (n : Nat) (v : Vs) (k : List Ch) : sm_an P n n v k = v :: sm_as P n k := by
  unfold sm_an
  rw [Nat.sub_self]
  rfl
theorem sm_an_ch0 {P : Pg} {n i : Nat} (hi : i < n) (hc : sm_ch P i) (ho : sm_op P i = 0) (v : Vs) (k : List Ch) : sm_an P n i v k = sm_as P n k := by
  unfold sm_an
  rw [sm_fuel hi, sm_sr, if_pos hc, ho]
  rfl
theorem sm_an_ch {P : Pg} {n i c : Nat} (hi : i < n) (hc : sm_ch P i) (ho : sm_op P i = c + 1) (v : Vs) (k : List Ch) : sm_an P n i v k = sm_an P n (i + 1) (sm_ap P i 0 v) ((i, 1, v) :: k) := by
  unfold sm_an
  rw [sm_fuel hi, sm_sr, if_pos hc, ho, sm_X_sq]
  rw [sm_as]
  rw [show sm_op P (i, 1, v).1 - (i, 1, v).2.1 = c by show sm_op P i - 1 = c; omega]
theorem sm_as_done {P : Pg} {n s w : Nat} (h : sm_op P s ≤ w) (u : Vs) (r : List Ch) : sm_as P n ((s, w, u) :: r) = sm_as P n r := by
  rw [sm_as, show sm_op P (s, w, u).1 - (s, w, u).2.1 = 0 by show sm_op P s - w = 0; omega]
  rfl
theorem sm_an_ch1 {P : Pg} {n i : Nat} (hi : i < n) (hc : sm_ch P i) (ho : sm_op P i = 1) (v : Vs) (k : List Ch) : sm_an P n i v k = sm_an P n (i + 1) (sm_ap P i 0 v) k := by
  rw [sm_an_ch hi hc ho]
  unfold sm_an
  rw [sm_as_done (by omega)]
theorem sm_an_once {P : Pg} {n i : Nat} (hi : i < n) (hk : P.1 i = 8) (v : Vs) (k : List Ch) : sm_an P n i v k = sm_an P n (i + 1) v [] := by
  unfold sm_an
  have hc : ¬ sm_ch P i := by
    unfold sm_ch; rw [hk]; decide
  rw [sm_fuel hi, sm_sr, if_neg hc, if_pos hk]
  unfold sm_X
  rw [sm_as]
  simp
theorem sm_an_go {P : Pg} {n i : Nat} (hi : i < n) (hc : ¬ sm_ch P i) (hk : ¬ P.1 i = 8) {v : Vs} (ho : sm_ok P i v = true) (k : List Ch) : sm_an P n i v k = sm_an P n (i + 1) (sm_ap P i 0 v) k := by
  unfold sm_an
  rw [sm_fuel hi, sm_sr, if_neg hc, if_neg hk, if_pos ho]
theorem sm_an_no {P : Pg} {n i : Nat} (hi : i < n) (hc : ¬ sm_ch P i) (hk : ¬ P.1 i = 8) {v : Vs} (ho : ¬ sm_ok P i v = true) (k : List Ch) : sm_an P n i v k = sm_as P n k := by
  unfold sm_an
  rw [sm_fuel hi, sm_sr, if_neg hc, if_neg hk, if_neg ho]
  rfl
theorem sm_as_more {P : Pg} {n s w : Nat} (hw : w < sm_op P s) (u : Vs) (r : List Ch) : sm_as P n ((s, w, u) :: r) = sm_an P n (s + 1) (sm_ap P s w u) ((s, w + 1, u) :: r) := by
  unfold sm_an
  rw [sm_as, show sm_op P (s, w, u).1 - (s, w, u).2.1 = (sm_op P s - (w + 1)) + 1 by show sm_op P s - w = _; omega, sm_X_sq, sm_as]
theorem sm_as_last {P : Pg} {n s w : Nat} (hw : w + 1 = sm_op P s) (u : Vs) (r : List Ch) : sm_as P n ((s, w, u) :: r) = sm_an P n (s + 1) (sm_ap P s w u) r := by
  rw [sm_as_more (by omega)]
  unfold sm_an
  rw [sm_as_done (by omega)]
/-! costs -/
theorem sm_co_ch {P : Pg} {n i : Nat} (hi : i < n) (hc : sm_ch P i) : sm_co P (n - i) i = 1 + sm_op P i * sm_co P (n - (i + 1)) (i + 1) := by
  rw [sm_fuel hi, sm_co, if_pos hc]
theorem sm_co_no {P : Pg} {n i : Nat} (hi : i < n) (hc : ¬ sm_ch P i) : sm_co P (n - i) i = 1 + sm_co P (n - (i + 1)) (i + 1) := by
  rw [sm_fuel hi, sm_co, if_neg hc]
theorem sm_ct_ch0 {P : Pg} {n i : Nat} (hi : i < n) (hc : sm_ch P i) (k : List Ch) : sm_cs P n k + 1 ≤ sm_ct P n i k := by
  unfold sm_ct
  rw [sm_co_ch hi hc]
  omega
theorem sm_ct_ch {P : Pg} {n i : Nat} (hi : i < n) (hc : sm_ch P i) (ho : 1 ≤ sm_op P i) (v : Vs) (k : List Ch) : sm_ct P n (i + 1) ((i, 1, v) :: k) + 1 ≤ sm_ct P n i k := by
  unfold sm_ct
  rw [sm_co_ch hi hc, sm_cs]
  obtain ⟨c, hc⟩ : ∃ c, sm_op P i = c + 1 := ⟨sm_op P i - 1, by omega⟩
  rw [show sm_op P (i, 1, v).1 - (i, 1, v).2.1 = c by show sm_op P i - 1 = c; omega, hc, Nat.succ_mul]
  show sm_co P (n - (i + 1)) (i + 1) + (c * sm_co P (n - (i + 1)) (i + 1) + sm_cs P n k) + 1 ≤ _
  omega
theorem sm_ct_ch1 {P : Pg} {n i : Nat} (hi : i < n) (hc : sm_ch P i) (ho : sm_op P i = 1) (k : List Ch) : sm_ct P n (i + 1) k + 1 ≤ sm_ct P n i k := by
  unfold sm_ct
  rw [sm_co_ch hi hc, ho]
  omega
theorem sm_ct_no {P : Pg} {n i : Nat} (hi : i < n) (hc : ¬ sm_ch P i) (k : List Ch) : sm_ct P n (i + 1) k + 1 ≤ sm_ct P n i k := by
  unfold sm_ct
  rw [sm_co_no hi hc]
  omega
theorem sm_ct_once {P : Pg} {n i : Nat} (hi : i < n) (hc : ¬ sm_ch P i) (k : List Ch) : sm_ct P n (i + 1) [] + 1 ≤ sm_ct P n i k := by
  unfold sm_ct
  rw [sm_co_no hi hc, sm_cs]
  omega
theorem sm_ct_fail {P : Pg} {n i : Nat} (hi : i < n) (k : List Ch) : sm_cs P n k + 1 ≤ sm_ct P n i k := by
  by_cases hc : sm_ch P i
  · exact sm_ct_ch0 hi hc k
  · have := sm_ct_no hi hc k
    unfold sm_ct at *
    omega
theorem sm_cs_more {P : Pg} {n s w : Nat} (hw : w < sm_op P s) (u : Vs) (r : List Ch) : sm_ct P n (s + 1) ((s, w + 1, u) :: r) = sm_cs P n ((s, w, u) :: r) := by
  unfold sm_ct
  rw [sm_cs, sm_cs]
  show sm_co P (n - (s + 1)) (s + 1) + ((sm_op P s - (w + 1)) * sm_co P (n - (s + 1)) (s + 1) + sm_cs P n r) = (sm_op P s - w) * sm_co P (n - (s + 1)) (s + 1) + sm_cs P n r
  rw [show sm_op P s - w = (sm_op P s - (w + 1)) + 1 by omega, Nat.succ_mul]
  omega
theorem sm_cs_last {P : Pg} {n s w : Nat} (hw : w + 1 = sm_op P s) (u : Vs) (r : List Ch) : sm_ct P n (s + 1) r = sm_cs P n ((s, w, u) :: r) := by
  rw [← sm_cs_more (by omega)]
  unfold sm_ct
  rw [sm_cs]
  show _ = _ + ((sm_op P s - (w + 1)) * _ + _)
  rw [show sm_op P s - (w + 1) = 0 by omega]
  omega
/-! bounds -/
def sm_bd (P : Pg) (n : Nat) : Prop := ∀ i, i < n → sm_op P i ≤ 13
theorem sm_pow_pos (c : Nat) : 1 ≤ 13 ^ c := Nat.pow_pos (by decide)
theorem sm_co_le (P : Pg) : ∀ f i, sm_bd P (i + f) → sm_co P f i ≤ 13 ^ sm_cc P f i * f := by
  intro f
  induction f with
  | zero => intro i _; exact Nat.le_refl 0
  | succ f ih =>
    intro i hb
    have h := ih (i + 1) (by rw [show i + 1 + f = i + (f + 1) by omega]; exact hb)
    have hp := sm_pow_pos (sm_cc P f (i + 1))
    rw [sm_co, sm_cc]
    by_cases hc : sm_ch P i
    · rw [if_pos hc, if_pos hc, Nat.add_comm 1 (sm_cc P f (i + 1)), Nat.pow_succ]
      have ho := hb i (by omega)
      have h1 : sm_op P i * sm_co P f (i + 1) ≤ 13 * (13 ^ sm_cc P f (i + 1) * f) := Nat.mul_le_mul ho h
      rw [Nat.mul_succ, Nat.mul_comm (13 ^ sm_cc P f (i + 1)) 13, Nat.mul_assoc]
      omega
    · rw [if_neg hc, if_neg hc, Nat.zero_add, Nat.mul_succ]
      omega
theorem sm_sq_len (g : Nat → List Vs × Bool) (b : Nat) (h : ∀ d, (g d).1.length ≤ b) : ∀ c d, (sm_sq g c d).1.length ≤ c * b := by
  intro c
  induction c with
  | zero => intro d; exact Nat.zero_le _
  | succ c ih =>
    intro d
    rw [sm_sq, Nat.succ_mul]
    have h1 := h d
    have h2 := ih (d + 1)
    by_cases hc : (g d).2 = true
    · rw [if_pos hc]; omega
    · rw [if_neg hc]
      simp only [List.length_append]
      omega
theorem sm_sr_len (P : Pg) : ∀ f i v, sm_bd P (i + f) → (sm_sr P f i v).1.length ≤ 13 ^ sm_cc P f i := by
  intro f
  induction f with
  | zero => intro i v _; exact Nat.le_refl 1
  | succ f ih =>
    intro i v hb
    have hb' : sm_bd P (i + 1 + f) := by rw [show i + 1 + f = i + (f + 1) by omega]; exact hb
    have hp := sm_pow_pos (sm_cc P f (i + 1))
    rw [sm_sr, sm_cc]
    by_cases hc : sm_ch P i
    · rw [if_pos hc, if_pos hc, Nat.add_comm 1 (sm_cc P f (i + 1)), Nat.pow_succ]
      have h1 := sm_sq_len (fun d => sm_sr P f (i + 1) (sm_ap P i d v)) _ (fun d => ih (i + 1) (sm_ap P i d v) hb') (sm_op P i) 0
      have h2 : sm_op P i * 13 ^ sm_cc P f (i + 1) ≤ 13 * 13 ^ sm_cc P f (i + 1) := Nat.mul_le_mul_right _ (hb i (by omega))
      rw [Nat.mul_comm 13] at h2
      exact Nat.le_trans h1 h2
    · rw [if_neg hc, if_neg hc, Nat.zero_add]
      by_cases hk : P.1 i = 8
      · rw [if_pos hk]; exact ih (i + 1) v hb'
      · rw [if_neg hk]
        by_cases ho : sm_ok P i v = true
        · rw [if_pos ho]; exact ih (i + 1) _ hb'
        · rw [if_neg ho]; exact Nat.zero_le _
/-! the reference: every run from the first step, the decisions read off a code -/
def sm_pr (P : Pg) : Nat → Nat → Nat
  | 0, _ => 1
  | f + 1, i => sm_op P i * sm_pr P f (i + 1)
def sm_mr (P : Pg) (code : Nat) : Nat → Nat → Vs → Vs → Bool × Vs × Vs
  | 0, _, v, F => (true, v, F)
  | f + 1, i, v, F =>
    if P.1 i = 8 then
      (if (if F i < 0 then nI (code / sm_pr P f (i + 1)) else F i) = nI (code / sm_pr P f (i + 1)) then sm_mr P code f (i + 1) v (upd F i (if F i < 0 then nI (code / sm_pr P f (i + 1)) else F i))
      else (false, v, upd F i (if F i < 0 then nI (code / sm_pr P f (i + 1)) else F i)))
    else if sm_ok P i v = true then sm_mr P code f (i + 1) (sm_ap P i (code / sm_pr P f (i + 1) % sm_op P i) v) F
    else (false, sm_ap P i (code / sm_pr P f (i + 1) % sm_op P i) v, F)
abbrev sm_z : Vs := fun _ => 0
/-- the runs that go through, of c codes from code on; and what the cuts remember behind them -/
def sm_ml (P : Pg) (n : Nat) : Nat → Nat → Vs → List Vs × Vs
  | 0, _, F => ([], F)
  | c + 1, code, F =>
    if (sm_mr P code n 0 sm_z F).1 = true then ((sm_mr P code n 0 sm_z F).2.1 :: (sm_ml P n c (code + 1) (sm_mr P code n 0 sm_z F).2.2).1, (sm_ml P n c (code + 1) (sm_mr P code n 0 sm_z F).2.2).2)
    else sm_ml P n c (code + 1) (sm_mr P code n 0 sm_z F).2.2
theorem sm_ml_add (P : Pg) (n : Nat) : ∀ c1 c2 code F, sm_ml P n (c1 + c2) code F = ((sm_ml P n c1 code F).1 ++ (sm_ml P n c2 (code + c1) (sm_ml P n c1 code F).2).1, (sm_ml P n c2 (code + c1) (sm_ml P n c1 code F).2).2) := by
  intro c1
  induction c1 with
  | zero => intro c2 code F; rw [Nat.zero_add]; rfl
  | succ c1 ih =>
    intro c2 code F
    rw [show c1 + 1 + c2 = (c1 + c2) + 1 by omega, sm_ml, sm_ml, show code + (c1 + 1) = code + 1 + c1 by omega]
    by_cases h : (sm_mr P code n 0 sm_z F).1 = true
    · rw [if_pos h, if_pos h, ih]
      rfl
    · rw [if_neg h, if_neg h, ih]
theorem sm_pr_le (P : Pg) : ∀ f i, sm_bd P (i + f) → sm_pr P f i ≤ 13 ^ sm_cc P f i := by
  intro f
  induction f with
  | zero => intro i _; exact Nat.le_refl 1
  | succ f ih =>
    intro i hb
    have h := ih (i + 1) (by rw [show i + 1 + f = i + (f + 1) by omega]; exact hb)
    rw [sm_pr, sm_cc]
    by_cases hc : sm_ch P i
    · rw [if_pos hc, Nat.add_comm 1, Nat.pow_succ, Nat.mul_comm _ 13]
      exact Nat.mul_le_mul (hb i (by omega)) h
    · rw [if_neg hc, Nat.zero_add]
      have h1 : sm_op P i = 1 := by
        unfold sm_op
        unfold sm_ch at hc
        rw [if_neg (fun h => hc (Or.inl h)), if_neg (fun h => hc (Or.inr h))]
      rw [h1, Nat.one_mul]
      exact h
/-- a choice that can't be decided lets no run through -/
theorem sm_sq_nil (g : Nat → List Vs × Bool) (h : ∀ d, (g d).1 = []) : ∀ c d, (sm_sq g c d).1 = [] := by
  intro c
  induction c with
  | zero => intro d; rfl
  | succ c ih =>
    intro d
    rw [sm_sq]
    by_cases hc : (g d).2 = true
    · rw [if_pos hc]; exact h d
    · rw [if_neg hc]
      show (g d).1 ++ _ = []
      rw [h d, ih (d + 1)]
      rfl
theorem sm_sr_nil (P : Pg) : ∀ f i v, sm_pr P f i = 0 → (sm_sr P f i v).1 = [] := by
  intro f
  induction f with
  | zero => intro i v h; exact absurd h (show ¬ (1 : Nat) = 0 by decide)
  | succ f ih =>
    intro i v h
    rw [sm_pr] at h
    rw [sm_sr]
    by_cases hc : sm_ch P i
    · rw [if_pos hc]
      by_cases h0 : sm_op P i = 0
      · rw [h0]; rfl
      · exact sm_sq_nil _ (fun d => ih (i + 1) _ ((Nat.mul_eq_zero.mp h).resolve_left h0)) _ _
    · have h1 : sm_op P i = 1 := by
        unfold sm_op
        unfold sm_ch at hc
        rw [if_neg (fun h => hc (Or.inl h)), if_neg (fun h => hc (Or.inr h))]
      rw [h1, Nat.one_mul] at h
      rw [if_neg hc]
      by_cases hk : P.1 i = 8
      · rw [if_pos hk]; exact ih (i + 1) v h
      · rw [if_neg hk]
        by_cases ho : sm_ok P i v = true
        · rw [if_pos ho]; exact ih (i + 1) _ h
        · rw [if_neg ho]
end
section
/-! THE PLAIN LAW, second half: the reference's list of runs is the search's list of answers. -/
theorem sm_upd_self (F : Vs) (k : Nat) : upd F k (F k) = F := by
  funext j
  unfold upd
  by_cases h : j = k
  · rw [if_pos h, h]
  · rw [if_neg h]
theorem sm_op_no {P : Pg} {i : Nat} (hc : ¬ sm_ch P i) : sm_op P i = 1 := by
  unfold sm_op
  unfold sm_ch at hc
  rw [if_neg (fun h => hc (Or.inl h)), if_neg (fun h => hc (Or.inr h))]
theorem sm_ok_ch {P : Pg} {i : Nat} (hc : sm_ch P i) (v : Vs) : sm_ok P i v = true := by
  unfold sm_ok
  rcases hc with h | h | h <;> rw [h] <;> rfl
theorem sm_ch_8 {P : Pg} {i : Nat} (hk : P.1 i = 8) : ¬ sm_ch P i := by
  unfold sm_ch; rw [hk]; decide
/-- the codes of the prefix p come to step i with the numbers v, if the cuts ahead remember what F does -/
def sm_Re (P : Pg) (n p i : Nat) (v F : Vs) : Prop := ∀ (code : Nat) (G : Vs), code / sm_pr P (n - i) i = p → (∀ k, k < i → G k = F k) → sm_mr P code n 0 sm_z G = sm_mr P code (n - i) i v G
/-- from code c0 on no run goes through: a cut remembers another prefix -/
def sm_De (P : Pg) (n : Nat) (F : Vs) (c0 : Nat) : Prop := ∃ k, k < n ∧ P.1 k = 8 ∧ ¬ F k < 0 ∧ ∀ code, c0 ≤ code → code < 2 ^ 31 → ¬ F k = nI (code / sm_pr P (n - (k + 1)) (k + 1))
theorem sm_De.mono {P : Pg} {n : Nat} {F : Vs} {c0 c1 : Nat} (h : sm_De P n F c0) (hc : c0 ≤ c1) : sm_De P n F c1 := by
  obtain ⟨k, h1, h2, h3, h4⟩ := h
  exact ⟨k, h1, h2, h3, fun code q => h4 code (Nat.le_trans hc q)⟩
theorem sm_dead_run {P : Pg} {n k code : Nat} (hk8 : P.1 k = 8) (hkn : k < n) : ∀ (f i : Nat) (v F : Vs), i ≤ k → i + f = n → ¬ F k < 0 → ¬ F k = nI (code / sm_pr P (n - (k + 1)) (k + 1)) →
    (sm_mr P code f i v F).1 = false ∧ (sm_mr P code f i v F).2.2 k = F k := by
  intro f
  induction f with
  | zero => intro i v F h1 h2; exact absurd h2 (by omega)
  | succ f ih =>
    intro i v F hik hif h0 hne
    rw [sm_mr]
    by_cases hi8 : P.1 i = 8
    · rw [if_pos hi8]
      by_cases hik2 : i = k
      · subst hik2
        have hf : n - (i + 1) = f := by omega
        rw [hf] at hne
        rw [if_neg h0, if_neg hne]
        exact ⟨rfl, by show upd F i (F i) i = F i; rw [sm_upd_self]⟩
      · by_cases hq : (if F i < 0 then nI (code / sm_pr P f (i + 1)) else F i) = nI (code / sm_pr P f (i + 1))
        · rw [if_pos hq]
          have hu : upd F i (if F i < 0 then nI (code / sm_pr P f (i + 1)) else F i) k = F k := pk_un (by omega)
          have := ih (i + 1) v (upd F i (if F i < 0 then nI (code / sm_pr P f (i + 1)) else F i)) (by omega) (by omega) (by rw [hu]; exact h0) (by rw [hu]; exact hne)
          rw [hu] at this
          exact this
        · rw [if_neg hq]
          exact ⟨rfl, pk_un (by omega)⟩
    · rw [if_neg hi8]
      have hik2 : i ≠ k := fun e => hi8 (by rw [e]; exact hk8)
      by_cases ho : sm_ok P i v = true
      · rw [if_pos ho]
        exact ih (i + 1) _ F (by omega) (by omega) h0 hne
      · rw [if_neg ho]
        exact ⟨rfl, rfl⟩
theorem sm_dead_list {P : Pg} {n : Nat} : ∀ (c code : Nat) (F : Vs) (c0 : Nat), sm_De P n F c0 → c0 ≤ code → code + c ≤ 2 ^ 31 → (sm_ml P n c code F).1 = [] ∧ sm_De P n (sm_ml P n c code F).2 c0 := by
  intro c
  induction c with
  | zero => intro code F c0 h _ _; exact ⟨rfl, h⟩
  | succ c ih =>
    intro code F c0 h h1 h2
    obtain ⟨k, k1, k2, k3, k4⟩ := h
    obtain ⟨r1, r2⟩ := sm_dead_run (code := code) k2 k1 n 0 sm_z F (Nat.zero_le k) (Nat.zero_add n) k3 (k4 code h1 (by omega))
    rw [sm_ml, if_neg (by rw [r1]; decide)]
    exact ih (code + 1) _ c0 ⟨k, k1, k2, by rw [r2]; exact k3, fun z z1 z2 => by rw [r2]; exact k4 z z1 z2⟩ (by omega) (by omega)
theorem sm_Re.of {P : Pg} {n p i : Nat} {v F G : Vs} (h : sm_Re P n p i v F) (hG : ∀ k, k < i → G k = F k) : sm_Re P n p i v G := fun code G' hc hk => h code G' hc (fun k hk2 => (hk k hk2).trans (hG k hk2))
/-- what the block of a prefix gives -/
def sm_Bk (P : Pg) (n i : Nat) (F : Vs) (c1 : Nat) (r : List Vs × Bool) (m : List Vs × Vs) : Prop := m.1 = r.1 ∧ (r.2 = false → ∀ k, k < i → m.2 k = F k) ∧ (r.2 = false → ∀ k, i ≤ k → m.2 k < 0) ∧ (r.2 = true → sm_De P n m.2 c1)
/-- what a cut remembers stays -/
theorem sm_keep_upd {F : Vs} {i k : Nat} {x : Int32} (h : ¬ F k < 0) : upd F i (if F i < 0 then x else F i) k = F k := by
  unfold upd
  by_cases hk : k = i
  · subst hk
    rw [if_pos rfl, if_neg h]
  · rw [if_neg hk]
theorem sm_keep_run {P : Pg} {k code : Nat} : ∀ (f i : Nat) (v F : Vs), ¬ F k < 0 → (sm_mr P code f i v F).2.2 k = F k := by
  intro f
  induction f with
  | zero => intro i v F _; rfl
  | succ f ih =>
    intro i v F h
    rw [sm_mr]
    by_cases hi8 : P.1 i = 8
    · rw [if_pos hi8]
      by_cases hq : (if F i < 0 then nI (code / sm_pr P f (i + 1)) else F i) = nI (code / sm_pr P f (i + 1))
      · rw [if_pos hq, ih (i + 1) v _ (by rw [sm_keep_upd h]; exact h), sm_keep_upd h]
      · rw [if_neg hq]
        exact sm_keep_upd h
    · rw [if_neg hi8]
      by_cases ho : sm_ok P i v = true
      · rw [if_pos ho]
        exact ih (i + 1) _ F h
      · rw [if_neg ho]
theorem sm_keep_list {P : Pg} {n k : Nat} : ∀ (c code : Nat) (F : Vs), ¬ F k < 0 → (sm_ml P n c code F).2 k = F k := by
  intro c
  induction c with
  | zero => intro code F _; rfl
  | succ c ih =>
    intro code F h
    have h1 : (sm_mr P code n 0 sm_z F).2.2 k = F k := sm_keep_run n 0 sm_z F h
    rw [sm_ml]
    by_cases hq : (sm_mr P code n 0 sm_z F).1 = true
    · rw [if_pos hq]
      show (sm_ml P n c (code + 1) _).2 k = F k
      rw [ih (code + 1) _ (by rw [h1]; exact h), h1]
    · rw [if_neg hq, ih (code + 1) _ (by rw [h1]; exact h), h1]
theorem sm_all_fail {P : Pg} {n : Nat} : ∀ (c code : Nat) (F : Vs), (∀ z, code ≤ z → z < code + c → (sm_mr P z n 0 sm_z F).1 = false ∧ (sm_mr P z n 0 sm_z F).2.2 = F) → sm_ml P n c code F = ([], F) := by
  intro c
  induction c with
  | zero => intro code F _; rfl
  | succ c ih =>
    intro code F h
    obtain ⟨h1, h2⟩ := h code (Nat.le_refl _) (by omega)
    rw [sm_ml, if_neg (by rw [h1]; decide), h2]
    exact ih (code + 1) F (fun z z1 z2 => h z (by omega) (by omega))
theorem sm_div_in {q p z : Nat} (h1 : p * q ≤ z) (h2 : z < p * q + q) : z / q = p := by
  have hq : 0 < q := by omega
  apply Nat.div_eq_of_lt_le
  · exact h1
  · rw [Nat.succ_mul]; exact h2
theorem sm_block {P : Pg} {n : Nat} : ∀ (f i p : Nat) (v F : Vs), i + f = n → 0 < sm_pr P f i → (p + 1) * sm_pr P f i ≤ 2 ^ 31 → sm_Re P n p i v F → (∀ k, i ≤ k → F k < 0) →
    sm_Bk P n i F ((p + 1) * sm_pr P f i) (sm_sr P f i v) (sm_ml P n (sm_pr P f i) (p * sm_pr P f i) F) := by
  intro f
  induction f with
  | zero =>
    intro i p v F hif hpos hle hR hF
    have hn : n - i = 0 := by omega
    have h := hR p F (by rw [hn]; show p / 1 = p; exact Nat.div_one p) (fun _ _ => rfl)
    rw [hn] at h
    have h3 : sm_mr P p 0 i v F = (true, v, F) := rfl
    rw [h3] at h
    have h4 : sm_ml P n (sm_pr P 0 i) (p * sm_pr P 0 i) F = ([v], F) := by
      show sm_ml P n 1 (p * 1) F = _
      rw [Nat.mul_one, sm_ml, h]
      rfl
    rw [h4]
    exact ⟨rfl, fun _ _ _ => rfl, fun _ => hF, fun h => by cases h⟩
  | succ f ih =>
    intro i p v F hif hpos hle hR hF
    have hfi : n - i = f + 1 := by omega
    have hfi1 : n - (i + 1) = f := by omega
    have hq : 0 < sm_pr P f (i + 1) := by
      rw [sm_pr] at hpos
      exact Nat.pos_of_mul_pos_left hpos
    have hm : 0 < sm_op P i := by
      rw [sm_pr] at hpos
      exact Nat.pos_of_mul_pos_right hpos
    generalize hqe : sm_pr P f (i + 1) = q at hq
    generalize hme : sm_op P i = m at hm
    have hpr : sm_pr P (f + 1) i = m * q := by rw [sm_pr, hqe, hme]
    rw [hpr] at hle ⊢
    unfold sm_Re at hR
    by_cases hc : sm_ch P i
    · -- a choice: one block for each way
      have hno8 : ¬ P.1 i = 8 := fun h => sm_ch_8 h hc
      have key : ∀ (c d : Nat) (G : Vs), d + c = m → (∀ k, k < i → G k = F k) → (∀ k, i ≤ k → G k < 0) →
          sm_Bk P n i F ((p + 1) * (m * q)) (sm_sq (fun d => sm_sr P f (i + 1) (sm_ap P i d v)) c d) (sm_ml P n (c * q) ((p * m + d) * q) G) := by
        intro c
        induction c with
        | zero =>
          intro d G _ hG1 hG2
          rw [Nat.zero_mul]
          exact ⟨rfl, fun _ => hG1, fun _ => hG2, fun h => by cases h⟩
        | succ c ihc =>
          intro d G hdc hG1 hG2
          have hle2 : (p * m + d + 1) * q ≤ (p + 1) * (m * q) := by
            rw [← Nat.mul_assoc]
            apply Nat.mul_le_mul_right
            rw [Nat.succ_mul]
            omega
          have hRd : sm_Re P n (p * m + d) (i + 1) (sm_ap P i d v) G := by
            intro code G' h1 h2
            rw [hfi1, hqe] at h1
            have h3 : code / sm_pr P (n - i) i = p := by
              rw [hfi, hpr, Nat.mul_comm m q, ← Nat.div_div_eq_div_mul, h1, Nat.mul_comm p m, Nat.mul_add_div (by omega), Nat.div_eq_of_lt (by omega), Nat.add_zero]
            rw [hR code G' h3 (fun k hk => (h2 k (by omega)).trans (hG1 k hk)), hfi, sm_mr, if_neg hno8, if_pos (sm_ok_ch hc v), hqe, h1, hme, hfi1]
            rw [Nat.mul_comm p m, Nat.mul_add_mod, Nat.mod_eq_of_lt (by omega)]
          obtain ⟨b1, b2, b3, b4⟩ := ih (i + 1) (p * m + d) (sm_ap P i d v) G (by omega) (by rw [hqe]; exact hq) (by rw [hqe]; exact Nat.le_trans hle2 hle) hRd (fun k hk => hG2 k (by omega))
          rw [hqe] at b1 b2 b3 b4
          have hadd : sm_ml P n ((c + 1) * q) ((p * m + d) * q) G = ((sm_ml P n q ((p * m + d) * q) G).1 ++ (sm_ml P n (c * q) ((p * m + (d + 1)) * q) (sm_ml P n q ((p * m + d) * q) G).2).1, (sm_ml P n (c * q) ((p * m + (d + 1)) * q) (sm_ml P n q ((p * m + d) * q) G).2).2) := by
            rw [Nat.succ_mul, Nat.add_comm (c * q) q, sm_ml_add]
            rw [show (p * m + d) * q + q = (p * m + (d + 1)) * q by rw [← Nat.add_assoc, Nat.succ_mul]]
          generalize hX : sm_ml P n q ((p * m + d) * q) G = X at b1 b2 b3 b4 hadd
          rw [hadd, sm_sq]
          by_cases hcut : (sm_sr P f (i + 1) (sm_ap P i d v)).2 = true
          · rw [if_pos hcut]
            have hlast : (p * m + (d + 1)) * q + c * q = (p + 1) * (m * q) := by
              rw [← Nat.add_mul, ← Nat.mul_assoc, Nat.succ_mul]
              congr 1
              omega
            obtain ⟨d1, d2⟩ := sm_dead_list (c * q) ((p * m + (d + 1)) * q) X.2 ((p * m + d + 1) * q) (b4 hcut) (Nat.le_refl _) (by rw [hlast]; exact hle)
            refine ⟨?_, fun h => (by rw [hcut] at h; cases h), fun h => (by rw [hcut] at h; cases h), fun _ => d2.mono hle2⟩
            show X.1 ++ _ = _
            rw [d1, List.append_nil]
            exact b1
          · rw [if_neg hcut]
            have hcf : (sm_sr P f (i + 1) (sm_ap P i d v)).2 = false := by
              cases h : (sm_sr P f (i + 1) (sm_ap P i d v)).2 with
              | true => exact absurd h hcut
              | false => rfl
            have hXi : ∀ k, k < i → X.2 k = F k := fun k hk => (b2 hcf k (by omega)).trans (hG1 k hk)
            have hX2 : ∀ k, i ≤ k → X.2 k < 0 := by
              intro k hk
              by_cases hki : k = i
              · rw [hki, b2 hcf i (by omega)]
                exact hG2 i (Nat.le_refl i)
              · exact b3 hcf k (by omega)
            obtain ⟨e1, e2, e3, e4⟩ := ihc (d + 1) X.2 (by omega) hXi hX2
            refine ⟨?_, e2, e3, e4⟩
            show X.1 ++ _ = _ ++ _
            rw [b1, e1]
      have h0 := key m 0 F (Nat.zero_add m) (fun _ _ => rfl) hF
      rw [show (p * m + 0) * q = p * (m * q) by rw [Nat.add_zero, Nat.mul_assoc]] at h0
      rw [sm_sr, if_pos hc, hme]
      exact h0
    · have hm1 : m = 1 := by rw [← hme]; exact sm_op_no hc
      subst hm1
      rw [Nat.one_mul] at hle hpr ⊢
      rw [sm_sr, if_neg hc]
      by_cases hk8 : P.1 i = 8
      · rw [if_pos hk8]
        have hp31 : p < 2 ^ 31 := by
          have : p + 1 ≤ (p + 1) * q := Nat.le_mul_of_pos_right _ hq
          omega
        -- the first run of the block marks the cut
        have hRe : sm_Re P n p (i + 1) v (upd F i (nI p)) := by
          intro code G h1 h2
          rw [hfi1, hqe] at h1
          have hGi : G i = nI p := (h2 i (by omega)).trans pk_us
          rw [hR code G (by rw [hfi, hpr]; exact h1) (fun k hk => (h2 k (by omega)).trans (pk_un (by omega))), hfi, sm_mr, if_pos hk8, hqe, h1, hGi, if_neg (nI_pos hp31), if_pos rfl, ← hGi, sm_upd_self, hfi1]
        have hfirst : sm_mr P (p * q) n 0 sm_z F = sm_mr P (p * q) n 0 sm_z (upd F i (nI p)) := by
          have hd : p * q / q = p := Nat.mul_div_cancel p hq
          rw [hR (p * q) F (by rw [hfi, hpr]; exact hd) (fun _ _ => rfl), hR (p * q) (upd F i (nI p)) (by rw [hfi, hpr]; exact hd) (fun k hk => pk_un (by omega)), hfi, sm_mr, sm_mr, if_pos hk8, if_pos hk8, hqe, hd, if_pos (hF i (Nat.le_refl i)), if_pos rfl]
          rw [pk_us, if_neg (nI_pos hp31), if_pos rfl]
          congr 1
          funext j
          unfold upd
          by_cases hj : j = i
          · rw [if_pos hj, if_pos hj]
          · rw [if_neg hj, if_neg hj]
        have hsame : sm_ml P n q (p * q) F = sm_ml P n q (p * q) (upd F i (nI p)) := by
          obtain ⟨q', hq'⟩ : ∃ q', q = q' + 1 := ⟨q - 1, by omega⟩
          generalize p * q = z at hfirst
          rw [hq', sm_ml, sm_ml, hfirst]
        obtain ⟨b1, b2, b3, b4⟩ := ih (i + 1) p v (upd F i (nI p)) (by omega) (by rw [hqe]; exact hq) (by rw [hqe]; exact hle) hRe (fun k hk => by rw [pk_un (by omega)]; exact hF k (by omega))
        rw [hqe] at b1 b2 b3 b4
        have hkeep : (sm_ml P n q (p * q) (upd F i (nI p))).2 i = nI p := by
          rw [sm_keep_list q (p * q) _ (by rw [pk_us]; exact nI_pos hp31), pk_us]
        rw [hsame]
        refine ⟨b1, fun h => (by cases h), fun h => (by cases h), fun _ => ⟨i, by omega, hk8, ?_, ?_⟩⟩
        · rw [hkeep]
          exact nI_pos hp31
        · intro code h1 h2 h3
          rw [hkeep, hfi1, hqe] at h3
          have h4 : p + 1 ≤ code / q := (Nat.le_div_iff_mul_le hq).mpr h1
          have h5 : code / q < 2 ^ 31 := Nat.lt_of_le_of_lt (Nat.div_le_self _ _) h2
          have := (nI_eq hp31 h5).mp h3
          omega
      · rw [if_neg hk8]
        by_cases ho : sm_ok P i v = true
        · rw [if_pos ho]
          have hRe : sm_Re P n p (i + 1) (sm_ap P i 0 v) F := by
            intro code G h1 h2
            rw [hfi1, hqe] at h1
            rw [hR code G (by rw [hfi, hpr]; exact h1) (fun k hk => h2 k (by omega)), hfi, sm_mr, if_neg hk8, if_pos ho, hme, Nat.mod_one, hfi1]
          obtain ⟨b1, b2, b3, b4⟩ := ih (i + 1) p (sm_ap P i 0 v) F (by omega) (by rw [hqe]; exact hq) (by rw [hqe]; exact hle) hRe (fun k hk => hF k (by omega))
          rw [hqe] at b1 b2 b3 b4
          refine ⟨b1, fun h k hk => b2 h k (by omega), fun h k hk => ?_, b4⟩
          by_cases hki : k = i
          · rw [hki, b2 h i (by omega)]
            exact hF i (Nat.le_refl i)
          · exact b3 h k (by omega)
        · rw [if_neg ho]
          have hall : sm_ml P n q (p * q) F = ([], F) := by
            refine sm_all_fail q (p * q) F (fun z z1 z2 => ?_)
            rw [hR z F (by rw [hfi, hpr]; exact sm_div_in z1 z2) (fun _ _ => rfl), hfi, sm_mr, if_neg hk8, if_neg ho]
            exact ⟨rfl, rfl⟩
          rw [hall]
          exact ⟨rfl, fun _ _ _ => rfl, fun _ => hF, fun h => by cases h⟩
/-- the reference's runs are the search's answers -/
theorem sm_main {P : Pg} {n : Nat} (hle : sm_pr P n 0 ≤ 2 ^ 31) : (sm_ml P n (sm_pr P n 0) 0 (fun _ => -1)).1 = (sm_sr P n 0 sm_z).1 := by
  by_cases h0 : sm_pr P n 0 = 0
  · rw [h0, sm_sr_nil P n 0 sm_z h0]
    rfl
  · have h := sm_block n 0 0 sm_z (fun _ => -1) (Nat.zero_add n) (Nat.pos_of_ne_zero h0) (by rw [Nat.zero_add, Nat.one_mul]; exact hle) (fun code G _ _ => rfl) (fun _ _ => by decide)
    rw [Nat.zero_mul] at h
    exact h.1
end
section
/-! HOW THE MACHINE'S CELLS STAND FOR A STACK OF CHOICES: trail, undoing, the stack's arrays. Plain. -/
/-- the name of a variable, as a number -/
def sm_v4 (x : Int32) : Prop := x = nI (ix x) ∧ ix x < 4
theorem sm_v4_of {a : Nat} (h : a < 4) : sm_v4 (nI a) := by
  have h1 : ix (nI a) = a := nI_clamp (by omega)
  exact ⟨by rw [h1], by rw [h1]; exact h⟩
/-- what the steps of a program are -/
def sm_va (P : Pg) (n : Nat) : Prop := ∀ i, i < n → (∃ k, k ≤ 9 ∧ P.1 i = nI k) ∧ sm_v4 (P.2.1 i) ∧ (P.1 i = 0 → -3 ≤ (P.2.2.1 i).toInt ∧ (P.2.2.1 i).toInt ≤ 9 ∧ -3 ≤ (P.2.2.2 i).toInt ∧ (P.2.2.2 i).toInt ≤ 9) ∧ (¬ P.1 i = 0 → ¬ P.1 i = 1 → sm_v4 (P.2.2.1 i))
theorem sm_va.mono {P : Pg} {n m : Nat} (h : sm_va P n) (hm : m ≤ n) : sm_va P m := fun i hi => h i (by omega)
theorem sm_va.bd {P : Pg} {n : Nat} (h : sm_va P n) : sm_bd P n := by
  intro i hi
  obtain ⟨-, -, h3, -⟩ := h i hi
  unfold sm_op
  by_cases h0 : P.1 i = 0
  · rw [if_pos h0]
    have := h3 h0
    omega
  · rw [if_neg h0]
    by_cases h4 : P.1 i = 4 ∨ P.1 i = 9
    · rw [if_pos h4]; omega
    · rw [if_neg h4]; omega
/-- the number of ways, as the machine counts it -/
theorem sm_ways_toInt {b c : Int32} (h1 : -3 ≤ b.toInt) (h2 : b.toInt ≤ 9) (h3 : -3 ≤ c.toInt) (h4 : c.toInt ≤ 9) : (c - b + 1).toInt = c.toInt - b.toInt + 1 := by
  have e1 : (c - b).toInt = c.toInt - b.toInt := by
    rw [Int32.toInt_sub]
    exact Int.bmod_eq_of_le (by omega) (by omega)
  rw [Int32.toInt_add, e1, show (1 : Int32).toInt = 1 from by decide]
  exact Int.bmod_eq_of_le (by omega) (by omega)
theorem sm_ways_pos {b c : Int32} (h1 : -3 ≤ b.toInt) (h2 : b.toInt ≤ 9) (h3 : -3 ≤ c.toInt) (h4 : c.toInt ≤ 9) (h : 0 ≤ c - b + 1) : c - b + 1 = nI (c.toInt - b.toInt + 1).toNat := by
  have e := sm_ways_toInt h1 h2 h3 h4
  have h0 : 0 ≤ (c - b + 1).toInt := by
    have := Int32.le_iff_toInt_le.mp h
    rwa [Int32.toInt_zero] at this
  apply Int32.toInt_inj.mp
  rw [nI_toInt (by omega), e]
  rw [e] at h0
  omega
theorem sm_ways_neg {b c : Int32} (h1 : -3 ≤ b.toInt) (h2 : b.toInt ≤ 9) (h3 : -3 ≤ c.toInt) (h4 : c.toInt ≤ 9) (h : ¬ 0 ≤ c - b + 1) : (c.toInt - b.toInt + 1).toNat = 0 := by
  have e := sm_ways_toInt h1 h2 h3 h4
  have h0 : ¬ 0 ≤ (c - b + 1).toInt := fun q => h (Int32.le_iff_toInt_le.mpr (by rw [Int32.toInt_zero]; exact q))
  rw [e] at h0
  omega
/-- undoing c entries of the trail from its top t down -/
def sm_un (tv tx : Vs) : Nat → Nat → Vs → Vs
  | 0, _, v => v
  | c + 1, t, v => sm_un tv tx c (t - 1) (upd v (ix (tv (t - 1))) (tx (t - 1)))
theorem sm_un_cg {tv tx tv' tx' : Vs} : ∀ (c t : Nat) (v : Vs), c ≤ t → (∀ j, j < t → tv' j = tv j) → (∀ j, j < t → tx' j = tx j) → sm_un tv' tx' c t v = sm_un tv tx c t v := by
  intro c
  induction c with
  | zero => intro t v _ _ _; rfl
  | succ c ih =>
    intro t v h h1 h2
    rw [sm_un, sm_un, h1 (t - 1) (by omega), h2 (t - 1) (by omega)]
    exact ih (t - 1) _ (by omega) (fun j hj => h1 j (by omega)) (fun j hj => h2 j (by omega))
/-- the stack's arrays and the trail stand for the stack k -/
def sm_Rs (P : Pg) (n : Nat) (tv tx o1 o2 o3 : Vs) : Nat → Vs → List Ch → Prop
  | _, _, [] => True
  | tt, v, q :: r => ∃ t0, t0 ≤ tt ∧ t0 ≤ q.1 ∧ q.1 < n ∧ sm_ch P q.1 ∧ r.length ≤ sm_cb P q.1 ∧ q.2.1 < sm_op P q.1 ∧ o1 r.length = nI q.1 ∧ o2 r.length = nI q.2.1 ∧ o3 r.length = nI t0 ∧ sm_un tv tx (tt - t0) tt v = q.2.2 ∧ sm_Rs P n tv tx o1 o2 o3 t0 q.2.2 r
theorem sm_Rs_cg {P : Pg} {n : Nat} {tv tx o1 o2 o3 tv' tx' p1 p2 p3 : Vs} : ∀ (k : List Ch) (tt : Nat) (v : Vs), (∀ j, j < tt → tv' j = tv j) → (∀ j, j < tt → tx' j = tx j) → (∀ j, j < k.length → p1 j = o1 j) → (∀ j, j < k.length → p2 j = o2 j) → (∀ j, j < k.length → p3 j = o3 j) →
    sm_Rs P n tv tx o1 o2 o3 tt v k → sm_Rs P n tv' tx' p1 p2 p3 tt v k := by
  intro k
  induction k with
  | nil => intro tt v _ _ _ _ _ _; trivial
  | cons q r ih =>
    intro tt v h1 h2 h3 h4 h5 h
    obtain ⟨t0, a1, a2, a3, a4, a5, a6, a7, a8, a9, a10, a11⟩ := h
    have hl : r.length < (q :: r).length := Nat.lt_succ_self _
    refine ⟨t0, a1, a2, a3, a4, a5, a6, ?_, ?_, ?_, ?_, ?_⟩
    · rw [h3 _ hl]; exact a7
    · rw [h4 _ hl]; exact a8
    · rw [h5 _ hl]; exact a9
    · rw [sm_un_cg (tt - t0) tt v (by omega) h1 h2]; exact a10
    · exact ih t0 q.2.2 (fun j hj => h1 j (by omega)) (fun j hj => h2 j (by omega)) (fun j hj => h3 j (by omega)) (fun j hj => h4 j (by omega)) (fun j hj => h5 j (by omega)) a11
/-- one more entry of the trail -/
theorem sm_Rs_push {P : Pg} {n : Nat} {tv tx o1 o2 o3 : Vs} {tt a : Nat} {v v' : Vs} {k : List Ch} (ha : a < 4) (hv : upd v' a (v a) = v) (h : sm_Rs P n tv tx o1 o2 o3 tt v k) : sm_Rs P n (upd tv tt (nI a)) (upd tx tt (v a)) o1 o2 o3 (tt + 1) v' k := by
  cases k with
  | nil => trivial
  | cons q r =>
    obtain ⟨t0, a1, a2, a3, a4, a5, a6, a7, a8, a9, a10, a11⟩ := h
    refine ⟨t0, by omega, a2, a3, a4, a5, a6, a7, a8, a9, ?_, ?_⟩
    · rw [show tt + 1 - t0 = (tt - t0) + 1 by omega, sm_un, Nat.add_sub_cancel, pk_us, pk_us, show ix (nI a) = a from nI_clamp (by omega), hv, ← a10]
      exact sm_un_cg (tt - t0) tt v (by omega) (fun j hj => pk_un (by omega)) (fun j hj => pk_un (by omega))
    · exact sm_Rs_cg r t0 q.2.2 (fun j hj => pk_un (by omega)) (fun j hj => pk_un (by omega)) (fun _ _ => rfl) (fun _ _ => rfl) (fun _ _ => rfl) a11
/-- a machine behind a failed or finished run: only its stack matters -/
def sm_St (P : Pg) (n : Nat) (v : Vs) (tt : Nat) (tv tx : Vs) (oc : Nat) (o1 o2 o3 : Vs) (k : List Ch) : Prop := tt ≤ 14 ∧ oc = k.length ∧ (∀ j, j < tt → sm_v4 (tv j)) ∧ sm_Rs P n tv tx o1 o2 o3 tt v k
/-- a machine on its way, at step pt -/
def sm_Cf (P : Pg) (n : Nat) (v : Vs) (pt tt : Nat) (tv tx : Vs) (oc : Nat) (o1 o2 o3 : Vs) (k : List Ch) : Prop := sm_St P n v tt tv tx oc o1 o2 o3 k ∧ pt ≤ n ∧ tt ≤ pt ∧ k.length ≤ sm_cb P pt
theorem sm_tv_push {tv : Vs} {tt a : Nat} (ha : a < 4) (h : ∀ j, j < tt → sm_v4 (tv j)) : ∀ j, j < tt + 1 → sm_v4 (upd tv tt (nI a) j) := by
  intro j hj
  by_cases he : j = tt
  · rw [he, pk_us]; exact sm_v4_of ha
  · rw [pk_un he]; exact h j (by omega)
/-- a step that changes one variable -/
theorem sm_Cf_push {P : Pg} {n : Nat} {v v' : Vs} {pt tt : Nat} {tv tx : Vs} {oc : Nat} {o1 o2 o3 : Vs} {k : List Ch} {a : Nat} (hn : n ≤ 14) (ha : a < 4) (hv : upd v' a (v a) = v) (hp : pt < n) (h : sm_Cf P n v pt tt tv tx oc o1 o2 o3 k) : sm_Cf P n v' (pt + 1) (tt + 1) (upd tv tt (nI a)) (upd tx tt (v a)) oc o1 o2 o3 k := by
  obtain ⟨⟨h1, h2, h3, h4⟩, h5, h6, h7⟩ := h
  exact ⟨⟨by omega, h2, sm_tv_push ha h3, sm_Rs_push ha hv h4⟩, by omega, by omega, Nat.le_trans h7 (sm_cb_mono P (Nat.le_succ pt))⟩
theorem sm_Cf_next {P : Pg} {n : Nat} {v : Vs} {pt tt : Nat} {tv tx : Vs} {oc : Nat} {o1 o2 o3 : Vs} {k : List Ch} (hp : pt < n) (h : sm_Cf P n v pt tt tv tx oc o1 o2 o3 k) : sm_Cf P n v (pt + 1) tt tv tx oc o1 o2 o3 k := by
  obtain ⟨h0, h5, h6, h7⟩ := h
  exact ⟨h0, by omega, by omega, Nat.le_trans h7 (sm_cb_mono P (Nat.le_succ pt))⟩
/-- which variable a choosing step changes -/
def sm_tg (P : Pg) (i d : Nat) : Nat := if P.1 i = 9 then (if d = 0 then ix (P.2.1 i) else ix (P.2.2.1 i)) else ix (P.2.1 i)
theorem sm_upd_back {v : Vs} {a : Nat} {x : Int32} : upd (upd v a x) a (v a) = v := by
  funext j
  unfold upd
  by_cases h : j = a
  · rw [if_pos h, h]
  · rw [if_neg h, if_neg h]
theorem sm_ap_0 {P : Pg} {i : Nat} (h : P.1 i = 0) (d : Nat) (v : Vs) : sm_ap P i d v = upd v (ix (P.2.1 i)) (P.2.2.1 i + nI d) := by
  unfold sm_ap; rw [if_pos h]
theorem sm_ap_4 {P : Pg} {i : Nat} (h : P.1 i = 4) (d : Nat) (v : Vs) : sm_ap P i d v = upd v (ix (P.2.1 i)) (if d = 0 then v (ix (P.2.2.1 i)) else v (ix (P.2.1 i))) := by
  unfold sm_ap
  rw [if_neg (by rw [h]; decide), if_neg (by rw [h]; decide), if_neg (by rw [h]; decide), if_neg (by rw [h]; decide), if_pos h]
theorem sm_ap_9 {P : Pg} {i : Nat} (h : P.1 i = 9) (d : Nat) (v : Vs) : sm_ap P i d v = upd v (if d = 0 then ix (P.2.1 i) else ix (P.2.2.1 i)) (v (if d = 0 then ix (P.2.1 i) else ix (P.2.2.1 i)) + 1) := by
  unfold sm_ap
  rw [if_neg (by rw [h]; decide), if_neg (by rw [h]; decide), if_neg (by rw [h]; decide), if_neg (by rw [h]; decide), if_neg (by rw [h]; decide), if_pos h]
theorem sm_ap_1 {P : Pg} {i : Nat} (h : P.1 i = 1) (d : Nat) (v : Vs) : sm_ap P i d v = upd v (ix (P.2.1 i)) (P.2.2.1 i) := by
  unfold sm_ap
  rw [if_neg (by rw [h]; decide), if_pos h]
theorem sm_ap_2 {P : Pg} {i : Nat} (h : P.1 i = 2) (d : Nat) (v : Vs) : sm_ap P i d v = upd v (ix (P.2.1 i)) (v (ix (P.2.1 i)) + v (ix (P.2.2.1 i))) := by
  unfold sm_ap
  rw [if_neg (by rw [h]; decide), if_neg (by rw [h]; decide), if_pos h]
theorem sm_ap_3 {P : Pg} {i : Nat} (h : P.1 i = 3) (d : Nat) (v : Vs) : sm_ap P i d v = upd v (ix (P.2.1 i)) (v (ix (P.2.1 i)) * v (ix (P.2.2.1 i))) := by
  unfold sm_ap
  rw [if_neg (by rw [h]; decide), if_neg (by rw [h]; decide), if_neg (by rw [h]; decide), if_pos h]
theorem sm_ap_n {P : Pg} {i : Nat} (h : P.1 i = 5 ∨ P.1 i = 6 ∨ P.1 i = 7 ∨ P.1 i = 8) (d : Nat) (v : Vs) : sm_ap P i d v = v := by
  unfold sm_ap
  rcases h with h | h | h | h <;> rw [if_neg (by rw [h]; decide), if_neg (by rw [h]; decide), if_neg (by rw [h]; decide), if_neg (by rw [h]; decide), if_neg (by rw [h]; decide), if_neg (by rw [h]; decide)]
theorem sm_ok_5 {P : Pg} {i : Nat} (h : P.1 i = 5) (v : Vs) : sm_ok P i v = decide (v (ix (P.2.1 i)) < v (ix (P.2.2.1 i))) := by
  unfold sm_ok; rw [if_pos h]
theorem sm_ok_6 {P : Pg} {i : Nat} (h : P.1 i = 6) (v : Vs) : sm_ok P i v = decide (v (ix (P.2.1 i)) = v (ix (P.2.2.1 i))) := by
  unfold sm_ok; rw [if_neg (by rw [h]; decide), if_pos h]
theorem sm_ok_7 {P : Pg} {i : Nat} (h : P.1 i = 7) (v : Vs) : sm_ok P i v = decide (¬ v (ix (P.2.1 i)) = v (ix (P.2.2.1 i))) := by
  unfold sm_ok; rw [if_neg (by rw [h]; decide), if_neg (by rw [h]; decide), if_pos h]
theorem sm_ok_o {P : Pg} {i : Nat} (h5 : ¬ P.1 i = 5) (h6 : ¬ P.1 i = 6) (h7 : ¬ P.1 i = 7) (v : Vs) : sm_ok P i v = true := by
  unfold sm_ok; rw [if_neg h5, if_neg h6, if_neg h7]
/-- a way taken can be taken back -/
theorem sm_ap_back {P : Pg} {i : Nat} (hc : sm_ch P i) (d : Nat) (v : Vs) : upd (sm_ap P i d v) (sm_tg P i d) (v (sm_tg P i d)) = v := by
  unfold sm_tg
  rcases hc with h | h | h
  · rw [if_neg (by rw [h]; decide), sm_ap_0 h]; exact sm_upd_back
  · rw [if_neg (by rw [h]; decide), sm_ap_4 h]; exact sm_upd_back
  · rw [if_pos h, sm_ap_9 h]; exact sm_upd_back
theorem sm_tg_lt {P : Pg} {n i : Nat} (hV : sm_va P n) (hi : i < n) (hc : sm_ch P i) (d : Nat) : sm_tg P i d < 4 := by
  obtain ⟨-, h2, -, h4⟩ := hV i hi
  unfold sm_tg
  by_cases h9 : P.1 i = 9
  · rw [if_pos h9]
    by_cases h0 : d = 0
    · rw [if_pos h0]; exact h2.2
    · rw [if_neg h0]; exact (h4 (by rw [h9]; decide) (by rw [h9]; decide)).2
  · rw [if_neg h9]; exact h2.2
/-- goBack: the last choice's next way is taken, and the choice stays open or not -/
theorem sm_back {P : Pg} {n : Nat} {v : Vs} {tt : Nat} {tv tx o1 o2 o3 : Vs} {oc s w t0 : Nat} {u : Vs} {r : List Ch} (hn : n ≤ 14) (hV : sm_va P n) (h : sm_St P n v tt tv tx oc o1 o2 o3 ((s, w, u) :: r)) (h3 : o3 r.length = nI t0) (ht : t0 < 2 ^ 31) :
    t0 ≤ tt ∧ t0 ≤ s ∧ s < n ∧ sm_ch P s ∧ r.length ≤ sm_cb P s ∧ w < sm_op P s ∧ o1 r.length = nI s ∧ o2 r.length = nI w ∧ sm_un tv tx (tt - t0) tt v = u ∧ sm_Rs P n tv tx o1 o2 o3 t0 u r ∧ oc = r.length + 1 := by
  obtain ⟨g1, g2, g3, t1, a1, a2, a3, a4, a5, a6, a7, a8, a9, a10, a11⟩ := h
  have he : t1 = t0 := (nI_eq (by omega) ht).mp (a9.symm.trans h3)
  subst he
  exact ⟨a1, a2, a3, a4, a5, a6, a7, a8, a10, a11, g2⟩
theorem sm_St_top {P : Pg} {n : Nat} {v : Vs} {tt : Nat} {tv tx o1 o2 o3 : Vs} {oc s w : Nat} {u : Vs} {r : List Ch} (h : sm_St P n v tt tv tx oc o1 o2 o3 ((s, w, u) :: r)) : ∃ t0, t0 ≤ tt ∧ t0 ≤ s ∧ s < n ∧ sm_ch P s ∧ r.length ≤ sm_cb P s ∧ w < sm_op P s ∧ o1 r.length = nI s ∧ o2 r.length = nI w ∧ o3 r.length = nI t0 ∧ sm_un tv tx (tt - t0) tt v = u ∧ sm_Rs P n tv tx o1 o2 o3 t0 u r ∧ oc = r.length + 1 ∧ tt ≤ 14 ∧ (∀ j, j < tt → sm_v4 (tv j)) := by
  obtain ⟨g1, g2, g3, t1, a1, a2, a3, a4, a5, a6, a7, a8, a9, a10, a11⟩ := h
  exact ⟨t1, a1, a2, a3, a4, a5, a6, a7, a8, a9, a10, a11, g2, g1, g3⟩
/-- the choice at step i is opened: its entry goes on the stack -/
theorem sm_Cf_open {P : Pg} {n : Nat} {v : Vs} {i tt : Nat} {tv tx : Vs} {oc : Nat} {o1 o2 o3 : Vs} {k : List Ch} (hn : n ≤ 14) (hV : sm_va P n) (hi : i < n) (hc : sm_ch P i) (ho : 1 < sm_op P i) (h : sm_Cf P n v i tt tv tx oc o1 o2 o3 k) :
    sm_Cf P n (sm_ap P i 0 v) (i + 1) (tt + 1) (upd tv tt (nI (sm_tg P i 0))) (upd tx tt (v (sm_tg P i 0))) (oc + 1) (upd o1 oc (nI i)) (upd o2 oc 1) (upd o3 oc (nI tt)) ((i, 1, v) :: k) := by
  obtain ⟨⟨h1, h2, h3, h4⟩, h5, h6, h7⟩ := h
  subst h2
  have hcb : sm_cb P (i + 1) = sm_cb P i + 1 := by rw [sm_cb, if_pos hc]
  have hR : sm_Rs P n tv tx (upd o1 k.length (nI i)) (upd o2 k.length 1) (upd o3 k.length (nI tt)) tt v ((i, 1, v) :: k) := by
    refine ⟨tt, Nat.le_refl _, h6, hi, hc, h7, ho, pk_us, ?_, pk_us, ?_, ?_⟩
    · rw [pk_us]; rfl
    · rw [Nat.sub_self]; rfl
    · exact sm_Rs_cg k tt v (fun _ _ => rfl) (fun _ _ => rfl) (fun j hj => pk_un (by omega)) (fun j hj => pk_un (by omega)) (fun j hj => pk_un (by omega)) h4
  refine ⟨⟨by omega, rfl, sm_tv_push (sm_tg_lt hV hi hc 0) h3, ?_⟩, by omega, by omega, ?_⟩
  · exact sm_Rs_push (sm_tg_lt hV hi hc 0) (sm_ap_back hc 0 v) hR
  · show k.length + 1 ≤ _
    rw [hcb]; omega
/-- the stack holds at most the choices ahead -/
theorem sm_Cf_next_ch {P : Pg} {n : Nat} {v : Vs} {i tt : Nat} {tv tx : Vs} {oc : Nat} {o1 o2 o3 : Vs} {k : List Ch} (hn : n ≤ 14) (hV : sm_va P n) (hi : i < n) (hc : sm_ch P i) (h : sm_Cf P n v i tt tv tx oc o1 o2 o3 k) :
    sm_Cf P n (sm_ap P i 0 v) (i + 1) (tt + 1) (upd tv tt (nI (sm_tg P i 0))) (upd tx tt (v (sm_tg P i 0))) oc o1 o2 o3 k :=
  sm_Cf_push hn (sm_tg_lt hV hi hc 0) (sm_ap_back hc 0 v) hi h
/-- back at the choice s: way w is taken; the entry's next way is w + 1 -/
theorem sm_Cf_more {P : Pg} {n : Nat} {tv tx o1 o2 o3 : Vs} {s w t0 : Nat} {u : Vs} {r : List Ch} (hn : n ≤ 14) (hV : sm_va P n) (b2 : t0 ≤ s) (b3 : s < n) (b4 : sm_ch P s) (b5 : r.length ≤ sm_cb P s) (b6 : w + 1 < sm_op P s) (b7 : o1 r.length = nI s) (b9 : o3 r.length = nI t0) (b11 : sm_Rs P n tv tx o1 o2 o3 t0 u r) (b12 : ∀ j, j < t0 → sm_v4 (tv j)) :
    sm_Cf P n (sm_ap P s w u) (s + 1) (t0 + 1) (upd tv t0 (nI (sm_tg P s w))) (upd tx t0 (u (sm_tg P s w))) (r.length + 1) o1 (upd o2 r.length (nI (w + 1))) o3 ((s, w + 1, u) :: r) := by
  have hcb : sm_cb P (s + 1) = sm_cb P s + 1 := by rw [sm_cb, if_pos b4]
  have hR : sm_Rs P n tv tx o1 (upd o2 r.length (nI (w + 1))) o3 t0 u ((s, w + 1, u) :: r) := by
    refine ⟨t0, Nat.le_refl _, b2, b3, b4, b5, b6, b7, pk_us, b9, ?_, ?_⟩
    · rw [Nat.sub_self]; rfl
    · exact sm_Rs_cg r t0 u (fun _ _ => rfl) (fun _ _ => rfl) (fun _ _ => rfl) (fun j hj => pk_un (by omega)) (fun _ _ => rfl) b11
  refine ⟨⟨by omega, rfl, sm_tv_push (sm_tg_lt hV b3 b4 w) b12, ?_⟩, by omega, by omega, ?_⟩
  · exact sm_Rs_push (sm_tg_lt hV b3 b4 w) (sm_ap_back b4 w u) hR
  · show r.length + 1 ≤ _
    rw [hcb]; omega
theorem sm_Cf_last {P : Pg} {n : Nat} {tv tx o1 o2 o3 : Vs} {s w t0 : Nat} {x : Int32} {u : Vs} {r : List Ch} (hn : n ≤ 14) (hV : sm_va P n) (b2 : t0 ≤ s) (b3 : s < n) (b4 : sm_ch P s) (b5 : r.length ≤ sm_cb P s) (b11 : sm_Rs P n tv tx o1 o2 o3 t0 u r) (b12 : ∀ j, j < t0 → sm_v4 (tv j)) :
    sm_Cf P n (sm_ap P s w u) (s + 1) (t0 + 1) (upd tv t0 (nI (sm_tg P s w))) (upd tx t0 (u (sm_tg P s w))) r.length o1 (upd o2 r.length x) o3 r := by
  have hR : sm_Rs P n tv tx o1 (upd o2 r.length x) o3 t0 u r := sm_Rs_cg r t0 u (fun _ _ => rfl) (fun _ _ => rfl) (fun _ _ => rfl) (fun j hj => pk_un (by omega)) (fun _ _ => rfl) b11
  exact ⟨⟨by omega, rfl, sm_tv_push (sm_tg_lt hV b3 b4 w) b12, sm_Rs_push (sm_tg_lt hV b3 b4 w) (sm_ap_back b4 w u) hR⟩, by omega, by omega, Nat.le_trans b5 (sm_cb_mono P (Nat.le_succ s))⟩
/-- the cut: all open choices are dropped -/
theorem sm_Cf_cut {P : Pg} {n : Nat} {v : Vs} {i tt : Nat} {tv tx : Vs} {oc : Nat} {o1 o2 o3 : Vs} {k : List Ch} (hi : i < n) (h : sm_Cf P n v i tt tv tx oc o1 o2 o3 k) : sm_Cf P n v (i + 1) tt tv tx 0 o1 o2 o3 [] := by
  obtain ⟨⟨h1, h2, h3, h4⟩, h5, h6, h7⟩ := h
  exact ⟨⟨h1, rfl, h3, trivial⟩, by omega, by omega, Nat.zero_le _⟩
theorem sm_Cf_start {P : Pg} {n : Nat} {tv tx o1 o2 o3 : Vs} : sm_Cf P n sm_z 0 0 tv tx 0 o1 o2 o3 [] := ⟨⟨Nat.zero_le _, rfl, fun j hj => absurd hj (Nat.not_lt_zero _), trivial⟩, Nat.zero_le _, Nat.le_refl _, Nat.zero_le _⟩
end
section
/-! OWN ROWS OF THE WALK: numbers by Nat, arrays by Nat places, joins, loops, contracts of one world, calls within a class. -/
theorem sx_b8 : ∀ k, k < 128 → (nI k).toInt8.toInt32 = nI k := by decide +kernel
theorem sx_ext {cA : ClassId} {n : Nat} {f g : Nat → Int32} (h : ∀ j, j < n → f j = g j) : vp_cell cA (n, .inl f) = vp_cell cA (n, .inl g) := by
  rw [vp_cell_i, vp_cell_i]
  unfold arrV
  congr 1
  exact congrArg _ (funext fun j => by show Value.int (f j.val) = Value.int (g j.val); rw [h j.val j.isLt])
section SX
variable {p : Program} {l : Launch} {e : Env} {R : Room} {s : State} {m : MethodId} {args : Array Value} {below : List Frame} {meth : Method} {c : Code} {H : Heap} {locs : List Loc} {cells slots : Nat} {Q : State → Prop}
variable {cc : ByteArray} {pc : Nat} {ls : Array Slot} {rest : List Value} {D : va_G} {cl : List vw_C} {A : Nat → Prop} {a : Nat} {tys : List (ClassId × FieldType)} {ws : va_W} {H0 : Heap}
/-- the number on top by another name -/
theorem sx_topE {x y : Int32} (h : x = y) (k : W p l e R s m args below meth c H locs cells slots Q (F0 m pc ls (.int y :: rest))) : W p l e R s m args below meth c H locs cells slots Q (F0 m pc ls (.int x :: rest)) := by
  rw [h]; exact k
/-- the ways of a question meet again, with a number on top -/
theorem sx_join {g : JFrame} {pc2 : Nat} {ls2 : Array Slot} {rest2 : List Value} (C : Int32 → Prop) (k : ∀ y : Int32, C y → W p l e R s m args below meth c H locs cells slots Q (F0 m pc2 ls2 (.int y :: rest2)))
    (b : (∀ y : Int32, C y → W p l e R s m args below meth c H locs cells slots Q (F0 m pc2 ls2 (.int y :: rest2))) → W p l e R s m args below meth c H locs cells slots Q g) : W p l e R s m args below meth c H locs cells slots Q g := b k
/-- the ways meet again, nothing on top -/
theorem sx_joinC {g : JFrame} {pc2 : Nat} {ls2 : Array Slot} {rest2 : List Value} (C : Prop) (k : C → W p l e R s m args below meth c H locs cells slots Q (F0 m pc2 ls2 rest2))
    (b : (C → W p l e R s m args below meth c H locs cells slots Q (F0 m pc2 ls2 rest2)) → W p l e R s m args below meth c H locs cells slots Q g) : W p l e R s m args below meth c H locs cells slots Q g := b k
theorem sx_iald (hexec : p.tables.exec = Jvm.exec) (hb : c.code = cc) (hK : va_K D cl tys s) (hP : va_P D cl ws H) (q0 t0 : Nat) {cA : ClassId} {n : Nat} {f : Nat → Int32} (ha : ws[q0]? = some (a, .inl (cA, n, .inl f))) (ht : tys[t0]? = some (cA, .int)) {i : Int32} {j : Nat} (hi : i = nI j) (hj : j < n) (hn : n < 2 ^ 31) (hdg : decode cc pc = .ok (.iaload, 1))
    (kk : W p l e R s m args below meth c H locs cells slots Q (F0 m (pc + 1) ls (.int (f j) :: rest))) : W p l e R s m args below meth c H locs cells slots Q (F0 m pc ls (.int i :: .ref a :: rest)) := by
  subst hi
  refine va_iald hexec hb hK hP q0 t0 ha ht (vp_in_nI hj hn) hdg ?_
  rw [nI_clamp (by omega)]
  exact kk
theorem sx_bald (hexec : p.tables.exec = Jvm.exec) (hb : c.code = cc) (hK : va_K D cl tys s) (hP : va_P D cl ws H) (q0 t0 : Nat) {cA : ClassId} {n : Nat} {f : Nat → Int32} (ha : ws[q0]? = some (a, .inl (cA, n, .inl f))) (ht : tys[t0]? = some (cA, .byte)) {i : Int32} {j : Nat} (hi : i = nI j) (hj : j < n) (hn : n < 2 ^ 31) (hdg : decode cc pc = .ok (.baload, 1))
    (kk : W p l e R s m args below meth c H locs cells slots Q (F0 m (pc + 1) ls (.int (f j) :: rest))) : W p l e R s m args below meth c H locs cells slots Q (F0 m pc ls (.int i :: .ref a :: rest)) := by
  subst hi
  refine va_bald hexec hb hK hP q0 t0 ha ht (vp_in_nI hj hn) hdg ?_
  rw [nI_clamp (by omega)]
  exact kk
theorem sx_iast (hexec : p.tables.exec = Jvm.exec) (hb : c.code = cc) (hK : va_K D cl tys s) (hP : va_P D cl ws H) (hD : va_D A ws) (hS : va_S A H0 H locs) (q0 t0 : Nat) {cA : ClassId} {n : Nat} {f : Nat → Int32} (ha : ws[q0]? = some (a, .inl (cA, n, .inl f))) (ht : tys[t0]? = some (cA, .int)) {i : Int32} {x : Int32} {j : Nat} (hi : i = nI j) (hj : j < n) (hn : n < 2 ^ 31) (hdg : decode cc pc = .ok (.iastore, 1))
    (kk : ∀ (H1 : Heap) (locs1 : List Loc), va_P D cl (ws.set q0 (a, .inl (cA, n, .inl (upd f j x)))) H1 → va_D A (ws.set q0 (a, .inl (cA, n, .inl (upd f j x)))) → va_S A H0 H1 locs1 → W p l e R s m args below meth c H1 locs1 cells slots Q (F0 m (pc + 1) ls rest)) : W p l e R s m args below meth c H locs cells slots Q (F0 m pc ls (.int x :: .int i :: .ref a :: rest)) := by
  subst hi
  refine va_iast hexec hb hK hP hD hS q0 t0 ha ht (vp_in_nI hj hn) hdg ?_
  rw [nI_clamp (by omega)]
  exact kk
theorem sx_bast (hexec : p.tables.exec = Jvm.exec) (hb : c.code = cc) (hK : va_K D cl tys s) (hP : va_P D cl ws H) (hD : va_D A ws) (hS : va_S A H0 H locs) (q0 t0 : Nat) {cA : ClassId} {n : Nat} {f : Nat → Int32} (ha : ws[q0]? = some (a, .inl (cA, n, .inl f))) (ht : tys[t0]? = some (cA, .byte)) {i : Int32} {x y : Int32} {j : Nat} (hi : i = nI j) (hj : j < n) (hn : n < 2 ^ 31) (hy : x.toInt8.toInt32 = y) (hdg : decode cc pc = .ok (.bastore, 1))
    (kk : ∀ (H1 : Heap) (locs1 : List Loc), va_P D cl (ws.set q0 (a, .inl (cA, n, .inl (upd f j y)))) H1 → va_D A (ws.set q0 (a, .inl (cA, n, .inl (upd f j y)))) → va_S A H0 H1 locs1 → W p l e R s m args below meth c H1 locs1 cells slots Q (F0 m (pc + 1) ls rest)) : W p l e R s m args below meth c H locs cells slots Q (F0 m pc ls (.int x :: .int i :: .ref a :: rest)) := by
  subst hi
  refine va_bast hexec hb hK hP hD hS q0 t0 ha ht (vp_in_nI hj hn) hdg ?_
  rw [nI_clamp (by omega), vp_nar_byte, hy]
  exact kk
/-- a loop over a changing world: by a measure -/
theorem sx_loop {σ : Type} {w : σ → va_W} {lv : σ → List (Nat × Value)} {nL : Nat} (I : σ → Prop) (μ : σ → Nat)
    (body : ∀ x : σ, I x → (∀ y : σ, I y → μ y < μ x → ∀ (H : Heap) (locs : List Loc), va_P D cl (w y) H → va_D A (w y) → va_S A H0 H locs → ∀ ls : Array Slot, lv_has ls nL (lv y) → W p l e R s m args below meth c H locs cells slots Q (F0 m pc ls [])) →
      ∀ (H : Heap) (locs : List Loc), va_P D cl (w x) H → va_D A (w x) → va_S A H0 H locs → ∀ ls : Array Slot, lv_has ls nL (lv x) → W p l e R s m args below meth c H locs cells slots Q (F0 m pc ls []))
    (x0 : σ) (hI : I x0) (hP : va_P D cl (w x0) H) (hD : va_D A (w x0)) (hS : va_S A H0 H locs) (hl : lv_has ls nL (lv x0)) : W p l e R s m args below meth c H locs cells slots Q (F0 m pc ls []) := by
  have key : ∀ (k : Nat) (x : σ), μ x < k → I x → ∀ (H : Heap) (locs : List Loc), va_P D cl (w x) H → va_D A (w x) → va_S A H0 H locs → ∀ ls : Array Slot, lv_has ls nL (lv x) → W p l e R s m args below meth c H locs cells slots Q (F0 m pc ls []) := by
    intro k
    induction k with
    | zero => intro x h; exact absurd h (Nat.not_lt_zero _)
    | succ k ih => intro x h hx; exact body x hx (fun y hy hlt => ih y (by omega) hy)
  exact key (μ x0 + 1) x0 (Nat.lt_succ_self _) hI H locs hP hD hS ls hl
/-- a loop that only reads -/
theorem sx_loopR {σ : Type} {lv : σ → List (Nat × Value)} {nL : Nat} (I : σ → Prop) (μ : σ → Nat)
    (body : ∀ x : σ, I x → (∀ y : σ, I y → μ y < μ x → ∀ ls : Array Slot, lv_has ls nL (lv y) → W p l e R s m args below meth c H locs cells slots Q (F0 m pc ls [])) →
      ∀ ls : Array Slot, lv_has ls nL (lv x) → W p l e R s m args below meth c H locs cells slots Q (F0 m pc ls []))
    (x0 : σ) (hI : I x0) (hl : lv_has ls nL (lv x0)) : W p l e R s m args below meth c H locs cells slots Q (F0 m pc ls []) := by
  have key : ∀ (k : Nat) (x : σ), μ x < k → I x → ∀ ls : Array Slot, lv_has ls nL (lv x) → W p l e R s m args below meth c H locs cells slots Q (F0 m pc ls []) := by
    intro k
    induction k with
    | zero => intro x h; exact absurd h (Nat.not_lt_zero _)
    | succ k ih => intro x h hx; exact body x hx (fun y hy hlt => ih y (by omega) hy)
  exact key (μ x0 + 1) x0 (Nat.lt_succ_self _) hI ls hl
end SX
/-! contracts of one world -/
def sx_B {σ : Type} (D : va_G) (cl : List vw_C) (tys : List (ClassId × FieldType)) (wf : σ → va_W) (A : Nat → Prop) (u : σ) (t : State) : Prop := va_P D cl (wf u) t.heap ∧ va_K D cl tys t ∧ va_D A (wf u)
def sx_Pc (D : va_G) (cl : List vw_C) (tys : List (ClassId × FieldType)) (av : List Value) (w : va_W) (sz : Nat) : Array Value → State → Prop := va_Pc av (fun U => U.heap.size = sz ∧ va_P D cl w U.heap ∧ va_K D cl tys U ∧ va_D (fun _ => True) w)
/-- a method that answers an int (or a truth value) and changes the world -/
abbrev MetI {σ : Type} (l : Launch) (D : va_G) (cl : List vw_C) (tys : List (ClassId × FieldType)) (y : MethodName) (ws : List Cond) (rm : Room) (av : List Value) (w : va_W) (wf : σ → va_W) (post : Int32 → σ → Prop) : Prop :=
  ∀ sz : Nat, Met l y ws rm (sx_Pc D cl tys av w sz) (va_Qi post (sx_B D cl tys wf (va_A w sz)) (va_A w sz)) 0 0 (va_A w sz)
abbrev MetV {σ : Type} (l : Launch) (D : va_G) (cl : List vw_C) (tys : List (ClassId × FieldType)) (y : MethodName) (ws : List Cond) (rm : Room) (av : List Value) (w : va_W) (wf : σ → va_W) (post : σ → Prop) : Prop :=
  ∀ sz : Nat, Met l y ws rm (sx_Pc D cl tys av w sz) (va_Qv post (sx_B D cl tys wf (va_A w sz)) (va_A w sz)) 0 0 (va_A w sz)
/-- a method that only reads its world -/
abbrev MetR (l : Launch) (D : va_G) (cl : List vw_C) (tys : List (ClassId × FieldType)) (y : MethodName) (ws : List Cond) (rm : Room) (av : List Value) (w : va_W) (r : Int32) : Prop :=
  Met l y ws rm (va_Pc av (fun U => va_P D cl w U.heap ∧ va_K D cl tys U)) (QcRead r) 0 0 (fun _ => False)
theorem sx_blind {D : va_G} {cl : List vw_C} {tys : List (ClassId × FieldType)} {av : List Value} {w : va_W} {sz : Nat} : FrameBlind (sx_Pc D cl tys av w sz) := by
  intro a U g mk q
  obtain ⟨q0, q1, qP, qK, qD⟩ := q
  exact ⟨q0, q1, qP, va_K.moved (u := U) (U := U.calling g mk a) (Vm.Alike.refl U.vm) qK, qD⟩
theorem sx_blindR {D : va_G} {cl : List vw_C} {tys : List (ClassId × FieldType)} {av : List Value} {w : va_W} : FrameBlind (va_Pc av (fun U => va_P D cl w U.heap ∧ va_K D cl tys U)) := by
  intro a U g mk q
  obtain ⟨q0, qP, qK⟩ := q
  exact ⟨q0, qP, va_K.moved (u := U) (U := U.calling g mk a) (Vm.Alike.refl U.vm) qK⟩
section SXS
variable {l : Launch} {D : va_G} {cl : List vw_C} {tys : List (ClassId × FieldType)} {y : MethodName} {rm : Room} {av : List Value} {w : va_W} {cc : ByteArray} {maxL : Nat} {ret : Option FieldType}
/-- the start of a method's walk -/
theorem MetI.of {σ : Type} {wf : σ → va_W} {post : Int32 → σ → Prop} (hy : plainName y.cls = true) (hav : (lg_sl av).length ≤ maxL)
    (body : ∀ (p : Program) (e : Env) (s : State) (m : MethodId) (below : List Frame) (meth : Method) (c : Code) (ls : Array Slot) (A : Nat → Prop),
      p.tables.exec = Jvm.exec → c.code = cc → meth.sig.returnType = ret → c.maxLocals = maxL → meth.locks = false → (∀ x ∈ lw_all, x.before av.toArray s = true) → s.vm.findClass y.cls = some m.cls → (∀ q : Nat, s.heap.size ≤ q → A q) →
      va_P D cl w s.heap → va_K D cl tys s → va_D A w → va_S A s.heap s.heap [] → lv_has ls maxL (lv_args 0 av) →
      W p l e rm s m av.toArray below meth c s.heap [] 0 0 (MQ below (va_Qi post (sx_B D cl tys wf A) A) av.toArray s 0 0 A) (F0 m 0 ls [])) : MetI l D cl tys y (ws_ y cc maxL ret) rm av w wf post := by
  intro sz
  refine Met.ofW (cc := cc) (maxL := maxL) (ret := ret) hy rfl ?_
  intro p e s m args below meth c s₁ B hml hv
  obtain ⟨rfl, hsz, hP, hK, hD0⟩ := hv
  have hts := atoms_spec (ws := ws_ y cc maxL ret) B.pre
  subst hsz
  rw [lg_entry_eq]
  exact body p e s m below meth c _ (va_A w s.heap.size) B.exec B.bytes B.returns hml B.notSynchronized (fun x h => hts x (List.mem_cons_of_mem _ h)) (findClass_of_methodNamed B.named) (fun q h => Or.inr h) hP hK (hD0.self) va_S.rf (lv_entry av hav)
theorem MetV.of {σ : Type} {wf : σ → va_W} {post : σ → Prop} (hy : plainName y.cls = true) (hav : (lg_sl av).length ≤ maxL)
    (body : ∀ (p : Program) (e : Env) (s : State) (m : MethodId) (below : List Frame) (meth : Method) (c : Code) (ls : Array Slot) (A : Nat → Prop),
      p.tables.exec = Jvm.exec → c.code = cc → meth.sig.returnType = ret → c.maxLocals = maxL → meth.locks = false → (∀ x ∈ lw_all, x.before av.toArray s = true) → s.vm.findClass y.cls = some m.cls → (∀ q : Nat, s.heap.size ≤ q → A q) →
      va_P D cl w s.heap → va_K D cl tys s → va_D A w → va_S A s.heap s.heap [] → lv_has ls maxL (lv_args 0 av) →
      W p l e rm s m av.toArray below meth c s.heap [] 0 0 (MQ below (va_Qv post (sx_B D cl tys wf A) A) av.toArray s 0 0 A) (F0 m 0 ls [])) : MetV l D cl tys y (ws_ y cc maxL ret) rm av w wf post := by
  intro sz
  refine Met.ofW (cc := cc) (maxL := maxL) (ret := ret) hy rfl ?_
  intro p e s m args below meth c s₁ B hml hv
  obtain ⟨rfl, hsz, hP, hK, hD0⟩ := hv
  have hts := atoms_spec (ws := ws_ y cc maxL ret) B.pre
  subst hsz
  rw [lg_entry_eq]
  exact body p e s m below meth c _ (va_A w s.heap.size) B.exec B.bytes B.returns hml B.notSynchronized (fun x h => hts x (List.mem_cons_of_mem _ h)) (findClass_of_methodNamed B.named) (fun q h => Or.inr h) hP hK (hD0.self) va_S.rf (lv_entry av hav)
theorem MetR.of {r : Int32} (hy : plainName y.cls = true) (hav : (lg_sl av).length ≤ maxL)
    (body : ∀ (p : Program) (e : Env) (s : State) (m : MethodId) (below : List Frame) (meth : Method) (c : Code) (ls : Array Slot),
      p.tables.exec = Jvm.exec → c.code = cc → meth.sig.returnType = ret → c.maxLocals = maxL → meth.locks = false → (∀ x ∈ lw_all, x.before av.toArray s = true) → s.vm.findClass y.cls = some m.cls →
      va_P D cl w s.heap → va_K D cl tys s → lv_has ls maxL (lv_args 0 av) →
      W p l e rm s m av.toArray below meth c s.heap [] 0 0 (MQ below (QcRead r) av.toArray s 0 0 (fun _ => False)) (F0 m 0 ls [])) : MetR l D cl tys y (ws_ y cc maxL ret) rm av w r := by
  refine Met.ofW (cc := cc) (maxL := maxL) (ret := ret) hy rfl ?_
  intro p e s m args below meth c s₁ B hml hv
  obtain ⟨rfl, hP, hK⟩ := hv
  have hts := atoms_spec (ws := ws_ y cc maxL ret) B.pre
  rw [lg_entry_eq]
  exact body p e s m below meth c _ B.exec B.bytes B.returns hml B.notSynchronized (fun x h => hts x (List.mem_cons_of_mem _ h)) (findClass_of_methodNamed B.named) hP hK (lv_entry av hav)
end SXS
section SXR
variable {p : Program} {l : Launch} {e : Env} {R : Room} {s : State} {m : MethodId} {args : Array Value} {below : List Frame} {meth : Method} {c : Code} {H : Heap} {locs : List Loc} {cells slots : Nat} {Q : State → Prop}
variable {cc : ByteArray} {pc : Nat} {ls : Array Slot} {rest st0 : List Value} {D : va_G} {cl : List vw_C} {A : Nat → Prop} {b : Nat} {tys : List (ClassId × FieldType)} {w : va_W} {H0 : Heap}
theorem sx_bool {v : Int32} (h : v = 0 ∨ v = 1) : narrow .boolean (.int v) = .int v := by
  rcases h with h | h <;> rw [h] <;> rfl
-- ends
theorem sx_iret {σ : Type} {wf : σ → va_W} {post : Int32 → σ → Prop} {v : Int32} (hx : p.tables.exec = Jvm.exec) (hb : c.code = cc) (hr : meth.sig.returnType = some .int) (hlocks : meth.locks = false) (hK : va_K D cl tys s) (u : σ) (hp : post v u) (hP : va_P D cl (wf u) H) (hD : va_D A (wf u)) (hS : va_S A s.heap H locs) (hdg : decode cc pc = .ok (.ireturn, 1)) :
    W p l e R s m args below meth c H locs 0 0 (MQ below (va_Qi post (sx_B D cl tys wf A) A) args s 0 0 A) (F0 m pc ls [.int v]) :=
  W.iret hx hb hr (fun t ht hW => ⟨⟨v, u, rfl, hp, by rw [ht]; exact hP, va_K.moved hW.alike hK, hD⟩, hS.F ht⟩) hS.2.2 hdg hlocks
theorem sx_zret {σ : Type} {wf : σ → va_W} {post : Int32 → σ → Prop} {v : Int32} (hx : p.tables.exec = Jvm.exec) (hb : c.code = cc) (hr : meth.sig.returnType = some .boolean) (hlocks : meth.locks = false) (hv : v = 0 ∨ v = 1) (hK : va_K D cl tys s) (u : σ) (hp : post v u) (hP : va_P D cl (wf u) H) (hD : va_D A (wf u)) (hS : va_S A s.heap H locs) (hdg : decode cc pc = .ok (.ireturn, 1)) :
    W p l e R s m args below meth c H locs 0 0 (MQ below (va_Qi post (sx_B D cl tys wf A) A) args s 0 0 A) (F0 m pc ls [.int v]) :=
  W.zret hx hb hr (sx_bool hv) (fun t ht hW => ⟨⟨v, u, rfl, hp, by rw [ht]; exact hP, va_K.moved hW.alike hK, hD⟩, hS.F ht⟩) hS.2.2 hdg hlocks
theorem sx_vret {σ : Type} {wf : σ → va_W} {post : σ → Prop} (hx : p.tables.exec = Jvm.exec) (hb : c.code = cc) (hr : meth.sig.returnType = none) (hlocks : meth.locks = false) (hK : va_K D cl tys s) (u : σ) (hp : post u) (hP : va_P D cl (wf u) H) (hD : va_D A (wf u)) (hS : va_S A s.heap H locs) (hdg : decode cc pc = .ok (.return_, 1)) :
    W p l e R s m args below meth c H locs 0 0 (MQ below (va_Qv post (sx_B D cl tys wf A) A) args s 0 0 A) (F0 m pc ls []) :=
  W.vret hx hb hr (fun t ht hW => ⟨⟨u, rfl, hp, by rw [ht]; exact hP, va_K.moved hW.alike hK, hD⟩, hS.F ht⟩) hS.2.2 hdg hlocks
theorem sx_iretR {v r : Int32} (hx : p.tables.exec = Jvm.exec) (hb : c.code = cc) (hr : meth.sig.returnType = some .int) (hlocks : meth.locks = false) (hv : v = r) (hdg : decode cc pc = .ok (.ireturn, 1)) :
    W p l e R s m args below meth c s.heap [] 0 0 (MQ below (QcRead r) args s 0 0 (fun _ => False)) (F0 m pc ls [.int v]) :=
  W.iret hx hb hr (fun t ht _ => ⟨by rw [hv], ht⟩) (fun _ h => by cases h) hdg hlocks
theorem sx_zretR {v r : Int32} (hx : p.tables.exec = Jvm.exec) (hb : c.code = cc) (hr : meth.sig.returnType = some .boolean) (hlocks : meth.locks = false) (hv2 : v = 0 ∨ v = 1) (hv : v = r) (hdg : decode cc pc = .ok (.ireturn, 1)) :
    W p l e R s m args below meth c s.heap [] 0 0 (MQ below (QcRead r) args s 0 0 (fun _ => False)) (F0 m pc ls [.int v]) :=
  W.zret hx hb hr (sx_bool hv2) (fun t ht _ => ⟨by rw [hv], ht⟩) (fun _ h => by cases h) hdg hlocks
-- calls within a class: the callee's world is the caller's
variable {y : MethodName} {bytes : ByteArray} {maxL nL n index ci N : Nat} {ret : Option FieldType} {wc : List Cond} {rm : Room} {Ts : List Cond} {own C : String} {As : List Value} {T : u_T} {fs : List Value}
theorem sx_callI {σ : Type} {wf : σ → va_W} {post : Int32 → σ → Prop} (S : CallFix p m c cc nL s args Ts own) (hM : MetI l D cl tys y wc rm (.ref b :: As) w wf post) (cw : CallW R s args own C index y bytes maxL ret wc rm 0 0 n)
    (hK : va_K D cl tys s) (hP : va_P D cl w H) (hD : va_D A w) (hS : va_S A H0 H locs) (hA : ∀ q, H0.size ≤ q → A q) (hc : cl[ci]? = some (C, T, N)) (he : w[0]? = some (b, .inr (ci, fs)))
    (hn : As.length = n) (hsize : ls.size = nL) (hstack : st0 = As.reverse ++ .ref b :: rest) (hW : (rest.map fun v => v.category).sum ≤ 8) (hf : cells ≤ R.cells ∧ slots ≤ R.slots) (hdg : decode cc pc = .ok (.invokevirtual index, 3))
    (kk : ∀ (r : Int32) (u : σ) (H1 : Heap) (locs1 : List Loc), post r u → va_P D cl (wf u) H1 → va_D A (wf u) → va_S A H0 H1 locs1 → W p l e R s m args below meth c H1 locs1 cells slots Q (F0 m (pc + 3) ls (.int r :: rest))) : W p l e R s m args below meth c H locs cells slots Q (F0 m pc ls st0) := by
  have hF : ∀ q, va_A w H.size q → A q := by
    intro q h
    rcases h with ⟨k, e, h⟩ | h
    · exact hD.2 k (q, e) h
    · exact hA q (Nat.le_trans hS.1 h)
  refine va_calli (va_runV (As := As) (rest := rest) S (hM H.size) cw ⟨sx_blind, va_recv hK hP hc he, fun U hU hW2 => ⟨rfl, by rw [hU], by rw [hU]; exact hP, va_K.moved hW2.alike hK, hD.weaken (fun _ _ _ _ => trivial)⟩⟩ rfl hn hsize hstack (lv_room hW) hdg hf) hS (fun q _ h => hF q h) hF (fun r u t H1 locs1 ht hvm hw1 hB hz1 hk1 hS1 => ?_)
  obtain ⟨b1, b2, b3⟩ := hB
  rw [ht] at b1
  exact kk r u H1 locs1 hw1 b1 (b3.weaken (fun k q _ h => hF q.1 h)) hS1
theorem sx_callV {σ : Type} {wf : σ → va_W} {post : σ → Prop} (S : CallFix p m c cc nL s args Ts own) (hM : MetV l D cl tys y wc rm (.ref b :: As) w wf post) (cw : CallW R s args own C index y bytes maxL ret wc rm 0 0 n)
    (hK : va_K D cl tys s) (hP : va_P D cl w H) (hD : va_D A w) (hS : va_S A H0 H locs) (hA : ∀ q, H0.size ≤ q → A q) (hc : cl[ci]? = some (C, T, N)) (he : w[0]? = some (b, .inr (ci, fs)))
    (hn : As.length = n) (hsize : ls.size = nL) (hstack : st0 = As.reverse ++ .ref b :: rest) (hW : (rest.map fun v => v.category).sum ≤ 8) (hf : cells ≤ R.cells ∧ slots ≤ R.slots) (hdg : decode cc pc = .ok (.invokevirtual index, 3))
    (kk : ∀ (u : σ) (H1 : Heap) (locs1 : List Loc), post u → va_P D cl (wf u) H1 → va_D A (wf u) → va_S A H0 H1 locs1 → W p l e R s m args below meth c H1 locs1 cells slots Q (F0 m (pc + 3) ls rest)) : W p l e R s m args below meth c H locs cells slots Q (F0 m pc ls st0) := by
  have hF : ∀ q, va_A w H.size q → A q := by
    intro q h
    rcases h with ⟨k, e, h⟩ | h
    · exact hD.2 k (q, e) h
    · exact hA q (Nat.le_trans hS.1 h)
  refine va_callv (va_runV (As := As) (rest := rest) S (hM H.size) cw ⟨sx_blind, va_recv hK hP hc he, fun U hU hW2 => ⟨rfl, by rw [hU], by rw [hU]; exact hP, va_K.moved hW2.alike hK, hD.weaken (fun _ _ _ _ => trivial)⟩⟩ rfl hn hsize hstack (lv_room hW) hdg hf) hS (fun q _ h => hF q h) hF (fun u t H1 locs1 ht hvm hw1 hB hz1 hk1 hS1 => ?_)
  obtain ⟨b1, b2, b3⟩ := hB
  rw [ht] at b1
  exact kk u H1 locs1 hw1 b1 (b3.weaken (fun k q _ h => hF q.1 h)) hS1
theorem sx_callR {r : Int32} (S : CallFix p m c cc nL s args Ts own) (hM : MetR l D cl tys y wc rm (.ref b :: As) w r) (cw : CallW R s args own C index y bytes maxL ret wc rm 0 0 n)
    (hK : va_K D cl tys s) (hP : va_P D cl w H) (hc : cl[ci]? = some (C, T, N)) (he : w[0]? = some (b, .inr (ci, fs)))
    (hn : As.length = n) (hsize : ls.size = nL) (hstack : st0 = As.reverse ++ .ref b :: rest) (hW : (rest.map fun v => v.category).sum ≤ 8) (hf : cells ≤ R.cells ∧ slots ≤ R.slots) (hdg : decode cc pc = .ok (.invokevirtual index, 3))
    (kk : W p l e R s m args below meth c H locs cells slots Q (F0 m (pc + 3) ls (.int r :: rest))) : W p l e R s m args below meth c H locs cells slots Q (F0 m pc ls st0) :=
  W.callR (W.runV (As := As) (rest := rest) S hM cw ⟨sx_blindR, va_recv hK hP hc he, fun U hU hW2 => ⟨rfl, by rw [hU]; exact hP, va_K.moved hW2.alike hK⟩⟩ rfl hn hsize hstack (lv_room hW) hdg hf) kk
/-- a static method of ints: no world -/
abbrev MetS (l : Launch) (y : MethodName) (ws : List Cond) (rm : Room) (av : List Value) (r : Int32) : Prop := Met l y ws rm (fun v _ => v = av.toArray) (QcRead r) 0 0 (fun _ => False)
theorem sx_callS {r : Int32} (S : CallFix p m c cc nL s args Ts own) (hM : MetS l y wc rm As r) (cw : CallB R s args own index y bytes maxL ret wc rm 0 0 n ∧ (Cond.static y).before args s = true)
    (hn : As.length = n) (hsize : ls.size = nL) (hstack : st0 = As.reverse ++ rest) (hW : (rest.map fun v => v.category).sum ≤ 8) (hf : cells ≤ R.cells ∧ slots ≤ R.slots) (hdg : decode cc pc = .ok (.invokestatic index, 3))
    (kk : W p l e R s m args below meth c H locs cells slots Q (F0 m (pc + 3) ls (.int r :: rest))) : W p l e R s m args below meth c H locs cells slots Q (F0 m pc ls st0) :=
  W.callR (W.runS (As := As) (rest := rest) S hM cw preEq rfl hn hsize hstack (lv_room hW) hdg hf) kk
theorem MetS.of {r : Int32} {av : List Value} (hy : plainName y.cls = true) (hav : (lg_sl av).length ≤ maxL)
    (body : ∀ (p : Program) (e : Env) (s : State) (m : MethodId) (below : List Frame) (meth : Method) (c : Code) (ls : Array Slot),
      p.tables.exec = Jvm.exec → c.code = cc → meth.sig.returnType = ret → c.maxLocals = maxL → meth.locks = false → (∀ x ∈ lw_all, x.before av.toArray s = true) → s.vm.findClass y.cls = some m.cls → lv_has ls maxL (lv_args 0 av) →
      W p l e rm s m av.toArray below meth c s.heap [] 0 0 (MQ below (QcRead r) av.toArray s 0 0 (fun _ => False)) (F0 m 0 ls [])) : MetS l y (ws_ y cc maxL ret) rm av r := by
  refine Met.ofW (cc := cc) (maxL := maxL) (ret := ret) hy rfl ?_
  intro p e s m args below meth c s₁ B hml hv
  subst hv
  have hts := atoms_spec (ws := ws_ y cc maxL ret) B.pre
  rw [lg_entry_eq]
  exact body p e s m below meth c _ B.exec B.bytes B.returns hml B.notSynchronized (fun x h => hts x (List.mem_cons_of_mem _ h)) (findClass_of_methodNamed B.named) (lv_entry av hav)
end SXR
end
section
/-! THE MACHINE: its world, and its leaves -/
abbrev vwCl : List vw_C := [(RX0, TX0, 15), (RX1, TX1, 7)]
/-- the cells of a SearchMachine: the object, kinds, firsts, seconds, thirds, variables, the trail's two, the choices' three -/
abbrev xW (ad : Nat → Nat) (cB cI : ClassId) (P : Pg) (n : Nat) (v : Vs) (pt en tt : Nat) (tv tx : Vs) (oc : Nat) (o1 o2 o3 : Vs) : va_W :=
  [(ad 0, .inr (0, [.ref (ad 1), .ref (ad 2), .ref (ad 3), .ref (ad 4), .int (nI n), .ref (ad 5), .int (nI pt), .int (nI en), .int (nI tt), .ref (ad 6), .ref (ad 7), .int (nI oc), .ref (ad 8), .ref (ad 9), .ref (ad 10)])),
   (ad 1, .inl (cB, 14, .inl P.1)), (ad 2, .inl (cB, 14, .inl P.2.1)), (ad 3, .inl (cB, 14, .inl P.2.2.1)), (ad 4, .inl (cB, 14, .inl P.2.2.2)), (ad 5, .inl (cI, 4, .inl v)), (ad 6, .inl (cB, 16, .inl tv)), (ad 7, .inl (cI, 16, .inl tx)), (ad 8, .inl (cB, 4, .inl o1)), (ad 9, .inl (cB, 4, .inl o2)), (ad 10, .inl (cB, 4, .inl o3))]
/-- the cells of a SearchMachineModel: the object, kinds, as, bs, cs, vars, first -/
abbrev yW (ad : Nat → Nat) (cI : ClassId) (P : Pg) (n : Nat) (v F : Vs) : va_W :=
  [(ad 0, .inr (1, [.int (nI n), .ref (ad 1), .ref (ad 2), .ref (ad 3), .ref (ad 4), .ref (ad 5), .ref (ad 6)])),
   (ad 1, .inl (cI, 14, .inl P.1)), (ad 2, .inl (cI, 14, .inl P.2.1)), (ad 3, .inl (cI, 14, .inl P.2.2.1)), (ad 4, .inl (cI, 14, .inl P.2.2.2)), (ad 5, .inl (cI, 4, .inl v)), (ad 6, .inl (cI, 14, .inl F))]
abbrev tyX (cB cI : ClassId) : List (ClassId × FieldType) := [(cB, .byte), (cI, .int)]
abbrev tyY (cI : ClassId) : List (ClassId × FieldType) := [(cI, .int)]
/-- the part of the machine that its runs change -/
abbrev XS : Type := Vs × Nat × Nat × Nat × Vs × Vs × Nat × Vs × Vs × Vs
abbrev xF (ad : Nat → Nat) (cB cI : ClassId) (P : Pg) (n : Nat) (u : XS) : va_W := xW ad cB cI P n u.1 u.2.1 u.2.2.1 u.2.2.2.1 u.2.2.2.2.1 u.2.2.2.2.2.1 u.2.2.2.2.2.2.1 u.2.2.2.2.2.2.2.1 u.2.2.2.2.2.2.2.2.1 u.2.2.2.2.2.2.2.2.2
/-- what the small questions answer -/
def sm_iv (x : Int32) : Int32 := if x < 0 then 0 else if 4 ≤ x then 0 else 1
def sm_kc (k : Int32) : Int32 := if k = 0 then 1 else if k = 4 then 1 else if k = 9 then 1 else 0
def sm_so (k b : Int32) : Int32 :=
  if k = 0 then (if b < 0 then 0 else if 256 ≤ b then 0 else if (12 : Int32) < b &&& 15 then 0 else if (12 : Int32) < b >>> ((4 : Int32) &&& 31) then 0 else 1)
  else if k = 1 then (if b < -20 then 0 else if 20 < b then 0 else 1) else sm_iv b
theorem sm_kc_ch (P : Pg) (i : Nat) : sm_kc (P.1 i) = if sm_ch P i then 1 else 0 := by
  unfold sm_kc sm_ch
  by_cases h0 : P.1 i = 0
  · rw [if_pos h0, if_pos (Or.inl h0)]
  · by_cases h4 : P.1 i = 4
    · rw [if_neg h0, if_pos h4, if_pos (Or.inr (Or.inl h4))]
    · by_cases h9 : P.1 i = 9
      · rw [if_neg h0, if_neg h4, if_pos h9, if_pos (Or.inr (Or.inr h9))]
      · rw [if_neg h0, if_neg h4, if_neg h9, if_neg (fun h => by rcases h with h | h | h <;> contradiction)]
theorem sm_iv_01 (x : Int32) : sm_iv x = 0 ∨ sm_iv x = 1 := by
  unfold sm_iv
  split
  · exact Or.inl rfl
  · split
    · exact Or.inl rfl
    · exact Or.inr rfl
theorem sm_kc_01 (x : Int32) : sm_kc x = 0 ∨ sm_kc x = 1 := by
  unfold sm_kc
  split
  · exact Or.inr rfl
  · split
    · exact Or.inr rfl
    · split
      · exact Or.inr rfl
      · exact Or.inl rfl
set_option maxHeartbeats 4000000 in
set_option maxRecDepth 100000 in
theorem ct_isVariable (l : Launch) (x : Int32) : MetS l yX0_isVariable (ws_ yX0_isVariable cX0_isVariable 1 (some .boolean)) ({ frames := 0, cells := 0, slots := 0, locals := 0 }) [.int x] (sm_iv x) := by
  refine MetS.of (by decide) (Nat.le_of_ble_eq_true rfl) ?_
  intro p e s m below meth c ls hx hb hr hml hlocks hts hown hl
  have hown : s.vm.findClass RX0 = some m.cls := hown
  have hl : lv_has ls 1 [(0, .int x)] := hl
  refine lv_iload_n hx hb dX0_isVariable_0 rfl (lv_at hl 0 rfl) ?_
  refine lv_if_lt (tgt := 13) hx hb dX0_isVariable_1 (by decide) (fun c_1 => ?_) (fun c_1 => ?_)
  · skip
    refine lv_iconst (v := 0) hx hb dX0_isVariable_13 (by decide) ?_
    exact sx_zretR hx hb hr hlocks (Or.inl rfl) (by rw [sm_iv, if_pos c_1]) dX0_isVariable_14
  · skip
    refine lv_iload_n hx hb dX0_isVariable_4 rfl (lv_at hl 0 rfl) ?_
    refine lv_iconst (v := 4) hx hb dX0_isVariable_5 (by decide) ?_
    refine lv_icmp_ge (tgt := 13) hx hb dX0_isVariable_6 (by decide) (fun c_2 => ?_) (fun c_2 => ?_)
    · skip
      refine lv_iconst (v := 0) hx hb dX0_isVariable_13 (by decide) ?_
      exact sx_zretR hx hb hr hlocks (Or.inl rfl) (by rw [sm_iv, if_neg c_1, if_pos c_2]) dX0_isVariable_14
    · skip
      refine lv_iconst (v := 1) hx hb dX0_isVariable_9 (by decide) ?_
      refine lv_goto (tgt := 14) hx hb dX0_isVariable_10 (by decide) ?_
      exact sx_zretR hx hb hr hlocks (Or.inr rfl) (by rw [sm_iv, if_neg c_1, if_neg c_2]) dX0_isVariable_14
set_option maxHeartbeats 4000000 in
set_option maxRecDepth 100000 in
theorem ct_chooses (l : Launch) (x : Int32) : MetS l yX0_chooses (ws_ yX0_chooses cX0_chooses 1 (some .boolean)) ({ frames := 0, cells := 0, slots := 0, locals := 0 }) [.int x] (sm_kc x) := by
  refine MetS.of (by decide) (Nat.le_of_ble_eq_true rfl) ?_
  intro p e s m below meth c ls hx hb hr hml hlocks hts hown hl
  have hown : s.vm.findClass RX0 = some m.cls := hown
  have hl : lv_has ls 1 [(0, .int x)] := hl
  refine lv_iload_n hx hb dX0_chooses_0 rfl (lv_at hl 0 rfl) ?_
  refine lv_if_eq (tgt := 15) hx hb dX0_chooses_1 (by decide) (fun c_1 => ?_) (fun c_1 => ?_)
  · skip
    refine lv_iconst (v := 1) hx hb dX0_chooses_15 (by decide) ?_
    refine lv_goto (tgt := 20) hx hb dX0_chooses_16 (by decide) ?_
    exact sx_zretR hx hb hr hlocks (Or.inr rfl) (by rw [sm_kc, if_pos c_1]) dX0_chooses_20
  · skip
    refine lv_iload_n hx hb dX0_chooses_4 rfl (lv_at hl 0 rfl) ?_
    refine lv_iconst (v := 4) hx hb dX0_chooses_5 (by decide) ?_
    refine lv_icmp_eq (tgt := 15) hx hb dX0_chooses_6 (by decide) (fun c_2 => ?_) (fun c_2 => ?_)
    · skip
      refine lv_iconst (v := 1) hx hb dX0_chooses_15 (by decide) ?_
      refine lv_goto (tgt := 20) hx hb dX0_chooses_16 (by decide) ?_
      exact sx_zretR hx hb hr hlocks (Or.inr rfl) (by rw [sm_kc, if_neg c_1, if_pos c_2]) dX0_chooses_20
    · skip
      refine lv_iload_n hx hb dX0_chooses_9 rfl (lv_at hl 0 rfl) ?_
      refine lv_bipush (v := 9) hx hb dX0_chooses_10 (by decide) ?_
      refine lv_icmp_ne (tgt := 19) hx hb dX0_chooses_12 (by decide) (fun c_3 => ?_) (fun c_3 => ?_)
      · skip
        refine lv_iconst (v := 0) hx hb dX0_chooses_19 (by decide) ?_
        exact sx_zretR hx hb hr hlocks (Or.inl rfl) (by rw [sm_kc, if_neg c_1, if_neg c_2, if_neg c_3]) dX0_chooses_20
      · skip
        refine lv_iconst (v := 1) hx hb dX0_chooses_15 (by decide) ?_
        refine lv_goto (tgt := 20) hx hb dX0_chooses_16 (by decide) ?_
        exact sx_zretR hx hb hr hlocks (Or.inr rfl) (by rw [sm_kc, if_neg c_1, if_neg c_2, if_pos c_3]) dX0_chooses_20
set_option maxHeartbeats 4000000 in
set_option maxRecDepth 100000 in
theorem ct_secondOk (l : Launch) (k b : Int32) : MetS l yX0_secondOk (ws_ yX0_secondOk cX0_secondOk 2 (some .boolean)) ({ frames := 1, cells := 0, slots := 0, locals := 20 }) [.int k, .int b] (sm_so k b) := by
  refine MetS.of (by decide) (Nat.le_of_ble_eq_true rfl) ?_
  intro p e s m below meth c ls hx hb hr hml hlocks hts hown hl
  have hown : s.vm.findClass RX0 = some m.cls := hown
  have hl : lv_has ls 2 [(0, .int k), (1, .int b)] := hl
  refine lv_iload_n hx hb dX0_secondOk_0 rfl (lv_at hl 0 rfl) ?_
  refine lv_if_ne (tgt := 38) hx hb dX0_secondOk_1 (by decide) (fun c_1 => ?_) (fun c_1 => ?_)
  · skip
    refine lv_iload_n hx hb dX0_secondOk_38 rfl (lv_at hl 0 rfl) ?_
    refine lv_iconst (v := 1) hx hb dX0_secondOk_39 (by decide) ?_
    refine lv_icmp_ne (tgt := 63) hx hb dX0_secondOk_40 (by decide) (fun c_2 => ?_) (fun c_2 => ?_)
    · skip
      refine lv_iload_n hx hb dX0_secondOk_63 rfl (lv_at hl 1 rfl) ?_
      refine sx_callS (As := [.int b]) (rest := []) ⟨hx, hb, hml, hown, hts⟩ (ct_isVariable l b) (va_cwS 1 hts (lw_S q83 q84 q21 q85) rfl rfl rfl (by decide +kernel) ⟨Nat.le_of_ble_eq_true rfl, Nat.le_of_ble_eq_true rfl⟩) rfl hl.1 rfl (Nat.le_of_ble_eq_true rfl) ⟨Nat.zero_le _, Nat.zero_le _⟩ dX0_secondOk_64 ?_
      exact sx_zretR hx hb hr hlocks (sm_iv_01 b) (by rw [sm_so, if_neg c_1, if_neg c_2]) dX0_secondOk_67
    · skip
      refine lv_iload_n hx hb dX0_secondOk_43 rfl (lv_at hl 1 rfl) ?_
      refine lv_bipush (v := (-20)) hx hb dX0_secondOk_44 (by decide) ?_
      refine lv_icmp_lt (tgt := 59) hx hb dX0_secondOk_46 (by decide) (fun c_3 => ?_) (fun c_3 => ?_)
      · skip
        refine lv_iconst (v := 0) hx hb dX0_secondOk_59 (by decide) ?_
        refine lv_goto (tgt := 67) hx hb dX0_secondOk_60 (by decide) ?_
        exact sx_zretR hx hb hr hlocks (Or.inl rfl) (by rw [sm_so, if_neg c_1, if_pos c_2, if_pos c_3]) dX0_secondOk_67
      · skip
        refine lv_iload_n hx hb dX0_secondOk_49 rfl (lv_at hl 1 rfl) ?_
        refine lv_bipush (v := 20) hx hb dX0_secondOk_50 (by decide) ?_
        refine lv_icmp_gt (tgt := 59) hx hb dX0_secondOk_52 (by decide) (fun c_4 => ?_) (fun c_4 => ?_)
        · skip
          refine lv_iconst (v := 0) hx hb dX0_secondOk_59 (by decide) ?_
          refine lv_goto (tgt := 67) hx hb dX0_secondOk_60 (by decide) ?_
          exact sx_zretR hx hb hr hlocks (Or.inl rfl) (by rw [sm_so, if_neg c_1, if_pos c_2, if_neg c_3, if_pos c_4]) dX0_secondOk_67
        · skip
          refine lv_iconst (v := 1) hx hb dX0_secondOk_55 (by decide) ?_
          refine lv_goto (tgt := 67) hx hb dX0_secondOk_56 (by decide) ?_
          exact sx_zretR hx hb hr hlocks (Or.inr rfl) (by rw [sm_so, if_neg c_1, if_pos c_2, if_neg c_3, if_neg c_4]) dX0_secondOk_67
  · skip
    refine lv_iload_n hx hb dX0_secondOk_4 rfl (lv_at hl 1 rfl) ?_
    refine lv_if_lt (tgt := 36) hx hb dX0_secondOk_5 (by decide) (fun c_2 => ?_) (fun c_2 => ?_)
    · skip
      refine lv_iconst (v := 0) hx hb dX0_secondOk_36 (by decide) ?_
      exact sx_zretR hx hb hr hlocks (Or.inl rfl) (by rw [sm_so, if_pos c_1, if_pos c_2]) dX0_secondOk_37
    · skip
      refine lv_iload_n hx hb dX0_secondOk_8 rfl (lv_at hl 1 rfl) ?_
      refine lv_sipush (v := 256) hx hb dX0_secondOk_9 (by decide) ?_
      refine lv_icmp_ge (tgt := 36) hx hb dX0_secondOk_12 (by decide) (fun c_3 => ?_) (fun c_3 => ?_)
      · skip
        refine lv_iconst (v := 0) hx hb dX0_secondOk_36 (by decide) ?_
        exact sx_zretR hx hb hr hlocks (Or.inl rfl) (by rw [sm_so, if_pos c_1, if_neg c_2, if_pos c_3]) dX0_secondOk_37
      · skip
        refine lv_iload_n hx hb dX0_secondOk_15 rfl (lv_at hl 1 rfl) ?_
        refine lv_bipush (v := 15) hx hb dX0_secondOk_16 (by decide) ?_
        refine lv_iand hx hb dX0_secondOk_18 ?_
        refine lv_bipush (v := 12) hx hb dX0_secondOk_19 (by decide) ?_
        refine lv_icmp_gt (tgt := 36) hx hb dX0_secondOk_21 (by decide) (fun c_4 => ?_) (fun c_4 => ?_)
        · skip
          refine lv_iconst (v := 0) hx hb dX0_secondOk_36 (by decide) ?_
          exact sx_zretR hx hb hr hlocks (Or.inl rfl) (by rw [sm_so, if_pos c_1, if_neg c_2, if_neg c_3, if_pos c_4]) dX0_secondOk_37
        · skip
          refine lv_iload_n hx hb dX0_secondOk_24 rfl (lv_at hl 1 rfl) ?_
          refine lv_iconst (v := 4) hx hb dX0_secondOk_25 (by decide) ?_
          refine lv_ishr hx hb dX0_secondOk_26 ?_
          refine lv_bipush (v := 12) hx hb dX0_secondOk_27 (by decide) ?_
          refine lv_icmp_gt (tgt := 36) hx hb dX0_secondOk_29 (by decide) (fun c_5 => ?_) (fun c_5 => ?_)
          · skip
            refine lv_iconst (v := 0) hx hb dX0_secondOk_36 (by decide) ?_
            exact sx_zretR hx hb hr hlocks (Or.inl rfl) (by rw [sm_so, if_pos c_1, if_neg c_2, if_neg c_3, if_neg c_4, if_pos c_5]) dX0_secondOk_37
          · skip
            refine lv_iconst (v := 1) hx hb dX0_secondOk_32 (by decide) ?_
            refine lv_goto (tgt := 37) hx hb dX0_secondOk_33 (by decide) ?_
            exact sx_zretR hx hb hr hlocks (Or.inr rfl) (by rw [sm_so, if_pos c_1, if_neg c_2, if_neg c_3, if_neg c_4, if_neg c_5]) dX0_secondOk_37
set_option maxHeartbeats 4000000 in
set_option maxRecDepth 100000 in
theorem ct_choiceSteps (l : Launch) (dC : Nat → ClassId) (dI : Nat → Nat → Nat) (ad : Nat → Nat) (cB cI : ClassId) (P : Pg) (n : Nat) (v : Vs) (pt en tt : Nat) (tv tx : Vs) (oc : Nat) (o1 o2 o3 : Vs)  (hn : n ≤ 14) : MetR l (dC, dI) vwCl (tyX cB cI) yX0_choiceSteps (ws_ yX0_choiceSteps cX0_choiceSteps 3 (some .int)) ({ frames := 1, cells := 0, slots := 0, locals := 20 }) [.ref (ad 0)] (xW ad cB cI P n v pt en tt tv tx oc o1 o2 o3) (nI (sm_cb P n)) := by
  refine MetR.of (by decide) (Nat.le_of_ble_eq_true rfl) ?_
  intro p e s m below meth c ls hx hb hr hml hlocks hts hown hP hK hl
  have hown : s.vm.findClass RX0 = some m.cls := hown
  have hl : lv_has ls 3 [(0, .ref (ad 0))] := hl
  refine lv_iconst (v := 0) hx hb dX0_choiceSteps_0 (by decide) ?_
  refine lv_istore_n (lv' := [(1, .int 0), (0, .ref (ad 0))]) hx hb dX0_choiceSteps_1 rfl hl (by decide) rfl (fun ls hl => ?_)
  refine lv_iconst (v := 0) hx hb dX0_choiceSteps_2 (by decide) ?_
  refine lv_istore_n (lv' := [(2, .int 0), (1, .int 0), (0, .ref (ad 0))]) hx hb dX0_choiceSteps_3 rfl hl (by decide) rfl (fun ls hl => ?_)
  refine sx_loopR (σ := Nat) (lv := fun i => [(2, .int (nI i)), (1, .int (nI (sm_cb P i))), (0, .ref (ad 0))]) (I := fun i => i ≤ n) (μ := fun i => n - i) ?_ 0 (Nat.zero_le n) hl
  intro i hi ih ls hl
  have hl : lv_has ls 3 [(2, .int (nI i)), (1, .int (nI (sm_cb P i))), (0, .ref (ad 0))] := hl
  refine lv_iload_n hx hb dX0_choiceSteps_4 rfl (lv_at hl 0 rfl) ?_
  refine lv_aload_n hx hb dX0_choiceSteps_5 rfl (lv_at hl 2 rfl) ?_
  refine va_get (D := (dC, dI)) (ci := 0) (v := .int (nI n)) (C := RX0) (T := TX0) (N := 15) hx hb hts in_X0 hown hK hP 0 rfl rfl 4 (by decide) (hts _ q35) (fun _ h9 => h9) rfl dX0_choiceSteps_6 ?_
  refine lv_icmp_ge (tgt := 38) hx hb dX0_choiceSteps_9 (by decide) (fun c_1 => ?_) (fun c_1 => ?_)
  · skip
    have hin : i = n := Nat.le_antisymm hi ((nI_leI (by omega) (by omega)).mp c_1)
    subst hin
    refine lv_iload_n hx hb dX0_choiceSteps_38 rfl (lv_at hl 1 rfl) ?_
    exact sx_iretR hx hb hr hlocks rfl dX0_choiceSteps_39
  · skip
    have hin : i < n := Nat.lt_of_not_le (fun h => c_1 ((nI_leI (by omega) (by omega)).mpr h))
    refine lv_iload_n hx hb dX0_choiceSteps_12 rfl (lv_at hl 1 rfl) ?_
    refine lv_aload_n hx hb dX0_choiceSteps_13 rfl (lv_at hl 2 rfl) ?_
    refine va_get (D := (dC, dI)) (ci := 0) (v := .ref (ad 1)) (C := RX0) (T := TX0) (N := 15) hx hb hts in_X0 hown hK hP 0 rfl rfl 0 (by decide) (hts _ q31) (fun _ h9 => h9) rfl dX0_choiceSteps_14 ?_
    refine lv_iload_n hx hb dX0_choiceSteps_17 rfl (lv_at hl 0 rfl) ?_
    refine sx_bald (j := i) hx hb hK hP 1 0 rfl rfl (rfl) (by omega) (by decide) dX0_choiceSteps_18 ?_
    refine sx_callS (As := [.int (P.1 i)]) (rest := [.int (nI (sm_cb P i))]) ⟨hx, hb, hml, hown, hts⟩ (ct_chooses l (P.1 i)) (va_cwS 1 hts (lw_S q89 q90 q21 q91) rfl rfl rfl (by decide +kernel) ⟨Nat.le_of_ble_eq_true rfl, Nat.le_of_ble_eq_true rfl⟩) rfl hl.1 rfl (Nat.le_of_ble_eq_true rfl) ⟨Nat.zero_le _, Nat.zero_le _⟩ dX0_choiceSteps_19 ?_
    refine sx_join (pc2 := 30) (ls2 := ls) (rest2 := [.int (nI (sm_cb P i))]) (fun y => y = nI (if sm_ch P i then 1 else 0)) (fun y ey => ?_) (fun jn => ?_)
    · skip
      refine lv_iadd hx hb dX0_choiceSteps_30 ?_
      refine sx_topE (y := nI (sm_cb P (i + 1))) (by rw [ey, nI_add]; rfl) ?_
      refine lv_istore_n (lv' := [(1, .int (nI (sm_cb P (i + 1)))), (2, .int (nI i)), (0, .ref (ad 0))]) hx hb dX0_choiceSteps_31 rfl hl (by decide) rfl (fun ls hl => ?_)
      refine lv_iinc (v := nI (i + 1)) (lv' := [(2, .int (nI (i + 1))), (1, .int (nI (sm_cb P (i + 1)))), (0, .ref (ad 0))]) hx hb dX0_choiceSteps_32 hl (k := 1) rfl (nI_1 _) (by decide) rfl (fun ls hl => ?_)
      refine lv_goto (tgt := 4) hx hb dX0_choiceSteps_35 (by decide) ?_
      exact ih (i + 1) hin (by omega) ls (lv_sub hl [0, 1, 2] rfl)
    · skip
      refine lv_if_eq (tgt := 29) hx hb dX0_choiceSteps_22 (by decide) (fun c_2 => ?_) (fun c_2 => ?_)
      · skip
        refine lv_iconst (v := 0) hx hb dX0_choiceSteps_29 (by decide) ?_
        exact jn 0 (by rw [sm_kc_ch] at c_2; by_cases hc : sm_ch P i; (rw [if_pos hc] at c_2; exact absurd c_2 (by decide)); (rw [if_neg hc]; rfl))
      · skip
        refine lv_iconst (v := 1) hx hb dX0_choiceSteps_25 (by decide) ?_
        refine lv_goto (tgt := 30) hx hb dX0_choiceSteps_26 (by decide) ?_
        exact jn 1 (by rw [sm_kc_ch] at c_2; by_cases hc : sm_ch P i; (rw [if_pos hc]; rfl); (rw [if_neg hc] at c_2; exact absurd rfl c_2))
end
section
/-! THE MACHINE: start, assign, undoTo, waysOf, takeWay, drop, length -/
set_option maxHeartbeats 4000000 in
set_option maxRecDepth 100000 in
theorem ct_length (l : Launch) (dC : Nat → ClassId) (dI : Nat → Nat → Nat) (ad : Nat → Nat) (cB cI : ClassId) (P : Pg) (n : Nat) (v : Vs) (pt en tt : Nat) (tv tx : Vs) (oc : Nat) (o1 o2 o3 : Vs)   : MetR l (dC, dI) vwCl (tyX cB cI) yX0_length (ws_ yX0_length cX0_length 1 (some .int)) ({ frames := 0, cells := 0, slots := 0, locals := 0 }) [.ref (ad 0)] (xW ad cB cI P n v pt en tt tv tx oc o1 o2 o3) (nI n) := by
  refine MetR.of (by decide) (Nat.le_of_ble_eq_true rfl) ?_
  intro p e s m below meth c ls hx hb hr hml hlocks hts hown hP hK hl
  have hown : s.vm.findClass RX0 = some m.cls := hown
  have hl : lv_has ls 1 [(0, .ref (ad 0))] := hl
  refine lv_aload_n hx hb dX0_length_0 rfl (lv_at hl 0 rfl) ?_
  refine va_get (D := (dC, dI)) (ci := 0) (v := .int (nI n)) (C := RX0) (T := TX0) (N := 15) hx hb hts in_X0 hown hK hP 0 rfl rfl 4 (by decide) (hts _ q35) (fun _ h9 => h9) rfl dX0_length_1 ?_
  exact sx_iretR hx hb hr hlocks rfl dX0_length_4
set_option maxHeartbeats 4000000 in
set_option maxRecDepth 100000 in
theorem ct_drop (l : Launch) (dC : Nat → ClassId) (dI : Nat → Nat → Nat) (ad : Nat → Nat) (cB cI : ClassId) (P : Pg) (n : Nat) (v : Vs) (pt en tt : Nat) (tv tx : Vs) (oc : Nat) (o1 o2 o3 : Vs) (hn : n ≤ 14)  : MetI l (dC, dI) vwCl (tyX cB cI) yX0_drop (ws_ yX0_drop cX0_drop 1 (some .int)) ({ frames := 0, cells := 0, slots := 0, locals := 0 }) [.ref (ad 0)] (xW ad cB cI P n v pt en tt tv tx oc o1 o2 o3) (fun z : Nat => xW ad cB cI P z v pt en tt tv tx oc o1 o2 o3) (fun r z => z = n - 1 ∧ r = (if n = 0 then -1 else nI (n - 1))) := by
  refine MetI.of (by decide) (Nat.le_of_ble_eq_true rfl) ?_
  intro p e s m below meth c ls A hx hb hr hml hlocks hts hown hA hP hK hD hS hl
  have hown : s.vm.findClass RX0 = some m.cls := hown
  have hl : lv_has ls 1 [(0, .ref (ad 0))] := hl
  refine lv_aload_n hx hb dX0_drop_0 rfl (lv_at hl 0 rfl) ?_
  refine va_get (D := (dC, dI)) (ci := 0) (v := .int (nI n)) (C := RX0) (T := TX0) (N := 15) hx hb hts in_X0 hown hK hP 0 rfl rfl 4 (by decide) (hts _ q35) (fun _ h9 => h9) rfl dX0_drop_1 ?_
  refine lv_if_ne (tgt := 9) hx hb dX0_drop_4 (by decide) (fun c_1 => ?_) (fun c_1 => ?_)
  · skip
    have h0 : n ≠ 0 := fun h => c_1 (by rw [h]; rfl)
    obtain ⟨n', rfl⟩ : ∃ n', n = n' + 1 := ⟨n - 1, by omega⟩
    have hP : va_P (dC, dI) vwCl (xW ad cB cI P (n' + 1) v pt en tt tv tx oc o1 o2 o3) s.heap := hP
    refine lv_aload_n hx hb dX0_drop_9 rfl (lv_at hl 0 rfl) ?_
    refine lv_dup hx hb dX0_drop_10 rfl ?_
    refine va_get (D := (dC, dI)) (ci := 0) (v := .int (nI (n' + 1))) (C := RX0) (T := TX0) (N := 15) hx hb hts in_X0 hown hK hP 0 rfl rfl 4 (by decide) (hts _ q35) (fun _ h9 => h9) rfl dX0_drop_11 ?_
    refine lv_iconst (v := 1) hx hb dX0_drop_14 (by decide) ?_
    refine lv_isub hx hb dX0_drop_15 ?_
    refine sx_topE (y := nI n') (nI_pred n') ?_
    refine va_put (D := (dC, dI)) (ci := 0) (v := .int (nI n')) (ty := .int) (C := RX0) (T := TX0) (N := 15) hx hb hts in_X0 tyX0 tyX0_ok nmX0 hown hK hP hD hS 0 rfl rfl 4 (by decide) (hts _ q35) (fun _ h9 => h9) rfl (by decide +kernel) rfl rfl (Nat.le_of_ble_eq_true rfl) dX0_drop_16 (fun H locs hP hD hS => ?_)
    have hP : va_P (dC, dI) vwCl (xW ad cB cI P n' v pt en tt tv tx oc o1 o2 o3) H := hP
    have hD : va_D A (xW ad cB cI P n' v pt en tt tv tx oc o1 o2 o3) := hD
    refine lv_aload_n hx hb dX0_drop_19 rfl (lv_at hl 0 rfl) ?_
    refine va_get (D := (dC, dI)) (ci := 0) (v := .int (nI n')) (C := RX0) (T := TX0) (N := 15) hx hb hts in_X0 hown hK hP 0 rfl rfl 4 (by decide) (hts _ q35) (fun _ h9 => h9) rfl dX0_drop_20 ?_
    exact sx_iret hx hb hr hlocks hK n' ⟨rfl, by rw [if_neg (by omega)]; rfl⟩ hP hD hS dX0_drop_23
  · skip
    have h0 : n = 0 := (nI_eq (by omega) (by omega)).mp c_1
    subst h0
    refine lv_iconst (v := (-1)) hx hb dX0_drop_7 (by decide) ?_
    exact sx_iret hx hb hr hlocks hK 0 ⟨rfl, rfl⟩ hP hD hS dX0_drop_8
set_option maxHeartbeats 4000000 in
set_option maxRecDepth 100000 in
theorem ct_start (l : Launch) (dC : Nat → ClassId) (dI : Nat → Nat → Nat) (ad : Nat → Nat) (cB cI : ClassId) (P : Pg) (n : Nat) (v : Vs) (pt en tt : Nat) (tv tx : Vs) (oc : Nat) (o1 o2 o3 : Vs) (k : Nat)  : MetV l (dC, dI) vwCl (tyX cB cI) yX0_start (ws_ yX0_start cX0_start 3 none) ({ frames := 0, cells := 0, slots := 0, locals := 0 }) [.ref (ad 0), .int (nI k)] (xW ad cB cI P n v pt en tt tv tx oc o1 o2 o3) (fun _ : Unit => xW ad cB cI P n sm_z 0 k 0 tv tx 0 o1 o2 o3) (fun _ => True) := by
  refine MetV.of (by decide) (Nat.le_of_ble_eq_true rfl) ?_
  intro p e s m below meth c ls A hx hb hr hml hlocks hts hown hA hP hK hD hS hl
  have hown : s.vm.findClass RX0 = some m.cls := hown
  have hl : lv_has ls 3 [(0, .ref (ad 0)), (1, .int (nI k))] := hl
  refine lv_iconst (v := 0) hx hb dX0_start_0 (by decide) ?_
  refine lv_istore_n (lv' := [(2, .int 0), (0, .ref (ad 0)), (1, .int (nI k))]) hx hb dX0_start_1 rfl hl (by decide) rfl (fun ls hl => ?_)
  refine sx_loop (σ := Nat × Vs) (w := fun x => xW ad cB cI P n x.2 pt en tt tv tx oc o1 o2 o3) (lv := fun x => [(2, .int (nI x.1)), (0, .ref (ad 0)), (1, .int (nI k))]) (I := fun x => x.1 ≤ 4 ∧ ∀ j, j < x.1 → x.2 j = 0) (μ := fun x => 4 - x.1) ?_ (0, v) ⟨Nat.zero_le _, fun j hj => absurd hj (Nat.not_lt_zero _)⟩ hP hD hS hl
  intro x hI ih H locs hP hD hS ls hl
  obtain ⟨i, v⟩ := x
  obtain ⟨hi, hz⟩ := hI
  have hi : i ≤ 4 := hi
  have hz : ∀ j, j < i → v j = 0 := hz
  have hl : lv_has ls 3 [(2, .int (nI i)), (0, .ref (ad 0)), (1, .int (nI k))] := hl
  have hP : va_P (dC, dI) vwCl (xW ad cB cI P n v pt en tt tv tx oc o1 o2 o3) H := hP
  have hD : va_D A (xW ad cB cI P n v pt en tt tv tx oc o1 o2 o3) := hD
  refine lv_iload_n hx hb dX0_start_2 rfl (lv_at hl 0 rfl) ?_
  refine lv_iconst (v := 4) hx hb dX0_start_3 (by decide) ?_
  refine lv_icmp_ge (tgt := 20) hx hb dX0_start_4 (by decide) (fun c_1 => ?_) (fun c_1 => ?_)
  · skip
    have h4 : 4 ≤ i := (nI_leI (a := 4) (by decide) (by omega)).mp c_1
    have hP : va_P (dC, dI) vwCl (xW ad cB cI P n sm_z pt en tt tv tx oc o1 o2 o3) H := hP.set (p := 5) (e := .inl (cI, 4, .inl sm_z)) hD rfl (by show H[ad 5]? = some (vp_cell cI (4, .inl sm_z)); rw [← sx_ext (f := v) (g := sm_z) (fun j hj => hz j (by omega))]; exact hP 5 _ rfl) (fun _ _ => rfl)
    have hD : va_D A (xW ad cB cI P n sm_z pt en tt tv tx oc o1 o2 o3) := hD.set (p := 5) (e := .inl (cI, 4, .inl sm_z)) rfl
    refine lv_aload_n hx hb dX0_start_20 rfl (lv_at hl 1 rfl) ?_
    refine lv_iconst (v := 0) hx hb dX0_start_21 (by decide) ?_
    refine va_put (D := (dC, dI)) (ci := 0) (v := .int 0) (ty := .int) (C := RX0) (T := TX0) (N := 15) hx hb hts in_X0 tyX0 tyX0_ok nmX0 hown hK hP hD hS 0 rfl rfl 6 (by decide) (hts _ q37) (fun _ h9 => h9) rfl (by decide +kernel) rfl rfl (Nat.le_of_ble_eq_true rfl) dX0_start_22 (fun H locs hP hD hS => ?_)
    have hP : va_P (dC, dI) vwCl (xW ad cB cI P n sm_z 0 en tt tv tx oc o1 o2 o3) H := hP
    have hD : va_D A (xW ad cB cI P n sm_z 0 en tt tv tx oc o1 o2 o3) := hD
    refine lv_aload_n hx hb dX0_start_25 rfl (lv_at hl 1 rfl) ?_
    refine lv_iload_n hx hb dX0_start_26 rfl (lv_at hl 2 rfl) ?_
    refine va_put (D := (dC, dI)) (ci := 0) (v := .int (nI k)) (ty := .int) (C := RX0) (T := TX0) (N := 15) hx hb hts in_X0 tyX0 tyX0_ok nmX0 hown hK hP hD hS 0 rfl rfl 7 (by decide) (hts _ q38) (fun _ h9 => h9) rfl (by decide +kernel) rfl rfl (Nat.le_of_ble_eq_true rfl) dX0_start_27 (fun H locs hP hD hS => ?_)
    have hP : va_P (dC, dI) vwCl (xW ad cB cI P n sm_z 0 k tt tv tx oc o1 o2 o3) H := hP
    have hD : va_D A (xW ad cB cI P n sm_z 0 k tt tv tx oc o1 o2 o3) := hD
    refine lv_aload_n hx hb dX0_start_30 rfl (lv_at hl 1 rfl) ?_
    refine lv_iconst (v := 0) hx hb dX0_start_31 (by decide) ?_
    refine va_put (D := (dC, dI)) (ci := 0) (v := .int 0) (ty := .int) (C := RX0) (T := TX0) (N := 15) hx hb hts in_X0 tyX0 tyX0_ok nmX0 hown hK hP hD hS 0 rfl rfl 8 (by decide) (hts _ q39) (fun _ h9 => h9) rfl (by decide +kernel) rfl rfl (Nat.le_of_ble_eq_true rfl) dX0_start_32 (fun H locs hP hD hS => ?_)
    have hP : va_P (dC, dI) vwCl (xW ad cB cI P n sm_z 0 k 0 tv tx oc o1 o2 o3) H := hP
    have hD : va_D A (xW ad cB cI P n sm_z 0 k 0 tv tx oc o1 o2 o3) := hD
    refine lv_aload_n hx hb dX0_start_35 rfl (lv_at hl 1 rfl) ?_
    refine lv_iconst (v := 0) hx hb dX0_start_36 (by decide) ?_
    refine va_put (D := (dC, dI)) (ci := 0) (v := .int 0) (ty := .int) (C := RX0) (T := TX0) (N := 15) hx hb hts in_X0 tyX0 tyX0_ok nmX0 hown hK hP hD hS 0 rfl rfl 11 (by decide) (hts _ q42) (fun _ h9 => h9) rfl (by decide +kernel) rfl rfl (Nat.le_of_ble_eq_true rfl) dX0_start_37 (fun H locs hP hD hS => ?_)
    have hP : va_P (dC, dI) vwCl (xW ad cB cI P n sm_z 0 k 0 tv tx 0 o1 o2 o3) H := hP
    have hD : va_D A (xW ad cB cI P n sm_z 0 k 0 tv tx 0 o1 o2 o3) := hD
    exact sx_vret hx hb hr hlocks hK () trivial hP hD hS dX0_start_40
  · skip
    have h4 : i < 4 := Nat.lt_of_not_le (fun h => c_1 ((nI_leI (a := 4) (by decide) (by omega)).mpr h))
    refine lv_aload_n hx hb dX0_start_7 rfl (lv_at hl 1 rfl) ?_
    refine va_get (D := (dC, dI)) (ci := 0) (v := .ref (ad 5)) (C := RX0) (T := TX0) (N := 15) hx hb hts in_X0 hown hK hP 0 rfl rfl 5 (by decide) (hts _ q36) (fun _ h9 => h9) rfl dX0_start_8 ?_
    refine lv_iload_n hx hb dX0_start_11 rfl (lv_at hl 0 rfl) ?_
    refine lv_iconst (v := 0) hx hb dX0_start_12 (by decide) ?_
    refine sx_iast (j := i) hx hb hK hP hD hS 5 1 rfl rfl (rfl) (by omega) (by decide) dX0_start_13 (fun H locs hP hD hS => ?_)
    have hP : va_P (dC, dI) vwCl (xW ad cB cI P n (upd v i 0) pt en tt tv tx oc o1 o2 o3) H := hP
    have hD : va_D A (xW ad cB cI P n (upd v i 0) pt en tt tv tx oc o1 o2 o3) := hD
    refine lv_iinc (v := nI (i + 1)) (lv' := [(2, .int (nI (i + 1))), (0, .ref (ad 0)), (1, .int (nI k))]) hx hb dX0_start_14 hl (k := 0) rfl (nI_1 _) (by decide) rfl (fun ls hl => ?_)
    refine lv_goto (tgt := 2) hx hb dX0_start_17 (by decide) ?_
    exact ih (i + 1, upd v i 0) ⟨h4, fun j hj => by by_cases he : j = i; (rw [he]; exact pk_us); (rw [show (i + 1, upd v i 0).2 j = v j from pk_un he]; exact hz j (by have : j < i + 1 := hj; omega))⟩ (by show 4 - (i + 1) < 4 - i; omega) H locs hP hD hS ls (lv_sub hl [0, 1, 2] rfl)
set_option maxHeartbeats 4000000 in
set_option maxRecDepth 100000 in
theorem ct_assign (l : Launch) (dC : Nat → ClassId) (dI : Nat → Nat → Nat) (ad : Nat → Nat) (cB cI : ClassId) (P : Pg) (n : Nat) (v : Vs) (pt en tt : Nat) (tv tx : Vs) (oc : Nat) (o1 o2 o3 : Vs) (a : Nat) (x : Int32) (ha : a < 4) (htt : tt < 16) : MetV l (dC, dI) vwCl (tyX cB cI) yX0_assign (ws_ yX0_assign cX0_assign 3 none) ({ frames := 0, cells := 0, slots := 0, locals := 0 }) [.ref (ad 0), .int (nI a), .int x] (xW ad cB cI P n v pt en tt tv tx oc o1 o2 o3) (fun _ : Unit => xW ad cB cI P n (upd v a x) pt en (tt + 1) (upd tv tt (nI a)) (upd tx tt (v a)) oc o1 o2 o3) (fun _ => True) := by
  refine MetV.of (by decide) (Nat.le_of_ble_eq_true rfl) ?_
  intro p e s m below meth c ls A hx hb hr hml hlocks hts hown hA hP hK hD hS hl
  have hown : s.vm.findClass RX0 = some m.cls := hown
  have hl : lv_has ls 3 [(0, .ref (ad 0)), (1, .int (nI a)), (2, .int x)] := hl
  refine lv_aload_n hx hb dX0_assign_0 rfl (lv_at hl 0 rfl) ?_
  refine va_get (D := (dC, dI)) (ci := 0) (v := .ref (ad 6)) (C := RX0) (T := TX0) (N := 15) hx hb hts in_X0 hown hK hP 0 rfl rfl 9 (by decide) (hts _ q40) (fun _ h9 => h9) rfl dX0_assign_1 ?_
  refine lv_aload_n hx hb dX0_assign_4 rfl (lv_at hl 0 rfl) ?_
  refine va_get (D := (dC, dI)) (ci := 0) (v := .int (nI tt)) (C := RX0) (T := TX0) (N := 15) hx hb hts in_X0 hown hK hP 0 rfl rfl 8 (by decide) (hts _ q39) (fun _ h9 => h9) rfl dX0_assign_5 ?_
  refine lv_iload_n hx hb dX0_assign_8 rfl (lv_at hl 1 rfl) ?_
  refine lv_i2b (v := (nI a)) hx hb dX0_assign_9 (sx_b8 _ (by omega)) ?_
  refine sx_bast (y := (nI a)) (j := tt) hx hb hK hP hD hS 6 0 rfl rfl (rfl) (by omega) (by decide) (sx_b8 _ (by omega)) dX0_assign_10 (fun H locs hP hD hS => ?_)
  have hP : va_P (dC, dI) vwCl (xW ad cB cI P n v pt en tt (upd tv tt (nI a)) tx oc o1 o2 o3) H := hP
  have hD : va_D A (xW ad cB cI P n v pt en tt (upd tv tt (nI a)) tx oc o1 o2 o3) := hD
  refine lv_aload_n hx hb dX0_assign_11 rfl (lv_at hl 0 rfl) ?_
  refine va_get (D := (dC, dI)) (ci := 0) (v := .ref (ad 7)) (C := RX0) (T := TX0) (N := 15) hx hb hts in_X0 hown hK hP 0 rfl rfl 10 (by decide) (hts _ q41) (fun _ h9 => h9) rfl dX0_assign_12 ?_
  refine lv_aload_n hx hb dX0_assign_15 rfl (lv_at hl 0 rfl) ?_
  refine va_get (D := (dC, dI)) (ci := 0) (v := .int (nI tt)) (C := RX0) (T := TX0) (N := 15) hx hb hts in_X0 hown hK hP 0 rfl rfl 8 (by decide) (hts _ q39) (fun _ h9 => h9) rfl dX0_assign_16 ?_
  refine lv_aload_n hx hb dX0_assign_19 rfl (lv_at hl 0 rfl) ?_
  refine va_get (D := (dC, dI)) (ci := 0) (v := .ref (ad 5)) (C := RX0) (T := TX0) (N := 15) hx hb hts in_X0 hown hK hP 0 rfl rfl 5 (by decide) (hts _ q36) (fun _ h9 => h9) rfl dX0_assign_20 ?_
  refine lv_iload_n hx hb dX0_assign_23 rfl (lv_at hl 1 rfl) ?_
  refine sx_iald (j := a) hx hb hK hP 5 1 rfl rfl (rfl) (by omega) (by decide) dX0_assign_24 ?_
  refine sx_iast (j := tt) hx hb hK hP hD hS 7 1 rfl rfl (rfl) (by omega) (by decide) dX0_assign_25 (fun H locs hP hD hS => ?_)
  have hP : va_P (dC, dI) vwCl (xW ad cB cI P n v pt en tt (upd tv tt (nI a)) (upd tx tt (v a)) oc o1 o2 o3) H := hP
  have hD : va_D A (xW ad cB cI P n v pt en tt (upd tv tt (nI a)) (upd tx tt (v a)) oc o1 o2 o3) := hD
  refine lv_aload_n hx hb dX0_assign_26 rfl (lv_at hl 0 rfl) ?_
  refine lv_dup hx hb dX0_assign_27 rfl ?_
  refine va_get (D := (dC, dI)) (ci := 0) (v := .int (nI tt)) (C := RX0) (T := TX0) (N := 15) hx hb hts in_X0 hown hK hP 0 rfl rfl 8 (by decide) (hts _ q39) (fun _ h9 => h9) rfl dX0_assign_28 ?_
  refine lv_iconst (v := 1) hx hb dX0_assign_31 (by decide) ?_
  refine lv_iadd hx hb dX0_assign_32 ?_
  refine sx_topE (y := nI (tt + 1)) (nI_1 _) ?_
  refine va_put (D := (dC, dI)) (ci := 0) (v := .int (nI (tt + 1))) (ty := .int) (C := RX0) (T := TX0) (N := 15) hx hb hts in_X0 tyX0 tyX0_ok nmX0 hown hK hP hD hS 0 rfl rfl 8 (by decide) (hts _ q39) (fun _ h9 => h9) rfl (by decide +kernel) rfl rfl (Nat.le_of_ble_eq_true rfl) dX0_assign_33 (fun H locs hP hD hS => ?_)
  have hP : va_P (dC, dI) vwCl (xW ad cB cI P n v pt en (tt + 1) (upd tv tt (nI a)) (upd tx tt (v a)) oc o1 o2 o3) H := hP
  have hD : va_D A (xW ad cB cI P n v pt en (tt + 1) (upd tv tt (nI a)) (upd tx tt (v a)) oc o1 o2 o3) := hD
  refine lv_aload_n hx hb dX0_assign_36 rfl (lv_at hl 0 rfl) ?_
  refine va_get (D := (dC, dI)) (ci := 0) (v := .ref (ad 5)) (C := RX0) (T := TX0) (N := 15) hx hb hts in_X0 hown hK hP 0 rfl rfl 5 (by decide) (hts _ q36) (fun _ h9 => h9) rfl dX0_assign_37 ?_
  refine lv_iload_n hx hb dX0_assign_40 rfl (lv_at hl 1 rfl) ?_
  refine lv_iload_n hx hb dX0_assign_41 rfl (lv_at hl 2 rfl) ?_
  refine sx_iast (j := a) hx hb hK hP hD hS 5 1 rfl rfl (rfl) (by omega) (by decide) dX0_assign_42 (fun H locs hP hD hS => ?_)
  have hP : va_P (dC, dI) vwCl (xW ad cB cI P n (upd v a x) pt en (tt + 1) (upd tv tt (nI a)) (upd tx tt (v a)) oc o1 o2 o3) H := hP
  have hD : va_D A (xW ad cB cI P n (upd v a x) pt en (tt + 1) (upd tv tt (nI a)) (upd tx tt (v a)) oc o1 o2 o3) := hD
  exact sx_vret hx hb hr hlocks hK () trivial hP hD hS dX0_assign_43
set_option maxHeartbeats 4000000 in
set_option maxRecDepth 100000 in
theorem ct_undoTo (l : Launch) (dC : Nat → ClassId) (dI : Nat → Nat → Nat) (ad : Nat → Nat) (cB cI : ClassId) (P : Pg) (n : Nat) (v : Vs) (pt en tt : Nat) (tv tx : Vs) (oc : Nat) (o1 o2 o3 : Vs) (t0 : Nat) (h0 : t0 ≤ tt) (htt : tt ≤ 14) (htv : ∀ j, j < tt → sm_v4 (tv j)) : MetV l (dC, dI) vwCl (tyX cB cI) yX0_undoTo (ws_ yX0_undoTo cX0_undoTo 2 none) ({ frames := 0, cells := 0, slots := 0, locals := 0 }) [.ref (ad 0), .int (nI t0)] (xW ad cB cI P n v pt en tt tv tx oc o1 o2 o3) (fun _ : Unit => xW ad cB cI P n (sm_un tv tx (tt - t0) tt v) pt en t0 tv tx oc o1 o2 o3) (fun _ => True) := by
  refine MetV.of (by decide) (Nat.le_of_ble_eq_true rfl) ?_
  intro p e s m below meth c ls A hx hb hr hml hlocks hts hown hA hP hK hD hS hl
  have hown : s.vm.findClass RX0 = some m.cls := hown
  have hl : lv_has ls 2 [(0, .ref (ad 0)), (1, .int (nI t0))] := hl
  refine sx_loop (σ := Nat × Vs) (w := fun x => xW ad cB cI P n x.2 pt en x.1 tv tx oc o1 o2 o3) (lv := fun _ => [(0, .ref (ad 0)), (1, .int (nI t0))]) (I := fun x => t0 ≤ x.1 ∧ x.1 ≤ tt ∧ sm_un tv tx (x.1 - t0) x.1 x.2 = sm_un tv tx (tt - t0) tt v) (μ := fun x => x.1) ?_ (tt, v) ⟨h0, Nat.le_refl _, rfl⟩ hP hD hS hl
  intro x hI ih H locs hP hD hS ls hl
  obtain ⟨k, v'⟩ := x
  obtain ⟨hk0, hk1, hk2⟩ := hI
  have hk0 : t0 ≤ k := hk0
  have hk1 : k ≤ tt := hk1
  have hk2 : sm_un tv tx (k - t0) k v' = sm_un tv tx (tt - t0) tt v := hk2
  have hl : lv_has ls 2 [(0, .ref (ad 0)), (1, .int (nI t0))] := hl
  have hP : va_P (dC, dI) vwCl (xW ad cB cI P n v' pt en k tv tx oc o1 o2 o3) H := hP
  have hD : va_D A (xW ad cB cI P n v' pt en k tv tx oc o1 o2 o3) := hD
  refine lv_aload_n hx hb dX0_undoTo_0 rfl (lv_at hl 0 rfl) ?_
  refine va_get (D := (dC, dI)) (ci := 0) (v := .int (nI k)) (C := RX0) (T := TX0) (N := 15) hx hb hts in_X0 hown hK hP 0 rfl rfl 8 (by decide) (hts _ q39) (fun _ h9 => h9) rfl dX0_undoTo_1 ?_
  refine lv_iload_n hx hb dX0_undoTo_4 rfl (lv_at hl 1 rfl) ?_
  refine lv_icmp_le (tgt := 44) hx hb dX0_undoTo_5 (by decide) (fun c_1 => ?_) (fun c_1 => ?_)
  · skip
    have hk : k = t0 := Nat.le_antisymm ((nI_leI (by omega) (by omega)).mp c_1) hk0
    subst hk
    rw [Nat.sub_self] at hk2
    have hk2 : v' = sm_un tv tx (tt - k) tt v := hk2
    subst hk2
    exact sx_vret hx hb hr hlocks hK () trivial hP hD hS dX0_undoTo_44
  · skip
    have hk : t0 < k := Nat.lt_of_not_le (fun h => c_1 ((nI_leI (by omega) (by omega)).mpr h))
    obtain ⟨k', rfl⟩ : ∃ k', k = k' + 1 := ⟨k - 1, by omega⟩
    refine lv_aload_n hx hb dX0_undoTo_8 rfl (lv_at hl 0 rfl) ?_
    refine lv_dup hx hb dX0_undoTo_9 rfl ?_
    refine va_get (D := (dC, dI)) (ci := 0) (v := .int (nI (k' + 1))) (C := RX0) (T := TX0) (N := 15) hx hb hts in_X0 hown hK hP 0 rfl rfl 8 (by decide) (hts _ q39) (fun _ h9 => h9) rfl dX0_undoTo_10 ?_
    refine lv_iconst (v := 1) hx hb dX0_undoTo_13 (by decide) ?_
    refine lv_isub hx hb dX0_undoTo_14 ?_
    refine sx_topE (y := nI k') (nI_pred k') ?_
    refine va_put (D := (dC, dI)) (ci := 0) (v := .int (nI k')) (ty := .int) (C := RX0) (T := TX0) (N := 15) hx hb hts in_X0 tyX0 tyX0_ok nmX0 hown hK hP hD hS 0 rfl rfl 8 (by decide) (hts _ q39) (fun _ h9 => h9) rfl (by decide +kernel) rfl rfl (Nat.le_of_ble_eq_true rfl) dX0_undoTo_15 (fun H locs hP hD hS => ?_)
    have hP : va_P (dC, dI) vwCl (xW ad cB cI P n v' pt en k' tv tx oc o1 o2 o3) H := hP
    have hD : va_D A (xW ad cB cI P n v' pt en k' tv tx oc o1 o2 o3) := hD
    refine lv_aload_n hx hb dX0_undoTo_18 rfl (lv_at hl 0 rfl) ?_
    refine va_get (D := (dC, dI)) (ci := 0) (v := .ref (ad 5)) (C := RX0) (T := TX0) (N := 15) hx hb hts in_X0 hown hK hP 0 rfl rfl 5 (by decide) (hts _ q36) (fun _ h9 => h9) rfl dX0_undoTo_19 ?_
    refine lv_aload_n hx hb dX0_undoTo_22 rfl (lv_at hl 0 rfl) ?_
    refine va_get (D := (dC, dI)) (ci := 0) (v := .ref (ad 6)) (C := RX0) (T := TX0) (N := 15) hx hb hts in_X0 hown hK hP 0 rfl rfl 9 (by decide) (hts _ q40) (fun _ h9 => h9) rfl dX0_undoTo_23 ?_
    refine lv_aload_n hx hb dX0_undoTo_26 rfl (lv_at hl 0 rfl) ?_
    refine va_get (D := (dC, dI)) (ci := 0) (v := .int (nI k')) (C := RX0) (T := TX0) (N := 15) hx hb hts in_X0 hown hK hP 0 rfl rfl 8 (by decide) (hts _ q39) (fun _ h9 => h9) rfl dX0_undoTo_27 ?_
    refine sx_bald (j := k') hx hb hK hP 6 0 rfl rfl (rfl) (by omega) (by decide) dX0_undoTo_30 ?_
    refine lv_aload_n hx hb dX0_undoTo_31 rfl (lv_at hl 0 rfl) ?_
    refine va_get (D := (dC, dI)) (ci := 0) (v := .ref (ad 7)) (C := RX0) (T := TX0) (N := 15) hx hb hts in_X0 hown hK hP 0 rfl rfl 10 (by decide) (hts _ q41) (fun _ h9 => h9) rfl dX0_undoTo_32 ?_
    refine lv_aload_n hx hb dX0_undoTo_35 rfl (lv_at hl 0 rfl) ?_
    refine va_get (D := (dC, dI)) (ci := 0) (v := .int (nI k')) (C := RX0) (T := TX0) (N := 15) hx hb hts in_X0 hown hK hP 0 rfl rfl 8 (by decide) (hts _ q39) (fun _ h9 => h9) rfl dX0_undoTo_36 ?_
    refine sx_iald (j := k') hx hb hK hP 7 1 rfl rfl (rfl) (by omega) (by decide) dX0_undoTo_39 ?_
    refine sx_iast (j := ix (tv k')) hx hb hK hP hD hS 5 1 rfl rfl ((htv k' (by omega)).1) ((htv k' (by omega)).2) (by decide) dX0_undoTo_40 (fun H locs hP hD hS => ?_)
    have hP : va_P (dC, dI) vwCl (xW ad cB cI P n (upd v' (ix (tv k')) (tx k')) pt en k' tv tx oc o1 o2 o3) H := hP
    have hD : va_D A (xW ad cB cI P n (upd v' (ix (tv k')) (tx k')) pt en k' tv tx oc o1 o2 o3) := hD
    refine lv_goto (tgt := 0) hx hb dX0_undoTo_41 (by decide) ?_
    exact ih (k', upd v' (ix (tv k')) (tx k')) ⟨by show t0 ≤ k'; omega, by show k' ≤ tt; omega, by rw [← hk2, show k' + 1 - t0 = (k' - t0) + 1 by omega, sm_un]; rfl⟩ (Nat.lt_succ_self k') H locs hP hD hS ls hl
set_option maxHeartbeats 4000000 in
set_option maxRecDepth 100000 in
theorem ct_waysOf (l : Launch) (dC : Nat → ClassId) (dI : Nat → Nat → Nat) (ad : Nat → Nat) (cB cI : ClassId) (P : Pg) (n : Nat) (v : Vs) (pt en tt : Nat) (tv tx : Vs) (oc : Nat) (o1 o2 o3 : Vs) (i : Nat) (hi : i < n) (hn : n ≤ 14) (hV : sm_va P n) (hc : sm_ch P i) : MetR l (dC, dI) vwCl (tyX cB cI) yX0_waysOf (ws_ yX0_waysOf cX0_waysOf 3 (some .int)) ({ frames := 0, cells := 0, slots := 0, locals := 0 }) [.ref (ad 0), .int (nI i)] (xW ad cB cI P n v pt en tt tv tx oc o1 o2 o3) (nI (sm_op P i)) := by
  refine MetR.of (by decide) (Nat.le_of_ble_eq_true rfl) ?_
  intro p e s m below meth c ls hx hb hr hml hlocks hts hown hP hK hl
  have hown : s.vm.findClass RX0 = some m.cls := hown
  have hl : lv_has ls 3 [(0, .ref (ad 0)), (1, .int (nI i))] := hl
  refine lv_aload_n hx hb dX0_waysOf_0 rfl (lv_at hl 0 rfl) ?_
  refine va_get (D := (dC, dI)) (ci := 0) (v := .ref (ad 1)) (C := RX0) (T := TX0) (N := 15) hx hb hts in_X0 hown hK hP 0 rfl rfl 0 (by decide) (hts _ q31) (fun _ h9 => h9) rfl dX0_waysOf_1 ?_
  refine lv_iload_n hx hb dX0_waysOf_4 rfl (lv_at hl 1 rfl) ?_
  refine sx_bald (j := i) hx hb hK hP 1 0 rfl rfl (rfl) (by omega) (by decide) dX0_waysOf_5 ?_
  refine lv_if_eq (tgt := 11) hx hb dX0_waysOf_6 (by decide) (fun c_1 => ?_) (fun c_1 => ?_)
  · skip
    obtain ⟨r1, r2, r3, r4⟩ := (hV i hi).2.2.1 c_1
    have ho : sm_op P i = ((P.2.2.2 i).toInt - (P.2.2.1 i).toInt + 1).toNat := by rw [sm_op, if_pos c_1]
    refine lv_aload_n hx hb dX0_waysOf_11 rfl (lv_at hl 0 rfl) ?_
    refine va_get (D := (dC, dI)) (ci := 0) (v := .ref (ad 4)) (C := RX0) (T := TX0) (N := 15) hx hb hts in_X0 hown hK hP 0 rfl rfl 3 (by decide) (hts _ q34) (fun _ h9 => h9) rfl dX0_waysOf_12 ?_
    refine lv_iload_n hx hb dX0_waysOf_15 rfl (lv_at hl 1 rfl) ?_
    refine sx_bald (j := i) hx hb hK hP 4 0 rfl rfl (rfl) (by omega) (by decide) dX0_waysOf_16 ?_
    refine lv_aload_n hx hb dX0_waysOf_17 rfl (lv_at hl 0 rfl) ?_
    refine va_get (D := (dC, dI)) (ci := 0) (v := .ref (ad 3)) (C := RX0) (T := TX0) (N := 15) hx hb hts in_X0 hown hK hP 0 rfl rfl 2 (by decide) (hts _ q33) (fun _ h9 => h9) rfl dX0_waysOf_18 ?_
    refine lv_iload_n hx hb dX0_waysOf_21 rfl (lv_at hl 1 rfl) ?_
    refine sx_bald (j := i) hx hb hK hP 3 0 rfl rfl (rfl) (by omega) (by decide) dX0_waysOf_22 ?_
    refine lv_isub hx hb dX0_waysOf_23 ?_
    refine lv_iconst (v := 1) hx hb dX0_waysOf_24 (by decide) ?_
    refine lv_iadd hx hb dX0_waysOf_25 ?_
    refine lv_istore_n (lv' := [(2, .int (((P.2.2.2 i) - (P.2.2.1 i)) + 1)), (0, .ref (ad 0)), (1, .int (nI i))]) hx hb dX0_waysOf_26 rfl hl (by decide) rfl (fun ls hl => ?_)
    refine lv_iload_n hx hb dX0_waysOf_27 rfl (lv_at hl 0 rfl) ?_
    refine lv_if_ge (tgt := 35) hx hb dX0_waysOf_28 (by decide) (fun c_2 => ?_) (fun c_2 => ?_)
    · skip
      refine lv_iload_n hx hb dX0_waysOf_35 rfl (lv_at hl 0 rfl) ?_
      exact sx_iretR hx hb hr hlocks (by rw [ho]; exact sm_ways_pos r1 r2 r3 r4 c_2) dX0_waysOf_36
    · skip
      refine lv_iconst (v := 0) hx hb dX0_waysOf_31 (by decide) ?_
      refine lv_goto (tgt := 36) hx hb dX0_waysOf_32 (by decide) ?_
      exact sx_iretR hx hb hr hlocks (by rw [ho, sm_ways_neg r1 r2 r3 r4 c_2]; rfl) dX0_waysOf_36
  · skip
    refine lv_iconst (v := 2) hx hb dX0_waysOf_9 (by decide) ?_
    exact sx_iretR hx hb hr hlocks (by rw [sm_op, if_neg c_1, if_pos (hc.resolve_left c_1)]; rfl) dX0_waysOf_10
set_option maxHeartbeats 4000000 in
set_option maxRecDepth 100000 in
theorem ct_takeWay (l : Launch) (dC : Nat → ClassId) (dI : Nat → Nat → Nat) (ad : Nat → Nat) (cB cI : ClassId) (P : Pg) (n : Nat) (v : Vs) (pt en tt : Nat) (tv tx : Vs) (oc : Nat) (o1 o2 o3 : Vs) (i d : Nat) (hi : i < n) (hn : n ≤ 14) (hV : sm_va P n) (hc : sm_ch P i) (hd : d ≤ 13) (htt : tt < 16) : MetV l (dC, dI) vwCl (tyX cB cI) yX0_takeWay (ws_ yX0_takeWay cX0_takeWay 6 none) ({ frames := 1, cells := 0, slots := 0, locals := 22 }) [.ref (ad 0), .int (nI i), .int (nI d)] (xW ad cB cI P n v pt en tt tv tx oc o1 o2 o3) (fun _ : Unit => xW ad cB cI P n (sm_ap P i d v) pt en (tt + 1) (upd tv tt (nI (sm_tg P i d))) (upd tx tt (v (sm_tg P i d))) oc o1 o2 o3) (fun _ => True) := by
  refine MetV.of (by decide) (Nat.le_of_ble_eq_true rfl) ?_
  intro p e s m below meth c ls A hx hb hr hml hlocks hts hown hA hP hK hD hS hl
  have hown : s.vm.findClass RX0 = some m.cls := hown
  have hl : lv_has ls 6 [(0, .ref (ad 0)), (1, .int (nI i)), (2, .int (nI d))] := hl
  obtain ⟨-, gA, -, gB⟩ := hV i hi
  have gA2 := gA.2
  refine lv_aload_n hx hb dX0_takeWay_0 rfl (lv_at hl 0 rfl) ?_
  refine va_get (D := (dC, dI)) (ci := 0) (v := .ref (ad 2)) (C := RX0) (T := TX0) (N := 15) hx hb hts in_X0 hown hK hP 0 rfl rfl 1 (by decide) (hts _ q32) (fun _ h9 => h9) rfl dX0_takeWay_1 ?_
  refine lv_iload_n hx hb dX0_takeWay_4 rfl (lv_at hl 1 rfl) ?_
  refine sx_bald (j := i) hx hb hK hP 2 0 rfl rfl (rfl) (by omega) (by decide) dX0_takeWay_5 ?_
  refine sx_topE (y := nI (ix (P.2.1 i))) (gA.1) ?_
  refine lv_istore_n (lv' := [(3, .int (nI (ix (P.2.1 i)))), (0, .ref (ad 0)), (1, .int (nI i)), (2, .int (nI d))]) hx hb dX0_takeWay_6 rfl hl (by decide) rfl (fun ls hl => ?_)
  refine lv_aload_n hx hb dX0_takeWay_7 rfl (lv_at hl 1 rfl) ?_
  refine va_get (D := (dC, dI)) (ci := 0) (v := .ref (ad 3)) (C := RX0) (T := TX0) (N := 15) hx hb hts in_X0 hown hK hP 0 rfl rfl 2 (by decide) (hts _ q33) (fun _ h9 => h9) rfl dX0_takeWay_8 ?_
  refine lv_iload_n hx hb dX0_takeWay_11 rfl (lv_at hl 2 rfl) ?_
  refine sx_bald (j := i) hx hb hK hP 3 0 rfl rfl (rfl) (by omega) (by decide) dX0_takeWay_12 ?_
  refine lv_istore (lv' := [(4, .int (P.2.2.1 i)), (3, .int (nI (ix (P.2.1 i)))), (0, .ref (ad 0)), (1, .int (nI i)), (2, .int (nI d))]) hx hb dX0_takeWay_13 hl (by decide) rfl (fun ls hl => ?_)
  refine lv_aload_n hx hb dX0_takeWay_15 rfl (lv_at hl 2 rfl) ?_
  refine va_get (D := (dC, dI)) (ci := 0) (v := .ref (ad 1)) (C := RX0) (T := TX0) (N := 15) hx hb hts in_X0 hown hK hP 0 rfl rfl 0 (by decide) (hts _ q31) (fun _ h9 => h9) rfl dX0_takeWay_16 ?_
  refine lv_iload_n hx hb dX0_takeWay_19 rfl (lv_at hl 3 rfl) ?_
  refine sx_bald (j := i) hx hb hK hP 1 0 rfl rfl (rfl) (by omega) (by decide) dX0_takeWay_20 ?_
  refine lv_if_ne (tgt := 36) hx hb dX0_takeWay_21 (by decide) (fun c_1 => ?_) (fun c_1 => ?_)
  · skip
    refine lv_aload_n hx hb dX0_takeWay_36 rfl (lv_at hl 2 rfl) ?_
    refine va_get (D := (dC, dI)) (ci := 0) (v := .ref (ad 1)) (C := RX0) (T := TX0) (N := 15) hx hb hts in_X0 hown hK hP 0 rfl rfl 0 (by decide) (hts _ q31) (fun _ h9 => h9) rfl dX0_takeWay_37 ?_
    refine lv_iload_n hx hb dX0_takeWay_40 rfl (lv_at hl 3 rfl) ?_
    refine sx_bald (j := i) hx hb hK hP 1 0 rfl rfl (rfl) (by omega) (by decide) dX0_takeWay_41 ?_
    refine lv_iconst (v := 4) hx hb dX0_takeWay_42 (by decide) ?_
    refine lv_icmp_ne (tgt := 74) hx hb dX0_takeWay_43 (by decide) (fun c_2 => ?_) (fun c_2 => ?_)
    · skip
      have h9 : P.1 i = 9 := (hc.resolve_left c_1).resolve_left c_2
      have gB : sm_v4 (P.2.2.1 i) := gB (by rw [h9]; decide) (by rw [h9]; decide)
      have gB2 := gB.2
      refine lv_iload_n hx hb dX0_takeWay_74 rfl (lv_at hl 4 rfl) ?_
      refine lv_if_ne (tgt := 82) hx hb dX0_takeWay_75 (by decide) (fun c_3 => ?_) (fun c_3 => ?_)
      · skip
        have h0 : ¬ d = 0 := fun h => c_3 (by rw [h]; rfl)
        refine lv_iload hx hb dX0_takeWay_82 (lv_at hl 0 rfl) ?_
        refine sx_topE (y := nI (ix (P.2.2.1 i))) (gB.1) ?_
        refine lv_istore (lv' := [(5, .int (nI (ix (P.2.2.1 i)))), (4, .int (P.2.2.1 i)), (3, .int (nI (ix (P.2.1 i)))), (0, .ref (ad 0)), (1, .int (nI i)), (2, .int (nI d))]) hx hb dX0_takeWay_84 hl (by decide) rfl (fun ls hl => ?_)
        refine lv_aload_n hx hb dX0_takeWay_86 rfl (lv_at hl 3 rfl) ?_
        refine lv_iload hx hb dX0_takeWay_87 (lv_at hl 0 rfl) ?_
        refine lv_aload_n hx hb dX0_takeWay_89 rfl (lv_at hl 3 rfl) ?_
        refine va_get (D := (dC, dI)) (ci := 0) (v := .ref (ad 5)) (C := RX0) (T := TX0) (N := 15) hx hb hts in_X0 hown hK hP 0 rfl rfl 5 (by decide) (hts _ q36) (fun _ h9 => h9) rfl dX0_takeWay_90 ?_
        refine lv_iload hx hb dX0_takeWay_93 (lv_at hl 0 rfl) ?_
        refine sx_iald (j := (ix (P.2.2.1 i))) hx hb hK hP 5 1 rfl rfl (rfl) (by omega) (by decide) dX0_takeWay_95 ?_
        refine lv_iconst (v := 1) hx hb dX0_takeWay_96 (by decide) ?_
        refine lv_iadd hx hb dX0_takeWay_97 ?_
        refine sx_callV (ci := 0) (As := [.int (nI (ix (P.2.2.1 i))), .int ((v (ix (P.2.2.1 i))) + 1)]) (rest := []) ⟨hx, hb, hml, hown, hts⟩ (ct_assign l dC dI ad cB cI P n v pt en tt tv tx oc o1 o2 o3 (ix (P.2.2.1 i)) (v (ix (P.2.2.1 i)) + 1) (gB.2) htt) (cwV 2 hts (lw_V q136 q138 qs8 q21 q139) rfl rfl rfl (by decide +kernel) ⟨Nat.le_of_ble_eq_true rfl, Nat.le_of_ble_eq_true rfl⟩) hK hP hD hS hA rfl rfl rfl hl.1 rfl (Nat.le_of_ble_eq_true rfl) ⟨Nat.zero_le _, Nat.zero_le _⟩ dX0_takeWay_98 (fun u H locs hw_ hP hD hS => ?_)
        have hP : va_P (dC, dI) vwCl (xW ad cB cI P n (upd v (ix (P.2.2.1 i)) (v (ix (P.2.2.1 i)) + 1)) pt en (tt + 1) (upd tv tt (nI (ix (P.2.2.1 i)))) (upd tx tt (v (ix (P.2.2.1 i)))) oc o1 o2 o3) H := hP
        have hD : va_D A (xW ad cB cI P n (upd v (ix (P.2.2.1 i)) (v (ix (P.2.2.1 i)) + 1)) pt en (tt + 1) (upd tv tt (nI (ix (P.2.2.1 i)))) (upd tx tt (v (ix (P.2.2.1 i)))) oc o1 o2 o3) := hD
        have e1 : sm_ap P i d v = upd v (ix (P.2.2.1 i)) (v (ix (P.2.2.1 i)) + 1) := by rw [sm_ap_9 h9, if_neg h0]
        have e2 : sm_tg P i d = ix (P.2.2.1 i) := by rw [sm_tg, if_pos h9, if_neg h0]
        exact sx_vret hx hb hr hlocks hK () trivial (by rw [e1, e2]; exact hP) (by rw [e1, e2]; exact hD) hS dX0_takeWay_101
      · skip
        have h0 : d = 0 := (nI_eq (by omega) (by omega)).mp c_3
        refine lv_iload_n hx hb dX0_takeWay_78 rfl (lv_at hl 1 rfl) ?_
        refine lv_goto (tgt := 84) hx hb dX0_takeWay_79 (by decide) ?_
        refine lv_istore (lv' := [(5, .int (nI (ix (P.2.1 i)))), (4, .int (P.2.2.1 i)), (3, .int (nI (ix (P.2.1 i)))), (0, .ref (ad 0)), (1, .int (nI i)), (2, .int (nI d))]) hx hb dX0_takeWay_84 hl (by decide) rfl (fun ls hl => ?_)
        refine lv_aload_n hx hb dX0_takeWay_86 rfl (lv_at hl 3 rfl) ?_
        refine lv_iload hx hb dX0_takeWay_87 (lv_at hl 0 rfl) ?_
        refine lv_aload_n hx hb dX0_takeWay_89 rfl (lv_at hl 3 rfl) ?_
        refine va_get (D := (dC, dI)) (ci := 0) (v := .ref (ad 5)) (C := RX0) (T := TX0) (N := 15) hx hb hts in_X0 hown hK hP 0 rfl rfl 5 (by decide) (hts _ q36) (fun _ h9 => h9) rfl dX0_takeWay_90 ?_
        refine lv_iload hx hb dX0_takeWay_93 (lv_at hl 0 rfl) ?_
        refine sx_iald (j := (ix (P.2.1 i))) hx hb hK hP 5 1 rfl rfl (rfl) (by omega) (by decide) dX0_takeWay_95 ?_
        refine lv_iconst (v := 1) hx hb dX0_takeWay_96 (by decide) ?_
        refine lv_iadd hx hb dX0_takeWay_97 ?_
        refine sx_callV (ci := 0) (As := [.int (nI (ix (P.2.1 i))), .int ((v (ix (P.2.1 i))) + 1)]) (rest := []) ⟨hx, hb, hml, hown, hts⟩ (ct_assign l dC dI ad cB cI P n v pt en tt tv tx oc o1 o2 o3 (ix (P.2.1 i)) (v (ix (P.2.1 i)) + 1) (gA.2) htt) (cwV 2 hts (lw_V q136 q138 qs8 q21 q139) rfl rfl rfl (by decide +kernel) ⟨Nat.le_of_ble_eq_true rfl, Nat.le_of_ble_eq_true rfl⟩) hK hP hD hS hA rfl rfl rfl hl.1 rfl (Nat.le_of_ble_eq_true rfl) ⟨Nat.zero_le _, Nat.zero_le _⟩ dX0_takeWay_98 (fun u H locs hw_ hP hD hS => ?_)
        have hP : va_P (dC, dI) vwCl (xW ad cB cI P n (upd v (ix (P.2.1 i)) (v (ix (P.2.1 i)) + 1)) pt en (tt + 1) (upd tv tt (nI (ix (P.2.1 i)))) (upd tx tt (v (ix (P.2.1 i)))) oc o1 o2 o3) H := hP
        have hD : va_D A (xW ad cB cI P n (upd v (ix (P.2.1 i)) (v (ix (P.2.1 i)) + 1)) pt en (tt + 1) (upd tv tt (nI (ix (P.2.1 i)))) (upd tx tt (v (ix (P.2.1 i)))) oc o1 o2 o3) := hD
        have e1 : sm_ap P i d v = upd v (ix (P.2.1 i)) (v (ix (P.2.1 i)) + 1) := by rw [sm_ap_9 h9, if_pos h0]
        have e2 : sm_tg P i d = ix (P.2.1 i) := by rw [sm_tg, if_pos h9, if_pos h0]
        exact sx_vret hx hb hr hlocks hK () trivial (by rw [e1, e2]; exact hP) (by rw [e1, e2]; exact hD) hS dX0_takeWay_101
    · skip
      have h9 : ¬ P.1 i = 9 := by rw [c_2]; decide
      have gB : sm_v4 (P.2.2.1 i) := gB c_1 (by rw [c_2]; decide)
      have gB2 := gB.2
      refine lv_aload_n hx hb dX0_takeWay_46 rfl (lv_at hl 2 rfl) ?_
      refine lv_iload_n hx hb dX0_takeWay_47 rfl (lv_at hl 1 rfl) ?_
      refine lv_iload_n hx hb dX0_takeWay_48 rfl (lv_at hl 4 rfl) ?_
      refine lv_if_ne (tgt := 62) hx hb dX0_takeWay_49 (by decide) (fun c_3 => ?_) (fun c_3 => ?_)
      · skip
        have h0 : ¬ d = 0 := fun h => c_3 (by rw [h]; rfl)
        refine lv_aload_n hx hb dX0_takeWay_62 rfl (lv_at hl 2 rfl) ?_
        refine va_get (D := (dC, dI)) (ci := 0) (v := .ref (ad 5)) (C := RX0) (T := TX0) (N := 15) hx hb hts in_X0 hown hK hP 0 rfl rfl 5 (by decide) (hts _ q36) (fun _ h9 => h9) rfl dX0_takeWay_63 ?_
        refine lv_iload_n hx hb dX0_takeWay_66 rfl (lv_at hl 1 rfl) ?_
        refine sx_iald (j := ix (P.2.1 i)) hx hb hK hP 5 1 rfl rfl (rfl) (gA.2) (by decide) dX0_takeWay_67 ?_
        refine sx_callV (ci := 0) (As := [.int (nI (ix (P.2.1 i))), .int (v (ix (P.2.1 i)))]) (rest := []) ⟨hx, hb, hml, hown, hts⟩ (ct_assign l dC dI ad cB cI P n v pt en tt tv tx oc o1 o2 o3 (ix (P.2.1 i)) (v (ix (P.2.1 i))) (gA.2) htt) (cwV 2 hts (lw_V q136 q138 qs8 q21 q139) rfl rfl rfl (by decide +kernel) ⟨Nat.le_of_ble_eq_true rfl, Nat.le_of_ble_eq_true rfl⟩) hK hP hD hS hA rfl rfl rfl hl.1 rfl (Nat.le_of_ble_eq_true rfl) ⟨Nat.zero_le _, Nat.zero_le _⟩ dX0_takeWay_68 (fun u H locs hw_ hP hD hS => ?_)
        have hP : va_P (dC, dI) vwCl (xW ad cB cI P n (upd v (ix (P.2.1 i)) (v (ix (P.2.1 i)))) pt en (tt + 1) (upd tv tt (nI (ix (P.2.1 i)))) (upd tx tt (v (ix (P.2.1 i)))) oc o1 o2 o3) H := hP
        have hD : va_D A (xW ad cB cI P n (upd v (ix (P.2.1 i)) (v (ix (P.2.1 i)))) pt en (tt + 1) (upd tv tt (nI (ix (P.2.1 i)))) (upd tx tt (v (ix (P.2.1 i)))) oc o1 o2 o3) := hD
        refine lv_goto (tgt := 101) hx hb dX0_takeWay_71 (by decide) ?_
        have e1 : sm_ap P i d v = upd v (ix (P.2.1 i)) (v (ix (P.2.1 i))) := by rw [sm_ap_4 c_2, if_neg h0]
        have e2 : sm_tg P i d = ix (P.2.1 i) := by rw [sm_tg, if_neg h9]
        exact sx_vret hx hb hr hlocks hK () trivial (by rw [e1, e2]; exact hP) (by rw [e1, e2]; exact hD) hS dX0_takeWay_101
      · skip
        have h0 : d = 0 := (nI_eq (by omega) (by omega)).mp c_3
        refine lv_aload_n hx hb dX0_takeWay_52 rfl (lv_at hl 2 rfl) ?_
        refine va_get (D := (dC, dI)) (ci := 0) (v := .ref (ad 5)) (C := RX0) (T := TX0) (N := 15) hx hb hts in_X0 hown hK hP 0 rfl rfl 5 (by decide) (hts _ q36) (fun _ h9 => h9) rfl dX0_takeWay_53 ?_
        refine lv_iload hx hb dX0_takeWay_56 (lv_at hl 0 rfl) ?_
        refine sx_iald (j := ix (P.2.2.1 i)) hx hb hK hP 5 1 rfl rfl (gB.1) (gB.2) (by decide) dX0_takeWay_58 ?_
        refine lv_goto (tgt := 68) hx hb dX0_takeWay_59 (by decide) ?_
        refine sx_callV (ci := 0) (As := [.int (nI (ix (P.2.1 i))), .int (v (ix (P.2.2.1 i)))]) (rest := []) ⟨hx, hb, hml, hown, hts⟩ (ct_assign l dC dI ad cB cI P n v pt en tt tv tx oc o1 o2 o3 (ix (P.2.1 i)) (v (ix (P.2.2.1 i))) (gA.2) htt) (cwV 2 hts (lw_V q136 q138 qs8 q21 q139) rfl rfl rfl (by decide +kernel) ⟨Nat.le_of_ble_eq_true rfl, Nat.le_of_ble_eq_true rfl⟩) hK hP hD hS hA rfl rfl rfl hl.1 rfl (Nat.le_of_ble_eq_true rfl) ⟨Nat.zero_le _, Nat.zero_le _⟩ dX0_takeWay_68 (fun u H locs hw_ hP hD hS => ?_)
        have hP : va_P (dC, dI) vwCl (xW ad cB cI P n (upd v (ix (P.2.1 i)) (v (ix (P.2.2.1 i)))) pt en (tt + 1) (upd tv tt (nI (ix (P.2.1 i)))) (upd tx tt (v (ix (P.2.1 i)))) oc o1 o2 o3) H := hP
        have hD : va_D A (xW ad cB cI P n (upd v (ix (P.2.1 i)) (v (ix (P.2.2.1 i)))) pt en (tt + 1) (upd tv tt (nI (ix (P.2.1 i)))) (upd tx tt (v (ix (P.2.1 i)))) oc o1 o2 o3) := hD
        refine lv_goto (tgt := 101) hx hb dX0_takeWay_71 (by decide) ?_
        have e1 : sm_ap P i d v = upd v (ix (P.2.1 i)) (v (ix (P.2.2.1 i))) := by rw [sm_ap_4 c_2, if_pos h0]
        have e2 : sm_tg P i d = ix (P.2.1 i) := by rw [sm_tg, if_neg h9]
        exact sx_vret hx hb hr hlocks hK () trivial (by rw [e1, e2]; exact hP) (by rw [e1, e2]; exact hD) hS dX0_takeWay_101
  · skip
    have h9 : ¬ P.1 i = 9 := by rw [c_1]; decide
    refine lv_aload_n hx hb dX0_takeWay_24 rfl (lv_at hl 2 rfl) ?_
    refine lv_iload_n hx hb dX0_takeWay_25 rfl (lv_at hl 1 rfl) ?_
    refine lv_iload hx hb dX0_takeWay_26 (lv_at hl 0 rfl) ?_
    refine lv_iload_n hx hb dX0_takeWay_28 rfl (lv_at hl 4 rfl) ?_
    refine lv_iadd hx hb dX0_takeWay_29 ?_
    refine sx_callV (ci := 0) (As := [.int (nI (ix (P.2.1 i))), .int ((P.2.2.1 i) + (nI d))]) (rest := []) ⟨hx, hb, hml, hown, hts⟩ (ct_assign l dC dI ad cB cI P n v pt en tt tv tx oc o1 o2 o3 (ix (P.2.1 i)) (P.2.2.1 i + nI d) (gA.2) htt) (cwV 2 hts (lw_V q136 q138 qs8 q21 q139) rfl rfl rfl (by decide +kernel) ⟨Nat.le_of_ble_eq_true rfl, Nat.le_of_ble_eq_true rfl⟩) hK hP hD hS hA rfl rfl rfl hl.1 rfl (Nat.le_of_ble_eq_true rfl) ⟨Nat.zero_le _, Nat.zero_le _⟩ dX0_takeWay_30 (fun u H locs hw_ hP hD hS => ?_)
    have hP : va_P (dC, dI) vwCl (xW ad cB cI P n (upd v (ix (P.2.1 i)) (P.2.2.1 i + nI d)) pt en (tt + 1) (upd tv tt (nI (ix (P.2.1 i)))) (upd tx tt (v (ix (P.2.1 i)))) oc o1 o2 o3) H := hP
    have hD : va_D A (xW ad cB cI P n (upd v (ix (P.2.1 i)) (P.2.2.1 i + nI d)) pt en (tt + 1) (upd tv tt (nI (ix (P.2.1 i)))) (upd tx tt (v (ix (P.2.1 i)))) oc o1 o2 o3) := hD
    refine lv_goto (tgt := 101) hx hb dX0_takeWay_33 (by decide) ?_
    have e1 : sm_ap P i d v = upd v (ix (P.2.1 i)) (P.2.2.1 i + nI d) := by rw [sm_ap_0 c_1]
    have e2 : sm_tg P i d = ix (P.2.1 i) := by rw [sm_tg, if_neg h9]
    exact sx_vret hx hb hr hlocks hK () trivial (by rw [e1, e2]; exact hP) (by rw [e1, e2]; exact hD) hS dX0_takeWay_101
end
section
/-! THE MACHINE: goBack, beginChoice, doStep -/
def sm_uC (P : Pg) (n : Nat) (u : XS) (k : List Ch) : Prop := sm_Cf P n u.1 u.2.1 u.2.2.2.1 u.2.2.2.2.1 u.2.2.2.2.2.1 u.2.2.2.2.2.2.1 u.2.2.2.2.2.2.2.1 u.2.2.2.2.2.2.2.2.1 u.2.2.2.2.2.2.2.2.2 k
def sm_uS (P : Pg) (n : Nat) (u : XS) (k : List Ch) : Prop := sm_St P n u.1 u.2.2.2.1 u.2.2.2.2.1 u.2.2.2.2.2.1 u.2.2.2.2.2.2.1 u.2.2.2.2.2.2.2.1 u.2.2.2.2.2.2.2.2.1 u.2.2.2.2.2.2.2.2.2 k
/-- what goBack does -/
def sm_pB (P : Pg) (n : Nat) (k : List Ch) (r : Int32) (u : XS) : Prop := (r = 0 ∧ u.2.2.1 = n ∧ sm_as P n k = []) ∨ (r = 1 ∧ u.2.2.1 = n ∧ ∃ k', sm_uC P n u k' ∧ sm_an P n u.2.1 u.1 k' = sm_as P n k ∧ sm_ct P n u.2.1 k' ≤ sm_cs P n k)
/-- what a step does -/
def sm_pS (P : Pg) (n pt : Nat) (v : Vs) (k : List Ch) (r : Int32) (u : XS) : Prop := (r = 1 ∧ u.2.2.1 = n ∧ ∃ k', sm_uC P n u k' ∧ sm_an P n u.2.1 u.1 k' = sm_an P n pt v k ∧ sm_ct P n u.2.1 k' + 1 ≤ sm_ct P n pt k) ∨
  (r = 0 ∧ u.2.2.1 = n ∧ sm_uS P n u k ∧ sm_an P n pt v k = sm_as P n k ∧ sm_cs P n k + 1 ≤ sm_ct P n pt k)
theorem sm_pS_01 {P : Pg} {n pt : Nat} {v : Vs} {k : List Ch} {r : Int32} {u : XS} (h : sm_pS P n pt v k r u) : r = 0 ∨ r = 1 := by
  rcases h with h | h
  · exact Or.inr h.1
  · exact Or.inl h.1
set_option maxHeartbeats 4000000 in
set_option maxRecDepth 100000 in
theorem ct_goBack (l : Launch) (dC : Nat → ClassId) (dI : Nat → Nat → Nat) (ad : Nat → Nat) (cB cI : ClassId) (P : Pg) (n : Nat) (v : Vs) (pt en tt : Nat) (tv tx : Vs) (oc : Nat) (o1 o2 o3 : Vs)  (k : List Ch) (hn : n ≤ 14) (hen : en ≤ n) (hV : sm_va P n) (hcb : sm_cb P n ≤ 3) (h : sm_St P en v tt tv tx oc o1 o2 o3 k) : MetI l (dC, dI) vwCl (tyX cB cI) yX0_goBack (ws_ yX0_goBack cX0_goBack 4 (some .boolean)) ({ frames := 2, cells := 0, slots := 0, locals := 47 }) [.ref (ad 0)] (xW ad cB cI P n v pt en tt tv tx oc o1 o2 o3) (xF ad cB cI P n) (sm_pB P en k) := by
  refine MetI.of (by decide) (Nat.le_of_ble_eq_true rfl) ?_
  intro p e s m below meth c ls A hx hb hr hml hlocks hts hown hA hP hK hD hS hl
  have hown : s.vm.findClass RX0 = some m.cls := hown
  have hl : lv_has ls 4 [(0, .ref (ad 0))] := hl
  refine lv_aload_n hx hb dX0_goBack_0 rfl (lv_at hl 0 rfl) ?_
  refine va_get (D := (dC, dI)) (ci := 0) (v := .int (nI oc)) (C := RX0) (T := TX0) (N := 15) hx hb hts in_X0 hown hK hP 0 rfl rfl 11 (by decide) (hts _ q42) (fun _ h9 => h9) rfl dX0_goBack_1 ?_
  refine lv_if_ne (tgt := 9) hx hb dX0_goBack_4 (by decide) (fun c_1 => ?_) (fun c_1 => ?_)
  · skip
    have hk : k ≠ [] := fun e => c_1 (by rw [h.2.1, e]; rfl)
    obtain ⟨⟨s0, w0, u0⟩, r0, rfl⟩ : ∃ q r, k = q :: r := by
      cases k with
      | nil => exact absurd rfl hk
      | cons q r => exact ⟨q, r, rfl⟩
    obtain ⟨t0, b1, b2, b3, b4, b5, b6, b7, b8, b9, b10, b11, b12, b13, b14⟩ := sm_St_top h
    have hsn : s0 < n := by omega
    have hb6 : sm_op P s0 ≤ 13 := hV.bd s0 hsn
    have hr0 : r0.length ≤ 3 := by
      have := sm_cb_mono P (i := s0) (j := n) (by omega)
      omega
    subst b12
    refine lv_aload_n hx hb dX0_goBack_9 rfl (lv_at hl 0 rfl) ?_
    refine va_get (D := (dC, dI)) (ci := 0) (v := .int (nI (r0.length + 1))) (C := RX0) (T := TX0) (N := 15) hx hb hts in_X0 hown hK hP 0 rfl rfl 11 (by decide) (hts _ q42) (fun _ h9 => h9) rfl dX0_goBack_10 ?_
    refine lv_iconst (v := 1) hx hb dX0_goBack_13 (by decide) ?_
    refine lv_isub hx hb dX0_goBack_14 ?_
    refine sx_topE (y := nI r0.length) (nI_pred _) ?_
    refine lv_istore_n (lv' := [(1, .int (nI r0.length)), (0, .ref (ad 0))]) hx hb dX0_goBack_15 rfl hl (by decide) rfl (fun ls hl => ?_)
    refine lv_aload_n hx hb dX0_goBack_16 rfl (lv_at hl 1 rfl) ?_
    refine lv_aload_n hx hb dX0_goBack_17 rfl (lv_at hl 1 rfl) ?_
    refine va_get (D := (dC, dI)) (ci := 0) (v := .ref (ad 10)) (C := RX0) (T := TX0) (N := 15) hx hb hts in_X0 hown hK hP 0 rfl rfl 14 (by decide) (hts _ q45) (fun _ h9 => h9) rfl dX0_goBack_18 ?_
    refine lv_iload_n hx hb dX0_goBack_21 rfl (lv_at hl 0 rfl) ?_
    refine sx_bald (j := r0.length) hx hb hK hP 10 0 rfl rfl (rfl) (by omega) (by decide) dX0_goBack_22 ?_
    refine sx_topE (y := nI t0) (b9) ?_
    refine sx_callV (ci := 0) (As := [.int (nI t0)]) (rest := []) ⟨hx, hb, hml, hown, hts⟩ (ct_undoTo l dC dI ad cB cI P n v pt en tt tv tx (r0.length + 1) o1 o2 o3 t0 b1 b13 b14) (cwV 1 hts (lw_V q124 q126 qs5 q21 q127) rfl rfl rfl (by decide +kernel) ⟨Nat.le_of_ble_eq_true rfl, Nat.le_of_ble_eq_true rfl⟩) hK hP hD hS hA rfl rfl rfl hl.1 rfl (Nat.le_of_ble_eq_true rfl) ⟨Nat.zero_le _, Nat.zero_le _⟩ dX0_goBack_23 (fun u_ H locs hw_ hP hD hS => ?_)
    rw [b10] at hP hD
    have hP : va_P (dC, dI) vwCl (xW ad cB cI P n u0 pt en t0 tv tx (r0.length + 1) o1 o2 o3) H := hP
    have hD : va_D A (xW ad cB cI P n u0 pt en t0 tv tx (r0.length + 1) o1 o2 o3) := hD
    refine lv_aload_n hx hb dX0_goBack_26 rfl (lv_at hl 1 rfl) ?_
    refine va_get (D := (dC, dI)) (ci := 0) (v := .ref (ad 8)) (C := RX0) (T := TX0) (N := 15) hx hb hts in_X0 hown hK hP 0 rfl rfl 12 (by decide) (hts _ q43) (fun _ h9 => h9) rfl dX0_goBack_27 ?_
    refine lv_iload_n hx hb dX0_goBack_30 rfl (lv_at hl 0 rfl) ?_
    refine sx_bald (j := r0.length) hx hb hK hP 8 0 rfl rfl (rfl) (by omega) (by decide) dX0_goBack_31 ?_
    refine sx_topE (y := nI s0) (b7) ?_
    refine lv_istore_n (lv' := [(2, .int (nI s0)), (1, .int (nI r0.length)), (0, .ref (ad 0))]) hx hb dX0_goBack_32 rfl hl (by decide) rfl (fun ls hl => ?_)
    refine lv_aload_n hx hb dX0_goBack_33 rfl (lv_at hl 2 rfl) ?_
    refine va_get (D := (dC, dI)) (ci := 0) (v := .ref (ad 9)) (C := RX0) (T := TX0) (N := 15) hx hb hts in_X0 hown hK hP 0 rfl rfl 13 (by decide) (hts _ q44) (fun _ h9 => h9) rfl dX0_goBack_34 ?_
    refine lv_iload_n hx hb dX0_goBack_37 rfl (lv_at hl 1 rfl) ?_
    refine sx_bald (j := r0.length) hx hb hK hP 9 0 rfl rfl (rfl) (by omega) (by decide) dX0_goBack_38 ?_
    refine sx_topE (y := nI w0) (b8) ?_
    refine lv_istore_n (lv' := [(3, .int (nI w0)), (2, .int (nI s0)), (1, .int (nI r0.length)), (0, .ref (ad 0))]) hx hb dX0_goBack_39 rfl hl (by decide) rfl (fun ls hl => ?_)
    refine lv_aload_n hx hb dX0_goBack_40 rfl (lv_at hl 3 rfl) ?_
    refine va_get (D := (dC, dI)) (ci := 0) (v := .ref (ad 9)) (C := RX0) (T := TX0) (N := 15) hx hb hts in_X0 hown hK hP 0 rfl rfl 13 (by decide) (hts _ q44) (fun _ h9 => h9) rfl dX0_goBack_41 ?_
    refine lv_iload_n hx hb dX0_goBack_44 rfl (lv_at hl 2 rfl) ?_
    refine lv_dup2_11 hx hb dX0_goBack_45 rfl rfl ?_
    refine sx_bald (j := r0.length) hx hb hK hP 9 0 rfl rfl (rfl) (by omega) (by decide) dX0_goBack_46 ?_
    refine sx_topE (y := nI w0) (b8) ?_
    refine lv_iconst (v := 1) hx hb dX0_goBack_47 (by decide) ?_
    refine lv_iadd hx hb dX0_goBack_48 ?_
    refine sx_topE (y := nI (w0 + 1)) (nI_1 _) ?_
    refine lv_i2b (v := (nI (w0 + 1))) hx hb dX0_goBack_49 (sx_b8 _ (by omega)) ?_
    refine sx_bast (y := (nI (w0 + 1))) (j := r0.length) hx hb hK hP hD hS 9 0 rfl rfl (rfl) (by omega) (by decide) (sx_b8 _ (by omega)) dX0_goBack_50 (fun H locs hP hD hS => ?_)
    have hP : va_P (dC, dI) vwCl (xW ad cB cI P n u0 pt en t0 tv tx (r0.length + 1) o1 (upd o2 r0.length (nI (w0 + 1))) o3) H := hP
    have hD : va_D A (xW ad cB cI P n u0 pt en t0 tv tx (r0.length + 1) o1 (upd o2 r0.length (nI (w0 + 1))) o3) := hD
    refine lv_aload_n hx hb dX0_goBack_51 rfl (lv_at hl 3 rfl) ?_
    refine va_get (D := (dC, dI)) (ci := 0) (v := .ref (ad 9)) (C := RX0) (T := TX0) (N := 15) hx hb hts in_X0 hown hK hP 0 rfl rfl 13 (by decide) (hts _ q44) (fun _ h9 => h9) rfl dX0_goBack_52 ?_
    refine lv_iload_n hx hb dX0_goBack_55 rfl (lv_at hl 2 rfl) ?_
    refine sx_bald (j := r0.length) hx hb hK hP 9 0 rfl rfl (rfl) (by omega) (by decide) dX0_goBack_56 ?_
    refine sx_topE (y := nI (w0 + 1)) (pk_us) ?_
    refine lv_aload_n hx hb dX0_goBack_57 rfl (lv_at hl 3 rfl) ?_
    refine lv_iload_n hx hb dX0_goBack_58 rfl (lv_at hl 1 rfl) ?_
    refine sx_callR (ci := 0) (As := [.int (nI s0)]) (rest := [.int (nI (w0 + 1))]) ⟨hx, hb, hml, hown, hts⟩ (ct_waysOf l dC dI ad cB cI P n u0 pt en t0 tv tx (r0.length + 1) o1 (upd o2 r0.length (nI (w0 + 1))) o3 s0 hsn hn hV b4) (cwV 1 hts (lw_V q128 q130 qs6 q21 q131) rfl rfl rfl (by decide +kernel) ⟨Nat.le_of_ble_eq_true rfl, Nat.le_of_ble_eq_true rfl⟩) hK hP rfl rfl rfl hl.1 rfl (Nat.le_of_ble_eq_true rfl) ⟨Nat.zero_le _, Nat.zero_le _⟩ dX0_goBack_59 ?_
    refine lv_icmp_ne (tgt := 75) hx hb dX0_goBack_62 (by decide) (fun c_2 => ?_) (fun c_2 => ?_)
    · skip
      have ho : ¬ w0 + 1 = sm_op P s0 := fun e => c_2 (by rw [e])
      refine lv_aload_n hx hb dX0_goBack_75 rfl (lv_at hl 3 rfl) ?_
      refine lv_iload_n hx hb dX0_goBack_76 rfl (lv_at hl 1 rfl) ?_
      refine lv_iload_n hx hb dX0_goBack_77 rfl (lv_at hl 0 rfl) ?_
      refine sx_callV (ci := 0) (As := [.int (nI s0), .int (nI w0)]) (rest := []) ⟨hx, hb, hml, hown, hts⟩ (ct_takeWay l dC dI ad cB cI P n u0 pt en t0 tv tx (r0.length + 1) o1 (upd o2 r0.length (nI (w0 + 1))) o3 s0 w0 (hsn) hn hV (b4) (by omega) (by omega)) (cwV 2 hts (lw_V q132 q134 qs7 q21 q135) rfl rfl rfl (by decide +kernel) ⟨Nat.le_of_ble_eq_true rfl, Nat.le_of_ble_eq_true rfl⟩) hK hP hD hS hA rfl rfl rfl hl.1 rfl (Nat.le_of_ble_eq_true rfl) ⟨Nat.zero_le _, Nat.zero_le _⟩ dX0_goBack_78 (fun u_ H locs hw_ hP hD hS => ?_)
      have hP : va_P (dC, dI) vwCl (xW ad cB cI P n (sm_ap P s0 w0 u0) pt en (t0 + 1) (upd tv t0 (nI (sm_tg P s0 w0))) (upd tx t0 (u0 (sm_tg P s0 w0))) (r0.length + 1) o1 (upd o2 r0.length (nI (w0 + 1))) o3) H := hP
      have hD : va_D A (xW ad cB cI P n (sm_ap P s0 w0 u0) pt en (t0 + 1) (upd tv t0 (nI (sm_tg P s0 w0))) (upd tx t0 (u0 (sm_tg P s0 w0))) (r0.length + 1) o1 (upd o2 r0.length (nI (w0 + 1))) o3) := hD
      refine lv_aload_n hx hb dX0_goBack_81 rfl (lv_at hl 3 rfl) ?_
      refine lv_iload_n hx hb dX0_goBack_82 rfl (lv_at hl 1 rfl) ?_
      refine lv_iconst (v := 1) hx hb dX0_goBack_83 (by decide) ?_
      refine lv_iadd hx hb dX0_goBack_84 ?_
      refine sx_topE (y := nI (s0 + 1)) (nI_1 _) ?_
      refine va_put (D := (dC, dI)) (ci := 0) (v := .int (nI (s0 + 1))) (ty := .int) (C := RX0) (T := TX0) (N := 15) hx hb hts in_X0 tyX0 tyX0_ok nmX0 hown hK hP hD hS 0 rfl rfl 6 (by decide) (hts _ q37) (fun _ h9 => h9) rfl (by decide +kernel) rfl rfl (Nat.le_of_ble_eq_true rfl) dX0_goBack_85 (fun H locs hP hD hS => ?_)
      have hP : va_P (dC, dI) vwCl (xW ad cB cI P n (sm_ap P s0 w0 u0) (s0 + 1) en (t0 + 1) (upd tv t0 (nI (sm_tg P s0 w0))) (upd tx t0 (u0 (sm_tg P s0 w0))) (r0.length + 1) o1 (upd o2 r0.length (nI (w0 + 1))) o3) H := hP
      have hD : va_D A (xW ad cB cI P n (sm_ap P s0 w0 u0) (s0 + 1) en (t0 + 1) (upd tv t0 (nI (sm_tg P s0 w0))) (upd tx t0 (u0 (sm_tg P s0 w0))) (r0.length + 1) o1 (upd o2 r0.length (nI (w0 + 1))) o3) := hD
      refine lv_iconst (v := 1) hx hb dX0_goBack_88 (by decide) ?_
      exact sx_zret hx hb hr hlocks (Or.inr rfl) hK (sm_ap P s0 w0 u0, (s0 + 1), en, t0 + 1, upd tv t0 (nI (sm_tg P s0 w0)), upd tx t0 (u0 (sm_tg P s0 w0)), r0.length + 1, o1, upd o2 r0.length (nI (w0 + 1)), o3) (Or.inr ⟨rfl, rfl, (s0, w0 + 1, u0) :: r0, sm_Cf_more (by omega) (hV.mono hen) b2 b3 b4 b5 (by omega) b7 b9 b11 (fun j hj => b14 j (by omega)), (sm_as_more b6 u0 r0).symm, Nat.le_of_eq (sm_cs_more b6 u0 r0)⟩) hP hD hS dX0_goBack_89
    · skip
      have ho : w0 + 1 = sm_op P s0 := (nI_eq (by omega) (by omega)).mp c_2
      refine lv_aload_n hx hb dX0_goBack_65 rfl (lv_at hl 3 rfl) ?_
      refine lv_dup hx hb dX0_goBack_66 rfl ?_
      refine va_get (D := (dC, dI)) (ci := 0) (v := .int (nI (r0.length + 1))) (C := RX0) (T := TX0) (N := 15) hx hb hts in_X0 hown hK hP 0 rfl rfl 11 (by decide) (hts _ q42) (fun _ h9 => h9) rfl dX0_goBack_67 ?_
      refine lv_iconst (v := 1) hx hb dX0_goBack_70 (by decide) ?_
      refine lv_isub hx hb dX0_goBack_71 ?_
      refine sx_topE (y := nI r0.length) (nI_pred _) ?_
      refine va_put (D := (dC, dI)) (ci := 0) (v := .int (nI r0.length)) (ty := .int) (C := RX0) (T := TX0) (N := 15) hx hb hts in_X0 tyX0 tyX0_ok nmX0 hown hK hP hD hS 0 rfl rfl 11 (by decide) (hts _ q42) (fun _ h9 => h9) rfl (by decide +kernel) rfl rfl (Nat.le_of_ble_eq_true rfl) dX0_goBack_72 (fun H locs hP hD hS => ?_)
      have hP : va_P (dC, dI) vwCl (xW ad cB cI P n u0 pt en t0 tv tx r0.length o1 (upd o2 r0.length (nI (w0 + 1))) o3) H := hP
      have hD : va_D A (xW ad cB cI P n u0 pt en t0 tv tx r0.length o1 (upd o2 r0.length (nI (w0 + 1))) o3) := hD
      refine lv_aload_n hx hb dX0_goBack_75 rfl (lv_at hl 3 rfl) ?_
      refine lv_iload_n hx hb dX0_goBack_76 rfl (lv_at hl 1 rfl) ?_
      refine lv_iload_n hx hb dX0_goBack_77 rfl (lv_at hl 0 rfl) ?_
      refine sx_callV (ci := 0) (As := [.int (nI s0), .int (nI w0)]) (rest := []) ⟨hx, hb, hml, hown, hts⟩ (ct_takeWay l dC dI ad cB cI P n u0 pt en t0 tv tx r0.length o1 (upd o2 r0.length (nI (w0 + 1))) o3 s0 w0 (hsn) hn hV (b4) (by omega) (by omega)) (cwV 2 hts (lw_V q132 q134 qs7 q21 q135) rfl rfl rfl (by decide +kernel) ⟨Nat.le_of_ble_eq_true rfl, Nat.le_of_ble_eq_true rfl⟩) hK hP hD hS hA rfl rfl rfl hl.1 rfl (Nat.le_of_ble_eq_true rfl) ⟨Nat.zero_le _, Nat.zero_le _⟩ dX0_goBack_78 (fun u_ H locs hw_ hP hD hS => ?_)
      have hP : va_P (dC, dI) vwCl (xW ad cB cI P n (sm_ap P s0 w0 u0) pt en (t0 + 1) (upd tv t0 (nI (sm_tg P s0 w0))) (upd tx t0 (u0 (sm_tg P s0 w0))) r0.length o1 (upd o2 r0.length (nI (w0 + 1))) o3) H := hP
      have hD : va_D A (xW ad cB cI P n (sm_ap P s0 w0 u0) pt en (t0 + 1) (upd tv t0 (nI (sm_tg P s0 w0))) (upd tx t0 (u0 (sm_tg P s0 w0))) r0.length o1 (upd o2 r0.length (nI (w0 + 1))) o3) := hD
      refine lv_aload_n hx hb dX0_goBack_81 rfl (lv_at hl 3 rfl) ?_
      refine lv_iload_n hx hb dX0_goBack_82 rfl (lv_at hl 1 rfl) ?_
      refine lv_iconst (v := 1) hx hb dX0_goBack_83 (by decide) ?_
      refine lv_iadd hx hb dX0_goBack_84 ?_
      refine sx_topE (y := nI (s0 + 1)) (nI_1 _) ?_
      refine va_put (D := (dC, dI)) (ci := 0) (v := .int (nI (s0 + 1))) (ty := .int) (C := RX0) (T := TX0) (N := 15) hx hb hts in_X0 tyX0 tyX0_ok nmX0 hown hK hP hD hS 0 rfl rfl 6 (by decide) (hts _ q37) (fun _ h9 => h9) rfl (by decide +kernel) rfl rfl (Nat.le_of_ble_eq_true rfl) dX0_goBack_85 (fun H locs hP hD hS => ?_)
      have hP : va_P (dC, dI) vwCl (xW ad cB cI P n (sm_ap P s0 w0 u0) (s0 + 1) en (t0 + 1) (upd tv t0 (nI (sm_tg P s0 w0))) (upd tx t0 (u0 (sm_tg P s0 w0))) r0.length o1 (upd o2 r0.length (nI (w0 + 1))) o3) H := hP
      have hD : va_D A (xW ad cB cI P n (sm_ap P s0 w0 u0) (s0 + 1) en (t0 + 1) (upd tv t0 (nI (sm_tg P s0 w0))) (upd tx t0 (u0 (sm_tg P s0 w0))) r0.length o1 (upd o2 r0.length (nI (w0 + 1))) o3) := hD
      refine lv_iconst (v := 1) hx hb dX0_goBack_88 (by decide) ?_
      exact sx_zret hx hb hr hlocks (Or.inr rfl) hK (sm_ap P s0 w0 u0, (s0 + 1), en, t0 + 1, upd tv t0 (nI (sm_tg P s0 w0)), upd tx t0 (u0 (sm_tg P s0 w0)), r0.length, o1, upd o2 r0.length (nI (w0 + 1)), o3) (Or.inr ⟨rfl, rfl, r0, sm_Cf_last (by omega) (hV.mono hen) b2 b3 b4 b5 b11 (fun j hj => b14 j (by omega)), (sm_as_last ho u0 r0).symm, Nat.le_of_eq (sm_cs_last ho u0 r0)⟩) hP hD hS dX0_goBack_89
  · skip
    have hk : k = [] := by
      cases k with
      | nil => rfl
      | cons q r => exact absurd c_1 (by rw [h.2.1]; exact nI_ne0 (Nat.succ_pos _) (by
          have h4 := h.2.2.2
          obtain ⟨t0, b1, b2, b3, b4, b5, -⟩ := h4
          have := sm_cb_mono P (i := q.1) (j := n) (by omega)
          show r.length + 1 < 2 ^ 31
          omega))
    subst hk
    refine lv_iconst (v := 0) hx hb dX0_goBack_7 (by decide) ?_
    exact sx_zret hx hb hr hlocks (Or.inl rfl) hK (v, pt, en, tt, tv, tx, oc, o1, o2, o3) (Or.inl ⟨rfl, rfl, rfl⟩) hP hD hS dX0_goBack_8
set_option maxHeartbeats 4000000 in
set_option maxRecDepth 100000 in
theorem ct_beginChoice (l : Launch) (dC : Nat → ClassId) (dI : Nat → Nat → Nat) (ad : Nat → Nat) (cB cI : ClassId) (P : Pg) (n : Nat) (v : Vs) (pt en tt : Nat) (tv tx : Vs) (oc : Nat) (o1 o2 o3 : Vs)  (k : List Ch) (hn : n ≤ 14) (hen : en ≤ n) (hV : sm_va P n) (hcb : sm_cb P n ≤ 3) (hi : pt < en) (hc : sm_ch P pt) (h : sm_Cf P en v pt tt tv tx oc o1 o2 o3 k) : MetI l (dC, dI) vwCl (tyX cB cI) yX0_beginChoice (ws_ yX0_beginChoice cX0_beginChoice 2 (some .boolean)) ({ frames := 2, cells := 0, slots := 0, locals := 47 }) [.ref (ad 0)] (xW ad cB cI P n v pt en tt tv tx oc o1 o2 o3) (xF ad cB cI P n) (sm_pS P en pt v k) := by
  refine MetI.of (by decide) (Nat.le_of_ble_eq_true rfl) ?_
  intro p e s m below meth c ls A hx hb hr hml hlocks hts hown hA hP hK hD hS hl
  have hown : s.vm.findClass RX0 = some m.cls := hown
  have hl : lv_has ls 2 [(0, .ref (ad 0))] := hl
  have hin : pt < n := by omega
  have hb6 : sm_op P pt ≤ 13 := hV.bd pt hin
  have hoc : oc ≤ 3 := by
    have h1 := h.1.2.1
    have h2 := h.2.2.2
    have := sm_cb_mono P (i := pt) (j := n) (by omega)
    omega
  have htp : tt ≤ pt := h.2.2.1
  refine lv_aload_n hx hb dX0_beginChoice_0 rfl (lv_at hl 0 rfl) ?_
  refine lv_aload_n hx hb dX0_beginChoice_1 rfl (lv_at hl 0 rfl) ?_
  refine va_get (D := (dC, dI)) (ci := 0) (v := .int (nI pt)) (C := RX0) (T := TX0) (N := 15) hx hb hts in_X0 hown hK hP 0 rfl rfl 6 (by decide) (hts _ q37) (fun _ h9 => h9) rfl dX0_beginChoice_2 ?_
  refine sx_callR (ci := 0) (As := [.int (nI pt)]) (rest := []) ⟨hx, hb, hml, hown, hts⟩ (ct_waysOf l dC dI ad cB cI P n v pt en tt tv tx oc o1 o2 o3 pt hin hn hV hc) (cwV 1 hts (lw_V q128 q130 qs6 q21 q131) rfl rfl rfl (by decide +kernel) ⟨Nat.le_of_ble_eq_true rfl, Nat.le_of_ble_eq_true rfl⟩) hK hP rfl rfl rfl hl.1 rfl (Nat.le_of_ble_eq_true rfl) ⟨Nat.zero_le _, Nat.zero_le _⟩ dX0_beginChoice_5 ?_
  refine lv_istore_n (lv' := [(1, .int (nI (sm_op P pt))), (0, .ref (ad 0))]) hx hb dX0_beginChoice_8 rfl hl (by decide) rfl (fun ls hl => ?_)
  refine lv_iload_n hx hb dX0_beginChoice_9 rfl (lv_at hl 0 rfl) ?_
  refine lv_if_ne (tgt := 15) hx hb dX0_beginChoice_10 (by decide) (fun c_1 => ?_) (fun c_1 => ?_)
  · skip
    have ho : sm_op P pt ≠ 0 := fun e => c_1 (by rw [e]; rfl)
    refine lv_iload_n hx hb dX0_beginChoice_15 rfl (lv_at hl 0 rfl) ?_
    refine lv_iconst (v := 1) hx hb dX0_beginChoice_16 (by decide) ?_
    refine lv_icmp_le (tgt := 68) hx hb dX0_beginChoice_17 (by decide) (fun c_2 => ?_) (fun c_2 => ?_)
    · skip
      have ho1 : sm_op P pt = 1 := by
        have := (nI_leI (b := 1) (by omega) (by decide)).mp c_2
        omega
      refine lv_aload_n hx hb dX0_beginChoice_68 rfl (lv_at hl 1 rfl) ?_
      refine lv_aload_n hx hb dX0_beginChoice_69 rfl (lv_at hl 1 rfl) ?_
      refine va_get (D := (dC, dI)) (ci := 0) (v := .int (nI pt)) (C := RX0) (T := TX0) (N := 15) hx hb hts in_X0 hown hK hP 0 rfl rfl 6 (by decide) (hts _ q37) (fun _ h9 => h9) rfl dX0_beginChoice_70 ?_
      refine lv_iconst (v := 0) hx hb dX0_beginChoice_73 (by decide) ?_
      refine sx_callV (ci := 0) (As := [.int (nI pt), .int 0]) (rest := []) ⟨hx, hb, hml, hown, hts⟩ (ct_takeWay l dC dI ad cB cI P n v pt en tt tv tx oc o1 o2 o3 pt 0 (hin) hn hV (hc) (by omega) (by omega)) (cwV 2 hts (lw_V q132 q134 qs7 q21 q135) rfl rfl rfl (by decide +kernel) ⟨Nat.le_of_ble_eq_true rfl, Nat.le_of_ble_eq_true rfl⟩) hK hP hD hS hA rfl rfl rfl hl.1 rfl (Nat.le_of_ble_eq_true rfl) ⟨Nat.zero_le _, Nat.zero_le _⟩ dX0_beginChoice_74 (fun u_ H locs hw_ hP hD hS => ?_)
      have hP : va_P (dC, dI) vwCl (xW ad cB cI P n (sm_ap P pt 0 v) pt en (tt + 1) (upd tv tt (nI (sm_tg P pt 0))) (upd tx tt (v (sm_tg P pt 0))) oc o1 o2 o3) H := hP
      have hD : va_D A (xW ad cB cI P n (sm_ap P pt 0 v) pt en (tt + 1) (upd tv tt (nI (sm_tg P pt 0))) (upd tx tt (v (sm_tg P pt 0))) oc o1 o2 o3) := hD
      refine lv_aload_n hx hb dX0_beginChoice_77 rfl (lv_at hl 1 rfl) ?_
      refine lv_dup hx hb dX0_beginChoice_78 rfl ?_
      refine va_get (D := (dC, dI)) (ci := 0) (v := .int (nI pt)) (C := RX0) (T := TX0) (N := 15) hx hb hts in_X0 hown hK hP 0 rfl rfl 6 (by decide) (hts _ q37) (fun _ h9 => h9) rfl dX0_beginChoice_79 ?_
      refine lv_iconst (v := 1) hx hb dX0_beginChoice_82 (by decide) ?_
      refine lv_iadd hx hb dX0_beginChoice_83 ?_
      refine sx_topE (y := nI (pt + 1)) (nI_1 _) ?_
      refine va_put (D := (dC, dI)) (ci := 0) (v := .int (nI (pt + 1))) (ty := .int) (C := RX0) (T := TX0) (N := 15) hx hb hts in_X0 tyX0 tyX0_ok nmX0 hown hK hP hD hS 0 rfl rfl 6 (by decide) (hts _ q37) (fun _ h9 => h9) rfl (by decide +kernel) rfl rfl (Nat.le_of_ble_eq_true rfl) dX0_beginChoice_84 (fun H locs hP hD hS => ?_)
      have hP : va_P (dC, dI) vwCl (xW ad cB cI P n (sm_ap P pt 0 v) (pt + 1) en (tt + 1) (upd tv tt (nI (sm_tg P pt 0))) (upd tx tt (v (sm_tg P pt 0))) oc o1 o2 o3) H := hP
      have hD : va_D A (xW ad cB cI P n (sm_ap P pt 0 v) (pt + 1) en (tt + 1) (upd tv tt (nI (sm_tg P pt 0))) (upd tx tt (v (sm_tg P pt 0))) oc o1 o2 o3) := hD
      refine lv_iconst (v := 1) hx hb dX0_beginChoice_87 (by decide) ?_
      exact sx_zret hx hb hr hlocks (Or.inr rfl) hK (sm_ap P pt 0 v, (pt + 1), en, tt + 1, upd tv tt (nI (sm_tg P pt 0)), upd tx tt (v (sm_tg P pt 0)), oc, o1, o2, o3) (Or.inl ⟨rfl, rfl, k, sm_Cf_next_ch (by omega) (hV.mono hen) hi hc h, (sm_an_ch1 hi hc ho1 v k).symm, sm_ct_ch1 hi hc ho1 k⟩) hP hD hS dX0_beginChoice_88
    · skip
      have ho1 : 1 < sm_op P pt := Nat.lt_of_not_le (fun e => c_2 ((nI_leI (b := 1) (by omega) (by decide)).mpr e))
      refine lv_aload_n hx hb dX0_beginChoice_20 rfl (lv_at hl 1 rfl) ?_
      refine va_get (D := (dC, dI)) (ci := 0) (v := .ref (ad 8)) (C := RX0) (T := TX0) (N := 15) hx hb hts in_X0 hown hK hP 0 rfl rfl 12 (by decide) (hts _ q43) (fun _ h9 => h9) rfl dX0_beginChoice_21 ?_
      refine lv_aload_n hx hb dX0_beginChoice_24 rfl (lv_at hl 1 rfl) ?_
      refine va_get (D := (dC, dI)) (ci := 0) (v := .int (nI oc)) (C := RX0) (T := TX0) (N := 15) hx hb hts in_X0 hown hK hP 0 rfl rfl 11 (by decide) (hts _ q42) (fun _ h9 => h9) rfl dX0_beginChoice_25 ?_
      refine lv_aload_n hx hb dX0_beginChoice_28 rfl (lv_at hl 1 rfl) ?_
      refine va_get (D := (dC, dI)) (ci := 0) (v := .int (nI pt)) (C := RX0) (T := TX0) (N := 15) hx hb hts in_X0 hown hK hP 0 rfl rfl 6 (by decide) (hts _ q37) (fun _ h9 => h9) rfl dX0_beginChoice_29 ?_
      refine lv_i2b (v := (nI pt)) hx hb dX0_beginChoice_32 (sx_b8 _ (by omega)) ?_
      refine sx_bast (y := (nI pt)) (j := oc) hx hb hK hP hD hS 8 0 rfl rfl (rfl) (by omega) (by decide) (sx_b8 _ (by omega)) dX0_beginChoice_33 (fun H locs hP hD hS => ?_)
      have hP : va_P (dC, dI) vwCl (xW ad cB cI P n v pt en tt tv tx oc (upd o1 oc (nI pt)) o2 o3) H := hP
      have hD : va_D A (xW ad cB cI P n v pt en tt tv tx oc (upd o1 oc (nI pt)) o2 o3) := hD
      refine lv_aload_n hx hb dX0_beginChoice_34 rfl (lv_at hl 1 rfl) ?_
      refine va_get (D := (dC, dI)) (ci := 0) (v := .ref (ad 9)) (C := RX0) (T := TX0) (N := 15) hx hb hts in_X0 hown hK hP 0 rfl rfl 13 (by decide) (hts _ q44) (fun _ h9 => h9) rfl dX0_beginChoice_35 ?_
      refine lv_aload_n hx hb dX0_beginChoice_38 rfl (lv_at hl 1 rfl) ?_
      refine va_get (D := (dC, dI)) (ci := 0) (v := .int (nI oc)) (C := RX0) (T := TX0) (N := 15) hx hb hts in_X0 hown hK hP 0 rfl rfl 11 (by decide) (hts _ q42) (fun _ h9 => h9) rfl dX0_beginChoice_39 ?_
      refine lv_iconst (v := 1) hx hb dX0_beginChoice_42 (by decide) ?_
      refine sx_bast (y := 1) (j := oc) hx hb hK hP hD hS 9 0 rfl rfl (rfl) (by omega) (by decide) (by decide) dX0_beginChoice_43 (fun H locs hP hD hS => ?_)
      have hP : va_P (dC, dI) vwCl (xW ad cB cI P n v pt en tt tv tx oc (upd o1 oc (nI pt)) (upd o2 oc 1) o3) H := hP
      have hD : va_D A (xW ad cB cI P n v pt en tt tv tx oc (upd o1 oc (nI pt)) (upd o2 oc 1) o3) := hD
      refine lv_aload_n hx hb dX0_beginChoice_44 rfl (lv_at hl 1 rfl) ?_
      refine va_get (D := (dC, dI)) (ci := 0) (v := .ref (ad 10)) (C := RX0) (T := TX0) (N := 15) hx hb hts in_X0 hown hK hP 0 rfl rfl 14 (by decide) (hts _ q45) (fun _ h9 => h9) rfl dX0_beginChoice_45 ?_
      refine lv_aload_n hx hb dX0_beginChoice_48 rfl (lv_at hl 1 rfl) ?_
      refine va_get (D := (dC, dI)) (ci := 0) (v := .int (nI oc)) (C := RX0) (T := TX0) (N := 15) hx hb hts in_X0 hown hK hP 0 rfl rfl 11 (by decide) (hts _ q42) (fun _ h9 => h9) rfl dX0_beginChoice_49 ?_
      refine lv_aload_n hx hb dX0_beginChoice_52 rfl (lv_at hl 1 rfl) ?_
      refine va_get (D := (dC, dI)) (ci := 0) (v := .int (nI tt)) (C := RX0) (T := TX0) (N := 15) hx hb hts in_X0 hown hK hP 0 rfl rfl 8 (by decide) (hts _ q39) (fun _ h9 => h9) rfl dX0_beginChoice_53 ?_
      refine lv_i2b (v := (nI tt)) hx hb dX0_beginChoice_56 (sx_b8 _ (by omega)) ?_
      refine sx_bast (y := (nI tt)) (j := oc) hx hb hK hP hD hS 10 0 rfl rfl (rfl) (by omega) (by decide) (sx_b8 _ (by omega)) dX0_beginChoice_57 (fun H locs hP hD hS => ?_)
      have hP : va_P (dC, dI) vwCl (xW ad cB cI P n v pt en tt tv tx oc (upd o1 oc (nI pt)) (upd o2 oc 1) (upd o3 oc (nI tt))) H := hP
      have hD : va_D A (xW ad cB cI P n v pt en tt tv tx oc (upd o1 oc (nI pt)) (upd o2 oc 1) (upd o3 oc (nI tt))) := hD
      refine lv_aload_n hx hb dX0_beginChoice_58 rfl (lv_at hl 1 rfl) ?_
      refine lv_dup hx hb dX0_beginChoice_59 rfl ?_
      refine va_get (D := (dC, dI)) (ci := 0) (v := .int (nI oc)) (C := RX0) (T := TX0) (N := 15) hx hb hts in_X0 hown hK hP 0 rfl rfl 11 (by decide) (hts _ q42) (fun _ h9 => h9) rfl dX0_beginChoice_60 ?_
      refine lv_iconst (v := 1) hx hb dX0_beginChoice_63 (by decide) ?_
      refine lv_iadd hx hb dX0_beginChoice_64 ?_
      refine sx_topE (y := nI (oc + 1)) (nI_1 _) ?_
      refine va_put (D := (dC, dI)) (ci := 0) (v := .int (nI (oc + 1))) (ty := .int) (C := RX0) (T := TX0) (N := 15) hx hb hts in_X0 tyX0 tyX0_ok nmX0 hown hK hP hD hS 0 rfl rfl 11 (by decide) (hts _ q42) (fun _ h9 => h9) rfl (by decide +kernel) rfl rfl (Nat.le_of_ble_eq_true rfl) dX0_beginChoice_65 (fun H locs hP hD hS => ?_)
      have hP : va_P (dC, dI) vwCl (xW ad cB cI P n v pt en tt tv tx (oc + 1) (upd o1 oc (nI pt)) (upd o2 oc 1) (upd o3 oc (nI tt))) H := hP
      have hD : va_D A (xW ad cB cI P n v pt en tt tv tx (oc + 1) (upd o1 oc (nI pt)) (upd o2 oc 1) (upd o3 oc (nI tt))) := hD
      refine lv_aload_n hx hb dX0_beginChoice_68 rfl (lv_at hl 1 rfl) ?_
      refine lv_aload_n hx hb dX0_beginChoice_69 rfl (lv_at hl 1 rfl) ?_
      refine va_get (D := (dC, dI)) (ci := 0) (v := .int (nI pt)) (C := RX0) (T := TX0) (N := 15) hx hb hts in_X0 hown hK hP 0 rfl rfl 6 (by decide) (hts _ q37) (fun _ h9 => h9) rfl dX0_beginChoice_70 ?_
      refine lv_iconst (v := 0) hx hb dX0_beginChoice_73 (by decide) ?_
      refine sx_callV (ci := 0) (As := [.int (nI pt), .int 0]) (rest := []) ⟨hx, hb, hml, hown, hts⟩ (ct_takeWay l dC dI ad cB cI P n v pt en tt tv tx (oc + 1) (upd o1 oc (nI pt)) (upd o2 oc 1) (upd o3 oc (nI tt)) pt 0 (hin) hn hV (hc) (by omega) (by omega)) (cwV 2 hts (lw_V q132 q134 qs7 q21 q135) rfl rfl rfl (by decide +kernel) ⟨Nat.le_of_ble_eq_true rfl, Nat.le_of_ble_eq_true rfl⟩) hK hP hD hS hA rfl rfl rfl hl.1 rfl (Nat.le_of_ble_eq_true rfl) ⟨Nat.zero_le _, Nat.zero_le _⟩ dX0_beginChoice_74 (fun u_ H locs hw_ hP hD hS => ?_)
      have hP : va_P (dC, dI) vwCl (xW ad cB cI P n (sm_ap P pt 0 v) pt en (tt + 1) (upd tv tt (nI (sm_tg P pt 0))) (upd tx tt (v (sm_tg P pt 0))) (oc + 1) (upd o1 oc (nI pt)) (upd o2 oc 1) (upd o3 oc (nI tt))) H := hP
      have hD : va_D A (xW ad cB cI P n (sm_ap P pt 0 v) pt en (tt + 1) (upd tv tt (nI (sm_tg P pt 0))) (upd tx tt (v (sm_tg P pt 0))) (oc + 1) (upd o1 oc (nI pt)) (upd o2 oc 1) (upd o3 oc (nI tt))) := hD
      refine lv_aload_n hx hb dX0_beginChoice_77 rfl (lv_at hl 1 rfl) ?_
      refine lv_dup hx hb dX0_beginChoice_78 rfl ?_
      refine va_get (D := (dC, dI)) (ci := 0) (v := .int (nI pt)) (C := RX0) (T := TX0) (N := 15) hx hb hts in_X0 hown hK hP 0 rfl rfl 6 (by decide) (hts _ q37) (fun _ h9 => h9) rfl dX0_beginChoice_79 ?_
      refine lv_iconst (v := 1) hx hb dX0_beginChoice_82 (by decide) ?_
      refine lv_iadd hx hb dX0_beginChoice_83 ?_
      refine sx_topE (y := nI (pt + 1)) (nI_1 _) ?_
      refine va_put (D := (dC, dI)) (ci := 0) (v := .int (nI (pt + 1))) (ty := .int) (C := RX0) (T := TX0) (N := 15) hx hb hts in_X0 tyX0 tyX0_ok nmX0 hown hK hP hD hS 0 rfl rfl 6 (by decide) (hts _ q37) (fun _ h9 => h9) rfl (by decide +kernel) rfl rfl (Nat.le_of_ble_eq_true rfl) dX0_beginChoice_84 (fun H locs hP hD hS => ?_)
      have hP : va_P (dC, dI) vwCl (xW ad cB cI P n (sm_ap P pt 0 v) (pt + 1) en (tt + 1) (upd tv tt (nI (sm_tg P pt 0))) (upd tx tt (v (sm_tg P pt 0))) (oc + 1) (upd o1 oc (nI pt)) (upd o2 oc 1) (upd o3 oc (nI tt))) H := hP
      have hD : va_D A (xW ad cB cI P n (sm_ap P pt 0 v) (pt + 1) en (tt + 1) (upd tv tt (nI (sm_tg P pt 0))) (upd tx tt (v (sm_tg P pt 0))) (oc + 1) (upd o1 oc (nI pt)) (upd o2 oc 1) (upd o3 oc (nI tt))) := hD
      refine lv_iconst (v := 1) hx hb dX0_beginChoice_87 (by decide) ?_
      exact sx_zret hx hb hr hlocks (Or.inr rfl) hK (sm_ap P pt 0 v, (pt + 1), en, tt + 1, upd tv tt (nI (sm_tg P pt 0)), upd tx tt (v (sm_tg P pt 0)), (oc + 1), upd o1 oc (nI pt), upd o2 oc 1, upd o3 oc (nI tt)) (Or.inl ⟨rfl, rfl, (pt, 1, v) :: k, sm_Cf_open (by omega) (hV.mono hen) hi hc ho1 h, (sm_an_ch hi hc (c := sm_op P pt - 1) (by omega) v k).symm, sm_ct_ch hi hc (by omega) v k⟩) hP hD hS dX0_beginChoice_88
  · skip
    have ho : sm_op P pt = 0 := (nI_eq (b := 0) (by omega) (by decide)).mp c_1
    refine lv_iconst (v := 0) hx hb dX0_beginChoice_13 (by decide) ?_
    exact sx_zret hx hb hr hlocks (Or.inl rfl) hK (v, pt, en, tt, tv, tx, oc, o1, o2, o3) (Or.inr ⟨rfl, rfl, h.1, sm_an_ch0 hi hc ho v k, sm_ct_ch0 hi hc k⟩) hP hD hS dX0_beginChoice_14
set_option maxHeartbeats 4000000 in
set_option maxRecDepth 100000 in
theorem ct_doStep (l : Launch) (dC : Nat → ClassId) (dI : Nat → Nat → Nat) (ad : Nat → Nat) (cB cI : ClassId) (P : Pg) (n : Nat) (v : Vs) (pt en tt : Nat) (tv tx : Vs) (oc : Nat) (o1 o2 o3 : Vs)  (k : List Ch) (hn : n ≤ 14) (hen : en ≤ n) (hV : sm_va P n) (hcb : sm_cb P n ≤ 3) (hi : pt < en) (h : sm_Cf P en v pt tt tv tx oc o1 o2 o3 k) : MetI l (dC, dI) vwCl (tyX cB cI) yX0_doStep (ws_ yX0_doStep cX0_doStep 4 (some .boolean)) ({ frames := 3, cells := 0, slots := 0, locals := 68 }) [.ref (ad 0)] (xW ad cB cI P n v pt en tt tv tx oc o1 o2 o3) (xF ad cB cI P n) (sm_pS P en pt v k) := by
  refine MetI.of (by decide) (Nat.le_of_ble_eq_true rfl) ?_
  intro p e s m below meth c ls A hx hb hr hml hlocks hts hown hA hP hK hD hS hl
  have hown : s.vm.findClass RX0 = some m.cls := hown
  have hl : lv_has ls 4 [(0, .ref (ad 0))] := hl
  have hin : pt < n := by omega
  have htp : tt ≤ pt := h.2.2.1
  have htt : tt < 16 := by omega
  obtain ⟨⟨kk, hk9, hkk⟩, gA, -, gB⟩ := hV pt hin
  have gA2 := gA.2
  refine lv_aload_n hx hb dX0_doStep_0 rfl (lv_at hl 0 rfl) ?_
  refine va_get (D := (dC, dI)) (ci := 0) (v := .ref (ad 1)) (C := RX0) (T := TX0) (N := 15) hx hb hts in_X0 hown hK hP 0 rfl rfl 0 (by decide) (hts _ q31) (fun _ h9 => h9) rfl dX0_doStep_1 ?_
  refine lv_aload_n hx hb dX0_doStep_4 rfl (lv_at hl 0 rfl) ?_
  refine va_get (D := (dC, dI)) (ci := 0) (v := .int (nI pt)) (C := RX0) (T := TX0) (N := 15) hx hb hts in_X0 hown hK hP 0 rfl rfl 6 (by decide) (hts _ q37) (fun _ h9 => h9) rfl dX0_doStep_5 ?_
  refine sx_bald (j := pt) hx hb hK hP 1 0 rfl rfl (rfl) (by omega) (by decide) dX0_doStep_8 ?_
  refine lv_istore_n (lv' := [(1, .int (P.1 pt)), (0, .ref (ad 0))]) hx hb dX0_doStep_9 rfl hl (by decide) rfl (fun ls hl => ?_)
  refine lv_aload_n hx hb dX0_doStep_10 rfl (lv_at hl 1 rfl) ?_
  refine va_get (D := (dC, dI)) (ci := 0) (v := .ref (ad 2)) (C := RX0) (T := TX0) (N := 15) hx hb hts in_X0 hown hK hP 0 rfl rfl 1 (by decide) (hts _ q32) (fun _ h9 => h9) rfl dX0_doStep_11 ?_
  refine lv_aload_n hx hb dX0_doStep_14 rfl (lv_at hl 1 rfl) ?_
  refine va_get (D := (dC, dI)) (ci := 0) (v := .int (nI pt)) (C := RX0) (T := TX0) (N := 15) hx hb hts in_X0 hown hK hP 0 rfl rfl 6 (by decide) (hts _ q37) (fun _ h9 => h9) rfl dX0_doStep_15 ?_
  refine sx_bald (j := pt) hx hb hK hP 2 0 rfl rfl (rfl) (by omega) (by decide) dX0_doStep_18 ?_
  refine sx_topE (y := nI (ix (P.2.1 pt))) (gA.1) ?_
  refine lv_istore_n (lv' := [(2, .int (nI (ix (P.2.1 pt)))), (1, .int (P.1 pt)), (0, .ref (ad 0))]) hx hb dX0_doStep_19 rfl hl (by decide) rfl (fun ls hl => ?_)
  refine lv_aload_n hx hb dX0_doStep_20 rfl (lv_at hl 2 rfl) ?_
  refine va_get (D := (dC, dI)) (ci := 0) (v := .ref (ad 3)) (C := RX0) (T := TX0) (N := 15) hx hb hts in_X0 hown hK hP 0 rfl rfl 2 (by decide) (hts _ q33) (fun _ h9 => h9) rfl dX0_doStep_21 ?_
  refine lv_aload_n hx hb dX0_doStep_24 rfl (lv_at hl 2 rfl) ?_
  refine va_get (D := (dC, dI)) (ci := 0) (v := .int (nI pt)) (C := RX0) (T := TX0) (N := 15) hx hb hts in_X0 hown hK hP 0 rfl rfl 6 (by decide) (hts _ q37) (fun _ h9 => h9) rfl dX0_doStep_25 ?_
  refine sx_bald (j := pt) hx hb hK hP 3 0 rfl rfl (rfl) (by omega) (by decide) dX0_doStep_28 ?_
  refine lv_istore_n (lv' := [(3, .int (P.2.2.1 pt)), (2, .int (nI (ix (P.2.1 pt)))), (1, .int (P.1 pt)), (0, .ref (ad 0))]) hx hb dX0_doStep_29 rfl hl (by decide) rfl (fun ls hl => ?_)
  refine lv_iload_n hx hb dX0_doStep_30 rfl (lv_at hl 2 rfl) ?_
  refine sx_callS (As := [.int (P.1 pt)]) (rest := []) ⟨hx, hb, hml, hown, hts⟩ (ct_chooses l (P.1 pt)) (va_cwS 1 hts (lw_S q89 q90 q21 q91) rfl rfl rfl (by decide +kernel) ⟨Nat.le_of_ble_eq_true rfl, Nat.le_of_ble_eq_true rfl⟩) rfl hl.1 rfl (Nat.le_of_ble_eq_true rfl) ⟨Nat.zero_le _, Nat.zero_le _⟩ dX0_doStep_31 ?_
  refine lv_if_eq (tgt := 42) hx hb dX0_doStep_34 (by decide) (fun c_1 => ?_) (fun c_1 => ?_)
  · skip
    have hnc : ¬ sm_ch P pt := fun hc => by
      rw [sm_kc_ch, if_pos hc] at c_1
      exact absurd c_1 (by decide)
    have hcases : P.1 pt = 1 ∨ P.1 pt = 2 ∨ P.1 pt = 3 ∨ P.1 pt = 5 ∨ P.1 pt = 6 ∨ P.1 pt = 7 ∨ P.1 pt = 8 := by
      have hk0 : kk ≠ 0 := fun e => hnc (Or.inl (by rw [hkk, e]; rfl))
      have hk4 : kk ≠ 4 := fun e => hnc (Or.inr (Or.inl (by rw [hkk, e]; rfl)))
      have hk9' : kk ≠ 9 := fun e => hnc (Or.inr (Or.inr (by rw [hkk, e]; rfl)))
      have hq : kk = 1 ∨ kk = 2 ∨ kk = 3 ∨ kk = 5 ∨ kk = 6 ∨ kk = 7 ∨ kk = 8 := by omega
      rw [hkk]
      rcases hq with e | e | e | e | e | e | e <;> rw [e]
      · exact Or.inl rfl
      · exact Or.inr (Or.inl rfl)
      · exact Or.inr (Or.inr (Or.inl rfl))
      · exact Or.inr (Or.inr (Or.inr (Or.inl rfl)))
      · exact Or.inr (Or.inr (Or.inr (Or.inr (Or.inl rfl))))
      · exact Or.inr (Or.inr (Or.inr (Or.inr (Or.inr (Or.inl rfl)))))
      · exact Or.inr (Or.inr (Or.inr (Or.inr (Or.inr (Or.inr rfl)))))
    refine lv_aload_n hx hb dX0_doStep_42 rfl (lv_at hl 3 rfl) ?_
    refine lv_dup hx hb dX0_doStep_43 rfl ?_
    refine va_get (D := (dC, dI)) (ci := 0) (v := .int (nI pt)) (C := RX0) (T := TX0) (N := 15) hx hb hts in_X0 hown hK hP 0 rfl rfl 6 (by decide) (hts _ q37) (fun _ h9 => h9) rfl dX0_doStep_44 ?_
    refine lv_iconst (v := 1) hx hb dX0_doStep_47 (by decide) ?_
    refine lv_iadd hx hb dX0_doStep_48 ?_
    refine sx_topE (y := nI (pt + 1)) (nI_1 _) ?_
    refine va_put (D := (dC, dI)) (ci := 0) (v := .int (nI (pt + 1))) (ty := .int) (C := RX0) (T := TX0) (N := 15) hx hb hts in_X0 tyX0 tyX0_ok nmX0 hown hK hP hD hS 0 rfl rfl 6 (by decide) (hts _ q37) (fun _ h9 => h9) rfl (by decide +kernel) rfl rfl (Nat.le_of_ble_eq_true rfl) dX0_doStep_49 (fun H locs hP hD hS => ?_)
    have hP : va_P (dC, dI) vwCl (xW ad cB cI P n v (pt + 1) en tt tv tx oc o1 o2 o3) H := hP
    have hD : va_D A (xW ad cB cI P n v (pt + 1) en tt tv tx oc o1 o2 o3) := hD
    refine lv_iload_n hx hb dX0_doStep_52 rfl (lv_at hl 2 rfl) ?_
    rcases hcases with hk | hk | hk | hk | hk | hk | hk
    · skip
      have h8 : ¬ P.1 pt = 8 := by rw [hk]; decide
      refine sx_topE (y := 1) (hk) ?_
      refine lv_tableIn (tgt := 96) hx hb dX0_doStep_53 (by decide) (by decide) rfl (by decide) ?_
      refine lv_aload_n hx hb dX0_doStep_96 rfl (lv_at hl 3 rfl) ?_
      refine lv_iload_n hx hb dX0_doStep_97 rfl (lv_at hl 1 rfl) ?_
      refine lv_iload_n hx hb dX0_doStep_98 rfl (lv_at hl 0 rfl) ?_
      refine sx_callV (ci := 0) (As := [.int (nI (ix (P.2.1 pt))), .int (P.2.2.1 pt)]) (rest := []) ⟨hx, hb, hml, hown, hts⟩ (ct_assign l dC dI ad cB cI P n v (pt + 1) en tt tv tx oc o1 o2 o3 (ix (P.2.1 pt)) (P.2.2.1 pt) (gA.2) htt) (cwV 2 hts (lw_V q136 q138 qs8 q21 q139) rfl rfl rfl (by decide +kernel) ⟨Nat.le_of_ble_eq_true rfl, Nat.le_of_ble_eq_true rfl⟩) hK hP hD hS hA rfl rfl rfl hl.1 rfl (Nat.le_of_ble_eq_true rfl) ⟨Nat.zero_le _, Nat.zero_le _⟩ dX0_doStep_99 (fun u H locs hw_ hP hD hS => ?_)
      have hP : va_P (dC, dI) vwCl (xW ad cB cI P n (upd v (ix (P.2.1 pt)) (P.2.2.1 pt)) (pt + 1) en (tt + 1) (upd tv tt (nI (ix (P.2.1 pt)))) (upd tx tt (v (ix (P.2.1 pt)))) oc o1 o2 o3) H := hP
      have hD : va_D A (xW ad cB cI P n (upd v (ix (P.2.1 pt)) (P.2.2.1 pt)) (pt + 1) en (tt + 1) (upd tv tt (nI (ix (P.2.1 pt)))) (upd tx tt (v (ix (P.2.1 pt)))) oc o1 o2 o3) := hD
      refine lv_iconst (v := 1) hx hb dX0_doStep_102 (by decide) ?_
      have e1 : sm_ap P pt 0 v = upd v (ix (P.2.1 pt)) (P.2.2.1 pt) := sm_ap_1 hk 0 v
      have hok : sm_ok P pt v = true := sm_ok_o (by rw [hk]; decide) (by rw [hk]; decide) (by rw [hk]; decide) v
      have e2 := sm_an_go hi hnc h8 hok k
      rw [e1] at e2
      exact sx_zret hx hb hr hlocks (Or.inr rfl) hK (upd v (ix (P.2.1 pt)) (P.2.2.1 pt), (pt + 1), en, tt + 1, upd tv tt (nI (ix (P.2.1 pt))), upd tx tt (v (ix (P.2.1 pt))), oc, o1, o2, o3) (Or.inl ⟨rfl, rfl, k, sm_Cf_push (by omega) gA.2 sm_upd_back hi h, e2.symm, sm_ct_no hi hnc k⟩) hP hD hS dX0_doStep_103
    · skip
      have gB : sm_v4 (P.2.2.1 pt) := gB (by rw [hk]; decide) (by rw [hk]; decide)
      have gB2 := gB.2
      have h8 : ¬ P.1 pt = 8 := by rw [hk]; decide
      refine sx_topE (y := 2) (hk) ?_
      refine lv_tableIn (tgt := 104) hx hb dX0_doStep_53 (by decide) (by decide) rfl (by decide) ?_
      refine lv_aload_n hx hb dX0_doStep_104 rfl (lv_at hl 3 rfl) ?_
      refine lv_iload_n hx hb dX0_doStep_105 rfl (lv_at hl 1 rfl) ?_
      refine lv_aload_n hx hb dX0_doStep_106 rfl (lv_at hl 3 rfl) ?_
      refine va_get (D := (dC, dI)) (ci := 0) (v := .ref (ad 5)) (C := RX0) (T := TX0) (N := 15) hx hb hts in_X0 hown hK hP 0 rfl rfl 5 (by decide) (hts _ q36) (fun _ h9 => h9) rfl dX0_doStep_107 ?_
      refine lv_iload_n hx hb dX0_doStep_110 rfl (lv_at hl 1 rfl) ?_
      refine sx_iald (j := (ix (P.2.1 pt))) hx hb hK hP 5 1 rfl rfl (rfl) (by omega) (by decide) dX0_doStep_111 ?_
      refine lv_aload_n hx hb dX0_doStep_112 rfl (lv_at hl 3 rfl) ?_
      refine va_get (D := (dC, dI)) (ci := 0) (v := .ref (ad 5)) (C := RX0) (T := TX0) (N := 15) hx hb hts in_X0 hown hK hP 0 rfl rfl 5 (by decide) (hts _ q36) (fun _ h9 => h9) rfl dX0_doStep_113 ?_
      refine lv_iload_n hx hb dX0_doStep_116 rfl (lv_at hl 0 rfl) ?_
      refine sx_iald (j := ix (P.2.2.1 pt)) hx hb hK hP 5 1 rfl rfl (gB.1) (gB.2) (by decide) dX0_doStep_117 ?_
      refine lv_iadd hx hb dX0_doStep_118 ?_
      refine sx_callV (ci := 0) (As := [.int (nI (ix (P.2.1 pt))), .int ((v (ix (P.2.1 pt))) + (v (ix (P.2.2.1 pt))))]) (rest := []) ⟨hx, hb, hml, hown, hts⟩ (ct_assign l dC dI ad cB cI P n v (pt + 1) en tt tv tx oc o1 o2 o3 (ix (P.2.1 pt)) (v (ix (P.2.1 pt)) + v (ix (P.2.2.1 pt))) (gA.2) htt) (cwV 2 hts (lw_V q136 q138 qs8 q21 q139) rfl rfl rfl (by decide +kernel) ⟨Nat.le_of_ble_eq_true rfl, Nat.le_of_ble_eq_true rfl⟩) hK hP hD hS hA rfl rfl rfl hl.1 rfl (Nat.le_of_ble_eq_true rfl) ⟨Nat.zero_le _, Nat.zero_le _⟩ dX0_doStep_119 (fun u H locs hw_ hP hD hS => ?_)
      have hP : va_P (dC, dI) vwCl (xW ad cB cI P n (upd v (ix (P.2.1 pt)) (v (ix (P.2.1 pt)) + v (ix (P.2.2.1 pt)))) (pt + 1) en (tt + 1) (upd tv tt (nI (ix (P.2.1 pt)))) (upd tx tt (v (ix (P.2.1 pt)))) oc o1 o2 o3) H := hP
      have hD : va_D A (xW ad cB cI P n (upd v (ix (P.2.1 pt)) (v (ix (P.2.1 pt)) + v (ix (P.2.2.1 pt)))) (pt + 1) en (tt + 1) (upd tv tt (nI (ix (P.2.1 pt)))) (upd tx tt (v (ix (P.2.1 pt)))) oc o1 o2 o3) := hD
      refine lv_iconst (v := 1) hx hb dX0_doStep_122 (by decide) ?_
      have e1 : sm_ap P pt 0 v = upd v (ix (P.2.1 pt)) (v (ix (P.2.1 pt)) + v (ix (P.2.2.1 pt))) := sm_ap_2 hk 0 v
      have hok : sm_ok P pt v = true := sm_ok_o (by rw [hk]; decide) (by rw [hk]; decide) (by rw [hk]; decide) v
      have e2 := sm_an_go hi hnc h8 hok k
      rw [e1] at e2
      exact sx_zret hx hb hr hlocks (Or.inr rfl) hK (upd v (ix (P.2.1 pt)) (v (ix (P.2.1 pt)) + v (ix (P.2.2.1 pt))), (pt + 1), en, tt + 1, upd tv tt (nI (ix (P.2.1 pt))), upd tx tt (v (ix (P.2.1 pt))), oc, o1, o2, o3) (Or.inl ⟨rfl, rfl, k, sm_Cf_push (by omega) gA.2 sm_upd_back hi h, e2.symm, sm_ct_no hi hnc k⟩) hP hD hS dX0_doStep_123
    · skip
      have gB : sm_v4 (P.2.2.1 pt) := gB (by rw [hk]; decide) (by rw [hk]; decide)
      have gB2 := gB.2
      have h8 : ¬ P.1 pt = 8 := by rw [hk]; decide
      refine sx_topE (y := 3) (hk) ?_
      refine lv_tableIn (tgt := 124) hx hb dX0_doStep_53 (by decide) (by decide) rfl (by decide) ?_
      refine lv_aload_n hx hb dX0_doStep_124 rfl (lv_at hl 3 rfl) ?_
      refine lv_iload_n hx hb dX0_doStep_125 rfl (lv_at hl 1 rfl) ?_
      refine lv_aload_n hx hb dX0_doStep_126 rfl (lv_at hl 3 rfl) ?_
      refine va_get (D := (dC, dI)) (ci := 0) (v := .ref (ad 5)) (C := RX0) (T := TX0) (N := 15) hx hb hts in_X0 hown hK hP 0 rfl rfl 5 (by decide) (hts _ q36) (fun _ h9 => h9) rfl dX0_doStep_127 ?_
      refine lv_iload_n hx hb dX0_doStep_130 rfl (lv_at hl 1 rfl) ?_
      refine sx_iald (j := (ix (P.2.1 pt))) hx hb hK hP 5 1 rfl rfl (rfl) (by omega) (by decide) dX0_doStep_131 ?_
      refine lv_aload_n hx hb dX0_doStep_132 rfl (lv_at hl 3 rfl) ?_
      refine va_get (D := (dC, dI)) (ci := 0) (v := .ref (ad 5)) (C := RX0) (T := TX0) (N := 15) hx hb hts in_X0 hown hK hP 0 rfl rfl 5 (by decide) (hts _ q36) (fun _ h9 => h9) rfl dX0_doStep_133 ?_
      refine lv_iload_n hx hb dX0_doStep_136 rfl (lv_at hl 0 rfl) ?_
      refine sx_iald (j := ix (P.2.2.1 pt)) hx hb hK hP 5 1 rfl rfl (gB.1) (gB.2) (by decide) dX0_doStep_137 ?_
      refine lv_imul hx hb dX0_doStep_138 ?_
      refine sx_callV (ci := 0) (As := [.int (nI (ix (P.2.1 pt))), .int ((v (ix (P.2.1 pt))) * (v (ix (P.2.2.1 pt))))]) (rest := []) ⟨hx, hb, hml, hown, hts⟩ (ct_assign l dC dI ad cB cI P n v (pt + 1) en tt tv tx oc o1 o2 o3 (ix (P.2.1 pt)) (v (ix (P.2.1 pt)) * v (ix (P.2.2.1 pt))) (gA.2) htt) (cwV 2 hts (lw_V q136 q138 qs8 q21 q139) rfl rfl rfl (by decide +kernel) ⟨Nat.le_of_ble_eq_true rfl, Nat.le_of_ble_eq_true rfl⟩) hK hP hD hS hA rfl rfl rfl hl.1 rfl (Nat.le_of_ble_eq_true rfl) ⟨Nat.zero_le _, Nat.zero_le _⟩ dX0_doStep_139 (fun u H locs hw_ hP hD hS => ?_)
      have hP : va_P (dC, dI) vwCl (xW ad cB cI P n (upd v (ix (P.2.1 pt)) (v (ix (P.2.1 pt)) * v (ix (P.2.2.1 pt)))) (pt + 1) en (tt + 1) (upd tv tt (nI (ix (P.2.1 pt)))) (upd tx tt (v (ix (P.2.1 pt)))) oc o1 o2 o3) H := hP
      have hD : va_D A (xW ad cB cI P n (upd v (ix (P.2.1 pt)) (v (ix (P.2.1 pt)) * v (ix (P.2.2.1 pt)))) (pt + 1) en (tt + 1) (upd tv tt (nI (ix (P.2.1 pt)))) (upd tx tt (v (ix (P.2.1 pt)))) oc o1 o2 o3) := hD
      refine lv_iconst (v := 1) hx hb dX0_doStep_142 (by decide) ?_
      have e1 : sm_ap P pt 0 v = upd v (ix (P.2.1 pt)) (v (ix (P.2.1 pt)) * v (ix (P.2.2.1 pt))) := sm_ap_3 hk 0 v
      have hok : sm_ok P pt v = true := sm_ok_o (by rw [hk]; decide) (by rw [hk]; decide) (by rw [hk]; decide) v
      have e2 := sm_an_go hi hnc h8 hok k
      rw [e1] at e2
      exact sx_zret hx hb hr hlocks (Or.inr rfl) hK (upd v (ix (P.2.1 pt)) (v (ix (P.2.1 pt)) * v (ix (P.2.2.1 pt))), (pt + 1), en, tt + 1, upd tv tt (nI (ix (P.2.1 pt))), upd tx tt (v (ix (P.2.1 pt))), oc, o1, o2, o3) (Or.inl ⟨rfl, rfl, k, sm_Cf_push (by omega) gA.2 sm_upd_back hi h, e2.symm, sm_ct_no hi hnc k⟩) hP hD hS dX0_doStep_143
    · skip
      have gB : sm_v4 (P.2.2.1 pt) := gB (by rw [hk]; decide) (by rw [hk]; decide)
      have gB2 := gB.2
      have h8 : ¬ P.1 pt = 8 := by rw [hk]; decide
      refine sx_topE (y := 5) (hk) ?_
      refine lv_tableIn (tgt := 144) hx hb dX0_doStep_53 (by decide) (by decide) rfl (by decide) ?_
      refine lv_aload_n hx hb dX0_doStep_144 rfl (lv_at hl 3 rfl) ?_
      refine va_get (D := (dC, dI)) (ci := 0) (v := .ref (ad 5)) (C := RX0) (T := TX0) (N := 15) hx hb hts in_X0 hown hK hP 0 rfl rfl 5 (by decide) (hts _ q36) (fun _ h9 => h9) rfl dX0_doStep_145 ?_
      refine lv_iload_n hx hb dX0_doStep_148 rfl (lv_at hl 1 rfl) ?_
      refine sx_iald (j := (ix (P.2.1 pt))) hx hb hK hP 5 1 rfl rfl (rfl) (by omega) (by decide) dX0_doStep_149 ?_
      refine lv_aload_n hx hb dX0_doStep_150 rfl (lv_at hl 3 rfl) ?_
      refine va_get (D := (dC, dI)) (ci := 0) (v := .ref (ad 5)) (C := RX0) (T := TX0) (N := 15) hx hb hts in_X0 hown hK hP 0 rfl rfl 5 (by decide) (hts _ q36) (fun _ h9 => h9) rfl dX0_doStep_151 ?_
      refine lv_iload_n hx hb dX0_doStep_154 rfl (lv_at hl 0 rfl) ?_
      refine sx_iald (j := ix (P.2.2.1 pt)) hx hb hK hP 5 1 rfl rfl (gB.1) (gB.2) (by decide) dX0_doStep_155 ?_
      have e1 : sm_ap P pt 0 v = v := sm_ap_n (Or.inl hk) 0 v
      refine lv_icmp_ge (tgt := 163) hx hb dX0_doStep_156 (by decide) (fun c_2 => ?_) (fun c_2 => ?_)
      · skip
        have hok : ¬ sm_ok P pt v = true := by rw [sm_ok_5 hk, decide_eq_true_eq]; exact fun q => absurd c_2 (Int32.not_le.mpr q)
        refine lv_iconst (v := 0) hx hb dX0_doStep_163 (by decide) ?_
        exact sx_zret hx hb hr hlocks (Or.inl rfl) hK (v, (pt + 1), en, tt, tv, tx, oc, o1, o2, o3) (Or.inr ⟨rfl, rfl, h.1, sm_an_no hi hnc h8 hok k, sm_ct_fail hi k⟩) hP hD hS dX0_doStep_164
      · skip
        have hok : sm_ok P pt v = true := by rw [sm_ok_5 hk, decide_eq_true_eq]; exact Int32.not_le.mp c_2
        refine lv_iconst (v := 1) hx hb dX0_doStep_159 (by decide) ?_
        refine lv_goto (tgt := 164) hx hb dX0_doStep_160 (by decide) ?_
        have e2 := sm_an_go hi hnc h8 hok k
        rw [e1] at e2
        exact sx_zret hx hb hr hlocks (Or.inr rfl) hK (v, (pt + 1), en, tt, tv, tx, oc, o1, o2, o3) (Or.inl ⟨rfl, rfl, k, sm_Cf_next hi h, e2.symm, sm_ct_no hi hnc k⟩) hP hD hS dX0_doStep_164
    · skip
      have gB : sm_v4 (P.2.2.1 pt) := gB (by rw [hk]; decide) (by rw [hk]; decide)
      have gB2 := gB.2
      have h8 : ¬ P.1 pt = 8 := by rw [hk]; decide
      refine sx_topE (y := 6) (hk) ?_
      refine lv_tableIn (tgt := 165) hx hb dX0_doStep_53 (by decide) (by decide) rfl (by decide) ?_
      refine lv_aload_n hx hb dX0_doStep_165 rfl (lv_at hl 3 rfl) ?_
      refine va_get (D := (dC, dI)) (ci := 0) (v := .ref (ad 5)) (C := RX0) (T := TX0) (N := 15) hx hb hts in_X0 hown hK hP 0 rfl rfl 5 (by decide) (hts _ q36) (fun _ h9 => h9) rfl dX0_doStep_166 ?_
      refine lv_iload_n hx hb dX0_doStep_169 rfl (lv_at hl 1 rfl) ?_
      refine sx_iald (j := (ix (P.2.1 pt))) hx hb hK hP 5 1 rfl rfl (rfl) (by omega) (by decide) dX0_doStep_170 ?_
      refine lv_aload_n hx hb dX0_doStep_171 rfl (lv_at hl 3 rfl) ?_
      refine va_get (D := (dC, dI)) (ci := 0) (v := .ref (ad 5)) (C := RX0) (T := TX0) (N := 15) hx hb hts in_X0 hown hK hP 0 rfl rfl 5 (by decide) (hts _ q36) (fun _ h9 => h9) rfl dX0_doStep_172 ?_
      refine lv_iload_n hx hb dX0_doStep_175 rfl (lv_at hl 0 rfl) ?_
      refine sx_iald (j := ix (P.2.2.1 pt)) hx hb hK hP 5 1 rfl rfl (gB.1) (gB.2) (by decide) dX0_doStep_176 ?_
      have e1 : sm_ap P pt 0 v = v := sm_ap_n (Or.inr (Or.inl hk)) 0 v
      refine lv_icmp_ne (tgt := 184) hx hb dX0_doStep_177 (by decide) (fun c_2 => ?_) (fun c_2 => ?_)
      · skip
        have hok : ¬ sm_ok P pt v = true := by rw [sm_ok_6 hk, decide_eq_true_eq]; exact c_2
        refine lv_iconst (v := 0) hx hb dX0_doStep_184 (by decide) ?_
        exact sx_zret hx hb hr hlocks (Or.inl rfl) hK (v, (pt + 1), en, tt, tv, tx, oc, o1, o2, o3) (Or.inr ⟨rfl, rfl, h.1, sm_an_no hi hnc h8 hok k, sm_ct_fail hi k⟩) hP hD hS dX0_doStep_185
      · skip
        have hok : sm_ok P pt v = true := by rw [sm_ok_6 hk, decide_eq_true_eq]; exact c_2
        refine lv_iconst (v := 1) hx hb dX0_doStep_180 (by decide) ?_
        refine lv_goto (tgt := 185) hx hb dX0_doStep_181 (by decide) ?_
        have e2 := sm_an_go hi hnc h8 hok k
        rw [e1] at e2
        exact sx_zret hx hb hr hlocks (Or.inr rfl) hK (v, (pt + 1), en, tt, tv, tx, oc, o1, o2, o3) (Or.inl ⟨rfl, rfl, k, sm_Cf_next hi h, e2.symm, sm_ct_no hi hnc k⟩) hP hD hS dX0_doStep_185
    · skip
      have gB : sm_v4 (P.2.2.1 pt) := gB (by rw [hk]; decide) (by rw [hk]; decide)
      have gB2 := gB.2
      have h8 : ¬ P.1 pt = 8 := by rw [hk]; decide
      refine sx_topE (y := 7) (hk) ?_
      refine lv_tableIn (tgt := 186) hx hb dX0_doStep_53 (by decide) (by decide) rfl (by decide) ?_
      refine lv_aload_n hx hb dX0_doStep_186 rfl (lv_at hl 3 rfl) ?_
      refine va_get (D := (dC, dI)) (ci := 0) (v := .ref (ad 5)) (C := RX0) (T := TX0) (N := 15) hx hb hts in_X0 hown hK hP 0 rfl rfl 5 (by decide) (hts _ q36) (fun _ h9 => h9) rfl dX0_doStep_187 ?_
      refine lv_iload_n hx hb dX0_doStep_190 rfl (lv_at hl 1 rfl) ?_
      refine sx_iald (j := (ix (P.2.1 pt))) hx hb hK hP 5 1 rfl rfl (rfl) (by omega) (by decide) dX0_doStep_191 ?_
      refine lv_aload_n hx hb dX0_doStep_192 rfl (lv_at hl 3 rfl) ?_
      refine va_get (D := (dC, dI)) (ci := 0) (v := .ref (ad 5)) (C := RX0) (T := TX0) (N := 15) hx hb hts in_X0 hown hK hP 0 rfl rfl 5 (by decide) (hts _ q36) (fun _ h9 => h9) rfl dX0_doStep_193 ?_
      refine lv_iload_n hx hb dX0_doStep_196 rfl (lv_at hl 0 rfl) ?_
      refine sx_iald (j := ix (P.2.2.1 pt)) hx hb hK hP 5 1 rfl rfl (gB.1) (gB.2) (by decide) dX0_doStep_197 ?_
      have e1 : sm_ap P pt 0 v = v := sm_ap_n (Or.inr (Or.inr (Or.inl hk))) 0 v
      refine lv_icmp_eq (tgt := 205) hx hb dX0_doStep_198 (by decide) (fun c_2 => ?_) (fun c_2 => ?_)
      · skip
        have hok : ¬ sm_ok P pt v = true := by rw [sm_ok_7 hk, decide_eq_true_eq]; exact fun q => q c_2
        refine lv_iconst (v := 0) hx hb dX0_doStep_205 (by decide) ?_
        exact sx_zret hx hb hr hlocks (Or.inl rfl) hK (v, (pt + 1), en, tt, tv, tx, oc, o1, o2, o3) (Or.inr ⟨rfl, rfl, h.1, sm_an_no hi hnc h8 hok k, sm_ct_fail hi k⟩) hP hD hS dX0_doStep_206
      · skip
        have hok : sm_ok P pt v = true := by rw [sm_ok_7 hk, decide_eq_true_eq]; exact c_2
        refine lv_iconst (v := 1) hx hb dX0_doStep_201 (by decide) ?_
        refine lv_goto (tgt := 206) hx hb dX0_doStep_202 (by decide) ?_
        have e2 := sm_an_go hi hnc h8 hok k
        rw [e1] at e2
        exact sx_zret hx hb hr hlocks (Or.inr rfl) hK (v, (pt + 1), en, tt, tv, tx, oc, o1, o2, o3) (Or.inl ⟨rfl, rfl, k, sm_Cf_next hi h, e2.symm, sm_ct_no hi hnc k⟩) hP hD hS dX0_doStep_206
    · skip
      have gB : sm_v4 (P.2.2.1 pt) := gB (by rw [hk]; decide) (by rw [hk]; decide)
      have gB2 := gB.2
      refine sx_topE (y := 8) (hk) ?_
      refine lv_tableOut (tgt := 207) hx hb dX0_doStep_53 (Or.inr (by decide)) (by decide) ?_
      refine lv_aload_n hx hb dX0_doStep_207 rfl (lv_at hl 3 rfl) ?_
      refine lv_iconst (v := 0) hx hb dX0_doStep_208 (by decide) ?_
      refine va_put (D := (dC, dI)) (ci := 0) (v := .int 0) (ty := .int) (C := RX0) (T := TX0) (N := 15) hx hb hts in_X0 tyX0 tyX0_ok nmX0 hown hK hP hD hS 0 rfl rfl 11 (by decide) (hts _ q42) (fun _ h9 => h9) rfl (by decide +kernel) rfl rfl (Nat.le_of_ble_eq_true rfl) dX0_doStep_209 (fun H locs hP hD hS => ?_)
      have hP : va_P (dC, dI) vwCl (xW ad cB cI P n v (pt + 1) en tt tv tx 0 o1 o2 o3) H := hP
      have hD : va_D A (xW ad cB cI P n v (pt + 1) en tt tv tx 0 o1 o2 o3) := hD
      refine lv_iconst (v := 1) hx hb dX0_doStep_212 (by decide) ?_
      exact sx_zret hx hb hr hlocks (Or.inr rfl) hK (v, (pt + 1), en, tt, tv, tx, 0, o1, o2, o3) (Or.inl ⟨rfl, rfl, [], sm_Cf_cut hi h, (sm_an_once hi hk v k).symm, sm_ct_once hi hnc k⟩) hP hD hS dX0_doStep_213
  · skip
    have hc : sm_ch P pt := Classical.byContradiction (fun hc => c_1 (by rw [sm_kc_ch, if_neg hc]))
    refine lv_aload_n hx hb dX0_doStep_37 rfl (lv_at hl 3 rfl) ?_
    refine sx_callI (ci := 0) (As := []) (rest := []) ⟨hx, hb, hml, hown, hts⟩ (ct_beginChoice l dC dI ad cB cI P n v pt en tt tv tx oc o1 o2 o3 k hn hen hV hcb hi hc h) (cwV 0 hts (lw_V q144 q146 qs10 q21 q147) rfl rfl rfl (by decide +kernel) ⟨Nat.le_of_ble_eq_true rfl, Nat.le_of_ble_eq_true rfl⟩) hK hP hD hS hA rfl rfl rfl hl.1 rfl (Nat.le_of_ble_eq_true rfl) ⟨Nat.zero_le _, Nat.zero_le _⟩ dX0_doStep_38 (fun r u H locs hw_ hP hD hS => ?_)
    exact sx_zret hx hb hr hlocks (sm_pS_01 hw_) hK u hw_ hP hD hS dX0_doStep_41
end
section
/-! THE MACHINE: advance -/
section SXL
variable {p : Program} {l : Launch} {e : Env} {R : Room} {s : State} {m : MethodId} {args : Array Value} {below : List Frame} {meth : Method} {c : Code} {H : Heap} {locs : List Loc} {cells slots : Nat} {Q : State → Prop}
variable {pc : Nat} {D : va_G} {cl : List vw_C} {A : Nat → Prop} {H0 : Heap}
/-- a loop, and how it is come to -/
theorem sx_loopJ {σ : Type} {w : σ → va_W} {lv : σ → List (Nat × Value)} {nL : Nat} {g : JFrame} (I : σ → Prop) (μ : σ → Nat)
    (body : ∀ x : σ, I x → (∀ y : σ, I y → μ y < μ x → ∀ (H : Heap) (locs : List Loc), va_P D cl (w y) H → va_D A (w y) → va_S A H0 H locs → ∀ ls : Array Slot, lv_has ls nL (lv y) → W p l e R s m args below meth c H locs cells slots Q (F0 m pc ls [])) →
      ∀ (H : Heap) (locs : List Loc), va_P D cl (w x) H → va_D A (w x) → va_S A H0 H locs → ∀ ls : Array Slot, lv_has ls nL (lv x) → W p l e R s m args below meth c H locs cells slots Q (F0 m pc ls []))
    (k : (∀ x : σ, I x → ∀ (H : Heap) (locs : List Loc), va_P D cl (w x) H → va_D A (w x) → va_S A H0 H locs → ∀ ls : Array Slot, lv_has ls nL (lv x) → W p l e R s m args below meth c H locs cells slots Q (F0 m pc ls [])) → W p l e R s m args below meth c H locs cells slots Q g) : W p l e R s m args below meth c H locs cells slots Q g :=
  k (fun x hI H locs hP hD hS ls hl => sx_loop I μ body x hI hP hD hS hl)
end SXL
/-- what advance does: the next answer, if there is one -/
def sm_pA (P : Pg) (n : Nat) (L : List Vs) (r : Int32) (u : XS) : Prop := (r = 0 ∧ u.2.2.1 = n ∧ L = []) ∨ (r = 1 ∧ u.2.2.1 = n ∧ ∃ k', L = u.1 :: sm_as P n k' ∧ sm_uS P n u k' ∧ sm_cs P n k' < 30800)
theorem sm_pA_01 {P : Pg} {n : Nat} {L : List Vs} {r : Int32} {u : XS} (h : sm_pA P n L r u) : r = 0 ∨ r = 1 := by
  rcases h with h | h
  · exact Or.inl h.1
  · exact Or.inr h.1
theorem sm_cs_ct {P : Pg} {n i : Nat} {k : List Ch} : sm_cs P n k ≤ sm_ct P n i k := Nat.le_add_left _ _
/-- the loop of advance -/
def sm_AI (P : Pg) (n : Nat) (L : List Vs) (x : Int32 × Nat × XS) : Prop := x.2.1 ≤ 30800 ∧ x.2.2.2.2.1 = n ∧ ((x.1 = 0 ∧ L = []) ∨ (x.1 = 1 ∧ ∃ k, sm_uC P n x.2.2 k ∧ sm_an P n x.2.2.2.1 x.2.2.1 k = L ∧ sm_ct P n x.2.2.2.1 k + x.2.1 < 30800))
set_option maxHeartbeats 4000000 in
set_option maxRecDepth 100000 in
theorem ct_advance (l : Launch) (dC : Nat → ClassId) (dI : Nat → Nat → Nat) (ad : Nat → Nat) (cB cI : ClassId) (P : Pg) (n : Nat) (v : Vs) (pt en tt : Nat) (tv tx : Vs) (oc : Nat) (o1 o2 o3 : Vs) (b : Int32) (L : List Vs) (k : List Ch) (hn : n ≤ 14) (hen : en ≤ n) (hV : sm_va P n) (hcb : sm_cb P n ≤ 3) (h : (b = 1 ∧ sm_Cf P en v pt tt tv tx oc o1 o2 o3 k ∧ sm_an P en pt v k = L ∧ sm_ct P en pt k < 30800) ∨ (b = 0 ∧ sm_St P en v tt tv tx oc o1 o2 o3 k ∧ sm_as P en k = L ∧ sm_cs P en k < 30800)) : MetI l (dC, dI) vwCl (tyX cB cI) yX0_advance (ws_ yX0_advance cX0_advance 5 (some .boolean)) ({ frames := 4, cells := 0, slots := 0, locals := 91 }) [.ref (ad 0), .int b] (xW ad cB cI P n v pt en tt tv tx oc o1 o2 o3) (xF ad cB cI P n) (sm_pA P en L) := by
  refine MetI.of (by decide) (Nat.le_of_ble_eq_true rfl) ?_
  intro p e s m below meth c ls A hx hb hr hml hlocks hts hown hA hP hK hD hS hl
  have hown : s.vm.findClass RX0 = some m.cls := hown
  have hl : lv_has ls 5 [(0, .ref (ad 0)), (1, .int b)] := hl
  refine sx_loopJ (D := (dC, dI)) (cl := vwCl) (A := A) (H0 := s.heap) (pc := 19) (nL := 5) (σ := Int32 × Nat × XS) (w := fun x => xF ad cB cI P n x.2.2) (lv := fun x => [(3, .int (nI x.2.1)), (2, .int x.1), (0, .ref (ad 0)), (1, .int b)]) (I := sm_AI P en L) (μ := fun x => 30801 - x.2.1) ?_ ?_
  · skip
    intro x hI ih H locs hP hD hS ls hl
    obtain ⟨g, rd, u⟩ := x
    obtain ⟨v', pt', en', tt', tv', tx', oc', o1', o2', o3'⟩ := u
    obtain ⟨hrd, hen', hI⟩ := hI
    have hrd : rd ≤ 30800 := hrd
    have hen' : en' = en := hen'
    have hl : lv_has ls 5 [(3, .int (nI rd)), (2, .int g), (0, .ref (ad 0)), (1, .int b)] := hl
    have hP : va_P (dC, dI) vwCl (xW ad cB cI P n v' pt' en' tt' tv' tx' oc' o1' o2' o3') H := hP
    have hD : va_D A (xW ad cB cI P n v' pt' en' tt' tv' tx' oc' o1' o2' o3') := hD
    rw [hen'] at hP hD
    have hP : va_P (dC, dI) vwCl (xW ad cB cI P n v' pt' en tt' tv' tx' oc' o1' o2' o3') H := hP
    have hD : va_D A (xW ad cB cI P n v' pt' en tt' tv' tx' oc' o1' o2' o3') := hD
    refine lv_iload_n hx hb dX0_advance_19 rfl (lv_at hl 0 rfl) ?_
    refine lv_sipush (v := 30800) hx hb dX0_advance_20 (by decide) ?_
    refine lv_icmp_ge (tgt := 73) hx hb dX0_advance_23 (by decide) (fun c_1 => ?_) (fun c_1 => ?_)
    · skip
      have h1 : 30800 ≤ rd := (nI_leI (a := 30800) (by decide) (by omega)).mp c_1
      have hL : L = [] := by
        rcases hI with q | ⟨-, k, -, -, q⟩
        · exact q.2
        · exact absurd q (by show ¬ (_ + rd < 30800); omega)
      refine lv_iconst (v := 0) hx hb dX0_advance_73 (by decide) ?_
      exact sx_zret hx hb hr hlocks (Or.inl rfl) hK (v', pt', en, tt', tv', tx', oc', o1', o2', o3') (Or.inl ⟨rfl, rfl, hL⟩) hP hD hS dX0_advance_74
    · skip
      have h1 : rd < 30800 := Nat.lt_of_not_le (fun q => c_1 ((nI_leI (a := 30800) (by decide) (by omega)).mpr q))
      refine lv_iload_n hx hb dX0_advance_26 rfl (lv_at hl 1 rfl) ?_
      refine lv_if_eq (tgt := 73) hx hb dX0_advance_27 (by decide) (fun c_2 => ?_) (fun c_2 => ?_)
      · skip
        have hL : L = [] := by
          rcases hI with q | ⟨q, -⟩
          · exact q.2
          · exact absurd (show g = 1 from q) (by rw [c_2]; decide)
        refine lv_iconst (v := 0) hx hb dX0_advance_73 (by decide) ?_
        exact sx_zret hx hb hr hlocks (Or.inl rfl) hK (v', pt', en, tt', tv', tx', oc', o1', o2', o3') (Or.inl ⟨rfl, rfl, hL⟩) hP hD hS dX0_advance_74
      · skip
        obtain ⟨k1, hC, hL, hct⟩ : ∃ k1, sm_Cf P en v' pt' tt' tv' tx' oc' o1' o2' o3' k1 ∧ sm_an P en pt' v' k1 = L ∧ sm_ct P en pt' k1 + rd < 30800 := by
          rcases hI with q | ⟨-, q⟩
          · exact absurd q.1 c_2
          · exact q
        have hpe : pt' ≤ en := hC.2.1
        refine lv_aload_n hx hb dX0_advance_30 rfl (lv_at hl 2 rfl) ?_
        refine va_get (D := (dC, dI)) (ci := 0) (v := .int (nI pt')) (C := RX0) (T := TX0) (N := 15) hx hb hts in_X0 hown hK hP 0 rfl rfl 6 (by decide) (hts _ q37) (fun _ h9 => h9) rfl dX0_advance_31 ?_
        refine lv_aload_n hx hb dX0_advance_34 rfl (lv_at hl 2 rfl) ?_
        refine va_get (D := (dC, dI)) (ci := 0) (v := .int (nI en)) (C := RX0) (T := TX0) (N := 15) hx hb hts in_X0 hown hK hP 0 rfl rfl 7 (by decide) (hts _ q38) (fun _ h9 => h9) rfl dX0_advance_35 ?_
        refine lv_icmp_ne (tgt := 43) hx hb dX0_advance_38 (by decide) (fun c_3 => ?_) (fun c_3 => ?_)
        · skip
          have hpt : pt' < en := Nat.lt_of_le_of_ne hpe (fun q => c_3 (by rw [q]))
          refine lv_aload_n hx hb dX0_advance_43 rfl (lv_at hl 2 rfl) ?_
          refine sx_callI (ci := 0) (As := []) (rest := []) ⟨hx, hb, hml, hown, hts⟩ (ct_doStep l dC dI ad cB cI P n v' pt' en tt' tv' tx' oc' o1' o2' o3' k1 hn hen hV hcb hpt hC) (cwV 0 hts (lw_V q140 q142 qs9 q21 q143) rfl rfl rfl (by decide +kernel) ⟨Nat.le_of_ble_eq_true rfl, Nat.le_of_ble_eq_true rfl⟩) hK hP hD hS hA rfl rfl rfl hl.1 rfl (Nat.le_of_ble_eq_true rfl) ⟨Nat.zero_le _, Nat.zero_le _⟩ dX0_advance_44 (fun r u H locs hw_ hP hD hS => ?_)
          obtain ⟨v1, pt1, en1, tt1, tv1, tx1, oc1, o11, o21, o31⟩ := u
          have hP : va_P (dC, dI) vwCl (xW ad cB cI P n v1 pt1 en1 tt1 tv1 tx1 oc1 o11 o21 o31) H := hP
          have hD : va_D A (xW ad cB cI P n v1 pt1 en1 tt1 tv1 tx1 oc1 o11 o21 o31) := hD
          refine lv_istore (lv' := [(4, .int r), (3, .int (nI rd)), (2, .int g), (0, .ref (ad 0)), (1, .int b)]) hx hb dX0_advance_47 hl (by decide) rfl (fun ls hl => ?_)
          refine lv_iload hx hb dX0_advance_49 (lv_at hl 0 rfl) ?_
          refine lv_if_ne (tgt := 61) hx hb dX0_advance_51 (by decide) (fun c_4 => ?_) (fun c_4 => ?_)
          · skip
            obtain ⟨he1, k2, hC2, ha2, hc2⟩ : en1 = en ∧ ∃ k2, sm_Cf P en v1 pt1 tt1 tv1 tx1 oc1 o11 o21 o31 k2 ∧ sm_an P en pt1 v1 k2 = sm_an P en pt' v' k1 ∧ sm_ct P en pt1 k2 + 1 ≤ sm_ct P en pt' k1 := by
              rcases hw_ with ⟨-, q1, q2⟩ | q
              · exact ⟨q1, q2⟩
              · exact absurd q.1 c_4
            refine lv_iconst (v := 1) hx hb dX0_advance_61 (by decide) ?_
            refine lv_goto (tgt := 66) hx hb dX0_advance_62 (by decide) ?_
            refine lv_istore_n (lv' := [(2, .int 1), (4, .int r), (3, .int (nI rd)), (0, .ref (ad 0)), (1, .int b)]) hx hb dX0_advance_66 rfl hl (by decide) rfl (fun ls hl => ?_)
            refine lv_iinc (v := nI (rd + 1)) (lv' := [(3, .int (nI (rd + 1))), (2, .int 1), (4, .int r), (0, .ref (ad 0)), (1, .int b)]) hx hb dX0_advance_67 hl (k := 2) rfl (nI_1 _) (by decide) rfl (fun ls hl => ?_)
            refine lv_goto (tgt := 19) hx hb dX0_advance_70 (by decide) ?_
            exact ih (1, rd + 1, (v1, pt1, en1, tt1, tv1, tx1, oc1, o11, o21, o31)) ⟨h1, he1, Or.inr ⟨rfl, k2, hC2, ha2.trans hL, by show sm_ct P en pt1 k2 + (rd + 1) < 30800; omega⟩⟩ (by show 30801 - (rd + 1) < 30801 - rd; omega) H locs hP hD hS ls (lv_sub hl [0, 1, 3, 4] rfl)
          · skip
            obtain ⟨he1, hS1, ha1, hc1⟩ : en1 = en ∧ sm_St P en v1 tt1 tv1 tx1 oc1 o11 o21 o31 k1 ∧ sm_an P en pt' v' k1 = sm_as P en k1 ∧ sm_cs P en k1 + 1 ≤ sm_ct P en pt' k1 := by
              rcases hw_ with q | ⟨-, q1, q2, q3, q4⟩
              · exact absurd (q.1.symm.trans c_4) (by decide)
              · exact ⟨q1, q2, q3, q4⟩
            rw [he1] at hP hD
            have hP : va_P (dC, dI) vwCl (xW ad cB cI P n v1 pt1 en tt1 tv1 tx1 oc1 o11 o21 o31) H := hP
            have hD : va_D A (xW ad cB cI P n v1 pt1 en tt1 tv1 tx1 oc1 o11 o21 o31) := hD
            refine lv_aload_n hx hb dX0_advance_54 rfl (lv_at hl 3 rfl) ?_
            refine sx_callI (ci := 0) (As := []) (rest := []) ⟨hx, hb, hml, hown, hts⟩ (ct_goBack l dC dI ad cB cI P n v1 pt1 en tt1 tv1 tx1 oc1 o11 o21 o31 k1 hn hen hV hcb hS1) (cwV 0 hts (lw_V q120 q122 qs4 q21 q123) rfl rfl rfl (by decide +kernel) ⟨Nat.le_of_ble_eq_true rfl, Nat.le_of_ble_eq_true rfl⟩) hK hP hD hS hA rfl rfl rfl hl.1 rfl (Nat.le_of_ble_eq_true rfl) ⟨Nat.zero_le _, Nat.zero_le _⟩ dX0_advance_55 (fun r2 u H locs hw_ hP hD hS => ?_)
            obtain ⟨v2, pt2, en2, tt2, tv2, tx2, oc2, o12, o22, o32⟩ := u
            have hP : va_P (dC, dI) vwCl (xW ad cB cI P n v2 pt2 en2 tt2 tv2 tx2 oc2 o12 o22 o32) H := hP
            have hD : va_D A (xW ad cB cI P n v2 pt2 en2 tt2 tv2 tx2 oc2 o12 o22 o32) := hD
            refine lv_if_eq (tgt := 65) hx hb dX0_advance_58 (by decide) (fun c_5 => ?_) (fun c_5 => ?_)
            · skip
              obtain ⟨he2, hL2⟩ : en2 = en ∧ sm_as P en k1 = [] := by
                rcases hw_ with ⟨-, q1, q2⟩ | q
                · exact ⟨q1, q2⟩
                · exact absurd (q.1.symm.trans c_5) (by decide)
              refine lv_iconst (v := 0) hx hb dX0_advance_65 (by decide) ?_
              refine lv_istore_n (lv' := [(2, .int 0), (4, .int r), (3, .int (nI rd)), (0, .ref (ad 0)), (1, .int b)]) hx hb dX0_advance_66 rfl hl (by decide) rfl (fun ls hl => ?_)
              refine lv_iinc (v := nI (rd + 1)) (lv' := [(3, .int (nI (rd + 1))), (2, .int 0), (4, .int r), (0, .ref (ad 0)), (1, .int b)]) hx hb dX0_advance_67 hl (k := 2) rfl (nI_1 _) (by decide) rfl (fun ls hl => ?_)
              refine lv_goto (tgt := 19) hx hb dX0_advance_70 (by decide) ?_
              exact ih (0, rd + 1, (v2, pt2, en2, tt2, tv2, tx2, oc2, o12, o22, o32)) ⟨h1, he2, Or.inl ⟨rfl, by rw [← hL, ha1, hL2]⟩⟩ (by show 30801 - (rd + 1) < 30801 - rd; omega) H locs hP hD hS ls (lv_sub hl [0, 1, 3, 4] rfl)
            · skip
              obtain ⟨he2, k2, hC2, ha2, hc2⟩ : en2 = en ∧ ∃ k2, sm_Cf P en v2 pt2 tt2 tv2 tx2 oc2 o12 o22 o32 k2 ∧ sm_an P en pt2 v2 k2 = sm_as P en k1 ∧ sm_ct P en pt2 k2 ≤ sm_cs P en k1 := by
                rcases hw_ with q | ⟨-, q1, q2⟩
                · exact absurd q.1 c_5
                · exact ⟨q1, q2⟩
              refine lv_iconst (v := 1) hx hb dX0_advance_61 (by decide) ?_
              refine lv_goto (tgt := 66) hx hb dX0_advance_62 (by decide) ?_
              refine lv_istore_n (lv' := [(2, .int 1), (4, .int r), (3, .int (nI rd)), (0, .ref (ad 0)), (1, .int b)]) hx hb dX0_advance_66 rfl hl (by decide) rfl (fun ls hl => ?_)
              refine lv_iinc (v := nI (rd + 1)) (lv' := [(3, .int (nI (rd + 1))), (2, .int 1), (4, .int r), (0, .ref (ad 0)), (1, .int b)]) hx hb dX0_advance_67 hl (k := 2) rfl (nI_1 _) (by decide) rfl (fun ls hl => ?_)
              refine lv_goto (tgt := 19) hx hb dX0_advance_70 (by decide) ?_
              exact ih (1, rd + 1, (v2, pt2, en2, tt2, tv2, tx2, oc2, o12, o22, o32)) ⟨h1, he2, Or.inr ⟨rfl, k2, hC2, ha2.trans (ha1.symm.trans hL), by show sm_ct P en pt2 k2 + (rd + 1) < 30800; omega⟩⟩ (by show 30801 - (rd + 1) < 30801 - rd; omega) H locs hP hD hS ls (lv_sub hl [0, 1, 3, 4] rfl)
        · skip
          have hpt : pt' = en := (nI_eq (by omega) (by omega)).mp c_3
          refine lv_iconst (v := 1) hx hb dX0_advance_41 (by decide) ?_
          exact sx_zret hx hb hr hlocks (Or.inr rfl) hK (v', pt', en, tt', tv', tx', oc', o1', o2', o3') (Or.inr ⟨rfl, rfl, k1, by rw [← hL, hpt, sm_an_end], hC.1, by have := sm_cs_ct (P := P) (n := en) (i := pt') (k := k1); omega⟩) hP hD hS dX0_advance_42
  · skip
    intro lp
    refine lv_iload_n hx hb dX0_advance_0 rfl (lv_at hl 1 rfl) ?_
    refine lv_if_ne (tgt := 11) hx hb dX0_advance_1 (by decide) (fun c_1 => ?_) (fun c_1 => ?_)
    · skip
      obtain ⟨hC, hL, hct⟩ : sm_Cf P en v pt tt tv tx oc o1 o2 o3 k ∧ sm_an P en pt v k = L ∧ sm_ct P en pt k < 30800 := by
        rcases h with ⟨-, q⟩ | q
        · exact q
        · exact absurd q.1 c_1
      refine lv_iconst (v := 1) hx hb dX0_advance_11 (by decide) ?_
      refine lv_goto (tgt := 16) hx hb dX0_advance_12 (by decide) ?_
      refine lv_istore_n (lv' := [(2, .int 1), (0, .ref (ad 0)), (1, .int b)]) hx hb dX0_advance_16 rfl hl (by decide) rfl (fun ls hl => ?_)
      refine lv_iconst (v := 0) hx hb dX0_advance_17 (by decide) ?_
      refine lv_istore_n (lv' := [(3, .int 0), (2, .int 1), (0, .ref (ad 0)), (1, .int b)]) hx hb dX0_advance_18 rfl hl (by decide) rfl (fun ls hl => ?_)
      exact lp (1, 0, (v, pt, en, tt, tv, tx, oc, o1, o2, o3)) ⟨Nat.zero_le _, rfl, Or.inr ⟨rfl, k, hC, hL, hct⟩⟩ _ _ hP hD hS ls (lv_sub hl [0, 1, 2, 3] rfl)
    · skip
      obtain ⟨hS1, hL, hct⟩ : sm_St P en v tt tv tx oc o1 o2 o3 k ∧ sm_as P en k = L ∧ sm_cs P en k < 30800 := by
        rcases h with q | ⟨-, q⟩
        · exact absurd (q.1.symm.trans c_1) (by decide)
        · exact q
      refine lv_aload_n hx hb dX0_advance_4 rfl (lv_at hl 0 rfl) ?_
      refine sx_callI (ci := 0) (As := []) (rest := []) ⟨hx, hb, hml, hown, hts⟩ (ct_goBack l dC dI ad cB cI P n v pt en tt tv tx oc o1 o2 o3 k hn hen hV hcb hS1) (cwV 0 hts (lw_V q120 q122 qs4 q21 q123) rfl rfl rfl (by decide +kernel) ⟨Nat.le_of_ble_eq_true rfl, Nat.le_of_ble_eq_true rfl⟩) hK hP hD hS hA rfl rfl rfl hl.1 rfl (Nat.le_of_ble_eq_true rfl) ⟨Nat.zero_le _, Nat.zero_le _⟩ dX0_advance_5 (fun r2 u H locs hw_ hP hD hS => ?_)
      obtain ⟨v2, pt2, en2, tt2, tv2, tx2, oc2, o12, o22, o32⟩ := u
      have hP : va_P (dC, dI) vwCl (xW ad cB cI P n v2 pt2 en2 tt2 tv2 tx2 oc2 o12 o22 o32) H := hP
      have hD : va_D A (xW ad cB cI P n v2 pt2 en2 tt2 tv2 tx2 oc2 o12 o22 o32) := hD
      refine lv_if_eq (tgt := 15) hx hb dX0_advance_8 (by decide) (fun c_5 => ?_) (fun c_5 => ?_)
      · skip
        obtain ⟨he2, hL2⟩ : en2 = en ∧ sm_as P en k = [] := by
          rcases hw_ with ⟨-, q1, q2⟩ | q
          · exact ⟨q1, q2⟩
          · exact absurd (q.1.symm.trans c_5) (by decide)
        refine lv_iconst (v := 0) hx hb dX0_advance_15 (by decide) ?_
        refine lv_istore_n (lv' := [(2, .int 0), (0, .ref (ad 0)), (1, .int b)]) hx hb dX0_advance_16 rfl hl (by decide) rfl (fun ls hl => ?_)
        refine lv_iconst (v := 0) hx hb dX0_advance_17 (by decide) ?_
        refine lv_istore_n (lv' := [(3, .int 0), (2, .int 0), (0, .ref (ad 0)), (1, .int b)]) hx hb dX0_advance_18 rfl hl (by decide) rfl (fun ls hl => ?_)
        exact lp (0, 0, (v2, pt2, en2, tt2, tv2, tx2, oc2, o12, o22, o32)) ⟨Nat.zero_le _, he2, Or.inl ⟨rfl, by rw [← hL, hL2]⟩⟩ _ _ hP hD hS ls (lv_sub hl [0, 1, 2, 3] rfl)
      · skip
        obtain ⟨he2, k2, hC2, ha2, hc2⟩ : en2 = en ∧ ∃ k2, sm_Cf P en v2 pt2 tt2 tv2 tx2 oc2 o12 o22 o32 k2 ∧ sm_an P en pt2 v2 k2 = sm_as P en k ∧ sm_ct P en pt2 k2 ≤ sm_cs P en k := by
          rcases hw_ with q | ⟨-, q1, q2⟩
          · exact absurd q.1 c_5
          · exact ⟨q1, q2⟩
        refine lv_iconst (v := 1) hx hb dX0_advance_11 (by decide) ?_
        refine lv_goto (tgt := 16) hx hb dX0_advance_12 (by decide) ?_
        refine lv_istore_n (lv' := [(2, .int 1), (0, .ref (ad 0)), (1, .int b)]) hx hb dX0_advance_16 rfl hl (by decide) rfl (fun ls hl => ?_)
        refine lv_iconst (v := 0) hx hb dX0_advance_17 (by decide) ?_
        refine lv_istore_n (lv' := [(3, .int 0), (2, .int 1), (0, .ref (ad 0)), (1, .int b)]) hx hb dX0_advance_18 rfl hl (by decide) rfl (fun ls hl => ?_)
        exact lp (1, 0, (v2, pt2, en2, tt2, tv2, tx2, oc2, o12, o22, o32)) ⟨Nat.zero_le _, he2, Or.inr ⟨rfl, k2, hC2, ha2.trans hL, by show sm_ct P en pt2 k2 + 0 < 30800; omega⟩⟩ _ _ hP hD hS ls (lv_sub hl [0, 1, 2, 3] rfl)
end
section
/-! THE MACHINE: its queries, as answers about the list of the search -/
def sm_L (P : Pg) (n : Nat) : List Vs := (sm_sr P n 0 sm_z).1
theorem sm_an_start (P : Pg) (n : Nat) : sm_an P n 0 sm_z [] = sm_L P n := by
  unfold sm_an sm_X sm_L
  rw [Nat.sub_zero, sm_as]
  simp
theorem sm_pow3 {c : Nat} (h : c ≤ 3) : 13 ^ c ≤ 2197 := Nat.le_trans (Nat.pow_le_pow_right (by decide) h) (by decide)
theorem sm_cc0 {P : Pg} {n : Nat} (h : sm_cb P n ≤ 3) : sm_cc P n 0 ≤ 3 := by
  have := sm_cc_cb P n 0
  rw [Nat.zero_add] at this
  have h0 : sm_cb P 0 = 0 := rfl
  omega
theorem sm_ct_start {P : Pg} {n : Nat} (hn : n ≤ 14) (hV : sm_va P n) (h : sm_cb P n ≤ 3) : sm_ct P n 0 [] < 30800 := by
  have h1 := sm_co_le P n 0 (by rw [Nat.zero_add]; exact hV.bd)
  have h2 := Nat.mul_le_mul (sm_pow3 (sm_cc0 h)) hn
  unfold sm_ct
  rw [Nat.sub_zero, sm_cs]
  omega
theorem sm_L_len {P : Pg} {n : Nat} (hV : sm_va P n) (h : sm_cb P n ≤ 3) : (sm_L P n).length ≤ 2197 :=
  Nat.le_trans (sm_sr_len P n 0 sm_z (by rw [Nat.zero_add]; exact hV.bd)) (sm_pow3 (sm_cc0 h))
theorem sm_iv_v4 {x : Int32} (h : ¬ sm_iv x = 0) : sm_v4 x := by
  unfold sm_iv at h
  by_cases h0 : x < 0
  · rw [if_pos h0] at h; exact absurd rfl h
  · by_cases h4 : 4 ≤ x
    · rw [if_neg h0, if_pos h4] at h; exact absurd rfl h
    · obtain ⟨j, hj, rfl⟩ := nI_of h0
      exact sm_v4_of (Nat.lt_of_not_le (fun q => h4 ((nI_leI (a := 4) (by decide) hj).mpr q)))
/-- what the queries answer -/
def sm_none : Int32 := -1000000000
def sm_rV (L : List Vs) (x w : Int32) : Int32 := if x < 0 then -1000000000 else if sm_iv w = 0 then -1000000000 else ((L[ix x]?).map (fun y => y (ix w))).getD (-1000000000)
def sm_ctw (a : Nat) (x : Int32) : List Vs → Nat
  | [] => 0
  | y :: l => (if y a = x then 1 else 0) + sm_ctw a x l
def sm_rC (L : List Vs) (w x : Int32) : Int32 := if sm_iv w = 0 then 0 else nI (sm_ctw (ix w) x L)
def sm_fw (a : Nat) (x : Int32) : List Vs → Nat → Int32
  | [], _ => -1
  | y :: l, k => if y a = x then nI k else sm_fw a x l (k + 1)
def sm_rF (L : List Vs) (w x : Int32) : Int32 := if sm_iv w = 0 then -1 else sm_fw (ix w) x L 0
def sm_ex (a : Nat) (w : Int32) : List Vs → Bool → Int32 → Int32
  | [], _, b => b
  | y :: l, s, b => sm_ex a w l true (if s = false then y a else if w = 0 then (if y a < b then y a else b) else (if b < y a then y a else b))
def sm_rE (L : List Vs) (w q : Int32) : Int32 := if sm_iv w = 0 then -1000000000 else if q < 0 then -1000000000 else if q ≤ 1 then sm_ex (ix w) q L false (-1000000000) else -1000000000
theorem sm_ctw_le (a : Nat) (x : Int32) : ∀ L : List Vs, sm_ctw a x L ≤ L.length := by
  intro L
  induction L with
  | nil => exact Nat.le_refl 0
  | cons y l ih =>
    rw [sm_ctw]
    show _ ≤ l.length + 1
    by_cases h : y a = x
    · rw [if_pos h]; omega
    · rw [if_neg h]; omega
set_option maxHeartbeats 4000000 in
set_option maxRecDepth 100000 in
theorem ct_countAnswers (l : Launch) (dC : Nat → ClassId) (dI : Nat → Nat → Nat) (ad : Nat → Nat) (cB cI : ClassId) (P : Pg) (n : Nat) (v : Vs) (pt en tt : Nat) (tv tx : Vs) (oc : Nat) (o1 o2 o3 : Vs) (k : Nat) (hn : n ≤ 14) (hV : sm_va P n) (hcb : sm_cb P n ≤ 3) (hen : k ≤ n) : MetI l (dC, dI) vwCl (tyX cB cI) yX0_countAnswers (ws_ yX0_countAnswers cX0_countAnswers 5 (some .int)) ({ frames := 5, cells := 0, slots := 0, locals := 115 }) [.ref (ad 0), .int (nI k)] (xW ad cB cI P n v pt en tt tv tx oc o1 o2 o3) (xF ad cB cI P n) (fun r _ => r = nI (sm_L P k).length) := by
  refine MetI.of (by decide) (Nat.le_of_ble_eq_true rfl) ?_
  intro p e s m below meth c ls A hx hb hr hml hlocks hts hown hA hP hK hD hS hl
  have hown : s.vm.findClass RX0 = some m.cls := hown
  have hl : lv_has ls 5 [(0, .ref (ad 0)), (1, .int (nI k))] := hl
  have hcbk : sm_cb P k ≤ 3 := Nat.le_trans (sm_cb_mono P hen) hcb
  have hLn := sm_L_len (hV.mono hen) hcbk
  refine lv_aload_n hx hb dX0_countAnswers_0 rfl (lv_at hl 0 rfl) ?_
  refine lv_iload_n hx hb dX0_countAnswers_1 rfl (lv_at hl 1 rfl) ?_
  refine sx_callV (ci := 0) (As := [.int (nI k)]) (rest := []) ⟨hx, hb, hml, hown, hts⟩ (ct_start l dC dI ad cB cI P n v pt en tt tv tx oc o1 o2 o3 k) (cwV 1 hts (lw_V q112 q114 qs2 q21 q115) rfl rfl rfl (by decide +kernel) ⟨Nat.le_of_ble_eq_true rfl, Nat.le_of_ble_eq_true rfl⟩) hK hP hD hS hA rfl rfl rfl hl.1 rfl (Nat.le_of_ble_eq_true rfl) ⟨Nat.zero_le _, Nat.zero_le _⟩ dX0_countAnswers_2 (fun u_ H locs hw_ hP hD hS => ?_)
  have hP : va_P (dC, dI) vwCl (xW ad cB cI P n sm_z 0 k 0 tv tx 0 o1 o2 o3) H := hP
  have hD : va_D A (xW ad cB cI P n sm_z 0 k 0 tv tx 0 o1 o2 o3) := hD
  refine lv_iconst (v := 0) hx hb dX0_countAnswers_5 (by decide) ?_
  refine lv_istore_n (lv' := [(2, .int 0), (0, .ref (ad 0)), (1, .int (nI k))]) hx hb dX0_countAnswers_6 rfl hl (by decide) rfl (fun ls hl => ?_)
  refine lv_aload_n hx hb dX0_countAnswers_7 rfl (lv_at hl 1 rfl) ?_
  refine lv_iconst (v := 1) hx hb dX0_countAnswers_8 (by decide) ?_
  refine sx_callI (ci := 0) (As := [.int 1]) (rest := []) ⟨hx, hb, hml, hown, hts⟩ (ct_advance l dC dI ad cB cI P n sm_z 0 k 0 tv tx 0 o1 o2 o3 1 (sm_L P k) [] hn hen hV hcb (Or.inl ⟨rfl, sm_Cf_start, sm_an_start P k, sm_ct_start (by omega) (hV.mono hen) (hcbk)⟩)) (cwV 1 hts (lw_V q116 q118 qs3 q21 q119) rfl rfl rfl (by decide +kernel) ⟨Nat.le_of_ble_eq_true rfl, Nat.le_of_ble_eq_true rfl⟩) hK hP hD hS hA rfl rfl rfl hl.1 rfl (Nat.le_of_ble_eq_true rfl) ⟨Nat.zero_le _, Nat.zero_le _⟩ dX0_countAnswers_9 (fun f0 u0 H locs hw_ hP hD hS => ?_)
  refine lv_istore_n (lv' := [(3, .int f0), (2, .int 0), (0, .ref (ad 0)), (1, .int (nI k))]) hx hb dX0_countAnswers_12 rfl hl (by decide) rfl (fun ls hl => ?_)
  refine lv_iconst (v := 0) hx hb dX0_countAnswers_13 (by decide) ?_
  refine lv_istore (lv' := [(4, .int 0), (3, .int f0), (2, .int 0), (0, .ref (ad 0)), (1, .int (nI k))]) hx hb dX0_countAnswers_14 hl (by decide) rfl (fun ls hl => ?_)
  refine sx_loop (σ := List Vs × Int32 × XS × Nat) (w := fun x => xF ad cB cI P n x.2.2.1) (lv := fun x => [(0, .ref (ad 0)), (1, .int (nI k)), (2, .int (nI x.2.2.2)), (3, .int x.2.1), (4, .int (nI x.2.2.2))]) (I := fun x => sm_pA P k x.1 x.2.1 x.2.2.1 ∧ x.2.2.2 + x.1.length = (sm_L P k).length) (μ := fun x => x.1.length) ?_ (sm_L P k, f0, u0, 0) ⟨hw_, Nat.zero_add _⟩ hP hD hS (lv_sub hl [3, 4, 2, 1, 0] rfl)
  intro x hI ih H locs hP hD hS ls hl
  obtain ⟨M, f, u, c0⟩ := x
  obtain ⟨v', pt', en', tt', tv', tx', oc', o1', o2', o3'⟩ := u
  have hP : va_P (dC, dI) vwCl (xW ad cB cI P n v' pt' en' tt' tv' tx' oc' o1' o2' o3') H := hP
  have hD : va_D A (xW ad cB cI P n v' pt' en' tt' tv' tx' oc' o1' o2' o3') := hD
  obtain ⟨hp, hc0⟩ := hI
  have hp : sm_pA P k M f (v', pt', en', tt', tv', tx', oc', o1', o2', o3') := hp
  have hc0 : c0 + M.length = (sm_L P k).length := hc0
  have hl : lv_has ls 5 [(0, .ref (ad 0)), (1, .int (nI k)), (2, .int (nI c0)), (3, .int f), (4, .int (nI c0))] := hl
  refine lv_iload hx hb dX0_countAnswers_16 (lv_at hl 4 rfl) ?_
  refine lv_sipush (v := 2200) hx hb dX0_countAnswers_18 (by decide) ?_
  refine lv_icmp_ge (tgt := 43) hx hb dX0_countAnswers_21 (by decide) (fun c_1 => ?_) (fun c_1 => ?_)
  · skip
    exact absurd ((nI_leI (a := 2200) (by decide) (by omega)).mp c_1) (by omega)
  refine lv_iload_n hx hb dX0_countAnswers_24 rfl (lv_at hl 3 rfl) ?_
  refine lv_if_eq (tgt := 43) hx hb dX0_countAnswers_25 (by decide) (fun c_f => ?_) (fun c_f => ?_)
  · skip
    have hM : M = [] := by
      rcases hp with q | q
      · exact q.2.2
      · exact absurd (q.1.symm.trans c_f) (by decide)
    subst hM
    have hc0 : c0 = (sm_L P k).length := hc0
    refine lv_iload_n hx hb dX0_countAnswers_43 rfl (lv_at hl 2 rfl) ?_
    exact sx_iret hx hb hr hlocks hK (v', pt', en', tt', tv', tx', oc', o1', o2', o3') (by rw [hc0]) hP hD hS dX0_countAnswers_44
  · skip
    obtain ⟨he, k1, hM, hS1, hc1⟩ : en' = k ∧ ∃ k1, M = v' :: sm_as P k k1 ∧ sm_St P k v' tt' tv' tx' oc' o1' o2' o3' k1 ∧ sm_cs P k k1 < 30800 := by
      rcases hp with q | ⟨-, q⟩
      · exact absurd q.1 c_f
      · exact q
    subst hM
    rw [he] at hP hD
    have hP : va_P (dC, dI) vwCl (xW ad cB cI P n v' pt' k tt' tv' tx' oc' o1' o2' o3') H := hP
    have hD : va_D A (xW ad cB cI P n v' pt' k tt' tv' tx' oc' o1' o2' o3') := hD
    refine lv_iinc (v := nI (c0 + 1)) (lv' := [(2, .int (nI (c0 + 1))), (0, .ref (ad 0)), (1, .int (nI k)), (3, .int f), (4, .int (nI c0))]) hx hb dX0_countAnswers_28 hl (k := 2) rfl (nI_1 _) (by decide) rfl (fun ls hl => ?_)
    refine lv_aload_n hx hb dX0_countAnswers_31 rfl (lv_at hl 1 rfl) ?_
    refine lv_iconst (v := 0) hx hb dX0_countAnswers_32 (by decide) ?_
    refine sx_callI (ci := 0) (As := [.int 0]) (rest := []) ⟨hx, hb, hml, hown, hts⟩ (ct_advance l dC dI ad cB cI P n v' pt' k tt' tv' tx' oc' o1' o2' o3' 0 (sm_as P k k1) k1 hn hen hV hcb (Or.inr ⟨rfl, hS1, rfl, hc1⟩)) (cwV 1 hts (lw_V q116 q118 qs3 q21 q119) rfl rfl rfl (by decide +kernel) ⟨Nat.le_of_ble_eq_true rfl, Nat.le_of_ble_eq_true rfl⟩) hK hP hD hS hA rfl rfl rfl hl.1 rfl (Nat.le_of_ble_eq_true rfl) ⟨Nat.zero_le _, Nat.zero_le _⟩ dX0_countAnswers_33 (fun f1 u1 H locs hw_ hP hD hS => ?_)
    refine lv_istore_n (lv' := [(3, .int f1), (2, .int (nI (c0 + 1))), (0, .ref (ad 0)), (1, .int (nI k)), (4, .int (nI c0))]) hx hb dX0_countAnswers_36 rfl hl (by decide) rfl (fun ls hl => ?_)
    refine lv_iinc (v := nI (c0 + 1)) (lv' := [(4, .int (nI (c0 + 1))), (3, .int f1), (2, .int (nI (c0 + 1))), (0, .ref (ad 0)), (1, .int (nI k))]) hx hb dX0_countAnswers_37 hl (k := 4) rfl (nI_1 _) (by decide) rfl (fun ls hl => ?_)
    refine lv_goto (tgt := 16) hx hb dX0_countAnswers_40 (by decide) ?_
    exact ih (sm_as P k k1, f1, u1, c0 + 1) ⟨hw_, by show c0 + 1 + (sm_as P k k1).length = _; rw [← hc0]; show _ = c0 + ((sm_as P k k1).length + 1); omega⟩ (Nat.lt_succ_self _) H locs hP hD hS ls (lv_sub hl [3, 4, 2, 1, 0] rfl)
set_option maxHeartbeats 4000000 in
set_option maxRecDepth 100000 in
theorem ct_answers (l : Launch) (dC : Nat → ClassId) (dI : Nat → Nat → Nat) (ad : Nat → Nat) (cB cI : ClassId) (P : Pg) (n : Nat) (v : Vs) (pt en tt : Nat) (tv tx : Vs) (oc : Nat) (o1 o2 o3 : Vs)  (hn : n ≤ 14) (hV : sm_va P n) (hcb : sm_cb P n ≤ 3) : MetI l (dC, dI) vwCl (tyX cB cI) yX0_answers (ws_ yX0_answers cX0_answers 1 (some .int)) ({ frames := 6, cells := 0, slots := 0, locals := 139 }) [.ref (ad 0)] (xW ad cB cI P n v pt en tt tv tx oc o1 o2 o3) (xF ad cB cI P n) (fun r _ => r = nI (sm_L P n).length) := by
  refine MetI.of (by decide) (Nat.le_of_ble_eq_true rfl) ?_
  intro p e s m below meth c ls A hx hb hr hml hlocks hts hown hA hP hK hD hS hl
  have hown : s.vm.findClass RX0 = some m.cls := hown
  have hl : lv_has ls 1 [(0, .ref (ad 0))] := hl
  refine lv_aload_n hx hb dX0_answers_0 rfl (lv_at hl 0 rfl) ?_
  refine lv_aload_n hx hb dX0_answers_1 rfl (lv_at hl 0 rfl) ?_
  refine va_get (D := (dC, dI)) (ci := 0) (v := .int (nI n)) (C := RX0) (T := TX0) (N := 15) hx hb hts in_X0 hown hK hP 0 rfl rfl 4 (by decide) (hts _ q35) (fun _ h9 => h9) rfl dX0_answers_2 ?_
  refine sx_callI (ci := 0) (As := [.int (nI n)]) (rest := []) ⟨hx, hb, hml, hown, hts⟩ (ct_countAnswers l dC dI ad cB cI P n v pt en tt tv tx oc o1 o2 o3 n hn hV hcb (Nat.le_refl n)) (cwV 1 hts (lw_V q108 q110 qs1 q21 q111) rfl rfl rfl (by decide +kernel) ⟨Nat.le_of_ble_eq_true rfl, Nat.le_of_ble_eq_true rfl⟩) hK hP hD hS hA rfl rfl rfl hl.1 rfl (Nat.le_of_ble_eq_true rfl) ⟨Nat.zero_le _, Nat.zero_le _⟩ dX0_answers_5 (fun r u H locs hw_ hP hD hS => ?_)
  exact sx_iret hx hb hr hlocks hK u hw_ hP hD hS dX0_answers_8
set_option maxHeartbeats 4000000 in
set_option maxRecDepth 100000 in
theorem ct_ways (l : Launch) (dC : Nat → ClassId) (dI : Nat → Nat → Nat) (ad : Nat → Nat) (cB cI : ClassId) (P : Pg) (n : Nat) (v : Vs) (pt en tt : Nat) (tv tx : Vs) (oc : Nat) (o1 o2 o3 : Vs) (q : Int32) (hn : n ≤ 14) (hV : sm_va P n) (hcb : sm_cb P n ≤ 3) : MetI l (dC, dI) vwCl (tyX cB cI) yX0_ways (ws_ yX0_ways cX0_ways 2 (some .int)) ({ frames := 6, cells := 0, slots := 0, locals := 139 }) [.ref (ad 0), .int q] (xW ad cB cI P n v pt en tt tv tx oc o1 o2 o3) (xF ad cB cI P n) (fun r _ => r = (if q < 0 then -1 else if q ≤ nI n then nI (sm_L P (ix q)).length else -1)) := by
  refine MetI.of (by decide) (Nat.le_of_ble_eq_true rfl) ?_
  intro p e s m below meth c ls A hx hb hr hml hlocks hts hown hA hP hK hD hS hl
  have hown : s.vm.findClass RX0 = some m.cls := hown
  have hl : lv_has ls 2 [(0, .ref (ad 0)), (1, .int q)] := hl
  refine lv_iload_n hx hb dX0_ways_0 rfl (lv_at hl 1 rfl) ?_
  refine lv_if_lt (tgt := 12) hx hb dX0_ways_1 (by decide) (fun c_1 => ?_) (fun c_1 => ?_)
  · skip
    refine lv_iconst (v := (-1)) hx hb dX0_ways_12 (by decide) ?_
    refine lv_goto (tgt := 21) hx hb dX0_ways_13 (by decide) ?_
    exact sx_iret hx hb hr hlocks hK (v, pt, en, tt, tv, tx, oc, o1, o2, o3) (by rw [if_pos c_1]) hP hD hS dX0_ways_21
  · skip
    refine lv_iload_n hx hb dX0_ways_4 rfl (lv_at hl 1 rfl) ?_
    refine lv_aload_n hx hb dX0_ways_5 rfl (lv_at hl 0 rfl) ?_
    refine va_get (D := (dC, dI)) (ci := 0) (v := .int (nI n)) (C := RX0) (T := TX0) (N := 15) hx hb hts in_X0 hown hK hP 0 rfl rfl 4 (by decide) (hts _ q35) (fun _ h9 => h9) rfl dX0_ways_6 ?_
    refine lv_icmp_le (tgt := 16) hx hb dX0_ways_9 (by decide) (fun c_2 => ?_) (fun c_2 => ?_)
    · skip
      obtain ⟨k, hk, rfl⟩ := nI_of c_1
      have hkn : k ≤ n := (nI_leI hk (by omega)).mp c_2
      refine lv_aload_n hx hb dX0_ways_16 rfl (lv_at hl 0 rfl) ?_
      refine lv_iload_n hx hb dX0_ways_17 rfl (lv_at hl 1 rfl) ?_
      refine sx_callI (ci := 0) (As := [.int (nI k)]) (rest := []) ⟨hx, hb, hml, hown, hts⟩ (ct_countAnswers l dC dI ad cB cI P n v pt en tt tv tx oc o1 o2 o3 k hn hV hcb hkn) (cwV 1 hts (lw_V q108 q110 qs1 q21 q111) rfl rfl rfl (by decide +kernel) ⟨Nat.le_of_ble_eq_true rfl, Nat.le_of_ble_eq_true rfl⟩) hK hP hD hS hA rfl rfl rfl hl.1 rfl (Nat.le_of_ble_eq_true rfl) ⟨Nat.zero_le _, Nat.zero_le _⟩ dX0_ways_18 (fun r u H locs hw_ hP hD hS => ?_)
      exact sx_iret hx hb hr hlocks hK u (by rw [if_neg c_1, if_pos c_2, show ix (nI k) = k from nI_clamp hk]; exact hw_) hP hD hS dX0_ways_21
    · skip
      refine lv_iconst (v := (-1)) hx hb dX0_ways_12 (by decide) ?_
      refine lv_goto (tgt := 21) hx hb dX0_ways_13 (by decide) ?_
      exact sx_iret hx hb hr hlocks hK (v, pt, en, tt, tv, tx, oc, o1, o2, o3) (by rw [if_neg c_1, if_neg c_2]) hP hD hS dX0_ways_21
set_option maxHeartbeats 4000000 in
set_option maxRecDepth 100000 in
theorem ct_value (l : Launch) (dC : Nat → ClassId) (dI : Nat → Nat → Nat) (ad : Nat → Nat) (cB cI : ClassId) (P : Pg) (n : Nat) (v : Vs) (pt en tt : Nat) (tv tx : Vs) (oc : Nat) (o1 o2 o3 : Vs) (q w : Int32) (hn : n ≤ 14) (hV : sm_va P n) (hcb : sm_cb P n ≤ 3) : MetI l (dC, dI) vwCl (tyX cB cI) yX0_value (ws_ yX0_value cX0_value 5 (some .int)) ({ frames := 5, cells := 0, slots := 0, locals := 115 }) [.ref (ad 0), .int q, .int w] (xW ad cB cI P n v pt en tt tv tx oc o1 o2 o3) (xF ad cB cI P n) (fun r _ => r = sm_rV (sm_L P n) q w) := by
  refine MetI.of (by decide) (Nat.le_of_ble_eq_true rfl) ?_
  intro p e s m below meth c ls A hx hb hr hml hlocks hts hown hA hP hK hD hS hl
  have hown : s.vm.findClass RX0 = some m.cls := hown
  have hl : lv_has ls 5 [(0, .ref (ad 0)), (1, .int q), (2, .int w)] := hl
  have hen : n ≤ n := Nat.le_refl n
  have hLn := sm_L_len hV hcb
  refine lv_iload_n hx hb dX0_value_0 rfl (lv_at hl 1 rfl) ?_
  refine lv_if_lt (tgt := 11) hx hb dX0_value_1 (by decide) (fun c_1 => ?_) (fun c_1 => ?_)
  · skip
    refine lv_ldc (v := -1000000000) hx hb hown (hts _ q152) dX0_value_11 ?_
    exact sx_iret hx hb hr hlocks hK (v, pt, en, tt, tv, tx, oc, o1, o2, o3) (by rw [sm_rV, if_pos c_1]) hP hD hS dX0_value_13
  · skip
    refine lv_iload_n hx hb dX0_value_4 rfl (lv_at hl 2 rfl) ?_
    refine sx_callS (As := [.int w]) (rest := []) ⟨hx, hb, hml, hown, hts⟩ (ct_isVariable l w) (va_cwS 1 hts (lw_S q83 q84 q21 q85) rfl rfl rfl (by decide +kernel) ⟨Nat.le_of_ble_eq_true rfl, Nat.le_of_ble_eq_true rfl⟩) rfl hl.1 rfl (Nat.le_of_ble_eq_true rfl) ⟨Nat.zero_le _, Nat.zero_le _⟩ dX0_value_5 ?_
    refine lv_if_ne (tgt := 14) hx hb dX0_value_8 (by decide) (fun c_2 => ?_) (fun c_2 => ?_)
    · skip
      have gW := sm_iv_v4 c_2
      obtain ⟨k, hk, rfl⟩ := nI_of c_1
      refine lv_aload_n hx hb dX0_value_14 rfl (lv_at hl 0 rfl) ?_
      refine lv_aload_n hx hb dX0_value_15 rfl (lv_at hl 0 rfl) ?_
      refine va_get (D := (dC, dI)) (ci := 0) (v := .int (nI n)) (C := RX0) (T := TX0) (N := 15) hx hb hts in_X0 hown hK hP 0 rfl rfl 4 (by decide) (hts _ q35) (fun _ h9 => h9) rfl dX0_value_16 ?_
      refine sx_callV (ci := 0) (As := [.int (nI n)]) (rest := []) ⟨hx, hb, hml, hown, hts⟩ (ct_start l dC dI ad cB cI P n v pt en tt tv tx oc o1 o2 o3 n) (cwV 1 hts (lw_V q112 q114 qs2 q21 q115) rfl rfl rfl (by decide +kernel) ⟨Nat.le_of_ble_eq_true rfl, Nat.le_of_ble_eq_true rfl⟩) hK hP hD hS hA rfl rfl rfl hl.1 rfl (Nat.le_of_ble_eq_true rfl) ⟨Nat.zero_le _, Nat.zero_le _⟩ dX0_value_19 (fun u_ H locs hw_ hP hD hS => ?_)
      have hP : va_P (dC, dI) vwCl (xW ad cB cI P n sm_z 0 n 0 tv tx 0 o1 o2 o3) H := hP
      have hD : va_D A (xW ad cB cI P n sm_z 0 n 0 tv tx 0 o1 o2 o3) := hD
      refine lv_aload_n hx hb dX0_value_22 rfl (lv_at hl 0 rfl) ?_
      refine lv_iconst (v := 1) hx hb dX0_value_23 (by decide) ?_
      refine sx_callI (ci := 0) (As := [.int 1]) (rest := []) ⟨hx, hb, hml, hown, hts⟩ (ct_advance l dC dI ad cB cI P n sm_z 0 n 0 tv tx 0 o1 o2 o3 1 (sm_L P n) [] hn hen hV hcb (Or.inl ⟨rfl, sm_Cf_start, sm_an_start P n, sm_ct_start (by omega) (hV.mono hen) (hcb)⟩)) (cwV 1 hts (lw_V q116 q118 qs3 q21 q119) rfl rfl rfl (by decide +kernel) ⟨Nat.le_of_ble_eq_true rfl, Nat.le_of_ble_eq_true rfl⟩) hK hP hD hS hA rfl rfl rfl hl.1 rfl (Nat.le_of_ble_eq_true rfl) ⟨Nat.zero_le _, Nat.zero_le _⟩ dX0_value_24 (fun f0 u0 H locs hw_ hP hD hS => ?_)
      refine lv_istore_n (lv' := [(3, .int f0), (0, .ref (ad 0)), (1, .int (nI k)), (2, .int w)]) hx hb dX0_value_27 rfl hl (by decide) rfl (fun ls hl => ?_)
      refine lv_iconst (v := 0) hx hb dX0_value_28 (by decide) ?_
      refine lv_istore (lv' := [(4, .int 0), (3, .int f0), (0, .ref (ad 0)), (1, .int (nI k)), (2, .int w)]) hx hb dX0_value_29 hl (by decide) rfl (fun ls hl => ?_)
      refine sx_loop (σ := List Vs × Int32 × XS × Nat) (w := fun x => xF ad cB cI P n x.2.2.1) (lv := fun x => [(0, .ref (ad 0)), (1, .int (nI k)), (2, .int w), (3, .int x.2.1), (4, .int (nI x.2.2.2))]) (I := fun x => sm_pA P n x.1 x.2.1 x.2.2.1 ∧ x.2.2.2 ≤ k ∧ x.1 = (sm_L P n).drop x.2.2.2) (μ := fun x => x.1.length) ?_ (sm_L P n, f0, u0, 0) ⟨hw_, Nat.zero_le _, rfl⟩ hP hD hS (lv_sub hl [2, 3, 4, 1, 0] rfl)
      intro x hI ih H locs hP hD hS ls hl
      obtain ⟨M, f, u, c0⟩ := x
      obtain ⟨v', pt', en', tt', tv', tx', oc', o1', o2', o3'⟩ := u
      have hP : va_P (dC, dI) vwCl (xW ad cB cI P n v' pt' en' tt' tv' tx' oc' o1' o2' o3') H := hP
      have hD : va_D A (xW ad cB cI P n v' pt' en' tt' tv' tx' oc' o1' o2' o3') := hD
      obtain ⟨hp, hck, hdr⟩ := hI
      have hp : sm_pA P n M f (v', pt', en', tt', tv', tx', oc', o1', o2', o3') := hp
      have hck : c0 ≤ k := hck
      have hdr : M = (sm_L P n).drop c0 := hdr
      have hl : lv_has ls 5 [(0, .ref (ad 0)), (1, .int (nI k)), (2, .int w), (3, .int f), (4, .int (nI c0))] := hl
      have hres : sm_rV (sm_L P n) (nI k) w = (((sm_L P n)[k]?).map (fun y => y (ix w))).getD (-1000000000) := by rw [sm_rV, if_neg c_1, if_neg c_2, show ix (nI k) = k from nI_clamp hk]
      refine lv_iload hx hb dX0_value_31 (lv_at hl 4 rfl) ?_
      refine lv_iload_n hx hb dX0_value_33 rfl (lv_at hl 1 rfl) ?_
      refine lv_icmp_ge (tgt := 53) hx hb dX0_value_34 (by decide) (fun c_3 => ?_) (fun c_3 => ?_)
      · skip
        have hck2 : c0 = k := Nat.le_antisymm hck ((nI_leI hk (by omega)).mp c_3)
        subst hck2
        refine lv_iload_n hx hb dX0_value_53 rfl (lv_at hl 3 rfl) ?_
        refine lv_if_eq (tgt := 66) hx hb dX0_value_54 (by decide) (fun c_f => ?_) (fun c_f => ?_)
        · skip
          have hM : M = [] := by
            rcases hp with q | q
            · exact q.2.2
            · exact absurd (q.1.symm.trans c_f) (by decide)
          subst hM
          have hnil : (sm_L P n)[c0]? = none := by
            rw [List.getElem?_eq_none_iff]
            exact List.drop_eq_nil_iff.mp hdr.symm
          refine lv_ldc (v := -1000000000) hx hb hown (hts _ q152) dX0_value_66 ?_
          exact sx_iret hx hb hr hlocks hK (v', pt', en', tt', tv', tx', oc', o1', o2', o3') (by rw [hres, hnil]; rfl) hP hD hS dX0_value_68
        · skip
          obtain ⟨he, k1, hM, hS1, hc1⟩ : en' = n ∧ ∃ k1, M = v' :: sm_as P n k1 ∧ sm_St P n v' tt' tv' tx' oc' o1' o2' o3' k1 ∧ sm_cs P n k1 < 30800 := by
            rcases hp with q | ⟨-, q⟩
            · exact absurd q.1 c_f
            · exact q
          subst hM
          rw [he] at hP hD
          have hP : va_P (dC, dI) vwCl (xW ad cB cI P n v' pt' n tt' tv' tx' oc' o1' o2' o3') H := hP
          have hD : va_D A (xW ad cB cI P n v' pt' n tt' tv' tx' oc' o1' o2' o3') := hD
          have hat : (sm_L P n)[c0]? = some v' := by
            rw [← List.head?_drop, ← hdr]
            rfl
          refine lv_aload_n hx hb dX0_value_57 rfl (lv_at hl 0 rfl) ?_
          refine va_get (D := (dC, dI)) (ci := 0) (v := .ref (ad 5)) (C := RX0) (T := TX0) (N := 15) hx hb hts in_X0 hown hK hP 0 rfl rfl 5 (by decide) (hts _ q36) (fun _ h9 => h9) rfl dX0_value_58 ?_
          refine lv_iload_n hx hb dX0_value_61 rfl (lv_at hl 2 rfl) ?_
          refine sx_iald (j := ix w) hx hb hK hP 5 1 rfl rfl (gW.1) (gW.2) (by decide) dX0_value_62 ?_
          refine lv_goto (tgt := 68) hx hb dX0_value_63 (by decide) ?_
          exact sx_iret hx hb hr hlocks hK (v', pt', n, tt', tv', tx', oc', o1', o2', o3') (by rw [hres, hat]; rfl) hP hD hS dX0_value_68
      · skip
        have hck2 : c0 < k := Nat.lt_of_not_le (fun q => c_3 ((nI_leI hk (by omega)).mpr q))
        refine lv_iload_n hx hb dX0_value_37 rfl (lv_at hl 3 rfl) ?_
        refine lv_if_eq (tgt := 53) hx hb dX0_value_38 (by decide) (fun c_f => ?_) (fun c_f => ?_)
        · skip
          have hM : M = [] := by
            rcases hp with q | q
            · exact q.2.2
            · exact absurd (q.1.symm.trans c_f) (by decide)
          subst hM
          have hnil : (sm_L P n)[k]? = none := by
            rw [List.getElem?_eq_none_iff]
            have := List.drop_eq_nil_iff.mp hdr.symm
            omega
          refine lv_iload_n hx hb dX0_value_53 rfl (lv_at hl 3 rfl) ?_
          refine lv_if_eq (tgt := 66) hx hb dX0_value_54 (by decide) (fun c_4 => ?_) (fun c_4 => ?_)
          rotate_left
          · skip
            exact absurd c_f c_4
          refine lv_ldc (v := -1000000000) hx hb hown (hts _ q152) dX0_value_66 ?_
          exact sx_iret hx hb hr hlocks hK (v', pt', en', tt', tv', tx', oc', o1', o2', o3') (by rw [hres, hnil]; rfl) hP hD hS dX0_value_68
        · skip
          obtain ⟨he, k1, hM, hS1, hc1⟩ : en' = n ∧ ∃ k1, M = v' :: sm_as P n k1 ∧ sm_St P n v' tt' tv' tx' oc' o1' o2' o3' k1 ∧ sm_cs P n k1 < 30800 := by
            rcases hp with q | ⟨-, q⟩
            · exact absurd q.1 c_f
            · exact q
          subst hM
          rw [he] at hP hD
          have hP : va_P (dC, dI) vwCl (xW ad cB cI P n v' pt' n tt' tv' tx' oc' o1' o2' o3') H := hP
          have hD : va_D A (xW ad cB cI P n v' pt' n tt' tv' tx' oc' o1' o2' o3') := hD
          refine lv_aload_n hx hb dX0_value_41 rfl (lv_at hl 0 rfl) ?_
          refine lv_iconst (v := 0) hx hb dX0_value_42 (by decide) ?_
          refine sx_callI (ci := 0) (As := [.int 0]) (rest := []) ⟨hx, hb, hml, hown, hts⟩ (ct_advance l dC dI ad cB cI P n v' pt' n tt' tv' tx' oc' o1' o2' o3' 0 (sm_as P n k1) k1 hn hen hV hcb (Or.inr ⟨rfl, hS1, rfl, hc1⟩)) (cwV 1 hts (lw_V q116 q118 qs3 q21 q119) rfl rfl rfl (by decide +kernel) ⟨Nat.le_of_ble_eq_true rfl, Nat.le_of_ble_eq_true rfl⟩) hK hP hD hS hA rfl rfl rfl hl.1 rfl (Nat.le_of_ble_eq_true rfl) ⟨Nat.zero_le _, Nat.zero_le _⟩ dX0_value_43 (fun f1 u1 H locs hw_ hP hD hS => ?_)
          refine lv_istore_n (lv' := [(3, .int f1), (0, .ref (ad 0)), (1, .int (nI k)), (2, .int w), (4, .int (nI c0))]) hx hb dX0_value_46 rfl hl (by decide) rfl (fun ls hl => ?_)
          refine lv_iinc (v := nI (c0 + 1)) (lv' := [(4, .int (nI (c0 + 1))), (3, .int f1), (0, .ref (ad 0)), (1, .int (nI k)), (2, .int w)]) hx hb dX0_value_47 hl (k := 4) rfl (nI_1 _) (by decide) rfl (fun ls hl => ?_)
          refine lv_goto (tgt := 31) hx hb dX0_value_50 (by decide) ?_
          exact ih (sm_as P n k1, f1, u1, c0 + 1) ⟨hw_, hck2, by show sm_as P n k1 = (sm_L P n).drop (c0 + 1); rw [← List.tail_drop, ← hdr]; rfl⟩ (Nat.lt_succ_self _) H locs hP hD hS ls (lv_sub hl [2, 3, 4, 1, 0] rfl)
    · skip
      have h0 : sm_iv w = 0 := c_2
      refine lv_ldc (v := -1000000000) hx hb hown (hts _ q152) dX0_value_11 ?_
      exact sx_iret hx hb hr hlocks hK (v, pt, en, tt, tv, tx, oc, o1, o2, o3) (by rw [sm_rV, if_neg c_1, if_pos h0]) hP hD hS dX0_value_13
set_option maxHeartbeats 4000000 in
set_option maxRecDepth 100000 in
theorem ct_countWith (l : Launch) (dC : Nat → ClassId) (dI : Nat → Nat → Nat) (ad : Nat → Nat) (cB cI : ClassId) (P : Pg) (n : Nat) (v : Vs) (pt en tt : Nat) (tv tx : Vs) (oc : Nat) (o1 o2 o3 : Vs) (w q : Int32) (hn : n ≤ 14) (hV : sm_va P n) (hcb : sm_cb P n ≤ 3) : MetI l (dC, dI) vwCl (tyX cB cI) yX0_countWith (ws_ yX0_countWith cX0_countWith 6 (some .int)) ({ frames := 5, cells := 0, slots := 0, locals := 115 }) [.ref (ad 0), .int w, .int q] (xW ad cB cI P n v pt en tt tv tx oc o1 o2 o3) (xF ad cB cI P n) (fun r _ => r = sm_rC (sm_L P n) w q) := by
  refine MetI.of (by decide) (Nat.le_of_ble_eq_true rfl) ?_
  intro p e s m below meth c ls A hx hb hr hml hlocks hts hown hA hP hK hD hS hl
  have hown : s.vm.findClass RX0 = some m.cls := hown
  have hl : lv_has ls 6 [(0, .ref (ad 0)), (1, .int w), (2, .int q)] := hl
  have hen : n ≤ n := Nat.le_refl n
  have hLn := sm_L_len hV hcb
  refine lv_iload_n hx hb dX0_countWith_0 rfl (lv_at hl 1 rfl) ?_
  refine sx_callS (As := [.int w]) (rest := []) ⟨hx, hb, hml, hown, hts⟩ (ct_isVariable l w) (va_cwS 1 hts (lw_S q83 q84 q21 q85) rfl rfl rfl (by decide +kernel) ⟨Nat.le_of_ble_eq_true rfl, Nat.le_of_ble_eq_true rfl⟩) rfl hl.1 rfl (Nat.le_of_ble_eq_true rfl) ⟨Nat.zero_le _, Nat.zero_le _⟩ dX0_countWith_1 ?_
  refine lv_if_ne (tgt := 9) hx hb dX0_countWith_4 (by decide) (fun c_2 => ?_) (fun c_2 => ?_)
  · skip
    have gW := sm_iv_v4 c_2
    have gW2 := gW.2
    refine lv_aload_n hx hb dX0_countWith_9 rfl (lv_at hl 0 rfl) ?_
    refine lv_aload_n hx hb dX0_countWith_10 rfl (lv_at hl 0 rfl) ?_
    refine va_get (D := (dC, dI)) (ci := 0) (v := .int (nI n)) (C := RX0) (T := TX0) (N := 15) hx hb hts in_X0 hown hK hP 0 rfl rfl 4 (by decide) (hts _ q35) (fun _ h9 => h9) rfl dX0_countWith_11 ?_
    refine sx_callV (ci := 0) (As := [.int (nI n)]) (rest := []) ⟨hx, hb, hml, hown, hts⟩ (ct_start l dC dI ad cB cI P n v pt en tt tv tx oc o1 o2 o3 n) (cwV 1 hts (lw_V q112 q114 qs2 q21 q115) rfl rfl rfl (by decide +kernel) ⟨Nat.le_of_ble_eq_true rfl, Nat.le_of_ble_eq_true rfl⟩) hK hP hD hS hA rfl rfl rfl hl.1 rfl (Nat.le_of_ble_eq_true rfl) ⟨Nat.zero_le _, Nat.zero_le _⟩ dX0_countWith_14 (fun u_ H locs hw_ hP hD hS => ?_)
    have hP : va_P (dC, dI) vwCl (xW ad cB cI P n sm_z 0 n 0 tv tx 0 o1 o2 o3) H := hP
    have hD : va_D A (xW ad cB cI P n sm_z 0 n 0 tv tx 0 o1 o2 o3) := hD
    refine lv_iconst (v := 0) hx hb dX0_countWith_17 (by decide) ?_
    refine lv_istore_n (lv' := [(3, .int 0), (0, .ref (ad 0)), (1, .int w), (2, .int q)]) hx hb dX0_countWith_18 rfl hl (by decide) rfl (fun ls hl => ?_)
    refine lv_aload_n hx hb dX0_countWith_19 rfl (lv_at hl 1 rfl) ?_
    refine lv_iconst (v := 1) hx hb dX0_countWith_20 (by decide) ?_
    refine sx_callI (ci := 0) (As := [.int 1]) (rest := []) ⟨hx, hb, hml, hown, hts⟩ (ct_advance l dC dI ad cB cI P n sm_z 0 n 0 tv tx 0 o1 o2 o3 1 (sm_L P n) [] hn hen hV hcb (Or.inl ⟨rfl, sm_Cf_start, sm_an_start P n, sm_ct_start (by omega) (hV.mono hen) (hcb)⟩)) (cwV 1 hts (lw_V q116 q118 qs3 q21 q119) rfl rfl rfl (by decide +kernel) ⟨Nat.le_of_ble_eq_true rfl, Nat.le_of_ble_eq_true rfl⟩) hK hP hD hS hA rfl rfl rfl hl.1 rfl (Nat.le_of_ble_eq_true rfl) ⟨Nat.zero_le _, Nat.zero_le _⟩ dX0_countWith_21 (fun f0 u0 H locs hw_ hP hD hS => ?_)
    refine lv_istore (lv' := [(4, .int f0), (3, .int 0), (0, .ref (ad 0)), (1, .int w), (2, .int q)]) hx hb dX0_countWith_24 hl (by decide) rfl (fun ls hl => ?_)
    refine lv_iconst (v := 0) hx hb dX0_countWith_26 (by decide) ?_
    refine lv_istore (lv' := [(5, .int 0), (4, .int f0), (3, .int 0), (0, .ref (ad 0)), (1, .int w), (2, .int q)]) hx hb dX0_countWith_27 hl (by decide) rfl (fun ls hl => ?_)
    refine sx_loop (σ := List Vs × Int32 × XS × Nat × Nat) (w := fun x => xF ad cB cI P n x.2.2.1) (lv := fun x => [(0, .ref (ad 0)), (1, .int w), (2, .int q), (3, .int (nI x.2.2.2.2)), (4, .int x.2.1), (5, .int (nI x.2.2.2.1))]) (I := fun x => sm_pA P n x.1 x.2.1 x.2.2.1 ∧ x.2.2.2.1 + x.1.length = (sm_L P n).length ∧ x.2.2.2.2 + sm_ctw (ix w) q x.1 = sm_ctw (ix w) q (sm_L P n)) (μ := fun x => x.1.length) ?_ (sm_L P n, f0, u0, 0, 0) ⟨hw_, Nat.zero_add _, Nat.zero_add _⟩ hP hD hS (lv_sub hl [3, 4, 5, 2, 1, 0] rfl)
    intro x hI ih H locs hP hD hS ls hl
    obtain ⟨M, f, u, c0, d0⟩ := x
    obtain ⟨v', pt', en', tt', tv', tx', oc', o1', o2', o3'⟩ := u
    have hP : va_P (dC, dI) vwCl (xW ad cB cI P n v' pt' en' tt' tv' tx' oc' o1' o2' o3') H := hP
    have hD : va_D A (xW ad cB cI P n v' pt' en' tt' tv' tx' oc' o1' o2' o3') := hD
    obtain ⟨hp, hc0, hd0⟩ := hI
    have hp : sm_pA P n M f (v', pt', en', tt', tv', tx', oc', o1', o2', o3') := hp
    have hc0 : c0 + M.length = (sm_L P n).length := hc0
    have hd0 : d0 + sm_ctw (ix w) q M = sm_ctw (ix w) q (sm_L P n) := hd0
    have hl : lv_has ls 6 [(0, .ref (ad 0)), (1, .int w), (2, .int q), (3, .int (nI d0)), (4, .int f), (5, .int (nI c0))] := hl
    refine lv_iload hx hb dX0_countWith_29 (lv_at hl 5 rfl) ?_
    refine lv_sipush (v := 2200) hx hb dX0_countWith_31 (by decide) ?_
    refine lv_icmp_ge (tgt := 73) hx hb dX0_countWith_34 (by decide) (fun c_1 => ?_) (fun c_1 => ?_)
    · skip
      exact absurd ((nI_leI (a := 2200) (by decide) (by omega)).mp c_1) (by omega)
    refine lv_iload hx hb dX0_countWith_37 (lv_at hl 4 rfl) ?_
    refine lv_if_eq (tgt := 73) hx hb dX0_countWith_39 (by decide) (fun c_f => ?_) (fun c_f => ?_)
    · skip
      have hM : M = [] := by
        rcases hp with q | q
        · exact q.2.2
        · exact absurd (q.1.symm.trans c_f) (by decide)
      subst hM
      have hd0 : d0 = sm_ctw (ix w) q (sm_L P n) := hd0
      refine lv_iload_n hx hb dX0_countWith_73 rfl (lv_at hl 3 rfl) ?_
      exact sx_iret hx hb hr hlocks hK (v', pt', en', tt', tv', tx', oc', o1', o2', o3') (by rw [sm_rC, if_neg c_2, hd0]) hP hD hS dX0_countWith_74
    · skip
      obtain ⟨he, k1, hM, hS1, hc1⟩ : en' = n ∧ ∃ k1, M = v' :: sm_as P n k1 ∧ sm_St P n v' tt' tv' tx' oc' o1' o2' o3' k1 ∧ sm_cs P n k1 < 30800 := by
        rcases hp with q | ⟨-, q⟩
        · exact absurd q.1 c_f
        · exact q
      subst hM
      rw [he] at hP hD
      have hP : va_P (dC, dI) vwCl (xW ad cB cI P n v' pt' n tt' tv' tx' oc' o1' o2' o3') H := hP
      have hD : va_D A (xW ad cB cI P n v' pt' n tt' tv' tx' oc' o1' o2' o3') := hD
      refine lv_iload_n hx hb dX0_countWith_42 rfl (lv_at hl 3 rfl) ?_
      refine lv_aload_n hx hb dX0_countWith_43 rfl (lv_at hl 0 rfl) ?_
      refine va_get (D := (dC, dI)) (ci := 0) (v := .ref (ad 5)) (C := RX0) (T := TX0) (N := 15) hx hb hts in_X0 hown hK hP 0 rfl rfl 5 (by decide) (hts _ q36) (fun _ h9 => h9) rfl dX0_countWith_44 ?_
      refine lv_iload_n hx hb dX0_countWith_47 rfl (lv_at hl 1 rfl) ?_
      refine sx_iald (j := ix w) hx hb hK hP 5 1 rfl rfl (gW.1) (gW.2) (by decide) dX0_countWith_48 ?_
      refine lv_iload_n hx hb dX0_countWith_49 rfl (lv_at hl 2 rfl) ?_
      refine sx_join (pc2 := 58) (ls2 := ls) (rest2 := [.int (nI d0)]) (fun y => y = nI (if v' (ix w) = q then 1 else 0)) (fun y ey => ?_) (fun jn => ?_)
      · skip
        refine lv_iadd hx hb dX0_countWith_58 ?_
        refine sx_topE (y := nI (d0 + (if v' (ix w) = q then 1 else 0))) (by rw [ey, nI_add]) ?_
        refine lv_istore_n (lv' := [(3, .int (nI (d0 + (if v' (ix w) = q then 1 else 0)))), (0, .ref (ad 0)), (1, .int w), (2, .int q), (4, .int f), (5, .int (nI c0))]) hx hb dX0_countWith_59 rfl hl (by decide) rfl (fun ls hl => ?_)
        refine lv_aload_n hx hb dX0_countWith_60 rfl (lv_at hl 1 rfl) ?_
        refine lv_iconst (v := 0) hx hb dX0_countWith_61 (by decide) ?_
        refine sx_callI (ci := 0) (As := [.int 0]) (rest := []) ⟨hx, hb, hml, hown, hts⟩ (ct_advance l dC dI ad cB cI P n v' pt' n tt' tv' tx' oc' o1' o2' o3' 0 (sm_as P n k1) k1 hn hen hV hcb (Or.inr ⟨rfl, hS1, rfl, hc1⟩)) (cwV 1 hts (lw_V q116 q118 qs3 q21 q119) rfl rfl rfl (by decide +kernel) ⟨Nat.le_of_ble_eq_true rfl, Nat.le_of_ble_eq_true rfl⟩) hK hP hD hS hA rfl rfl rfl hl.1 rfl (Nat.le_of_ble_eq_true rfl) ⟨Nat.zero_le _, Nat.zero_le _⟩ dX0_countWith_62 (fun f1 u1 H locs hw_ hP hD hS => ?_)
        refine lv_istore (lv' := [(4, .int f1), (3, .int (nI (d0 + (if v' (ix w) = q then 1 else 0)))), (0, .ref (ad 0)), (1, .int w), (2, .int q), (5, .int (nI c0))]) hx hb dX0_countWith_65 hl (by decide) rfl (fun ls hl => ?_)
        refine lv_iinc (v := nI (c0 + 1)) (lv' := [(5, .int (nI (c0 + 1))), (4, .int f1), (3, .int (nI (d0 + (if v' (ix w) = q then 1 else 0)))), (0, .ref (ad 0)), (1, .int w), (2, .int q)]) hx hb dX0_countWith_67 hl (k := 5) rfl (nI_1 _) (by decide) rfl (fun ls hl => ?_)
        refine lv_goto (tgt := 29) hx hb dX0_countWith_70 (by decide) ?_
        exact ih (sm_as P n k1, f1, u1, c0 + 1, d0 + (if v' (ix w) = q then 1 else 0)) ⟨hw_, by show c0 + 1 + (sm_as P n k1).length = _; rw [← hc0]; show _ = c0 + ((sm_as P n k1).length + 1); omega, by show d0 + (if v' (ix w) = q then 1 else 0) + sm_ctw (ix w) q (sm_as P n k1) = _; rw [← hd0, sm_ctw]; omega⟩ (Nat.lt_succ_self _) H locs hP hD hS ls (lv_sub hl [3, 4, 5, 2, 1, 0] rfl)
      · skip
        refine lv_icmp_ne (tgt := 57) hx hb dX0_countWith_50 (by decide) (fun c_3 => ?_) (fun c_3 => ?_)
        · skip
          refine lv_iconst (v := 0) hx hb dX0_countWith_57 (by decide) ?_
          exact jn 0 (by rw [if_neg c_3]; rfl)
        · skip
          refine lv_iconst (v := 1) hx hb dX0_countWith_53 (by decide) ?_
          refine lv_goto (tgt := 58) hx hb dX0_countWith_54 (by decide) ?_
          exact jn 1 (by rw [if_pos c_3]; rfl)
  · skip
    refine lv_iconst (v := 0) hx hb dX0_countWith_7 (by decide) ?_
    exact sx_iret hx hb hr hlocks hK (v, pt, en, tt, tv, tx, oc, o1, o2, o3) (by rw [sm_rC, if_pos c_2]) hP hD hS dX0_countWith_8
set_option maxHeartbeats 4000000 in
set_option maxRecDepth 100000 in
theorem ct_firstWith (l : Launch) (dC : Nat → ClassId) (dI : Nat → Nat → Nat) (ad : Nat → Nat) (cB cI : ClassId) (P : Pg) (n : Nat) (v : Vs) (pt en tt : Nat) (tv tx : Vs) (oc : Nat) (o1 o2 o3 : Vs) (w q : Int32) (hn : n ≤ 14) (hV : sm_va P n) (hcb : sm_cb P n ≤ 3) : MetI l (dC, dI) vwCl (tyX cB cI) yX0_firstWith (ws_ yX0_firstWith cX0_firstWith 5 (some .int)) ({ frames := 5, cells := 0, slots := 0, locals := 115 }) [.ref (ad 0), .int w, .int q] (xW ad cB cI P n v pt en tt tv tx oc o1 o2 o3) (xF ad cB cI P n) (fun r _ => r = sm_rF (sm_L P n) w q) := by
  refine MetI.of (by decide) (Nat.le_of_ble_eq_true rfl) ?_
  intro p e s m below meth c ls A hx hb hr hml hlocks hts hown hA hP hK hD hS hl
  have hown : s.vm.findClass RX0 = some m.cls := hown
  have hl : lv_has ls 5 [(0, .ref (ad 0)), (1, .int w), (2, .int q)] := hl
  have hen : n ≤ n := Nat.le_refl n
  have hLn := sm_L_len hV hcb
  refine lv_iload_n hx hb dX0_firstWith_0 rfl (lv_at hl 1 rfl) ?_
  refine sx_callS (As := [.int w]) (rest := []) ⟨hx, hb, hml, hown, hts⟩ (ct_isVariable l w) (va_cwS 1 hts (lw_S q83 q84 q21 q85) rfl rfl rfl (by decide +kernel) ⟨Nat.le_of_ble_eq_true rfl, Nat.le_of_ble_eq_true rfl⟩) rfl hl.1 rfl (Nat.le_of_ble_eq_true rfl) ⟨Nat.zero_le _, Nat.zero_le _⟩ dX0_firstWith_1 ?_
  refine lv_if_ne (tgt := 9) hx hb dX0_firstWith_4 (by decide) (fun c_2 => ?_) (fun c_2 => ?_)
  · skip
    have gW := sm_iv_v4 c_2
    have gW2 := gW.2
    refine lv_aload_n hx hb dX0_firstWith_9 rfl (lv_at hl 0 rfl) ?_
    refine lv_aload_n hx hb dX0_firstWith_10 rfl (lv_at hl 0 rfl) ?_
    refine va_get (D := (dC, dI)) (ci := 0) (v := .int (nI n)) (C := RX0) (T := TX0) (N := 15) hx hb hts in_X0 hown hK hP 0 rfl rfl 4 (by decide) (hts _ q35) (fun _ h9 => h9) rfl dX0_firstWith_11 ?_
    refine sx_callV (ci := 0) (As := [.int (nI n)]) (rest := []) ⟨hx, hb, hml, hown, hts⟩ (ct_start l dC dI ad cB cI P n v pt en tt tv tx oc o1 o2 o3 n) (cwV 1 hts (lw_V q112 q114 qs2 q21 q115) rfl rfl rfl (by decide +kernel) ⟨Nat.le_of_ble_eq_true rfl, Nat.le_of_ble_eq_true rfl⟩) hK hP hD hS hA rfl rfl rfl hl.1 rfl (Nat.le_of_ble_eq_true rfl) ⟨Nat.zero_le _, Nat.zero_le _⟩ dX0_firstWith_14 (fun u_ H locs hw_ hP hD hS => ?_)
    have hP : va_P (dC, dI) vwCl (xW ad cB cI P n sm_z 0 n 0 tv tx 0 o1 o2 o3) H := hP
    have hD : va_D A (xW ad cB cI P n sm_z 0 n 0 tv tx 0 o1 o2 o3) := hD
    refine lv_aload_n hx hb dX0_firstWith_17 rfl (lv_at hl 0 rfl) ?_
    refine lv_iconst (v := 1) hx hb dX0_firstWith_18 (by decide) ?_
    refine sx_callI (ci := 0) (As := [.int 1]) (rest := []) ⟨hx, hb, hml, hown, hts⟩ (ct_advance l dC dI ad cB cI P n sm_z 0 n 0 tv tx 0 o1 o2 o3 1 (sm_L P n) [] hn hen hV hcb (Or.inl ⟨rfl, sm_Cf_start, sm_an_start P n, sm_ct_start (by omega) (hV.mono hen) (hcb)⟩)) (cwV 1 hts (lw_V q116 q118 qs3 q21 q119) rfl rfl rfl (by decide +kernel) ⟨Nat.le_of_ble_eq_true rfl, Nat.le_of_ble_eq_true rfl⟩) hK hP hD hS hA rfl rfl rfl hl.1 rfl (Nat.le_of_ble_eq_true rfl) ⟨Nat.zero_le _, Nat.zero_le _⟩ dX0_firstWith_19 (fun f0 u0 H locs hw_ hP hD hS => ?_)
    refine lv_istore_n (lv' := [(3, .int f0), (0, .ref (ad 0)), (1, .int w), (2, .int q)]) hx hb dX0_firstWith_22 rfl hl (by decide) rfl (fun ls hl => ?_)
    refine lv_iconst (v := 0) hx hb dX0_firstWith_23 (by decide) ?_
    refine lv_istore (lv' := [(4, .int 0), (3, .int f0), (0, .ref (ad 0)), (1, .int w), (2, .int q)]) hx hb dX0_firstWith_24 hl (by decide) rfl (fun ls hl => ?_)
    refine sx_loop (σ := List Vs × Int32 × XS × Nat) (w := fun x => xF ad cB cI P n x.2.2.1) (lv := fun x => [(0, .ref (ad 0)), (1, .int w), (2, .int q), (3, .int x.2.1), (4, .int (nI x.2.2.2))]) (I := fun x => sm_pA P n x.1 x.2.1 x.2.2.1 ∧ x.2.2.2 + x.1.length = (sm_L P n).length ∧ sm_fw (ix w) q x.1 x.2.2.2 = sm_fw (ix w) q (sm_L P n) 0) (μ := fun x => x.1.length) ?_ (sm_L P n, f0, u0, 0) ⟨hw_, Nat.zero_add _, rfl⟩ hP hD hS (lv_sub hl [2, 3, 4, 1, 0] rfl)
    intro x hI ih H locs hP hD hS ls hl
    obtain ⟨M, f, u, c0⟩ := x
    obtain ⟨v', pt', en', tt', tv', tx', oc', o1', o2', o3'⟩ := u
    have hP : va_P (dC, dI) vwCl (xW ad cB cI P n v' pt' en' tt' tv' tx' oc' o1' o2' o3') H := hP
    have hD : va_D A (xW ad cB cI P n v' pt' en' tt' tv' tx' oc' o1' o2' o3') := hD
    obtain ⟨hp, hc0, hd0⟩ := hI
    have hp : sm_pA P n M f (v', pt', en', tt', tv', tx', oc', o1', o2', o3') := hp
    have hc0 : c0 + M.length = (sm_L P n).length := hc0
    have hd0 : sm_fw (ix w) q M c0 = sm_fw (ix w) q (sm_L P n) 0 := hd0
    have hl : lv_has ls 5 [(0, .ref (ad 0)), (1, .int w), (2, .int q), (3, .int f), (4, .int (nI c0))] := hl
    refine lv_iload hx hb dX0_firstWith_26 (lv_at hl 4 rfl) ?_
    refine lv_sipush (v := 2200) hx hb dX0_firstWith_28 (by decide) ?_
    refine lv_icmp_ge (tgt := 63) hx hb dX0_firstWith_31 (by decide) (fun c_1 => ?_) (fun c_1 => ?_)
    · skip
      exact absurd ((nI_leI (a := 2200) (by decide) (by omega)).mp c_1) (by omega)
    refine lv_iload_n hx hb dX0_firstWith_34 rfl (lv_at hl 3 rfl) ?_
    refine lv_if_eq (tgt := 63) hx hb dX0_firstWith_35 (by decide) (fun c_f => ?_) (fun c_f => ?_)
    · skip
      have hM : M = [] := by
        rcases hp with q | q
        · exact q.2.2
        · exact absurd (q.1.symm.trans c_f) (by decide)
      subst hM
      refine lv_iconst (v := (-1)) hx hb dX0_firstWith_63 (by decide) ?_
      exact sx_iret hx hb hr hlocks hK (v', pt', en', tt', tv', tx', oc', o1', o2', o3') (by rw [sm_rF, if_neg c_2, ← hd0]; rfl) hP hD hS dX0_firstWith_64
    · skip
      obtain ⟨he, k1, hM, hS1, hc1⟩ : en' = n ∧ ∃ k1, M = v' :: sm_as P n k1 ∧ sm_St P n v' tt' tv' tx' oc' o1' o2' o3' k1 ∧ sm_cs P n k1 < 30800 := by
        rcases hp with q | ⟨-, q⟩
        · exact absurd q.1 c_f
        · exact q
      subst hM
      rw [he] at hP hD
      have hP : va_P (dC, dI) vwCl (xW ad cB cI P n v' pt' n tt' tv' tx' oc' o1' o2' o3') H := hP
      have hD : va_D A (xW ad cB cI P n v' pt' n tt' tv' tx' oc' o1' o2' o3') := hD
      refine lv_aload_n hx hb dX0_firstWith_38 rfl (lv_at hl 0 rfl) ?_
      refine va_get (D := (dC, dI)) (ci := 0) (v := .ref (ad 5)) (C := RX0) (T := TX0) (N := 15) hx hb hts in_X0 hown hK hP 0 rfl rfl 5 (by decide) (hts _ q36) (fun _ h9 => h9) rfl dX0_firstWith_39 ?_
      refine lv_iload_n hx hb dX0_firstWith_42 rfl (lv_at hl 1 rfl) ?_
      refine sx_iald (j := ix w) hx hb hK hP 5 1 rfl rfl (gW.1) (gW.2) (by decide) dX0_firstWith_43 ?_
      refine lv_iload_n hx hb dX0_firstWith_44 rfl (lv_at hl 2 rfl) ?_
      refine lv_icmp_ne (tgt := 51) hx hb dX0_firstWith_45 (by decide) (fun c_3 => ?_) (fun c_3 => ?_)
      · skip
        refine lv_aload_n hx hb dX0_firstWith_51 rfl (lv_at hl 0 rfl) ?_
        refine lv_iconst (v := 0) hx hb dX0_firstWith_52 (by decide) ?_
        refine sx_callI (ci := 0) (As := [.int 0]) (rest := []) ⟨hx, hb, hml, hown, hts⟩ (ct_advance l dC dI ad cB cI P n v' pt' n tt' tv' tx' oc' o1' o2' o3' 0 (sm_as P n k1) k1 hn hen hV hcb (Or.inr ⟨rfl, hS1, rfl, hc1⟩)) (cwV 1 hts (lw_V q116 q118 qs3 q21 q119) rfl rfl rfl (by decide +kernel) ⟨Nat.le_of_ble_eq_true rfl, Nat.le_of_ble_eq_true rfl⟩) hK hP hD hS hA rfl rfl rfl hl.1 rfl (Nat.le_of_ble_eq_true rfl) ⟨Nat.zero_le _, Nat.zero_le _⟩ dX0_firstWith_53 (fun f1 u1 H locs hw_ hP hD hS => ?_)
        refine lv_istore_n (lv' := [(3, .int f1), (0, .ref (ad 0)), (1, .int w), (2, .int q), (4, .int (nI c0))]) hx hb dX0_firstWith_56 rfl hl (by decide) rfl (fun ls hl => ?_)
        refine lv_iinc (v := nI (c0 + 1)) (lv' := [(4, .int (nI (c0 + 1))), (3, .int f1), (0, .ref (ad 0)), (1, .int w), (2, .int q)]) hx hb dX0_firstWith_57 hl (k := 4) rfl (nI_1 _) (by decide) rfl (fun ls hl => ?_)
        refine lv_goto (tgt := 26) hx hb dX0_firstWith_60 (by decide) ?_
        exact ih (sm_as P n k1, f1, u1, c0 + 1) ⟨hw_, by show c0 + 1 + (sm_as P n k1).length = _; rw [← hc0]; show _ = c0 + ((sm_as P n k1).length + 1); omega, by show sm_fw (ix w) q (sm_as P n k1) (c0 + 1) = _; rw [← hd0, sm_fw, if_neg c_3]⟩ (Nat.lt_succ_self _) H locs hP hD hS ls (lv_sub hl [2, 3, 4, 1, 0] rfl)
      · skip
        refine lv_iload hx hb dX0_firstWith_48 (lv_at hl 4 rfl) ?_
        exact sx_iret hx hb hr hlocks hK (v', pt', n, tt', tv', tx', oc', o1', o2', o3') (by rw [sm_rF, if_neg c_2, ← hd0, sm_fw, if_pos c_3]) hP hD hS dX0_firstWith_50
  · skip
    refine lv_iconst (v := (-1)) hx hb dX0_firstWith_7 (by decide) ?_
    exact sx_iret hx hb hr hlocks hK (v, pt, en, tt, tv, tx, oc, o1, o2, o3) (by rw [sm_rF, if_pos c_2]) hP hD hS dX0_firstWith_8
set_option maxHeartbeats 4000000 in
set_option maxRecDepth 100000 in
theorem ct_extreme (l : Launch) (dC : Nat → ClassId) (dI : Nat → Nat → Nat) (ad : Nat → Nat) (cB cI : ClassId) (P : Pg) (n : Nat) (v : Vs) (pt en tt : Nat) (tv tx : Vs) (oc : Nat) (o1 o2 o3 : Vs) (w q : Int32) (hn : n ≤ 14) (hV : sm_va P n) (hcb : sm_cb P n ≤ 3) : MetI l (dC, dI) vwCl (tyX cB cI) yX0_extreme (ws_ yX0_extreme cX0_extreme 8 (some .int)) ({ frames := 5, cells := 0, slots := 0, locals := 115 }) [.ref (ad 0), .int w, .int q] (xW ad cB cI P n v pt en tt tv tx oc o1 o2 o3) (xF ad cB cI P n) (fun r _ => r = sm_rE (sm_L P n) w q) := by
  refine MetI.of (by decide) (Nat.le_of_ble_eq_true rfl) ?_
  intro p e s m below meth c ls A hx hb hr hml hlocks hts hown hA hP hK hD hS hl
  have hown : s.vm.findClass RX0 = some m.cls := hown
  have hl : lv_has ls 8 [(0, .ref (ad 0)), (1, .int w), (2, .int q)] := hl
  have hen : n ≤ n := Nat.le_refl n
  have hLn := sm_L_len hV hcb
  refine lv_iload_n hx hb dX0_extreme_0 rfl (lv_at hl 1 rfl) ?_
  refine sx_callS (As := [.int w]) (rest := []) ⟨hx, hb, hml, hown, hts⟩ (ct_isVariable l w) (va_cwS 1 hts (lw_S q83 q84 q21 q85) rfl rfl rfl (by decide +kernel) ⟨Nat.le_of_ble_eq_true rfl, Nat.le_of_ble_eq_true rfl⟩) rfl hl.1 rfl (Nat.le_of_ble_eq_true rfl) ⟨Nat.zero_le _, Nat.zero_le _⟩ dX0_extreme_1 ?_
  refine lv_if_eq (tgt := 16) hx hb dX0_extreme_4 (by decide) (fun c_2 => ?_) (fun c_2 => ?_)
  · skip
    refine lv_ldc (v := -1000000000) hx hb hown (hts _ q152) dX0_extreme_16 ?_
    exact sx_iret hx hb hr hlocks hK (v, pt, en, tt, tv, tx, oc, o1, o2, o3) (by rw [sm_rE, if_pos c_2]) hP hD hS dX0_extreme_18
  · skip
    refine lv_iload_n hx hb dX0_extreme_7 rfl (lv_at hl 2 rfl) ?_
    refine lv_if_lt (tgt := 16) hx hb dX0_extreme_8 (by decide) (fun c_3 => ?_) (fun c_3 => ?_)
    · skip
      refine lv_ldc (v := -1000000000) hx hb hown (hts _ q152) dX0_extreme_16 ?_
      exact sx_iret hx hb hr hlocks hK (v, pt, en, tt, tv, tx, oc, o1, o2, o3) (by rw [sm_rE, if_neg c_2, if_pos c_3]) hP hD hS dX0_extreme_18
    · skip
      refine lv_iload_n hx hb dX0_extreme_11 rfl (lv_at hl 2 rfl) ?_
      refine lv_iconst (v := 1) hx hb dX0_extreme_12 (by decide) ?_
      refine lv_icmp_le (tgt := 19) hx hb dX0_extreme_13 (by decide) (fun c_4 => ?_) (fun c_4 => ?_)
      · skip
        have gW := sm_iv_v4 c_2
        have gW2 := gW.2
        refine lv_aload_n hx hb dX0_extreme_19 rfl (lv_at hl 0 rfl) ?_
        refine lv_aload_n hx hb dX0_extreme_20 rfl (lv_at hl 0 rfl) ?_
        refine va_get (D := (dC, dI)) (ci := 0) (v := .int (nI n)) (C := RX0) (T := TX0) (N := 15) hx hb hts in_X0 hown hK hP 0 rfl rfl 4 (by decide) (hts _ q35) (fun _ h9 => h9) rfl dX0_extreme_21 ?_
        refine sx_callV (ci := 0) (As := [.int (nI n)]) (rest := []) ⟨hx, hb, hml, hown, hts⟩ (ct_start l dC dI ad cB cI P n v pt en tt tv tx oc o1 o2 o3 n) (cwV 1 hts (lw_V q112 q114 qs2 q21 q115) rfl rfl rfl (by decide +kernel) ⟨Nat.le_of_ble_eq_true rfl, Nat.le_of_ble_eq_true rfl⟩) hK hP hD hS hA rfl rfl rfl hl.1 rfl (Nat.le_of_ble_eq_true rfl) ⟨Nat.zero_le _, Nat.zero_le _⟩ dX0_extreme_24 (fun u_ H locs hw_ hP hD hS => ?_)
        have hP : va_P (dC, dI) vwCl (xW ad cB cI P n sm_z 0 n 0 tv tx 0 o1 o2 o3) H := hP
        have hD : va_D A (xW ad cB cI P n sm_z 0 n 0 tv tx 0 o1 o2 o3) := hD
        refine lv_ldc (v := -1000000000) hx hb hown (hts _ q152) dX0_extreme_27 ?_
        refine lv_istore_n (lv' := [(3, .int (-1000000000)), (0, .ref (ad 0)), (1, .int w), (2, .int q)]) hx hb dX0_extreme_29 rfl hl (by decide) rfl (fun ls hl => ?_)
        refine lv_aload_n hx hb dX0_extreme_30 rfl (lv_at hl 1 rfl) ?_
        refine lv_iconst (v := 1) hx hb dX0_extreme_31 (by decide) ?_
        refine sx_callI (ci := 0) (As := [.int 1]) (rest := []) ⟨hx, hb, hml, hown, hts⟩ (ct_advance l dC dI ad cB cI P n sm_z 0 n 0 tv tx 0 o1 o2 o3 1 (sm_L P n) [] hn hen hV hcb (Or.inl ⟨rfl, sm_Cf_start, sm_an_start P n, sm_ct_start (by omega) (hV.mono hen) (hcb)⟩)) (cwV 1 hts (lw_V q116 q118 qs3 q21 q119) rfl rfl rfl (by decide +kernel) ⟨Nat.le_of_ble_eq_true rfl, Nat.le_of_ble_eq_true rfl⟩) hK hP hD hS hA rfl rfl rfl hl.1 rfl (Nat.le_of_ble_eq_true rfl) ⟨Nat.zero_le _, Nat.zero_le _⟩ dX0_extreme_32 (fun f0 u0 H locs hw_ hP hD hS => ?_)
        refine lv_istore (lv' := [(4, .int f0), (3, .int (-1000000000)), (0, .ref (ad 0)), (1, .int w), (2, .int q)]) hx hb dX0_extreme_35 hl (by decide) rfl (fun ls hl => ?_)
        refine lv_iconst (v := 0) hx hb dX0_extreme_37 (by decide) ?_
        refine lv_istore (lv' := [(5, .int 0), (4, .int f0), (3, .int (-1000000000)), (0, .ref (ad 0)), (1, .int w), (2, .int q)]) hx hb dX0_extreme_38 hl (by decide) rfl (fun ls hl => ?_)
        refine sx_loop (σ := List Vs × Int32 × XS × Nat × Int32) (w := fun x => xF ad cB cI P n x.2.2.1) (lv := fun x => [(0, .ref (ad 0)), (1, .int w), (2, .int q), (3, .int x.2.2.2.2), (4, .int x.2.1), (5, .int (nI x.2.2.2.1))]) (I := fun x => sm_pA P n x.1 x.2.1 x.2.2.1 ∧ x.2.2.2.1 + x.1.length = (sm_L P n).length ∧ sm_ex (ix w) q x.1 (decide (¬ x.2.2.2.1 = 0)) x.2.2.2.2 = sm_ex (ix w) q (sm_L P n) false (-1000000000)) (μ := fun x => x.1.length) ?_ (sm_L P n, f0, u0, 0, -1000000000) ⟨hw_, Nat.zero_add _, rfl⟩ hP hD hS (lv_sub hl [3, 4, 5, 2, 1, 0] rfl)
        intro x hI ih H locs hP hD hS ls hl
        obtain ⟨M, f, u, c0, d0⟩ := x
        obtain ⟨v', pt', en', tt', tv', tx', oc', o1', o2', o3'⟩ := u
        have hP : va_P (dC, dI) vwCl (xW ad cB cI P n v' pt' en' tt' tv' tx' oc' o1' o2' o3') H := hP
        have hD : va_D A (xW ad cB cI P n v' pt' en' tt' tv' tx' oc' o1' o2' o3') := hD
        obtain ⟨hp, hc0, hd0⟩ := hI
        have hp : sm_pA P n M f (v', pt', en', tt', tv', tx', oc', o1', o2', o3') := hp
        have hc0 : c0 + M.length = (sm_L P n).length := hc0
        have hd0 : sm_ex (ix w) q M (decide (¬ c0 = 0)) d0 = sm_ex (ix w) q (sm_L P n) false (-1000000000) := hd0
        have hl : lv_has ls 8 [(0, .ref (ad 0)), (1, .int w), (2, .int q), (3, .int d0), (4, .int f), (5, .int (nI c0))] := hl
        refine lv_iload hx hb dX0_extreme_40 (lv_at hl 5 rfl) ?_
        refine lv_sipush (v := 2200) hx hb dX0_extreme_42 (by decide) ?_
        refine lv_icmp_ge (tgt := 122) hx hb dX0_extreme_45 (by decide) (fun c_1 => ?_) (fun c_1 => ?_)
        · skip
          exact absurd ((nI_leI (a := 2200) (by decide) (by omega)).mp c_1) (by omega)
        refine lv_iload hx hb dX0_extreme_48 (lv_at hl 4 rfl) ?_
        refine lv_if_eq (tgt := 122) hx hb dX0_extreme_50 (by decide) (fun c_f => ?_) (fun c_f => ?_)
        · skip
          have hM : M = [] := by
            rcases hp with q | q
            · exact q.2.2
            · exact absurd (q.1.symm.trans c_f) (by decide)
          subst hM
          refine lv_iload_n hx hb dX0_extreme_122 rfl (lv_at hl 3 rfl) ?_
          exact sx_iret hx hb hr hlocks hK (v', pt', en', tt', tv', tx', oc', o1', o2', o3') (by rw [sm_rE, if_neg c_2, if_neg c_3, if_pos c_4, ← hd0]; rfl) hP hD hS dX0_extreme_123
        · skip
          obtain ⟨he, k1, hM, hS1, hc1⟩ : en' = n ∧ ∃ k1, M = v' :: sm_as P n k1 ∧ sm_St P n v' tt' tv' tx' oc' o1' o2' o3' k1 ∧ sm_cs P n k1 < 30800 := by
            rcases hp with q | ⟨-, q⟩
            · exact absurd q.1 c_f
            · exact q
          subst hM
          rw [he] at hP hD
          have hP : va_P (dC, dI) vwCl (xW ad cB cI P n v' pt' n tt' tv' tx' oc' o1' o2' o3') H := hP
          have hD : va_D A (xW ad cB cI P n v' pt' n tt' tv' tx' oc' o1' o2' o3') := hD
          refine lv_aload_n hx hb dX0_extreme_53 rfl (lv_at hl 0 rfl) ?_
          refine va_get (D := (dC, dI)) (ci := 0) (v := .ref (ad 5)) (C := RX0) (T := TX0) (N := 15) hx hb hts in_X0 hown hK hP 0 rfl rfl 5 (by decide) (hts _ q36) (fun _ h9 => h9) rfl dX0_extreme_54 ?_
          refine lv_iload_n hx hb dX0_extreme_57 rfl (lv_at hl 1 rfl) ?_
          refine sx_iald (j := ix w) hx hb hK hP 5 1 rfl rfl (gW.1) (gW.2) (by decide) dX0_extreme_58 ?_
          refine lv_istore (lv' := [(6, .int (v' (ix w))), (0, .ref (ad 0)), (1, .int w), (2, .int q), (3, .int d0), (4, .int f), (5, .int (nI c0))]) hx hb dX0_extreme_59 hl (by decide) rfl (fun ls hl => ?_)
          refine lv_iload_n hx hb dX0_extreme_61 rfl (lv_at hl 3 rfl) ?_
          refine sx_join (pc2 := 90) (ls2 := ls) (rest2 := []) (fun y => y = (if q = 0 then (if v' (ix w) < d0 then 1 else 0) else (if d0 < v' (ix w) then 1 else 0))) (fun y ey => ?_) (fun jn => ?_)
          · skip
            refine lv_istore (lv' := [(7, .int y), (6, .int (v' (ix w))), (0, .ref (ad 0)), (1, .int w), (2, .int q), (3, .int d0), (4, .int f), (5, .int (nI c0))]) hx hb dX0_extreme_90 hl (by decide) rfl (fun ls hl => ?_)
            refine lv_iload hx hb dX0_extreme_92 (lv_at hl 7 rfl) ?_
            refine sx_join (pc2 := 108) (ls2 := ls) (rest2 := []) (fun z => z = (if decide (¬ c0 = 0) = false then v' (ix w) else if q = 0 then (if v' (ix w) < d0 then v' (ix w) else d0) else (if d0 < v' (ix w) then v' (ix w) else d0))) (fun z ez => ?_) (fun jn2 => ?_)
            · skip
              refine lv_istore_n (lv' := [(3, .int z), (7, .int y), (6, .int (v' (ix w))), (0, .ref (ad 0)), (1, .int w), (2, .int q), (4, .int f), (5, .int (nI c0))]) hx hb dX0_extreme_108 rfl hl (by decide) rfl (fun ls hl => ?_)
              refine lv_aload_n hx hb dX0_extreme_109 rfl (lv_at hl 3 rfl) ?_
              refine lv_iconst (v := 0) hx hb dX0_extreme_110 (by decide) ?_
              refine sx_callI (ci := 0) (As := [.int 0]) (rest := []) ⟨hx, hb, hml, hown, hts⟩ (ct_advance l dC dI ad cB cI P n v' pt' n tt' tv' tx' oc' o1' o2' o3' 0 (sm_as P n k1) k1 hn hen hV hcb (Or.inr ⟨rfl, hS1, rfl, hc1⟩)) (cwV 1 hts (lw_V q116 q118 qs3 q21 q119) rfl rfl rfl (by decide +kernel) ⟨Nat.le_of_ble_eq_true rfl, Nat.le_of_ble_eq_true rfl⟩) hK hP hD hS hA rfl rfl rfl hl.1 rfl (Nat.le_of_ble_eq_true rfl) ⟨Nat.zero_le _, Nat.zero_le _⟩ dX0_extreme_111 (fun f1 u1 H locs hw_ hP hD hS => ?_)
              refine lv_istore (lv' := [(4, .int f1), (3, .int z), (7, .int y), (6, .int (v' (ix w))), (0, .ref (ad 0)), (1, .int w), (2, .int q), (5, .int (nI c0))]) hx hb dX0_extreme_114 hl (by decide) rfl (fun ls hl => ?_)
              refine lv_iinc (v := nI (c0 + 1)) (lv' := [(5, .int (nI (c0 + 1))), (4, .int f1), (3, .int z), (7, .int y), (6, .int (v' (ix w))), (0, .ref (ad 0)), (1, .int w), (2, .int q)]) hx hb dX0_extreme_116 hl (k := 7) rfl (nI_1 _) (by decide) rfl (fun ls hl => ?_)
              refine lv_goto (tgt := 40) hx hb dX0_extreme_119 (by decide) ?_
              exact ih (sm_as P n k1, f1, u1, c0 + 1, z) ⟨hw_, by show c0 + 1 + (sm_as P n k1).length = _; rw [← hc0]; show _ = c0 + ((sm_as P n k1).length + 1); omega, by show sm_ex (ix w) q (sm_as P n k1) (decide (¬ c0 + 1 = 0)) z = _; rw [← hd0, sm_ex, ez]; rfl⟩ (Nat.lt_succ_self _) H locs hP hD hS ls (lv_sub hl [5, 6, 7, 2, 1, 0] rfl)
            · skip
              refine lv_if_eq (tgt := 102) hx hb dX0_extreme_94 (by decide) (fun c_5 => ?_) (fun c_5 => ?_)
              · skip
                have h0 : c0 = 0 := (nI_eq (b := 0) (by omega) (by decide)).mp c_5
                refine lv_iload hx hb dX0_extreme_102 (lv_at hl 1 rfl) ?_
                refine lv_goto (tgt := 108) hx hb dX0_extreme_104 (by decide) ?_
                exact jn2 _ (by rw [if_pos (by rw [h0]; rfl)])
              · skip
                have h0 : ¬ c0 = 0 := fun q => c_5 (by rw [q]; rfl)
                have h0' : ¬ decide (¬ c0 = 0) = false := by simp [h0]
                refine lv_iload hx hb dX0_extreme_97 (lv_at hl 0 rfl) ?_
                refine lv_if_eq (tgt := 107) hx hb dX0_extreme_99 (by decide) (fun c_6 => ?_) (fun c_6 => ?_)
                · skip
                  refine lv_iload_n hx hb dX0_extreme_107 rfl (lv_at hl 5 rfl) ?_
                  by_cases hq : q = 0
                  · skip
                    rw [if_pos hq] at ey
                    have hb : ¬ (v' (ix w) < d0) := fun hb => absurd (ey.symm.trans c_6) (by rw [if_pos hb]; decide)
                    exact jn2 _ (by rw [if_neg h0', if_pos hq, if_neg hb])
                  · skip
                    rw [if_neg hq] at ey
                    have hb : ¬ (d0 < v' (ix w)) := fun hb => absurd (ey.symm.trans c_6) (by rw [if_pos hb]; decide)
                    exact jn2 _ (by rw [if_neg h0', if_neg hq, if_neg hb])
                · skip
                  refine lv_iload hx hb dX0_extreme_102 (lv_at hl 1 rfl) ?_
                  refine lv_goto (tgt := 108) hx hb dX0_extreme_104 (by decide) ?_
                  by_cases hq : q = 0
                  · skip
                    rw [if_pos hq] at ey
                    have hb : v' (ix w) < d0 := Classical.byContradiction (fun hb => c_6 (by rw [ey, if_neg hb]))
                    exact jn2 _ (by rw [if_neg h0', if_pos hq, if_pos hb])
                  · skip
                    rw [if_neg hq] at ey
                    have hb : d0 < v' (ix w) := Classical.byContradiction (fun hb => c_6 (by rw [ey, if_neg hb]))
                    exact jn2 _ (by rw [if_neg h0', if_neg hq, if_pos hb])
          · skip
            refine lv_if_ne (tgt := 79) hx hb dX0_extreme_62 (by decide) (fun c_5 => ?_) (fun c_5 => ?_)
            · skip
              refine lv_iload hx hb dX0_extreme_79 (lv_at hl 0 rfl) ?_
              refine lv_iload_n hx hb dX0_extreme_81 rfl (lv_at hl 4 rfl) ?_
              refine lv_icmp_le (tgt := 89) hx hb dX0_extreme_82 (by decide) (fun c_6 => ?_) (fun c_6 => ?_)
              · skip
                refine lv_iconst (v := 0) hx hb dX0_extreme_89 (by decide) ?_
                exact jn 0 (by rw [if_neg c_5, if_neg (Int32.not_lt.mpr c_6)])
              · skip
                refine lv_iconst (v := 1) hx hb dX0_extreme_85 (by decide) ?_
                refine lv_goto (tgt := 90) hx hb dX0_extreme_86 (by decide) ?_
                exact jn 1 (by rw [if_neg c_5, if_pos (Int32.not_le.mp c_6)])
            · skip
              refine lv_iload hx hb dX0_extreme_65 (lv_at hl 0 rfl) ?_
              refine lv_iload_n hx hb dX0_extreme_67 rfl (lv_at hl 4 rfl) ?_
              refine lv_icmp_ge (tgt := 75) hx hb dX0_extreme_68 (by decide) (fun c_6 => ?_) (fun c_6 => ?_)
              · skip
                refine lv_iconst (v := 0) hx hb dX0_extreme_75 (by decide) ?_
                refine lv_goto (tgt := 90) hx hb dX0_extreme_76 (by decide) ?_
                exact jn 0 (by rw [if_pos c_5, if_neg (Int32.not_lt.mpr c_6)])
              · skip
                refine lv_iconst (v := 1) hx hb dX0_extreme_71 (by decide) ?_
                refine lv_goto (tgt := 90) hx hb dX0_extreme_72 (by decide) ?_
                exact jn 1 (by rw [if_pos c_5, if_pos (Int32.not_le.mp c_6)])
      · skip
        refine lv_ldc (v := -1000000000) hx hb hown (hts _ q152) dX0_extreme_16 ?_
        exact sx_iret hx hb hr hlocks hK (v, pt, en, tt, tv, tx, oc, o1, o2, o3) (by rw [sm_rE, if_neg c_2, if_neg c_3, if_neg c_4]) hP hD hS dX0_extreme_18
end
section
/-! ADDING A STEP: what both sides do with it. Plain. -/
theorem sx_b8r {x : Int32} (h1 : -128 ≤ x.toInt) (h2 : x.toInt ≤ 127) : x.toInt8.toInt32 = x := by
  apply Int32.toInt_inj.mp
  rw [lg_i2b_toInt]
  exact Int.bmod_eq_of_le (by omega) (by omega)
/-- whether a step is taken at all, as the machine asks it -/
def sm_mg (k a b : Int32) : Int32 := if k < 0 then 0 else if 9 < k then 0 else if k = 8 then 1 else if sm_iv a = 0 then 0 else if sm_so k b = 0 then 0 else 1
def sm_n1 (k a : Int32) : Int32 := if k = 8 then 0 else a
def sm_n2 (k b : Int32) : Int32 := if k = 8 then 0 else if k = 0 then (b &&& 15) - 3 else b
def sm_n3 (k b : Int32) : Int32 := if k = 0 then (b >>> ((4 : Int32) &&& 31)) - 3 else 0
def sm_nP (P : Pg) (n : Nat) (k a b : Int32) : Pg := (upd P.1 n k, upd P.2.1 n (sm_n1 k a), upd P.2.2.1 n (sm_n2 k b), upd P.2.2.2 n (sm_n3 k b))
def sm_sp (P : Pg) (n : Nat) (k a b : Int32) : Int32 × Pg × Nat :=
  if sm_mg k a b = 0 then (-1, P, n) else if ¬ sm_kc k = 0 ∧ 3 ≤ sm_cb P n then (-1, P, n) else if 14 ≤ n then (-2, P, n) else (nI n, sm_nP P n k a b, n + 1)
theorem sm_shr4 (b : Int32) : (b >>> ((4 : Int32) &&& 31)).toInt = b.toInt >>> 4 := pk_shr b ((4 : Int32) &&& 31) 4 (by decide)
theorem sm_shr4' (b : Int32) : (b >>> ((4 : Int32) &&& 31)).toInt = b.toInt / 16 := by
  rw [sm_shr4, Int.shiftRight_eq_div_pow]
  rfl
theorem sm_lt0 {x : Int32} : x < 0 ↔ x.toInt < 0 := by rw [Int32.lt_iff_toInt_lt, Int32.toInt_zero]
theorem sm_c9 : (9 : Int32).toInt = 9 := by decide
theorem sm_c12 : (12 : Int32).toInt = 12 := by decide
theorem sm_c256 : (256 : Int32).toInt = 256 := by decide
theorem sm_c20 : (20 : Int32).toInt = 20 := by decide
theorem sm_cm20 : (-20 : Int32).toInt = -20 := by decide
theorem sm_c3 : (3 : Int32).toInt = 3 := by decide
theorem sm_c4 : (4 : Int32).toInt = 4 := by decide
/-- a step that is taken: its numbers lie where they must -/
theorem sm_mg_kind {k a b : Int32} (h : ¬ sm_mg k a b = 0) : ∃ j, j ≤ 9 ∧ k = nI j := by
  unfold sm_mg at h
  by_cases h0 : k < 0
  · rw [if_pos h0] at h; exact absurd rfl h
  · by_cases h9 : 9 < k
    · rw [if_neg h0, if_pos h9] at h; exact absurd rfl h
    · obtain ⟨j, hj, rfl⟩ := nI_of h0
      refine ⟨j, Nat.le_of_not_lt (fun q => h9 ((nI_ltI (a := 9) (by decide) hj).mpr q)), rfl⟩
theorem sm_mg_rest {k a b : Int32} (h : ¬ sm_mg k a b = 0) (h8 : ¬ k = 8) : ¬ sm_iv a = 0 ∧ ¬ sm_so k b = 0 := by
  unfold sm_mg at h
  by_cases h0 : k < 0
  · rw [if_pos h0] at h; exact absurd rfl h
  · by_cases h9 : 9 < k
    · rw [if_neg h0, if_pos h9] at h; exact absurd rfl h
    · rw [if_neg h0, if_neg h9, if_neg h8] at h
      by_cases ha : sm_iv a = 0
      · rw [if_pos ha] at h; exact absurd rfl h
      · rw [if_neg ha] at h
        by_cases hs : sm_so k b = 0
        · rw [if_pos hs] at h; exact absurd rfl h
        · exact ⟨ha, hs⟩
theorem sm_v4_int {x : Int32} (h : sm_v4 x) : 0 ≤ x.toInt ∧ x.toInt < 4 := by
  obtain ⟨h1, h2⟩ := h
  rw [h1, nI_toInt (by omega)]
  omega
theorem sm_and15 (b : Int32) : 0 ≤ (b &&& 15).toInt ∧ (b &&& 15).toInt < 16 := by
  obtain ⟨j, hj, e⟩ := pk_andE b (m := 15) 4 (by decide)
  rw [e, nI_toInt (by omega)]
  omega
theorem sm_so0 {b : Int32} (h : ¬ sm_so 0 b = 0) : 0 ≤ b.toInt ∧ (b &&& 15).toInt ≤ 12 ∧ b.toInt / 16 ≤ 12 := by
  unfold sm_so at h
  rw [if_pos rfl] at h
  by_cases h0 : b < 0
  · rw [if_pos h0] at h; exact absurd rfl h
  · rw [if_neg h0] at h
    by_cases h1 : 256 ≤ b
    · rw [if_pos h1] at h; exact absurd rfl h
    · rw [if_neg h1] at h
      by_cases h2 : (12 : Int32) < b &&& 15
      · rw [if_pos h2] at h; exact absurd rfl h
      · rw [if_neg h2] at h
        by_cases h3 : (12 : Int32) < b >>> ((4 : Int32) &&& 31)
        · rw [if_pos h3] at h; exact absurd rfl h
        · rw [Int32.lt_iff_toInt_lt, sm_c12] at h2 h3
          rw [sm_lt0] at h0
          rw [sm_shr4'] at h3
          omega
theorem sm_so1 {b : Int32} (h : ¬ sm_so 1 b = 0) : -20 ≤ b.toInt ∧ b.toInt ≤ 20 := by
  unfold sm_so at h
  rw [if_neg (by decide), if_pos rfl] at h
  by_cases h0 : b < -20
  · rw [if_pos h0] at h; exact absurd rfl h
  · rw [if_neg h0] at h
    by_cases h1 : 20 < b
    · rw [if_pos h1] at h; exact absurd rfl h
    · rw [Int32.lt_iff_toInt_lt, sm_cm20] at h0
      rw [Int32.lt_iff_toInt_lt, sm_c20] at h1
      omega
theorem sm_soN {k b : Int32} (h0 : ¬ k = 0) (h1 : ¬ k = 1) (h : ¬ sm_so k b = 0) : sm_v4 b := by
  unfold sm_so at h
  rw [if_neg h0, if_neg h1] at h
  exact sm_iv_v4 h
theorem sm_sub3 {x : Int32} (h1 : 0 ≤ x.toInt) (h2 : x.toInt ≤ 12) : (x - 3).toInt = x.toInt - 3 := by
  rw [Int32.toInt_sub, sm_c3]
  exact Int.bmod_eq_of_le (by omega) (by omega)
theorem sm_n1_v4 {k a b : Int32} (h : ¬ sm_mg k a b = 0) : sm_v4 (sm_n1 k a) := by
  unfold sm_n1
  by_cases h8 : k = 8
  · rw [if_pos h8]; exact sm_v4_of (a := 0) (by decide)
  · rw [if_neg h8]; exact sm_iv_v4 (sm_mg_rest h h8).1
theorem sm_n2_0 {a b : Int32} (h : ¬ sm_mg 0 a b = 0) : -3 ≤ (sm_n2 0 b).toInt ∧ (sm_n2 0 b).toInt ≤ 9 ∧ -3 ≤ (sm_n3 0 b).toInt ∧ (sm_n3 0 b).toInt ≤ 9 := by
  obtain ⟨c1, c2, c3⟩ := sm_so0 (sm_mg_rest h (by decide)).2
  have c4 := sm_and15 b
  unfold sm_n2 sm_n3
  rw [if_neg (by decide), if_pos rfl, if_pos rfl, sm_sub3 c4.1 c2, sm_sub3 (by rw [sm_shr4']; omega) (by rw [sm_shr4']; omega), sm_shr4']
  omega
theorem sm_n2_v4 {k a b : Int32} (h : ¬ sm_mg k a b = 0) (h0 : ¬ k = 0) (h1 : ¬ k = 1) : sm_v4 (sm_n2 k b) := by
  unfold sm_n2
  by_cases h8 : k = 8
  · rw [if_pos h8]; exact sm_v4_of (a := 0) (by decide)
  · rw [if_neg h8, if_neg h0]; exact sm_soN h0 h1 (sm_mg_rest h h8).2
theorem sm_n2_b {k a b : Int32} (h : ¬ sm_mg k a b = 0) : -128 ≤ (sm_n2 k b).toInt ∧ (sm_n2 k b).toInt ≤ 127 := by
  by_cases h0 : k = 0
  · subst h0
    have := sm_n2_0 h
    omega
  · by_cases h1 : k = 1
    · subst h1
      have := sm_so1 (sm_mg_rest h (by decide)).2
      have e : sm_n2 1 b = b := by unfold sm_n2; rw [if_neg (by decide), if_neg (by decide)]
      rw [e]
      omega
    · have := sm_v4_int (sm_n2_v4 h h0 h1)
      omega
theorem sm_n3_b {k a b : Int32} (h : ¬ sm_mg k a b = 0) : -128 ≤ (sm_n3 k b).toInt ∧ (sm_n3 k b).toInt ≤ 127 := by
  by_cases h0 : k = 0
  · subst h0
    have := sm_n2_0 h
    omega
  · unfold sm_n3
    rw [if_neg h0]
    decide
theorem sm_k_b {k a b : Int32} (h : ¬ sm_mg k a b = 0) : -128 ≤ k.toInt ∧ k.toInt ≤ 127 := by
  obtain ⟨j, hj, rfl⟩ := sm_mg_kind h
  rw [nI_toInt (by omega)]
  omega
/-- the program with one more step is a program -/
theorem sm_cb_cg {P Q : Pg} : ∀ n, (∀ i, i < n → Q.1 i = P.1 i) → sm_cb Q n = sm_cb P n := by
  intro n
  induction n with
  | zero => intro _; rfl
  | succ n ih =>
    intro h
    rw [sm_cb, sm_cb, ih (fun i hi => h i (by omega))]
    unfold sm_ch
    rw [h n (Nat.lt_succ_self n)]
/-- what the law keeps of a program -/
def sm_In (P : Pg) (n : Nat) : Prop := n ≤ 14 ∧ sm_va P n ∧ sm_cb P n ≤ 3
theorem sm_In_0 : sm_In (sm_z, sm_z, sm_z, sm_z) 0 := ⟨Nat.zero_le _, fun i hi => absurd hi (Nat.not_lt_zero _), Nat.zero_le _⟩
theorem sm_In_drop {P : Pg} {n : Nat} (h : sm_In P n) : sm_In P (n - 1) := ⟨by have := h.1; omega, h.2.1.mono (Nat.sub_le _ _), Nat.le_trans (sm_cb_mono P (Nat.sub_le _ _)) h.2.2⟩
theorem sm_In_step {P : Pg} {n : Nat} (k a b : Int32) (h : sm_In P n) : sm_In (sm_sp P n k a b).2.1 (sm_sp P n k a b).2.2 := by
  unfold sm_sp
  by_cases h1 : sm_mg k a b = 0
  · rw [if_pos h1]; exact h
  · rw [if_neg h1]
    by_cases h2 : ¬ sm_kc k = 0 ∧ 3 ≤ sm_cb P n
    · rw [if_pos h2]; exact h
    · rw [if_neg h2]
      by_cases h3 : 14 ≤ n
      · rw [if_pos h3]; exact h
      · rw [if_neg h3]
        obtain ⟨g1, g2, g3⟩ := h
        refine ⟨by show n + 1 ≤ 14; omega, ?_, ?_⟩
        · intro i hi
          have hi : i < n + 1 := hi
          by_cases he : i = n
          · subst he
            show (∃ j, j ≤ 9 ∧ upd P.1 i k i = nI j) ∧ sm_v4 (upd P.2.1 i (sm_n1 k a) i) ∧ (upd P.1 i k i = 0 → -3 ≤ (upd P.2.2.1 i (sm_n2 k b) i).toInt ∧ (upd P.2.2.1 i (sm_n2 k b) i).toInt ≤ 9 ∧ -3 ≤ (upd P.2.2.2 i (sm_n3 k b) i).toInt ∧ (upd P.2.2.2 i (sm_n3 k b) i).toInt ≤ 9) ∧ (¬ upd P.1 i k i = 0 → ¬ upd P.1 i k i = 1 → sm_v4 (upd P.2.2.1 i (sm_n2 k b) i))
            rw [pk_us, pk_us, pk_us, pk_us]
            refine ⟨sm_mg_kind h1, sm_n1_v4 h1, fun h0 => ?_, fun h0 h1' => sm_n2_v4 h1 h0 h1'⟩
            subst h0
            exact sm_n2_0 h1
          · show (∃ j, j ≤ 9 ∧ upd P.1 n k i = nI j) ∧ sm_v4 (upd P.2.1 n (sm_n1 k a) i) ∧ (upd P.1 n k i = 0 → -3 ≤ (upd P.2.2.1 n (sm_n2 k b) i).toInt ∧ (upd P.2.2.1 n (sm_n2 k b) i).toInt ≤ 9 ∧ -3 ≤ (upd P.2.2.2 n (sm_n3 k b) i).toInt ∧ (upd P.2.2.2 n (sm_n3 k b) i).toInt ≤ 9) ∧ (¬ upd P.1 n k i = 0 → ¬ upd P.1 n k i = 1 → sm_v4 (upd P.2.2.1 n (sm_n2 k b) i))
            rw [pk_un he, pk_un he, pk_un he, pk_un he]
            exact g2 i (by omega)
        · show sm_cb (sm_nP P n k a b) (n + 1) ≤ 3
          rw [sm_cb, sm_cb_cg (P := P) n (fun i hi => pk_un (by omega))]
          have e : sm_kc k = if sm_ch (sm_nP P n k a b) n then 1 else 0 := (congrArg sm_kc (show k = (sm_nP P n k a b).1 n from pk_us.symm)).trans (sm_kc_ch _ n)
          by_cases hc : sm_ch (sm_nP P n k a b) n
          · rw [if_pos hc] at e ⊢
            have : ¬ 3 ≤ sm_cb P n := fun q => h2 ⟨by rw [e]; decide, q⟩
            omega
          · rw [if_neg hc]
            omega
/-- the reference asks whether a step is good: the same -/
def sm_va3 (x : Int32) : Int32 := if x < 0 then 0 else if 3 < x then 0 else 1
theorem sm_va3_iv (x : Int32) : sm_va3 x = sm_iv x := by
  unfold sm_va3 sm_iv
  by_cases h0 : x < 0
  · rw [if_pos h0, if_pos h0]
  · rw [if_neg h0, if_neg h0]
    by_cases h3 : 3 < x
    · rw [if_pos h3, if_pos (by rw [Int32.lt_iff_toInt_lt, sm_c3] at h3; rw [Int32.le_iff_toInt_le, sm_c4]; omega)]
    · rw [if_neg h3, if_neg (by rw [Int32.lt_iff_toInt_lt, sm_c3] at h3; rw [Int32.le_iff_toInt_le, sm_c4]; omega)]
def sm_dg (k a b : Int32) : Int32 :=
  if k = 0 then (if sm_iv a = 0 then 0 else if b < 0 then 0 else if (12 : Int32) < b &&& 15 then 0 else if (12 : Int32) < b >>> ((4 : Int32) &&& 31) then 0 else 1)
  else if k = 1 then (if sm_iv a = 0 then 0 else if b < -20 then 0 else if 20 < b then 0 else 1)
  else if k = 8 then 1 else if k < 2 then 0 else if 9 < k then 0 else if sm_iv a = 0 then 0 else if sm_iv b = 0 then 0 else 1
theorem sm_dg_mg (k a b : Int32) : sm_dg k a b = sm_mg k a b := by
  unfold sm_dg sm_mg
  by_cases h0 : k = 0
  · subst h0
    rw [if_pos rfl, if_neg (show ¬ (0 : Int32) < 0 by decide), if_neg (show ¬ (9 : Int32) < 0 by decide), if_neg (show ¬ (0 : Int32) = 8 by decide)]
    by_cases ha : sm_iv a = 0
    · rw [if_pos ha, if_pos ha]
    · rw [if_neg ha, if_neg ha]
      unfold sm_so
      rw [if_pos rfl]
      by_cases hb : b < 0
      · rw [if_pos hb, if_pos hb, if_pos rfl]
      · rw [if_neg hb, if_neg hb]
        by_cases h256 : 256 ≤ b
        · rw [if_pos h256, if_pos rfl]
          have h12 : (12 : Int32) < b >>> ((4 : Int32) &&& 31) := by
            rw [Int32.lt_iff_toInt_lt, sm_shr4', sm_c12]
            rw [Int32.le_iff_toInt_le, sm_c256] at h256
            omega
          by_cases h15 : (12 : Int32) < b &&& 15
          · rw [if_pos h15]
          · rw [if_neg h15, if_pos h12]
        · rw [if_neg h256]
          by_cases h15 : (12 : Int32) < b &&& 15
          · simp only [if_pos h15]; rfl
          · simp only [if_neg h15]
            by_cases h12 : (12 : Int32) < b >>> ((4 : Int32) &&& 31)
            · simp only [if_pos h12]; rfl
            · simp only [if_neg h12]; rfl
  · rw [if_neg h0]
    by_cases h1 : k = 1
    · subst h1
      rw [if_pos rfl, if_neg (show ¬ (1 : Int32) < 0 by decide), if_neg (show ¬ (9 : Int32) < 1 by decide), if_neg (show ¬ (1 : Int32) = 8 by decide)]
      by_cases ha : sm_iv a = 0
      · rw [if_pos ha, if_pos ha]
      · rw [if_neg ha, if_neg ha]
        unfold sm_so
        rw [if_neg h0, if_pos rfl]
        by_cases hb : b < -20
        · simp only [if_pos hb]; rfl
        · simp only [if_neg hb]
          by_cases hb2 : 20 < b
          · simp only [if_pos hb2]; rfl
          · simp only [if_neg hb2]; rfl
    · rw [if_neg h1]
      by_cases h8 : k = 8
      · subst h8
        rw [if_pos rfl, if_neg (by decide), if_neg (by decide), if_pos rfl]
      · rw [if_neg h8, if_neg h8]
        have hs : sm_so k b = sm_iv b := by unfold sm_so; rw [if_neg h0, if_neg h1]
        by_cases hneg : k < 0
        · rw [if_pos hneg, if_pos]
          rw [Int32.lt_iff_toInt_lt] at hneg ⊢
          have e0 : (0 : Int32).toInt = 0 := by decide
          have e2 : (2 : Int32).toInt = 2 := by decide
          omega
        · have h2 : ¬ k < 2 := by
            obtain ⟨j, hj, rfl⟩ := nI_of hneg
            intro q
            have q := (nI_ltI (b := 2) hj (by decide)).mp q
            have : j = 0 ∨ j = 1 := by omega
            rcases this with e | e
            · exact h0 (by rw [e]; rfl)
            · exact h1 (by rw [e]; rfl)
          rw [if_neg hneg, if_neg h2]
          by_cases h9 : 9 < k
          · rw [if_pos h9, if_pos h9]
          · rw [if_neg h9, if_neg h9, hs]
end
section
/-! THE MACHINE: adding a step -/
theorem sm_cb_le (P : Pg) : ∀ n, sm_cb P n ≤ n := by
  intro n
  induction n with
  | zero => exact Nat.le_refl 0
  | succ n ih =>
    rw [sm_cb]
    by_cases h : sm_ch P n
    · rw [if_pos h]; omega
    · rw [if_neg h]; omega
set_option maxHeartbeats 4000000 in
set_option maxRecDepth 100000 in
theorem ct_step (l : Launch) (dC : Nat → ClassId) (dI : Nat → Nat → Nat) (ad : Nat → Nat) (cB cI : ClassId) (P : Pg) (n : Nat) (v : Vs) (pt en tt : Nat) (tv tx : Vs) (oc : Nat) (o1 o2 o3 : Vs) (k a b : Int32) (hn : n ≤ 14) : MetI l (dC, dI) vwCl (tyX cB cI) yX0_step (ws_ yX0_step cX0_step 4 (some .int)) ({ frames := 2, cells := 0, slots := 0, locals := 42 }) [.ref (ad 0), .int k, .int a, .int b] (xW ad cB cI P n v pt en tt tv tx oc o1 o2 o3) (fun u : Pg × Nat => xW ad cB cI u.1 u.2 v pt en tt tv tx oc o1 o2 o3) (fun r u => (r, u) = sm_sp P n k a b) := by
  refine MetI.of (by decide) (Nat.le_of_ble_eq_true rfl) ?_
  intro p e s m below meth c ls A hx hb hr hml hlocks hts hown hA hP hK hD hS hl
  have hown : s.vm.findClass RX0 = some m.cls := hown
  have hl : lv_has ls 4 [(0, .ref (ad 0)), (1, .int k), (2, .int a), (3, .int b)] := hl
  have hcb31 : sm_cb P n < 2 ^ 31 := by
    have := sm_cb_le P n
    omega
  refine sx_joinC (pc2 := 33) (ls2 := ls) (rest2 := []) (¬ sm_mg k a b = 0) (fun hg => ?_) (fun jn => ?_)
  · skip
    refine lv_iload_n hx hb dX0_step_33 rfl (lv_at hl 1 rfl) ?_
    refine sx_callS (As := [.int k]) (rest := []) ⟨hx, hb, hml, hown, hts⟩ (ct_chooses l k) (va_cwS 1 hts (lw_S q89 q90 q21 q91) rfl rfl rfl (by decide +kernel) ⟨Nat.le_of_ble_eq_true rfl, Nat.le_of_ble_eq_true rfl⟩) rfl hl.1 rfl (Nat.le_of_ble_eq_true rfl) ⟨Nat.zero_le _, Nat.zero_le _⟩ dX0_step_34 ?_
    refine sx_joinC (pc2 := 50) (ls2 := ls) (rest2 := []) (¬ (¬ sm_kc k = 0 ∧ 3 ≤ sm_cb P n)) (fun hq => ?_) (fun jn => ?_)
    · skip
      refine lv_aload_n hx hb dX0_step_50 rfl (lv_at hl 0 rfl) ?_
      refine va_get (D := (dC, dI)) (ci := 0) (v := .int (nI n)) (C := RX0) (T := TX0) (N := 15) hx hb hts in_X0 hown hK hP 0 rfl rfl 4 (by decide) (hts _ q35) (fun _ h9 => h9) rfl dX0_step_51 ?_
      refine lv_bipush (v := 14) hx hb dX0_step_54 (by decide) ?_
      refine lv_icmp_lt (tgt := 62) hx hb dX0_step_56 (by decide) (fun c_1 => ?_) (fun c_1 => ?_)
      · skip
        have hlt : n < 14 := (nI_ltI (b := 14) (by omega) (by decide)).mp c_1
        have hres : sm_sp P n k a b = (nI n, sm_nP P n k a b, n + 1) := by rw [sm_sp, if_neg hg, if_neg hq, if_neg (by omega)]
        have hk8 : k.toInt8.toInt32 = k := sx_b8r (sm_k_b hg).1 (sm_k_b hg).2
        refine lv_aload_n hx hb dX0_step_62 rfl (lv_at hl 0 rfl) ?_
        refine va_get (D := (dC, dI)) (ci := 0) (v := .ref (ad 1)) (C := RX0) (T := TX0) (N := 15) hx hb hts in_X0 hown hK hP 0 rfl rfl 0 (by decide) (hts _ q31) (fun _ h9 => h9) rfl dX0_step_63 ?_
        refine lv_aload_n hx hb dX0_step_66 rfl (lv_at hl 0 rfl) ?_
        refine va_get (D := (dC, dI)) (ci := 0) (v := .int (nI n)) (C := RX0) (T := TX0) (N := 15) hx hb hts in_X0 hown hK hP 0 rfl rfl 4 (by decide) (hts _ q35) (fun _ h9 => h9) rfl dX0_step_67 ?_
        refine lv_iload_n hx hb dX0_step_70 rfl (lv_at hl 1 rfl) ?_
        refine lv_i2b (v := k) hx hb dX0_step_71 (hk8) ?_
        refine sx_bast (y := k) (j := n) hx hb hK hP hD hS 1 0 rfl rfl (rfl) (by omega) (by decide) (hk8) dX0_step_72 (fun H locs hP hD hS => ?_)
        have hP : va_P (dC, dI) vwCl (xW ad cB cI (upd P.1 n k, P.2.1, P.2.2.1, P.2.2.2) n v pt en tt tv tx oc o1 o2 o3) H := hP
        have hD : va_D A (xW ad cB cI (upd P.1 n k, P.2.1, P.2.2.1, P.2.2.2) n v pt en tt tv tx oc o1 o2 o3) := hD
        refine lv_aload_n hx hb dX0_step_73 rfl (lv_at hl 0 rfl) ?_
        refine va_get (D := (dC, dI)) (ci := 0) (v := .ref (ad 2)) (C := RX0) (T := TX0) (N := 15) hx hb hts in_X0 hown hK hP 0 rfl rfl 1 (by decide) (hts _ q32) (fun _ h9 => h9) rfl dX0_step_74 ?_
        refine lv_aload_n hx hb dX0_step_77 rfl (lv_at hl 0 rfl) ?_
        refine va_get (D := (dC, dI)) (ci := 0) (v := .int (nI n)) (C := RX0) (T := TX0) (N := 15) hx hb hts in_X0 hown hK hP 0 rfl rfl 4 (by decide) (hts _ q35) (fun _ h9 => h9) rfl dX0_step_78 ?_
        refine lv_iload_n hx hb dX0_step_81 rfl (lv_at hl 1 rfl) ?_
        refine lv_bipush (v := 8) hx hb dX0_step_82 (by decide) ?_
        refine sx_join (pc2 := 92) (ls2 := ls) (rest2 := [.int (nI n), .ref (ad 2)]) (fun y => y = sm_n1 k a) (fun y ey => ?_) (fun jn1 => ?_)
        · skip
          have hy : y.toInt8.toInt32 = y := by
            rw [ey]
            have := sm_v4_int (sm_n1_v4 hg)
            exact sx_b8r (by omega) (by omega)
          refine lv_i2b (v := y) hx hb dX0_step_92 (hy) ?_
          refine sx_bast (y := y) (j := n) hx hb hK hP hD hS 2 0 rfl rfl (rfl) (by omega) (by decide) (hy) dX0_step_93 (fun H locs hP hD hS => ?_)
          have hP : va_P (dC, dI) vwCl (xW ad cB cI (upd P.1 n k, upd P.2.1 n y, P.2.2.1, P.2.2.2) n v pt en tt tv tx oc o1 o2 o3) H := hP
          have hD : va_D A (xW ad cB cI (upd P.1 n k, upd P.2.1 n y, P.2.2.1, P.2.2.2) n v pt en tt tv tx oc o1 o2 o3) := hD
          refine lv_aload_n hx hb dX0_step_94 rfl (lv_at hl 0 rfl) ?_
          refine va_get (D := (dC, dI)) (ci := 0) (v := .ref (ad 3)) (C := RX0) (T := TX0) (N := 15) hx hb hts in_X0 hown hK hP 0 rfl rfl 2 (by decide) (hts _ q33) (fun _ h9 => h9) rfl dX0_step_95 ?_
          refine lv_aload_n hx hb dX0_step_98 rfl (lv_at hl 0 rfl) ?_
          refine va_get (D := (dC, dI)) (ci := 0) (v := .int (nI n)) (C := RX0) (T := TX0) (N := 15) hx hb hts in_X0 hown hK hP 0 rfl rfl 4 (by decide) (hts _ q35) (fun _ h9 => h9) rfl dX0_step_99 ?_
          refine lv_iload_n hx hb dX0_step_102 rfl (lv_at hl 1 rfl) ?_
          refine lv_bipush (v := 8) hx hb dX0_step_103 (by decide) ?_
          refine sx_join (pc2 := 126) (ls2 := ls) (rest2 := [.int (nI n), .ref (ad 3)]) (fun z => z = sm_n2 k b) (fun z ez => ?_) (fun jn2 => ?_)
          · skip
            have hz : z.toInt8.toInt32 = z := by
              rw [ez]
              exact sx_b8r (sm_n2_b hg).1 (sm_n2_b hg).2
            refine lv_i2b (v := z) hx hb dX0_step_126 (hz) ?_
            refine sx_bast (y := z) (j := n) hx hb hK hP hD hS 3 0 rfl rfl (rfl) (by omega) (by decide) (hz) dX0_step_127 (fun H locs hP hD hS => ?_)
            have hP : va_P (dC, dI) vwCl (xW ad cB cI (upd P.1 n k, upd P.2.1 n y, upd P.2.2.1 n z, P.2.2.2) n v pt en tt tv tx oc o1 o2 o3) H := hP
            have hD : va_D A (xW ad cB cI (upd P.1 n k, upd P.2.1 n y, upd P.2.2.1 n z, P.2.2.2) n v pt en tt tv tx oc o1 o2 o3) := hD
            refine lv_aload_n hx hb dX0_step_128 rfl (lv_at hl 0 rfl) ?_
            refine va_get (D := (dC, dI)) (ci := 0) (v := .ref (ad 4)) (C := RX0) (T := TX0) (N := 15) hx hb hts in_X0 hown hK hP 0 rfl rfl 3 (by decide) (hts _ q34) (fun _ h9 => h9) rfl dX0_step_129 ?_
            refine lv_aload_n hx hb dX0_step_132 rfl (lv_at hl 0 rfl) ?_
            refine va_get (D := (dC, dI)) (ci := 0) (v := .int (nI n)) (C := RX0) (T := TX0) (N := 15) hx hb hts in_X0 hown hK hP 0 rfl rfl 4 (by decide) (hts _ q35) (fun _ h9 => h9) rfl dX0_step_133 ?_
            refine lv_iload_n hx hb dX0_step_136 rfl (lv_at hl 1 rfl) ?_
            refine sx_join (pc2 := 149) (ls2 := ls) (rest2 := [.int (nI n), .ref (ad 4)]) (fun q => q = sm_n3 k b) (fun q eq => ?_) (fun jn3 => ?_)
            · skip
              have hq8 : q.toInt8.toInt32 = q := by
                rw [eq]
                exact sx_b8r (sm_n3_b hg).1 (sm_n3_b hg).2
              refine lv_i2b (v := q) hx hb dX0_step_149 (hq8) ?_
              refine sx_bast (y := q) (j := n) hx hb hK hP hD hS 4 0 rfl rfl (rfl) (by omega) (by decide) (hq8) dX0_step_150 (fun H locs hP hD hS => ?_)
              have hP : va_P (dC, dI) vwCl (xW ad cB cI (upd P.1 n k, upd P.2.1 n y, upd P.2.2.1 n z, upd P.2.2.2 n q) n v pt en tt tv tx oc o1 o2 o3) H := hP
              have hD : va_D A (xW ad cB cI (upd P.1 n k, upd P.2.1 n y, upd P.2.2.1 n z, upd P.2.2.2 n q) n v pt en tt tv tx oc o1 o2 o3) := hD
              refine lv_aload_n hx hb dX0_step_151 rfl (lv_at hl 0 rfl) ?_
              refine lv_dup hx hb dX0_step_152 rfl ?_
              refine va_get (D := (dC, dI)) (ci := 0) (v := .int (nI n)) (C := RX0) (T := TX0) (N := 15) hx hb hts in_X0 hown hK hP 0 rfl rfl 4 (by decide) (hts _ q35) (fun _ h9 => h9) rfl dX0_step_153 ?_
              refine lv_iconst (v := 1) hx hb dX0_step_156 (by decide) ?_
              refine lv_iadd hx hb dX0_step_157 ?_
              refine sx_topE (y := nI (n + 1)) (nI_1 _) ?_
              refine va_put (D := (dC, dI)) (ci := 0) (v := .int (nI (n + 1))) (ty := .int) (C := RX0) (T := TX0) (N := 15) hx hb hts in_X0 tyX0 tyX0_ok nmX0 hown hK hP hD hS 0 rfl rfl 4 (by decide) (hts _ q35) (fun _ h9 => h9) rfl (by decide +kernel) rfl rfl (Nat.le_of_ble_eq_true rfl) dX0_step_158 (fun H locs hP hD hS => ?_)
              have hP : va_P (dC, dI) vwCl (xW ad cB cI (upd P.1 n k, upd P.2.1 n y, upd P.2.2.1 n z, upd P.2.2.2 n q) (n + 1) v pt en tt tv tx oc o1 o2 o3) H := hP
              have hD : va_D A (xW ad cB cI (upd P.1 n k, upd P.2.1 n y, upd P.2.2.1 n z, upd P.2.2.2 n q) (n + 1) v pt en tt tv tx oc o1 o2 o3) := hD
              refine lv_aload_n hx hb dX0_step_161 rfl (lv_at hl 0 rfl) ?_
              refine va_get (D := (dC, dI)) (ci := 0) (v := .int (nI (n + 1))) (C := RX0) (T := TX0) (N := 15) hx hb hts in_X0 hown hK hP 0 rfl rfl 4 (by decide) (hts _ q35) (fun _ h9 => h9) rfl dX0_step_162 ?_
              refine lv_iconst (v := 1) hx hb dX0_step_165 (by decide) ?_
              refine lv_isub hx hb dX0_step_166 ?_
              refine sx_topE (y := nI n) (nI_pred n) ?_
              subst ey ez eq
              exact sx_iret hx hb hr hlocks hK (sm_nP P n k a b, n + 1) (hres.symm) hP hD hS dX0_step_167
            · skip
              refine lv_if_ne (tgt := 148) hx hb dX0_step_137 (by decide) (fun c_2 => ?_) (fun c_2 => ?_)
              · skip
                refine lv_iconst (v := 0) hx hb dX0_step_148 (by decide) ?_
                exact jn3 0 (by rw [sm_n3, if_neg c_2])
              · skip
                refine lv_iload_n hx hb dX0_step_140 rfl (lv_at hl 3 rfl) ?_
                refine lv_iconst (v := 4) hx hb dX0_step_141 (by decide) ?_
                refine lv_ishr hx hb dX0_step_142 ?_
                refine lv_iconst (v := 3) hx hb dX0_step_143 (by decide) ?_
                refine lv_isub hx hb dX0_step_144 ?_
                refine lv_goto (tgt := 149) hx hb dX0_step_145 (by decide) ?_
                exact jn3 _ (by rw [sm_n3, if_pos c_2])
          · skip
            refine lv_icmp_ne (tgt := 112) hx hb dX0_step_105 (by decide) (fun c_2 => ?_) (fun c_2 => ?_)
            · skip
              refine lv_iload_n hx hb dX0_step_112 rfl (lv_at hl 1 rfl) ?_
              refine lv_if_ne (tgt := 125) hx hb dX0_step_113 (by decide) (fun c_3 => ?_) (fun c_3 => ?_)
              · skip
                refine lv_iload_n hx hb dX0_step_125 rfl (lv_at hl 3 rfl) ?_
                exact jn2 _ (by rw [sm_n2, if_neg c_2, if_neg c_3])
              · skip
                refine lv_iload_n hx hb dX0_step_116 rfl (lv_at hl 3 rfl) ?_
                refine lv_bipush (v := 15) hx hb dX0_step_117 (by decide) ?_
                refine lv_iand hx hb dX0_step_119 ?_
                refine lv_iconst (v := 3) hx hb dX0_step_120 (by decide) ?_
                refine lv_isub hx hb dX0_step_121 ?_
                refine lv_goto (tgt := 126) hx hb dX0_step_122 (by decide) ?_
                exact jn2 _ (by rw [sm_n2, if_neg c_2, if_pos c_3])
            · skip
              refine lv_iconst (v := 0) hx hb dX0_step_108 (by decide) ?_
              refine lv_goto (tgt := 126) hx hb dX0_step_109 (by decide) ?_
              exact jn2 _ (by rw [sm_n2, if_pos c_2])
        · skip
          refine lv_icmp_ne (tgt := 91) hx hb dX0_step_84 (by decide) (fun c_2 => ?_) (fun c_2 => ?_)
          · skip
            refine lv_iload_n hx hb dX0_step_91 rfl (lv_at hl 2 rfl) ?_
            exact jn1 _ (by rw [sm_n1, if_neg c_2])
          · skip
            refine lv_iconst (v := 0) hx hb dX0_step_87 (by decide) ?_
            refine lv_goto (tgt := 92) hx hb dX0_step_88 (by decide) ?_
            exact jn1 _ (by rw [sm_n1, if_pos c_2])
      · skip
        have hge : 14 ≤ n := Nat.le_of_not_lt (fun q => c_1 ((nI_ltI (b := 14) (by omega) (by decide)).mpr q))
        refine lv_bipush (v := (-2)) hx hb dX0_step_59 (by decide) ?_
        exact sx_iret hx hb hr hlocks hK (P, n) (by rw [sm_sp, if_neg hg, if_neg hq, if_pos hge]) hP hD hS dX0_step_61
    · skip
      refine lv_if_eq (tgt := 50) hx hb dX0_step_37 (by decide) (fun c_1 => ?_) (fun c_1 => ?_)
      · skip
        exact jn (fun q => q.1 c_1)
      · skip
        refine lv_aload_n hx hb dX0_step_40 rfl (lv_at hl 0 rfl) ?_
        refine sx_callR (ci := 0) (As := []) (rest := []) ⟨hx, hb, hml, hown, hts⟩ (ct_choiceSteps l dC dI ad cB cI P n v pt en tt tv tx oc o1 o2 o3 hn) (cwV 0 hts (lw_V q92 q94 qs0 q21 q95) rfl rfl rfl (by decide +kernel) ⟨Nat.le_of_ble_eq_true rfl, Nat.le_of_ble_eq_true rfl⟩) hK hP rfl rfl rfl hl.1 rfl (Nat.le_of_ble_eq_true rfl) ⟨Nat.zero_le _, Nat.zero_le _⟩ dX0_step_41 ?_
        refine lv_iconst (v := 3) hx hb dX0_step_44 (by decide) ?_
        refine lv_icmp_lt (tgt := 50) hx hb dX0_step_45 (by decide) (fun c_2 => ?_) (fun c_2 => ?_)
        · skip
          exact jn (fun q => absurd ((nI_ltI (b := 3) hcb31 (by decide)).mp c_2) (by omega))
        · skip
          refine lv_iconst (v := (-1)) hx hb dX0_step_48 (by decide) ?_
          exact sx_iret hx hb hr hlocks hK (P, n) (by rw [sm_sp, if_neg hg, if_pos ⟨c_1, Nat.le_of_not_lt (fun q => c_2 ((nI_ltI (b := 3) hcb31 (by decide)).mpr q))⟩]) hP hD hS dX0_step_49
  · skip
    refine lv_iload_n hx hb dX0_step_0 rfl (lv_at hl 1 rfl) ?_
    refine lv_if_lt (tgt := 31) hx hb dX0_step_1 (by decide) (fun c_1 => ?_) (fun c_1 => ?_)
    · skip
      refine lv_iconst (v := (-1)) hx hb dX0_step_31 (by decide) ?_
      exact sx_iret hx hb hr hlocks hK (P, n) (by rw [sm_sp, if_pos (by rw [sm_mg, if_pos c_1])]) hP hD hS dX0_step_32
    · skip
      refine lv_iload_n hx hb dX0_step_4 rfl (lv_at hl 1 rfl) ?_
      refine lv_bipush (v := 9) hx hb dX0_step_5 (by decide) ?_
      refine lv_icmp_gt (tgt := 31) hx hb dX0_step_7 (by decide) (fun c_2 => ?_) (fun c_2 => ?_)
      · skip
        refine lv_iconst (v := (-1)) hx hb dX0_step_31 (by decide) ?_
        exact sx_iret hx hb hr hlocks hK (P, n) (by rw [sm_sp, if_pos (by rw [sm_mg, if_neg c_1, if_pos c_2])]) hP hD hS dX0_step_32
      · skip
        refine lv_iload_n hx hb dX0_step_10 rfl (lv_at hl 1 rfl) ?_
        refine lv_bipush (v := 8) hx hb dX0_step_11 (by decide) ?_
        refine lv_icmp_eq (tgt := 33) hx hb dX0_step_13 (by decide) (fun c_3 => ?_) (fun c_3 => ?_)
        · skip
          exact jn (by rw [sm_mg, if_neg c_1, if_neg c_2, if_pos c_3]; decide)
        · skip
          refine lv_iload_n hx hb dX0_step_16 rfl (lv_at hl 2 rfl) ?_
          refine sx_callS (As := [.int a]) (rest := []) ⟨hx, hb, hml, hown, hts⟩ (ct_isVariable l a) (va_cwS 1 hts (lw_S q83 q84 q21 q85) rfl rfl rfl (by decide +kernel) ⟨Nat.le_of_ble_eq_true rfl, Nat.le_of_ble_eq_true rfl⟩) rfl hl.1 rfl (Nat.le_of_ble_eq_true rfl) ⟨Nat.zero_le _, Nat.zero_le _⟩ dX0_step_17 ?_
          refine lv_if_eq (tgt := 31) hx hb dX0_step_20 (by decide) (fun c_4 => ?_) (fun c_4 => ?_)
          · skip
            refine lv_iconst (v := (-1)) hx hb dX0_step_31 (by decide) ?_
            exact sx_iret hx hb hr hlocks hK (P, n) (by rw [sm_sp, if_pos (by rw [sm_mg, if_neg c_1, if_neg c_2, if_neg c_3, if_pos c_4])]) hP hD hS dX0_step_32
          · skip
            refine lv_iload_n hx hb dX0_step_23 rfl (lv_at hl 1 rfl) ?_
            refine lv_iload_n hx hb dX0_step_24 rfl (lv_at hl 3 rfl) ?_
            refine sx_callS (As := [.int k, .int b]) (rest := []) ⟨hx, hb, hml, hown, hts⟩ (ct_secondOk l k b) (va_cwS 2 hts (lw_S q86 q87 q21 q88) rfl rfl rfl (by decide +kernel) ⟨Nat.le_of_ble_eq_true rfl, Nat.le_of_ble_eq_true rfl⟩) rfl hl.1 rfl (Nat.le_of_ble_eq_true rfl) ⟨Nat.zero_le _, Nat.zero_le _⟩ dX0_step_25 ?_
            refine lv_if_ne (tgt := 33) hx hb dX0_step_28 (by decide) (fun c_5 => ?_) (fun c_5 => ?_)
            · skip
              exact jn (by rw [sm_mg, if_neg c_1, if_neg c_2, if_neg c_3, if_neg c_4, if_neg c_5]; decide)
            · skip
              refine lv_iconst (v := (-1)) hx hb dX0_step_31 (by decide) ?_
              exact sx_iret hx hb hr hlocks hK (P, n) (by rw [sm_sp, if_pos (by rw [sm_mg, if_neg c_1, if_neg c_2, if_neg c_3, if_neg c_4, if_pos c_5])]) hP hD hS dX0_step_32
end
section
/-! THE TWO CONSTRUCTORS -/
set_option maxHeartbeats 4000000 in
set_option maxRecDepth 100000 in
theorem ct_X0init (l : Launch) (dC : Nat → ClassId) (dI : Nat → Nat → Nat) (h0 sz : Nat) : Met l yX0_init (ws_ yX0_init cX0_init 1 none) ({ frames := 1, cells := 10, slots := 104, locals := 12 }) (va_Pc [.ref h0] (fun U => U.heap.size = sz ∧ va_P (dC, dI) vwCl [(h0, .inr (0, [.null, .null, .null, .null, .int 0, .null, .int 0, .int 0, .int 0, .null, .null, .int 0, .null, .null, .null]))] U.heap ∧ va_K (dC, dI) vwCl [] U ∧ va_D (fun _ => True) [(h0, .inr (0, [.null, .null, .null, .null, .int 0, .null, .int 0, .int 0, .int 0, .null, .null, .int 0, .null, .null, .null]))])) (va_Qv (fun u : (Nat → Nat) × ClassId × ClassId => u.1 0 = h0) (fun u t => va_P (dC, dI) vwCl (xW u.1 u.2.1 u.2.2 (sm_z, sm_z, sm_z, sm_z) 0 sm_z 0 0 0 sm_z sm_z 0 sm_z sm_z sm_z) t.heap ∧ va_K (dC, dI) vwCl (tyX u.2.1 u.2.2) t ∧ va_D (va_A [(h0, .inr (0, [.null, .null, .null, .null, .int 0, .null, .int 0, .int 0, .int 0, .null, .null, .int 0, .null, .null, .null]))] sz) (xW u.1 u.2.1 u.2.2 (sm_z, sm_z, sm_z, sm_z) 0 sm_z 0 0 0 sm_z sm_z 0 sm_z sm_z sm_z)) (va_A [(h0, .inr (0, [.null, .null, .null, .null, .int 0, .null, .int 0, .int 0, .int 0, .null, .null, .int 0, .null, .null, .null]))] sz)) 10 104 (va_A [(h0, .inr (0, [.null, .null, .null, .null, .int 0, .null, .int 0, .int 0, .int 0, .null, .null, .int 0, .null, .null, .null]))] sz) := by
  refine Met.ofW (cc := cX0_init) (maxL := 1) (ret := none) (by decide) rfl ?_
  intro p e s m args below meth c s₁ B hml hv
  obtain ⟨rfl, hsz, hP, hK, hD0⟩ := hv
  have hx := B.exec
  have hb := B.bytes
  have hr := B.returns
  have hts := atoms_spec (ws := ws_ yX0_init cX0_init 1 none) B.pre
  have hts : ∀ w ∈ lw_all, w.before _ s = true := fun w h => hts w (List.mem_cons_of_mem _ h)
  have hown : s.vm.findClass RX0 = some m.cls := findClass_of_methodNamed B.named
  have hlocks := B.notSynchronized
  have hin : meth.name = "<init>" := (name_of_methodNamed B.named B.method).1
  subst hsz
  have hD := hD0.self (sz := s.heap.size)
  generalize hAe : va_A [(h0, .inr (0, [.null, .null, .null, .null, .int 0, .null, .int 0, .int 0, .int 0, .null, .null, .int 0, .null, .null, .null]))] s.heap.size = A at hD ⊢
  have hA : ∀ q : Nat, s.heap.size ≤ q → A q := fun q h => by rw [← hAe]; exact Or.inr h
  have hS : va_S A s.heap s.heap [] := va_S.rf
  have hl := lv_entry ([.ref h0]) (n := 1) (Nat.le_of_ble_eq_true rfl)
  rw [lg_entry_eq]
  generalize (lg_sl ([.ref h0]) ++ List.replicate (1 - (lg_sl ([.ref h0])).length) Slot.unset).toArray = ls at hl ⊢
  have hl : lv_has ls 1 [(0, .ref h0)] := hl
  refine lv_aload_n hx hb dX0_init_0 rfl (lv_at hl 0 rfl) ?_
  refine W.objInit hx hb hown (hts _ q28) (hts _ q29) (hts _ q30) rfl (by rw [hml]; exact hl.1) rfl dX0_init_1 (Nat.le_of_ble_eq_true rfl) (Nat.le_of_ble_eq_true rfl) ?_
  refine W.eq (g2 := F0 m 4 ls []) rfl ?_
  refine lv_aload_n hx hb dX0_init_4 rfl (lv_at hl 0 rfl) ?_
  refine lv_bipush (v := 14) hx hb dX0_init_5 (by decide) ?_
  refine va_newa (atype := .byte) (a0 := (14, .inl sm_z)) (ty := .byte) (N' := 14) hx hb (hts _ q77) rfl hK hP hD hS hA (fun _ => rfl) (by decide) (by decide) (by decide) (Nat.le_of_ble_eq_true rfl) (Nat.le_of_ble_eq_true rfl) dX0_init_7 (fun q1 c1 H hK hP hD hS => ?_)
  have hP : va_P (dC, dI) vwCl [(h0, .inr (0, [.null, .null, .null, .null, .int 0, .null, .int 0, .int 0, .int 0, .null, .null, .int 0, .null, .null, .null])), (q1, .inl (c1, 14, .inl sm_z))] H := hP
  have hD : va_D A [(h0, .inr (0, [.null, .null, .null, .null, .int 0, .null, .int 0, .int 0, .int 0, .null, .null, .int 0, .null, .null, .null])), (q1, .inl (c1, 14, .inl sm_z))] := hD
  refine va_putF (D := (dC, dI)) (ci := 0) (v := .ref q1) (ty := .array .byte) (C := RX0) (T := TX0) (N := 15) hx hb hts in_X0 tyX0 tyX0_ok nmX0 hown hK hP hD hS 0 rfl rfl 0 (by decide) (hts _ q31) (fun _ h9 => h9) rfl hin rfl (by decide +kernel) rfl rfl (Nat.le_of_ble_eq_true rfl) dX0_init_9 (fun H locs hP hD hS => ?_)
  have hP : va_P (dC, dI) vwCl [(h0, .inr (0, [.ref q1, .null, .null, .null, .int 0, .null, .int 0, .int 0, .int 0, .null, .null, .int 0, .null, .null, .null])), (q1, .inl (c1, 14, .inl sm_z))] H := hP
  have hD : va_D A [(h0, .inr (0, [.ref q1, .null, .null, .null, .int 0, .null, .int 0, .int 0, .int 0, .null, .null, .int 0, .null, .null, .null])), (q1, .inl (c1, 14, .inl sm_z))] := hD
  refine lv_aload_n hx hb dX0_init_12 rfl (lv_at hl 0 rfl) ?_
  refine lv_bipush (v := 14) hx hb dX0_init_13 (by decide) ?_
  refine va_newa (atype := .byte) (a0 := (14, .inl sm_z)) (ty := .byte) (N' := 14) hx hb (hts _ q77) rfl hK hP hD hS hA (fun _ => rfl) (by decide) (by decide) (by decide) (Nat.le_of_ble_eq_true rfl) (Nat.le_of_ble_eq_true rfl) dX0_init_15 (fun q2 c2 H hK hP hD hS => ?_)
  have hc : c1 = c2 := Option.some.inj ((va_nm_byte (hK.2 0 _ rfl).2).symm.trans (va_nm_byte (hK.2 1 _ rfl).2))
  subst hc
  have hK : va_K (dC, dI) vwCl [(c1, .byte)] s := hK.sub [0] rfl
  have hP : va_P (dC, dI) vwCl [(h0, .inr (0, [.ref q1, .null, .null, .null, .int 0, .null, .int 0, .int 0, .int 0, .null, .null, .int 0, .null, .null, .null])), (q1, .inl (c1, 14, .inl sm_z)), (q2, .inl (c1, 14, .inl sm_z))] H := hP
  have hD : va_D A [(h0, .inr (0, [.ref q1, .null, .null, .null, .int 0, .null, .int 0, .int 0, .int 0, .null, .null, .int 0, .null, .null, .null])), (q1, .inl (c1, 14, .inl sm_z)), (q2, .inl (c1, 14, .inl sm_z))] := hD
  refine va_putF (D := (dC, dI)) (ci := 0) (v := .ref q2) (ty := .array .byte) (C := RX0) (T := TX0) (N := 15) hx hb hts in_X0 tyX0 tyX0_ok nmX0 hown hK hP hD hS 0 rfl rfl 1 (by decide) (hts _ q32) (fun _ h9 => h9) rfl hin rfl (by decide +kernel) rfl rfl (Nat.le_of_ble_eq_true rfl) dX0_init_17 (fun H locs hP hD hS => ?_)
  have hP : va_P (dC, dI) vwCl [(h0, .inr (0, [.ref q1, .ref q2, .null, .null, .int 0, .null, .int 0, .int 0, .int 0, .null, .null, .int 0, .null, .null, .null])), (q1, .inl (c1, 14, .inl sm_z)), (q2, .inl (c1, 14, .inl sm_z))] H := hP
  have hD : va_D A [(h0, .inr (0, [.ref q1, .ref q2, .null, .null, .int 0, .null, .int 0, .int 0, .int 0, .null, .null, .int 0, .null, .null, .null])), (q1, .inl (c1, 14, .inl sm_z)), (q2, .inl (c1, 14, .inl sm_z))] := hD
  refine lv_aload_n hx hb dX0_init_20 rfl (lv_at hl 0 rfl) ?_
  refine lv_bipush (v := 14) hx hb dX0_init_21 (by decide) ?_
  refine va_newa (atype := .byte) (a0 := (14, .inl sm_z)) (ty := .byte) (N' := 14) hx hb (hts _ q77) rfl hK hP hD hS hA (fun _ => rfl) (by decide) (by decide) (by decide) (Nat.le_of_ble_eq_true rfl) (Nat.le_of_ble_eq_true rfl) dX0_init_23 (fun q3 c3 H hK hP hD hS => ?_)
  have hc : c1 = c3 := Option.some.inj ((va_nm_byte (hK.2 0 _ rfl).2).symm.trans (va_nm_byte (hK.2 1 _ rfl).2))
  subst hc
  have hK : va_K (dC, dI) vwCl [(c1, .byte)] s := hK.sub [0] rfl
  have hP : va_P (dC, dI) vwCl [(h0, .inr (0, [.ref q1, .ref q2, .null, .null, .int 0, .null, .int 0, .int 0, .int 0, .null, .null, .int 0, .null, .null, .null])), (q1, .inl (c1, 14, .inl sm_z)), (q2, .inl (c1, 14, .inl sm_z)), (q3, .inl (c1, 14, .inl sm_z))] H := hP
  have hD : va_D A [(h0, .inr (0, [.ref q1, .ref q2, .null, .null, .int 0, .null, .int 0, .int 0, .int 0, .null, .null, .int 0, .null, .null, .null])), (q1, .inl (c1, 14, .inl sm_z)), (q2, .inl (c1, 14, .inl sm_z)), (q3, .inl (c1, 14, .inl sm_z))] := hD
  refine va_putF (D := (dC, dI)) (ci := 0) (v := .ref q3) (ty := .array .byte) (C := RX0) (T := TX0) (N := 15) hx hb hts in_X0 tyX0 tyX0_ok nmX0 hown hK hP hD hS 0 rfl rfl 2 (by decide) (hts _ q33) (fun _ h9 => h9) rfl hin rfl (by decide +kernel) rfl rfl (Nat.le_of_ble_eq_true rfl) dX0_init_25 (fun H locs hP hD hS => ?_)
  have hP : va_P (dC, dI) vwCl [(h0, .inr (0, [.ref q1, .ref q2, .ref q3, .null, .int 0, .null, .int 0, .int 0, .int 0, .null, .null, .int 0, .null, .null, .null])), (q1, .inl (c1, 14, .inl sm_z)), (q2, .inl (c1, 14, .inl sm_z)), (q3, .inl (c1, 14, .inl sm_z))] H := hP
  have hD : va_D A [(h0, .inr (0, [.ref q1, .ref q2, .ref q3, .null, .int 0, .null, .int 0, .int 0, .int 0, .null, .null, .int 0, .null, .null, .null])), (q1, .inl (c1, 14, .inl sm_z)), (q2, .inl (c1, 14, .inl sm_z)), (q3, .inl (c1, 14, .inl sm_z))] := hD
  refine lv_aload_n hx hb dX0_init_28 rfl (lv_at hl 0 rfl) ?_
  refine lv_bipush (v := 14) hx hb dX0_init_29 (by decide) ?_
  refine va_newa (atype := .byte) (a0 := (14, .inl sm_z)) (ty := .byte) (N' := 14) hx hb (hts _ q77) rfl hK hP hD hS hA (fun _ => rfl) (by decide) (by decide) (by decide) (Nat.le_of_ble_eq_true rfl) (Nat.le_of_ble_eq_true rfl) dX0_init_31 (fun q4 c4 H hK hP hD hS => ?_)
  have hc : c1 = c4 := Option.some.inj ((va_nm_byte (hK.2 0 _ rfl).2).symm.trans (va_nm_byte (hK.2 1 _ rfl).2))
  subst hc
  have hK : va_K (dC, dI) vwCl [(c1, .byte)] s := hK.sub [0] rfl
  have hP : va_P (dC, dI) vwCl [(h0, .inr (0, [.ref q1, .ref q2, .ref q3, .null, .int 0, .null, .int 0, .int 0, .int 0, .null, .null, .int 0, .null, .null, .null])), (q1, .inl (c1, 14, .inl sm_z)), (q2, .inl (c1, 14, .inl sm_z)), (q3, .inl (c1, 14, .inl sm_z)), (q4, .inl (c1, 14, .inl sm_z))] H := hP
  have hD : va_D A [(h0, .inr (0, [.ref q1, .ref q2, .ref q3, .null, .int 0, .null, .int 0, .int 0, .int 0, .null, .null, .int 0, .null, .null, .null])), (q1, .inl (c1, 14, .inl sm_z)), (q2, .inl (c1, 14, .inl sm_z)), (q3, .inl (c1, 14, .inl sm_z)), (q4, .inl (c1, 14, .inl sm_z))] := hD
  refine va_putF (D := (dC, dI)) (ci := 0) (v := .ref q4) (ty := .array .byte) (C := RX0) (T := TX0) (N := 15) hx hb hts in_X0 tyX0 tyX0_ok nmX0 hown hK hP hD hS 0 rfl rfl 3 (by decide) (hts _ q34) (fun _ h9 => h9) rfl hin rfl (by decide +kernel) rfl rfl (Nat.le_of_ble_eq_true rfl) dX0_init_33 (fun H locs hP hD hS => ?_)
  have hP : va_P (dC, dI) vwCl [(h0, .inr (0, [.ref q1, .ref q2, .ref q3, .ref q4, .int 0, .null, .int 0, .int 0, .int 0, .null, .null, .int 0, .null, .null, .null])), (q1, .inl (c1, 14, .inl sm_z)), (q2, .inl (c1, 14, .inl sm_z)), (q3, .inl (c1, 14, .inl sm_z)), (q4, .inl (c1, 14, .inl sm_z))] H := hP
  have hD : va_D A [(h0, .inr (0, [.ref q1, .ref q2, .ref q3, .ref q4, .int 0, .null, .int 0, .int 0, .int 0, .null, .null, .int 0, .null, .null, .null])), (q1, .inl (c1, 14, .inl sm_z)), (q2, .inl (c1, 14, .inl sm_z)), (q3, .inl (c1, 14, .inl sm_z)), (q4, .inl (c1, 14, .inl sm_z))] := hD
  refine lv_aload_n hx hb dX0_init_36 rfl (lv_at hl 0 rfl) ?_
  refine lv_iconst (v := 4) hx hb dX0_init_37 (by decide) ?_
  refine va_newa (atype := .int) (a0 := (4, .inl sm_z)) (ty := .int) (N' := 4) hx hb (hts _ q78) rfl hK hP hD hS hA (fun _ => rfl) (by decide) (by decide) (by decide) (Nat.le_of_ble_eq_true rfl) (Nat.le_of_ble_eq_true rfl) dX0_init_38 (fun q5 c5 H hK hP hD hS => ?_)
  have hP : va_P (dC, dI) vwCl [(h0, .inr (0, [.ref q1, .ref q2, .ref q3, .ref q4, .int 0, .null, .int 0, .int 0, .int 0, .null, .null, .int 0, .null, .null, .null])), (q1, .inl (c1, 14, .inl sm_z)), (q2, .inl (c1, 14, .inl sm_z)), (q3, .inl (c1, 14, .inl sm_z)), (q4, .inl (c1, 14, .inl sm_z)), (q5, .inl (c5, 4, .inl sm_z))] H := hP
  have hD : va_D A [(h0, .inr (0, [.ref q1, .ref q2, .ref q3, .ref q4, .int 0, .null, .int 0, .int 0, .int 0, .null, .null, .int 0, .null, .null, .null])), (q1, .inl (c1, 14, .inl sm_z)), (q2, .inl (c1, 14, .inl sm_z)), (q3, .inl (c1, 14, .inl sm_z)), (q4, .inl (c1, 14, .inl sm_z)), (q5, .inl (c5, 4, .inl sm_z))] := hD
  refine va_putF (D := (dC, dI)) (ci := 0) (v := .ref q5) (ty := .array .int) (C := RX0) (T := TX0) (N := 15) hx hb hts in_X0 tyX0 tyX0_ok nmX0 hown hK hP hD hS 0 rfl rfl 5 (by decide) (hts _ q36) (fun _ h9 => h9) rfl hin rfl (by decide +kernel) rfl rfl (Nat.le_of_ble_eq_true rfl) dX0_init_40 (fun H locs hP hD hS => ?_)
  have hP : va_P (dC, dI) vwCl [(h0, .inr (0, [.ref q1, .ref q2, .ref q3, .ref q4, .int 0, .ref q5, .int 0, .int 0, .int 0, .null, .null, .int 0, .null, .null, .null])), (q1, .inl (c1, 14, .inl sm_z)), (q2, .inl (c1, 14, .inl sm_z)), (q3, .inl (c1, 14, .inl sm_z)), (q4, .inl (c1, 14, .inl sm_z)), (q5, .inl (c5, 4, .inl sm_z))] H := hP
  have hD : va_D A [(h0, .inr (0, [.ref q1, .ref q2, .ref q3, .ref q4, .int 0, .ref q5, .int 0, .int 0, .int 0, .null, .null, .int 0, .null, .null, .null])), (q1, .inl (c1, 14, .inl sm_z)), (q2, .inl (c1, 14, .inl sm_z)), (q3, .inl (c1, 14, .inl sm_z)), (q4, .inl (c1, 14, .inl sm_z)), (q5, .inl (c5, 4, .inl sm_z))] := hD
  refine lv_aload_n hx hb dX0_init_43 rfl (lv_at hl 0 rfl) ?_
  refine lv_bipush (v := 16) hx hb dX0_init_44 (by decide) ?_
  refine va_newa (atype := .byte) (a0 := (16, .inl sm_z)) (ty := .byte) (N' := 16) hx hb (hts _ q77) rfl hK hP hD hS hA (fun _ => rfl) (by decide) (by decide) (by decide) (Nat.le_of_ble_eq_true rfl) (Nat.le_of_ble_eq_true rfl) dX0_init_46 (fun q6 c6 H hK hP hD hS => ?_)
  have hc : c1 = c6 := Option.some.inj ((va_nm_byte (hK.2 0 _ rfl).2).symm.trans (va_nm_byte (hK.2 2 _ rfl).2))
  subst hc
  have hK : va_K (dC, dI) vwCl [(c1, .byte), (c5, .int)] s := hK.sub [0, 1] rfl
  have hP : va_P (dC, dI) vwCl [(h0, .inr (0, [.ref q1, .ref q2, .ref q3, .ref q4, .int 0, .ref q5, .int 0, .int 0, .int 0, .null, .null, .int 0, .null, .null, .null])), (q1, .inl (c1, 14, .inl sm_z)), (q2, .inl (c1, 14, .inl sm_z)), (q3, .inl (c1, 14, .inl sm_z)), (q4, .inl (c1, 14, .inl sm_z)), (q5, .inl (c5, 4, .inl sm_z)), (q6, .inl (c1, 16, .inl sm_z))] H := hP
  have hD : va_D A [(h0, .inr (0, [.ref q1, .ref q2, .ref q3, .ref q4, .int 0, .ref q5, .int 0, .int 0, .int 0, .null, .null, .int 0, .null, .null, .null])), (q1, .inl (c1, 14, .inl sm_z)), (q2, .inl (c1, 14, .inl sm_z)), (q3, .inl (c1, 14, .inl sm_z)), (q4, .inl (c1, 14, .inl sm_z)), (q5, .inl (c5, 4, .inl sm_z)), (q6, .inl (c1, 16, .inl sm_z))] := hD
  refine va_putF (D := (dC, dI)) (ci := 0) (v := .ref q6) (ty := .array .byte) (C := RX0) (T := TX0) (N := 15) hx hb hts in_X0 tyX0 tyX0_ok nmX0 hown hK hP hD hS 0 rfl rfl 9 (by decide) (hts _ q40) (fun _ h9 => h9) rfl hin rfl (by decide +kernel) rfl rfl (Nat.le_of_ble_eq_true rfl) dX0_init_48 (fun H locs hP hD hS => ?_)
  have hP : va_P (dC, dI) vwCl [(h0, .inr (0, [.ref q1, .ref q2, .ref q3, .ref q4, .int 0, .ref q5, .int 0, .int 0, .int 0, .ref q6, .null, .int 0, .null, .null, .null])), (q1, .inl (c1, 14, .inl sm_z)), (q2, .inl (c1, 14, .inl sm_z)), (q3, .inl (c1, 14, .inl sm_z)), (q4, .inl (c1, 14, .inl sm_z)), (q5, .inl (c5, 4, .inl sm_z)), (q6, .inl (c1, 16, .inl sm_z))] H := hP
  have hD : va_D A [(h0, .inr (0, [.ref q1, .ref q2, .ref q3, .ref q4, .int 0, .ref q5, .int 0, .int 0, .int 0, .ref q6, .null, .int 0, .null, .null, .null])), (q1, .inl (c1, 14, .inl sm_z)), (q2, .inl (c1, 14, .inl sm_z)), (q3, .inl (c1, 14, .inl sm_z)), (q4, .inl (c1, 14, .inl sm_z)), (q5, .inl (c5, 4, .inl sm_z)), (q6, .inl (c1, 16, .inl sm_z))] := hD
  refine lv_aload_n hx hb dX0_init_51 rfl (lv_at hl 0 rfl) ?_
  refine lv_bipush (v := 16) hx hb dX0_init_52 (by decide) ?_
  refine va_newa (atype := .int) (a0 := (16, .inl sm_z)) (ty := .int) (N' := 16) hx hb (hts _ q78) rfl hK hP hD hS hA (fun _ => rfl) (by decide) (by decide) (by decide) (Nat.le_of_ble_eq_true rfl) (Nat.le_of_ble_eq_true rfl) dX0_init_54 (fun q7 c7 H hK hP hD hS => ?_)
  have hc : c5 = c7 := Option.some.inj ((va_nm_int (hK.2 1 _ rfl).2).symm.trans (va_nm_int (hK.2 2 _ rfl).2))
  subst hc
  have hK : va_K (dC, dI) vwCl [(c1, .byte), (c5, .int)] s := hK.sub [0, 1] rfl
  have hP : va_P (dC, dI) vwCl [(h0, .inr (0, [.ref q1, .ref q2, .ref q3, .ref q4, .int 0, .ref q5, .int 0, .int 0, .int 0, .ref q6, .null, .int 0, .null, .null, .null])), (q1, .inl (c1, 14, .inl sm_z)), (q2, .inl (c1, 14, .inl sm_z)), (q3, .inl (c1, 14, .inl sm_z)), (q4, .inl (c1, 14, .inl sm_z)), (q5, .inl (c5, 4, .inl sm_z)), (q6, .inl (c1, 16, .inl sm_z)), (q7, .inl (c5, 16, .inl sm_z))] H := hP
  have hD : va_D A [(h0, .inr (0, [.ref q1, .ref q2, .ref q3, .ref q4, .int 0, .ref q5, .int 0, .int 0, .int 0, .ref q6, .null, .int 0, .null, .null, .null])), (q1, .inl (c1, 14, .inl sm_z)), (q2, .inl (c1, 14, .inl sm_z)), (q3, .inl (c1, 14, .inl sm_z)), (q4, .inl (c1, 14, .inl sm_z)), (q5, .inl (c5, 4, .inl sm_z)), (q6, .inl (c1, 16, .inl sm_z)), (q7, .inl (c5, 16, .inl sm_z))] := hD
  refine va_putF (D := (dC, dI)) (ci := 0) (v := .ref q7) (ty := .array .int) (C := RX0) (T := TX0) (N := 15) hx hb hts in_X0 tyX0 tyX0_ok nmX0 hown hK hP hD hS 0 rfl rfl 10 (by decide) (hts _ q41) (fun _ h9 => h9) rfl hin rfl (by decide +kernel) rfl rfl (Nat.le_of_ble_eq_true rfl) dX0_init_56 (fun H locs hP hD hS => ?_)
  have hP : va_P (dC, dI) vwCl [(h0, .inr (0, [.ref q1, .ref q2, .ref q3, .ref q4, .int 0, .ref q5, .int 0, .int 0, .int 0, .ref q6, .ref q7, .int 0, .null, .null, .null])), (q1, .inl (c1, 14, .inl sm_z)), (q2, .inl (c1, 14, .inl sm_z)), (q3, .inl (c1, 14, .inl sm_z)), (q4, .inl (c1, 14, .inl sm_z)), (q5, .inl (c5, 4, .inl sm_z)), (q6, .inl (c1, 16, .inl sm_z)), (q7, .inl (c5, 16, .inl sm_z))] H := hP
  have hD : va_D A [(h0, .inr (0, [.ref q1, .ref q2, .ref q3, .ref q4, .int 0, .ref q5, .int 0, .int 0, .int 0, .ref q6, .ref q7, .int 0, .null, .null, .null])), (q1, .inl (c1, 14, .inl sm_z)), (q2, .inl (c1, 14, .inl sm_z)), (q3, .inl (c1, 14, .inl sm_z)), (q4, .inl (c1, 14, .inl sm_z)), (q5, .inl (c5, 4, .inl sm_z)), (q6, .inl (c1, 16, .inl sm_z)), (q7, .inl (c5, 16, .inl sm_z))] := hD
  refine lv_aload_n hx hb dX0_init_59 rfl (lv_at hl 0 rfl) ?_
  refine lv_iconst (v := 4) hx hb dX0_init_60 (by decide) ?_
  refine va_newa (atype := .byte) (a0 := (4, .inl sm_z)) (ty := .byte) (N' := 4) hx hb (hts _ q77) rfl hK hP hD hS hA (fun _ => rfl) (by decide) (by decide) (by decide) (Nat.le_of_ble_eq_true rfl) (Nat.le_of_ble_eq_true rfl) dX0_init_61 (fun q8 c8 H hK hP hD hS => ?_)
  have hc : c1 = c8 := Option.some.inj ((va_nm_byte (hK.2 0 _ rfl).2).symm.trans (va_nm_byte (hK.2 2 _ rfl).2))
  subst hc
  have hK : va_K (dC, dI) vwCl [(c1, .byte), (c5, .int)] s := hK.sub [0, 1] rfl
  have hP : va_P (dC, dI) vwCl [(h0, .inr (0, [.ref q1, .ref q2, .ref q3, .ref q4, .int 0, .ref q5, .int 0, .int 0, .int 0, .ref q6, .ref q7, .int 0, .null, .null, .null])), (q1, .inl (c1, 14, .inl sm_z)), (q2, .inl (c1, 14, .inl sm_z)), (q3, .inl (c1, 14, .inl sm_z)), (q4, .inl (c1, 14, .inl sm_z)), (q5, .inl (c5, 4, .inl sm_z)), (q6, .inl (c1, 16, .inl sm_z)), (q7, .inl (c5, 16, .inl sm_z)), (q8, .inl (c1, 4, .inl sm_z))] H := hP
  have hD : va_D A [(h0, .inr (0, [.ref q1, .ref q2, .ref q3, .ref q4, .int 0, .ref q5, .int 0, .int 0, .int 0, .ref q6, .ref q7, .int 0, .null, .null, .null])), (q1, .inl (c1, 14, .inl sm_z)), (q2, .inl (c1, 14, .inl sm_z)), (q3, .inl (c1, 14, .inl sm_z)), (q4, .inl (c1, 14, .inl sm_z)), (q5, .inl (c5, 4, .inl sm_z)), (q6, .inl (c1, 16, .inl sm_z)), (q7, .inl (c5, 16, .inl sm_z)), (q8, .inl (c1, 4, .inl sm_z))] := hD
  refine va_putF (D := (dC, dI)) (ci := 0) (v := .ref q8) (ty := .array .byte) (C := RX0) (T := TX0) (N := 15) hx hb hts in_X0 tyX0 tyX0_ok nmX0 hown hK hP hD hS 0 rfl rfl 12 (by decide) (hts _ q43) (fun _ h9 => h9) rfl hin rfl (by decide +kernel) rfl rfl (Nat.le_of_ble_eq_true rfl) dX0_init_63 (fun H locs hP hD hS => ?_)
  have hP : va_P (dC, dI) vwCl [(h0, .inr (0, [.ref q1, .ref q2, .ref q3, .ref q4, .int 0, .ref q5, .int 0, .int 0, .int 0, .ref q6, .ref q7, .int 0, .ref q8, .null, .null])), (q1, .inl (c1, 14, .inl sm_z)), (q2, .inl (c1, 14, .inl sm_z)), (q3, .inl (c1, 14, .inl sm_z)), (q4, .inl (c1, 14, .inl sm_z)), (q5, .inl (c5, 4, .inl sm_z)), (q6, .inl (c1, 16, .inl sm_z)), (q7, .inl (c5, 16, .inl sm_z)), (q8, .inl (c1, 4, .inl sm_z))] H := hP
  have hD : va_D A [(h0, .inr (0, [.ref q1, .ref q2, .ref q3, .ref q4, .int 0, .ref q5, .int 0, .int 0, .int 0, .ref q6, .ref q7, .int 0, .ref q8, .null, .null])), (q1, .inl (c1, 14, .inl sm_z)), (q2, .inl (c1, 14, .inl sm_z)), (q3, .inl (c1, 14, .inl sm_z)), (q4, .inl (c1, 14, .inl sm_z)), (q5, .inl (c5, 4, .inl sm_z)), (q6, .inl (c1, 16, .inl sm_z)), (q7, .inl (c5, 16, .inl sm_z)), (q8, .inl (c1, 4, .inl sm_z))] := hD
  refine lv_aload_n hx hb dX0_init_66 rfl (lv_at hl 0 rfl) ?_
  refine lv_iconst (v := 4) hx hb dX0_init_67 (by decide) ?_
  refine va_newa (atype := .byte) (a0 := (4, .inl sm_z)) (ty := .byte) (N' := 4) hx hb (hts _ q77) rfl hK hP hD hS hA (fun _ => rfl) (by decide) (by decide) (by decide) (Nat.le_of_ble_eq_true rfl) (Nat.le_of_ble_eq_true rfl) dX0_init_68 (fun q9 c9 H hK hP hD hS => ?_)
  have hc : c1 = c9 := Option.some.inj ((va_nm_byte (hK.2 0 _ rfl).2).symm.trans (va_nm_byte (hK.2 2 _ rfl).2))
  subst hc
  have hK : va_K (dC, dI) vwCl [(c1, .byte), (c5, .int)] s := hK.sub [0, 1] rfl
  have hP : va_P (dC, dI) vwCl [(h0, .inr (0, [.ref q1, .ref q2, .ref q3, .ref q4, .int 0, .ref q5, .int 0, .int 0, .int 0, .ref q6, .ref q7, .int 0, .ref q8, .null, .null])), (q1, .inl (c1, 14, .inl sm_z)), (q2, .inl (c1, 14, .inl sm_z)), (q3, .inl (c1, 14, .inl sm_z)), (q4, .inl (c1, 14, .inl sm_z)), (q5, .inl (c5, 4, .inl sm_z)), (q6, .inl (c1, 16, .inl sm_z)), (q7, .inl (c5, 16, .inl sm_z)), (q8, .inl (c1, 4, .inl sm_z)), (q9, .inl (c1, 4, .inl sm_z))] H := hP
  have hD : va_D A [(h0, .inr (0, [.ref q1, .ref q2, .ref q3, .ref q4, .int 0, .ref q5, .int 0, .int 0, .int 0, .ref q6, .ref q7, .int 0, .ref q8, .null, .null])), (q1, .inl (c1, 14, .inl sm_z)), (q2, .inl (c1, 14, .inl sm_z)), (q3, .inl (c1, 14, .inl sm_z)), (q4, .inl (c1, 14, .inl sm_z)), (q5, .inl (c5, 4, .inl sm_z)), (q6, .inl (c1, 16, .inl sm_z)), (q7, .inl (c5, 16, .inl sm_z)), (q8, .inl (c1, 4, .inl sm_z)), (q9, .inl (c1, 4, .inl sm_z))] := hD
  refine va_putF (D := (dC, dI)) (ci := 0) (v := .ref q9) (ty := .array .byte) (C := RX0) (T := TX0) (N := 15) hx hb hts in_X0 tyX0 tyX0_ok nmX0 hown hK hP hD hS 0 rfl rfl 13 (by decide) (hts _ q44) (fun _ h9 => h9) rfl hin rfl (by decide +kernel) rfl rfl (Nat.le_of_ble_eq_true rfl) dX0_init_70 (fun H locs hP hD hS => ?_)
  have hP : va_P (dC, dI) vwCl [(h0, .inr (0, [.ref q1, .ref q2, .ref q3, .ref q4, .int 0, .ref q5, .int 0, .int 0, .int 0, .ref q6, .ref q7, .int 0, .ref q8, .ref q9, .null])), (q1, .inl (c1, 14, .inl sm_z)), (q2, .inl (c1, 14, .inl sm_z)), (q3, .inl (c1, 14, .inl sm_z)), (q4, .inl (c1, 14, .inl sm_z)), (q5, .inl (c5, 4, .inl sm_z)), (q6, .inl (c1, 16, .inl sm_z)), (q7, .inl (c5, 16, .inl sm_z)), (q8, .inl (c1, 4, .inl sm_z)), (q9, .inl (c1, 4, .inl sm_z))] H := hP
  have hD : va_D A [(h0, .inr (0, [.ref q1, .ref q2, .ref q3, .ref q4, .int 0, .ref q5, .int 0, .int 0, .int 0, .ref q6, .ref q7, .int 0, .ref q8, .ref q9, .null])), (q1, .inl (c1, 14, .inl sm_z)), (q2, .inl (c1, 14, .inl sm_z)), (q3, .inl (c1, 14, .inl sm_z)), (q4, .inl (c1, 14, .inl sm_z)), (q5, .inl (c5, 4, .inl sm_z)), (q6, .inl (c1, 16, .inl sm_z)), (q7, .inl (c5, 16, .inl sm_z)), (q8, .inl (c1, 4, .inl sm_z)), (q9, .inl (c1, 4, .inl sm_z))] := hD
  refine lv_aload_n hx hb dX0_init_73 rfl (lv_at hl 0 rfl) ?_
  refine lv_iconst (v := 4) hx hb dX0_init_74 (by decide) ?_
  refine va_newa (atype := .byte) (a0 := (4, .inl sm_z)) (ty := .byte) (N' := 4) hx hb (hts _ q77) rfl hK hP hD hS hA (fun _ => rfl) (by decide) (by decide) (by decide) (Nat.le_of_ble_eq_true rfl) (Nat.le_of_ble_eq_true rfl) dX0_init_75 (fun q10 c10 H hK hP hD hS => ?_)
  have hc : c1 = c10 := Option.some.inj ((va_nm_byte (hK.2 0 _ rfl).2).symm.trans (va_nm_byte (hK.2 2 _ rfl).2))
  subst hc
  have hK : va_K (dC, dI) vwCl [(c1, .byte), (c5, .int)] s := hK.sub [0, 1] rfl
  have hP : va_P (dC, dI) vwCl [(h0, .inr (0, [.ref q1, .ref q2, .ref q3, .ref q4, .int 0, .ref q5, .int 0, .int 0, .int 0, .ref q6, .ref q7, .int 0, .ref q8, .ref q9, .null])), (q1, .inl (c1, 14, .inl sm_z)), (q2, .inl (c1, 14, .inl sm_z)), (q3, .inl (c1, 14, .inl sm_z)), (q4, .inl (c1, 14, .inl sm_z)), (q5, .inl (c5, 4, .inl sm_z)), (q6, .inl (c1, 16, .inl sm_z)), (q7, .inl (c5, 16, .inl sm_z)), (q8, .inl (c1, 4, .inl sm_z)), (q9, .inl (c1, 4, .inl sm_z)), (q10, .inl (c1, 4, .inl sm_z))] H := hP
  have hD : va_D A [(h0, .inr (0, [.ref q1, .ref q2, .ref q3, .ref q4, .int 0, .ref q5, .int 0, .int 0, .int 0, .ref q6, .ref q7, .int 0, .ref q8, .ref q9, .null])), (q1, .inl (c1, 14, .inl sm_z)), (q2, .inl (c1, 14, .inl sm_z)), (q3, .inl (c1, 14, .inl sm_z)), (q4, .inl (c1, 14, .inl sm_z)), (q5, .inl (c5, 4, .inl sm_z)), (q6, .inl (c1, 16, .inl sm_z)), (q7, .inl (c5, 16, .inl sm_z)), (q8, .inl (c1, 4, .inl sm_z)), (q9, .inl (c1, 4, .inl sm_z)), (q10, .inl (c1, 4, .inl sm_z))] := hD
  refine va_putF (D := (dC, dI)) (ci := 0) (v := .ref q10) (ty := .array .byte) (C := RX0) (T := TX0) (N := 15) hx hb hts in_X0 tyX0 tyX0_ok nmX0 hown hK hP hD hS 0 rfl rfl 14 (by decide) (hts _ q45) (fun _ h9 => h9) rfl hin rfl (by decide +kernel) rfl rfl (Nat.le_of_ble_eq_true rfl) dX0_init_77 (fun H locs hP hD hS => ?_)
  have hP : va_P (dC, dI) vwCl [(h0, .inr (0, [.ref q1, .ref q2, .ref q3, .ref q4, .int 0, .ref q5, .int 0, .int 0, .int 0, .ref q6, .ref q7, .int 0, .ref q8, .ref q9, .ref q10])), (q1, .inl (c1, 14, .inl sm_z)), (q2, .inl (c1, 14, .inl sm_z)), (q3, .inl (c1, 14, .inl sm_z)), (q4, .inl (c1, 14, .inl sm_z)), (q5, .inl (c5, 4, .inl sm_z)), (q6, .inl (c1, 16, .inl sm_z)), (q7, .inl (c5, 16, .inl sm_z)), (q8, .inl (c1, 4, .inl sm_z)), (q9, .inl (c1, 4, .inl sm_z)), (q10, .inl (c1, 4, .inl sm_z))] H := hP
  have hD : va_D A [(h0, .inr (0, [.ref q1, .ref q2, .ref q3, .ref q4, .int 0, .ref q5, .int 0, .int 0, .int 0, .ref q6, .ref q7, .int 0, .ref q8, .ref q9, .ref q10])), (q1, .inl (c1, 14, .inl sm_z)), (q2, .inl (c1, 14, .inl sm_z)), (q3, .inl (c1, 14, .inl sm_z)), (q4, .inl (c1, 14, .inl sm_z)), (q5, .inl (c5, 4, .inl sm_z)), (q6, .inl (c1, 16, .inl sm_z)), (q7, .inl (c5, 16, .inl sm_z)), (q8, .inl (c1, 4, .inl sm_z)), (q9, .inl (c1, 4, .inl sm_z)), (q10, .inl (c1, 4, .inl sm_z))] := hD
  exact W.vret hx hb hr (fun t ht hW => ⟨⟨((fun k => match k with | 0 => h0 | 1 => q1 | 2 => q2 | 3 => q3 | 4 => q4 | 5 => q5 | 6 => q6 | 7 => q7 | 8 => q8 | 9 => q9 | _ => q10), c1, c5), rfl, rfl, by rw [ht]; exact hP, va_K.moved hW.alike hK, hD⟩, hS.F ht⟩) hS.2.2 dX0_init_80
set_option maxHeartbeats 4000000 in
set_option maxRecDepth 100000 in
theorem ct_X1init (l : Launch) (dC : Nat → ClassId) (dI : Nat → Nat → Nat) (h0 sz : Nat) : Met l yX1_init (ws_ yX1_init cX1_init 1 none) ({ frames := 1, cells := 6, slots := 74, locals := 12 }) (va_Pc [.ref h0] (fun U => U.heap.size = sz ∧ va_P (dC, dI) vwCl [(h0, .inr (1, [.int 0, .null, .null, .null, .null, .null, .null]))] U.heap ∧ va_K (dC, dI) vwCl [] U ∧ va_D (fun _ => True) [(h0, .inr (1, [.int 0, .null, .null, .null, .null, .null, .null]))])) (va_Qv (fun u : (Nat → Nat) × ClassId => u.1 0 = h0) (fun u t => va_P (dC, dI) vwCl (yW u.1 u.2 (sm_z, sm_z, sm_z, sm_z) 0 sm_z sm_z) t.heap ∧ va_K (dC, dI) vwCl (tyY u.2) t ∧ va_D (va_A [(h0, .inr (1, [.int 0, .null, .null, .null, .null, .null, .null]))] sz) (yW u.1 u.2 (sm_z, sm_z, sm_z, sm_z) 0 sm_z sm_z)) (va_A [(h0, .inr (1, [.int 0, .null, .null, .null, .null, .null, .null]))] sz)) 6 74 (va_A [(h0, .inr (1, [.int 0, .null, .null, .null, .null, .null, .null]))] sz) := by
  refine Met.ofW (cc := cX1_init) (maxL := 1) (ret := none) (by decide) rfl ?_
  intro p e s m args below meth c s₁ B hml hv
  obtain ⟨rfl, hsz, hP, hK, hD0⟩ := hv
  have hx := B.exec
  have hb := B.bytes
  have hr := B.returns
  have hts := atoms_spec (ws := ws_ yX1_init cX1_init 1 none) B.pre
  have hts : ∀ w ∈ lw_all, w.before _ s = true := fun w h => hts w (List.mem_cons_of_mem _ h)
  have hown : s.vm.findClass RX1 = some m.cls := findClass_of_methodNamed B.named
  have hlocks := B.notSynchronized
  have hin : meth.name = "<init>" := (name_of_methodNamed B.named B.method).1
  subst hsz
  have hD := hD0.self (sz := s.heap.size)
  generalize hAe : va_A [(h0, .inr (1, [.int 0, .null, .null, .null, .null, .null, .null]))] s.heap.size = A at hD ⊢
  have hA : ∀ q : Nat, s.heap.size ≤ q → A q := fun q h => by rw [← hAe]; exact Or.inr h
  have hS : va_S A s.heap s.heap [] := va_S.rf
  have hl := lv_entry ([.ref h0]) (n := 1) (Nat.le_of_ble_eq_true rfl)
  rw [lg_entry_eq]
  generalize (lg_sl ([.ref h0]) ++ List.replicate (1 - (lg_sl ([.ref h0])).length) Slot.unset).toArray = ls at hl ⊢
  have hl : lv_has ls 1 [(0, .ref h0)] := hl
  refine lv_aload_n hx hb dX1_init_0 rfl (lv_at hl 0 rfl) ?_
  refine W.objInit hx hb hown (hts _ q174) (hts _ q29) (hts _ q30) rfl (by rw [hml]; exact hl.1) rfl dX1_init_1 (Nat.le_of_ble_eq_true rfl) (Nat.le_of_ble_eq_true rfl) ?_
  refine W.eq (g2 := F0 m 4 ls []) rfl ?_
  refine lv_aload_n hx hb dX1_init_4 rfl (lv_at hl 0 rfl) ?_
  refine lv_bipush (v := 14) hx hb dX1_init_5 (by decide) ?_
  refine va_newa (atype := .int) (a0 := (14, .inl sm_z)) (ty := .int) (N' := 14) hx hb (hts _ q78) rfl hK hP hD hS hA (fun _ => rfl) (by decide) (by decide) (by decide) (Nat.le_of_ble_eq_true rfl) (Nat.le_of_ble_eq_true rfl) dX1_init_7 (fun q1 c1 H hK hP hD hS => ?_)
  have hP : va_P (dC, dI) vwCl [(h0, .inr (1, [.int 0, .null, .null, .null, .null, .null, .null])), (q1, .inl (c1, 14, .inl sm_z))] H := hP
  have hD : va_D A [(h0, .inr (1, [.int 0, .null, .null, .null, .null, .null, .null])), (q1, .inl (c1, 14, .inl sm_z))] := hD
  refine va_put (D := (dC, dI)) (ci := 1) (v := .ref q1) (ty := .array .int) (C := RX1) (T := TX1) (N := 7) hx hb hts in_X1 tyX1 tyX1_ok nmX1 hown hK hP hD hS 0 rfl rfl 1 (by decide) (hts _ q176) (fun _ h9 => h9) rfl (by decide +kernel) rfl rfl (Nat.le_of_ble_eq_true rfl) dX1_init_9 (fun H locs hP hD hS => ?_)
  have hP : va_P (dC, dI) vwCl [(h0, .inr (1, [.int 0, .ref q1, .null, .null, .null, .null, .null])), (q1, .inl (c1, 14, .inl sm_z))] H := hP
  have hD : va_D A [(h0, .inr (1, [.int 0, .ref q1, .null, .null, .null, .null, .null])), (q1, .inl (c1, 14, .inl sm_z))] := hD
  refine lv_aload_n hx hb dX1_init_12 rfl (lv_at hl 0 rfl) ?_
  refine lv_bipush (v := 14) hx hb dX1_init_13 (by decide) ?_
  refine va_newa (atype := .int) (a0 := (14, .inl sm_z)) (ty := .int) (N' := 14) hx hb (hts _ q78) rfl hK hP hD hS hA (fun _ => rfl) (by decide) (by decide) (by decide) (Nat.le_of_ble_eq_true rfl) (Nat.le_of_ble_eq_true rfl) dX1_init_15 (fun q2 c2 H hK hP hD hS => ?_)
  have hc : c1 = c2 := Option.some.inj ((va_nm_int (hK.2 0 _ rfl).2).symm.trans (va_nm_int (hK.2 1 _ rfl).2))
  subst hc
  have hK : va_K (dC, dI) vwCl [(c1, .int)] s := hK.sub [0] rfl
  have hP : va_P (dC, dI) vwCl [(h0, .inr (1, [.int 0, .ref q1, .null, .null, .null, .null, .null])), (q1, .inl (c1, 14, .inl sm_z)), (q2, .inl (c1, 14, .inl sm_z))] H := hP
  have hD : va_D A [(h0, .inr (1, [.int 0, .ref q1, .null, .null, .null, .null, .null])), (q1, .inl (c1, 14, .inl sm_z)), (q2, .inl (c1, 14, .inl sm_z))] := hD
  refine va_put (D := (dC, dI)) (ci := 1) (v := .ref q2) (ty := .array .int) (C := RX1) (T := TX1) (N := 7) hx hb hts in_X1 tyX1 tyX1_ok nmX1 hown hK hP hD hS 0 rfl rfl 2 (by decide) (hts _ q177) (fun _ h9 => h9) rfl (by decide +kernel) rfl rfl (Nat.le_of_ble_eq_true rfl) dX1_init_17 (fun H locs hP hD hS => ?_)
  have hP : va_P (dC, dI) vwCl [(h0, .inr (1, [.int 0, .ref q1, .ref q2, .null, .null, .null, .null])), (q1, .inl (c1, 14, .inl sm_z)), (q2, .inl (c1, 14, .inl sm_z))] H := hP
  have hD : va_D A [(h0, .inr (1, [.int 0, .ref q1, .ref q2, .null, .null, .null, .null])), (q1, .inl (c1, 14, .inl sm_z)), (q2, .inl (c1, 14, .inl sm_z))] := hD
  refine lv_aload_n hx hb dX1_init_20 rfl (lv_at hl 0 rfl) ?_
  refine lv_bipush (v := 14) hx hb dX1_init_21 (by decide) ?_
  refine va_newa (atype := .int) (a0 := (14, .inl sm_z)) (ty := .int) (N' := 14) hx hb (hts _ q78) rfl hK hP hD hS hA (fun _ => rfl) (by decide) (by decide) (by decide) (Nat.le_of_ble_eq_true rfl) (Nat.le_of_ble_eq_true rfl) dX1_init_23 (fun q3 c3 H hK hP hD hS => ?_)
  have hc : c1 = c3 := Option.some.inj ((va_nm_int (hK.2 0 _ rfl).2).symm.trans (va_nm_int (hK.2 1 _ rfl).2))
  subst hc
  have hK : va_K (dC, dI) vwCl [(c1, .int)] s := hK.sub [0] rfl
  have hP : va_P (dC, dI) vwCl [(h0, .inr (1, [.int 0, .ref q1, .ref q2, .null, .null, .null, .null])), (q1, .inl (c1, 14, .inl sm_z)), (q2, .inl (c1, 14, .inl sm_z)), (q3, .inl (c1, 14, .inl sm_z))] H := hP
  have hD : va_D A [(h0, .inr (1, [.int 0, .ref q1, .ref q2, .null, .null, .null, .null])), (q1, .inl (c1, 14, .inl sm_z)), (q2, .inl (c1, 14, .inl sm_z)), (q3, .inl (c1, 14, .inl sm_z))] := hD
  refine va_put (D := (dC, dI)) (ci := 1) (v := .ref q3) (ty := .array .int) (C := RX1) (T := TX1) (N := 7) hx hb hts in_X1 tyX1 tyX1_ok nmX1 hown hK hP hD hS 0 rfl rfl 3 (by decide) (hts _ q178) (fun _ h9 => h9) rfl (by decide +kernel) rfl rfl (Nat.le_of_ble_eq_true rfl) dX1_init_25 (fun H locs hP hD hS => ?_)
  have hP : va_P (dC, dI) vwCl [(h0, .inr (1, [.int 0, .ref q1, .ref q2, .ref q3, .null, .null, .null])), (q1, .inl (c1, 14, .inl sm_z)), (q2, .inl (c1, 14, .inl sm_z)), (q3, .inl (c1, 14, .inl sm_z))] H := hP
  have hD : va_D A [(h0, .inr (1, [.int 0, .ref q1, .ref q2, .ref q3, .null, .null, .null])), (q1, .inl (c1, 14, .inl sm_z)), (q2, .inl (c1, 14, .inl sm_z)), (q3, .inl (c1, 14, .inl sm_z))] := hD
  refine lv_aload_n hx hb dX1_init_28 rfl (lv_at hl 0 rfl) ?_
  refine lv_bipush (v := 14) hx hb dX1_init_29 (by decide) ?_
  refine va_newa (atype := .int) (a0 := (14, .inl sm_z)) (ty := .int) (N' := 14) hx hb (hts _ q78) rfl hK hP hD hS hA (fun _ => rfl) (by decide) (by decide) (by decide) (Nat.le_of_ble_eq_true rfl) (Nat.le_of_ble_eq_true rfl) dX1_init_31 (fun q4 c4 H hK hP hD hS => ?_)
  have hc : c1 = c4 := Option.some.inj ((va_nm_int (hK.2 0 _ rfl).2).symm.trans (va_nm_int (hK.2 1 _ rfl).2))
  subst hc
  have hK : va_K (dC, dI) vwCl [(c1, .int)] s := hK.sub [0] rfl
  have hP : va_P (dC, dI) vwCl [(h0, .inr (1, [.int 0, .ref q1, .ref q2, .ref q3, .null, .null, .null])), (q1, .inl (c1, 14, .inl sm_z)), (q2, .inl (c1, 14, .inl sm_z)), (q3, .inl (c1, 14, .inl sm_z)), (q4, .inl (c1, 14, .inl sm_z))] H := hP
  have hD : va_D A [(h0, .inr (1, [.int 0, .ref q1, .ref q2, .ref q3, .null, .null, .null])), (q1, .inl (c1, 14, .inl sm_z)), (q2, .inl (c1, 14, .inl sm_z)), (q3, .inl (c1, 14, .inl sm_z)), (q4, .inl (c1, 14, .inl sm_z))] := hD
  refine va_put (D := (dC, dI)) (ci := 1) (v := .ref q4) (ty := .array .int) (C := RX1) (T := TX1) (N := 7) hx hb hts in_X1 tyX1 tyX1_ok nmX1 hown hK hP hD hS 0 rfl rfl 4 (by decide) (hts _ q179) (fun _ h9 => h9) rfl (by decide +kernel) rfl rfl (Nat.le_of_ble_eq_true rfl) dX1_init_33 (fun H locs hP hD hS => ?_)
  have hP : va_P (dC, dI) vwCl [(h0, .inr (1, [.int 0, .ref q1, .ref q2, .ref q3, .ref q4, .null, .null])), (q1, .inl (c1, 14, .inl sm_z)), (q2, .inl (c1, 14, .inl sm_z)), (q3, .inl (c1, 14, .inl sm_z)), (q4, .inl (c1, 14, .inl sm_z))] H := hP
  have hD : va_D A [(h0, .inr (1, [.int 0, .ref q1, .ref q2, .ref q3, .ref q4, .null, .null])), (q1, .inl (c1, 14, .inl sm_z)), (q2, .inl (c1, 14, .inl sm_z)), (q3, .inl (c1, 14, .inl sm_z)), (q4, .inl (c1, 14, .inl sm_z))] := hD
  refine lv_aload_n hx hb dX1_init_36 rfl (lv_at hl 0 rfl) ?_
  refine lv_iconst (v := 4) hx hb dX1_init_37 (by decide) ?_
  refine va_newa (atype := .int) (a0 := (4, .inl sm_z)) (ty := .int) (N' := 4) hx hb (hts _ q78) rfl hK hP hD hS hA (fun _ => rfl) (by decide) (by decide) (by decide) (Nat.le_of_ble_eq_true rfl) (Nat.le_of_ble_eq_true rfl) dX1_init_38 (fun q5 c5 H hK hP hD hS => ?_)
  have hc : c1 = c5 := Option.some.inj ((va_nm_int (hK.2 0 _ rfl).2).symm.trans (va_nm_int (hK.2 1 _ rfl).2))
  subst hc
  have hK : va_K (dC, dI) vwCl [(c1, .int)] s := hK.sub [0] rfl
  have hP : va_P (dC, dI) vwCl [(h0, .inr (1, [.int 0, .ref q1, .ref q2, .ref q3, .ref q4, .null, .null])), (q1, .inl (c1, 14, .inl sm_z)), (q2, .inl (c1, 14, .inl sm_z)), (q3, .inl (c1, 14, .inl sm_z)), (q4, .inl (c1, 14, .inl sm_z)), (q5, .inl (c1, 4, .inl sm_z))] H := hP
  have hD : va_D A [(h0, .inr (1, [.int 0, .ref q1, .ref q2, .ref q3, .ref q4, .null, .null])), (q1, .inl (c1, 14, .inl sm_z)), (q2, .inl (c1, 14, .inl sm_z)), (q3, .inl (c1, 14, .inl sm_z)), (q4, .inl (c1, 14, .inl sm_z)), (q5, .inl (c1, 4, .inl sm_z))] := hD
  refine va_put (D := (dC, dI)) (ci := 1) (v := .ref q5) (ty := .array .int) (C := RX1) (T := TX1) (N := 7) hx hb hts in_X1 tyX1 tyX1_ok nmX1 hown hK hP hD hS 0 rfl rfl 5 (by decide) (hts _ q180) (fun _ h9 => h9) rfl (by decide +kernel) rfl rfl (Nat.le_of_ble_eq_true rfl) dX1_init_40 (fun H locs hP hD hS => ?_)
  have hP : va_P (dC, dI) vwCl [(h0, .inr (1, [.int 0, .ref q1, .ref q2, .ref q3, .ref q4, .ref q5, .null])), (q1, .inl (c1, 14, .inl sm_z)), (q2, .inl (c1, 14, .inl sm_z)), (q3, .inl (c1, 14, .inl sm_z)), (q4, .inl (c1, 14, .inl sm_z)), (q5, .inl (c1, 4, .inl sm_z))] H := hP
  have hD : va_D A [(h0, .inr (1, [.int 0, .ref q1, .ref q2, .ref q3, .ref q4, .ref q5, .null])), (q1, .inl (c1, 14, .inl sm_z)), (q2, .inl (c1, 14, .inl sm_z)), (q3, .inl (c1, 14, .inl sm_z)), (q4, .inl (c1, 14, .inl sm_z)), (q5, .inl (c1, 4, .inl sm_z))] := hD
  refine lv_aload_n hx hb dX1_init_43 rfl (lv_at hl 0 rfl) ?_
  refine lv_bipush (v := 14) hx hb dX1_init_44 (by decide) ?_
  refine va_newa (atype := .int) (a0 := (14, .inl sm_z)) (ty := .int) (N' := 14) hx hb (hts _ q78) rfl hK hP hD hS hA (fun _ => rfl) (by decide) (by decide) (by decide) (Nat.le_of_ble_eq_true rfl) (Nat.le_of_ble_eq_true rfl) dX1_init_46 (fun q6 c6 H hK hP hD hS => ?_)
  have hc : c1 = c6 := Option.some.inj ((va_nm_int (hK.2 0 _ rfl).2).symm.trans (va_nm_int (hK.2 1 _ rfl).2))
  subst hc
  have hK : va_K (dC, dI) vwCl [(c1, .int)] s := hK.sub [0] rfl
  have hP : va_P (dC, dI) vwCl [(h0, .inr (1, [.int 0, .ref q1, .ref q2, .ref q3, .ref q4, .ref q5, .null])), (q1, .inl (c1, 14, .inl sm_z)), (q2, .inl (c1, 14, .inl sm_z)), (q3, .inl (c1, 14, .inl sm_z)), (q4, .inl (c1, 14, .inl sm_z)), (q5, .inl (c1, 4, .inl sm_z)), (q6, .inl (c1, 14, .inl sm_z))] H := hP
  have hD : va_D A [(h0, .inr (1, [.int 0, .ref q1, .ref q2, .ref q3, .ref q4, .ref q5, .null])), (q1, .inl (c1, 14, .inl sm_z)), (q2, .inl (c1, 14, .inl sm_z)), (q3, .inl (c1, 14, .inl sm_z)), (q4, .inl (c1, 14, .inl sm_z)), (q5, .inl (c1, 4, .inl sm_z)), (q6, .inl (c1, 14, .inl sm_z))] := hD
  refine va_put (D := (dC, dI)) (ci := 1) (v := .ref q6) (ty := .array .int) (C := RX1) (T := TX1) (N := 7) hx hb hts in_X1 tyX1 tyX1_ok nmX1 hown hK hP hD hS 0 rfl rfl 6 (by decide) (hts _ q181) (fun _ h9 => h9) rfl (by decide +kernel) rfl rfl (Nat.le_of_ble_eq_true rfl) dX1_init_48 (fun H locs hP hD hS => ?_)
  have hP : va_P (dC, dI) vwCl [(h0, .inr (1, [.int 0, .ref q1, .ref q2, .ref q3, .ref q4, .ref q5, .ref q6])), (q1, .inl (c1, 14, .inl sm_z)), (q2, .inl (c1, 14, .inl sm_z)), (q3, .inl (c1, 14, .inl sm_z)), (q4, .inl (c1, 14, .inl sm_z)), (q5, .inl (c1, 4, .inl sm_z)), (q6, .inl (c1, 14, .inl sm_z))] H := hP
  have hD : va_D A [(h0, .inr (1, [.int 0, .ref q1, .ref q2, .ref q3, .ref q4, .ref q5, .ref q6])), (q1, .inl (c1, 14, .inl sm_z)), (q2, .inl (c1, 14, .inl sm_z)), (q3, .inl (c1, 14, .inl sm_z)), (q4, .inl (c1, 14, .inl sm_z)), (q5, .inl (c1, 4, .inl sm_z)), (q6, .inl (c1, 14, .inl sm_z))] := hD
  exact W.vret hx hb hr (fun t ht hW => ⟨⟨((fun k => match k with | 0 => h0 | 1 => q1 | 2 => q2 | 3 => q3 | 4 => q4 | 5 => q5 | _ => q6), c1), rfl, rfl, by rw [ht]; exact hP, va_K.moved hW.alike hK, hD⟩, hS.F ht⟩) hS.2.2 dX1_init_51
end
section
/-! THE REFERENCE: its leaves -/
theorem sm_opt_ge {b c : Int32} (h1 : -3 ≤ b.toInt) (h2 : b.toInt ≤ 9) (h3 : -3 ≤ c.toInt) (h4 : c.toInt ≤ 9) (h : b ≤ c) : c - b + 1 = nI (c.toInt - b.toInt + 1).toNat := by
  refine sm_ways_pos h1 h2 h3 h4 ?_
  rw [Int32.le_iff_toInt_le, sm_ways_toInt h1 h2 h3 h4, Int32.toInt_zero]
  rw [Int32.le_iff_toInt_le] at h
  omega
theorem sm_opt_lt {b c : Int32} (h : ¬ b ≤ c) : (c.toInt - b.toInt + 1).toNat = 0 := by
  rw [Int32.le_iff_toInt_le] at h
  omega
theorem sm_and3 {x : Int32} (h : sm_v4 x) : x &&& 3 = nI (ix x) := by
  have e : nI (ix x) &&& 3 = nI (ix x % 2 ^ 2) := pk_andN (n := ix x) (by have := h.2; omega) (m := 3) 2 (by decide)
  rw [← h.1] at e
  rw [e, Nat.mod_eq_of_lt h.2]
theorem sm_dg_01 (k a b : Int32) : sm_mg k a b = 0 ∨ sm_mg k a b = 1 := by
  unfold sm_mg
  split
  · exact Or.inl rfl
  · split
    · exact Or.inl rfl
    · split
      · exact Or.inr rfl
      · split
        · exact Or.inl rfl
        · split
          · exact Or.inl rfl
          · exact Or.inr rfl
set_option maxHeartbeats 4000000 in
set_option maxRecDepth 100000 in
theorem cy_variable (l : Launch) (dC : Nat → ClassId) (dI : Nat → Nat → Nat) (ad : Nat → Nat) (cI : ClassId) (P : Pg) (n : Nat) (v F : Vs) (x : Int32)  : MetR l (dC, dI) vwCl (tyY cI) yX1_variable (ws_ yX1_variable cX1_variable 2 (some .boolean)) ({ frames := 0, cells := 0, slots := 0, locals := 0 }) [.ref (ad 0), .int x] (yW ad cI P n v F) (sm_iv x) := by
  refine MetR.of (by decide) (Nat.le_of_ble_eq_true rfl) ?_
  intro p e s m below meth c ls hx hb hr hml hlocks hts hown hP hK hl
  have hown : s.vm.findClass RX1 = some m.cls := hown
  have hl : lv_has ls 2 [(0, .ref (ad 0)), (1, .int x)] := hl
  refine lv_iload_n hx hb dX1_variable_0 rfl (lv_at hl 1 rfl) ?_
  refine lv_if_lt (tgt := 13) hx hb dX1_variable_1 (by decide) (fun c_1 => ?_) (fun c_1 => ?_)
  · skip
    refine lv_iconst (v := 0) hx hb dX1_variable_13 (by decide) ?_
    exact sx_zretR hx hb hr hlocks (Or.inl rfl) (by rw [← sm_va3_iv, sm_va3, if_pos c_1]) dX1_variable_14
  · skip
    refine lv_iload_n hx hb dX1_variable_4 rfl (lv_at hl 1 rfl) ?_
    refine lv_iconst (v := 3) hx hb dX1_variable_5 (by decide) ?_
    refine lv_icmp_gt (tgt := 13) hx hb dX1_variable_6 (by decide) (fun c_2 => ?_) (fun c_2 => ?_)
    · skip
      refine lv_iconst (v := 0) hx hb dX1_variable_13 (by decide) ?_
      exact sx_zretR hx hb hr hlocks (Or.inl rfl) (by rw [← sm_va3_iv, sm_va3, if_neg c_1, if_pos c_2]) dX1_variable_14
    · skip
      refine lv_iconst (v := 1) hx hb dX1_variable_9 (by decide) ?_
      refine lv_goto (tgt := 14) hx hb dX1_variable_10 (by decide) ?_
      exact sx_zretR hx hb hr hlocks (Or.inr rfl) (by rw [← sm_va3_iv, sm_va3, if_neg c_1, if_neg c_2]) dX1_variable_14
set_option maxHeartbeats 4000000 in
set_option maxRecDepth 100000 in
theorem cy_choice (l : Launch) (dC : Nat → ClassId) (dI : Nat → Nat → Nat) (ad : Nat → Nat) (cI : ClassId) (P : Pg) (n : Nat) (v F : Vs) (x : Int32)  : MetR l (dC, dI) vwCl (tyY cI) yX1_choice (ws_ yX1_choice cX1_choice 2 (some .boolean)) ({ frames := 0, cells := 0, slots := 0, locals := 0 }) [.ref (ad 0), .int x] (yW ad cI P n v F) (sm_kc x) := by
  refine MetR.of (by decide) (Nat.le_of_ble_eq_true rfl) ?_
  intro p e s m below meth c ls hx hb hr hml hlocks hts hown hP hK hl
  have hown : s.vm.findClass RX1 = some m.cls := hown
  have hl : lv_has ls 2 [(0, .ref (ad 0)), (1, .int x)] := hl
  refine lv_iload_n hx hb dX1_choice_0 rfl (lv_at hl 1 rfl) ?_
  refine lv_if_eq (tgt := 15) hx hb dX1_choice_1 (by decide) (fun c_1 => ?_) (fun c_1 => ?_)
  · skip
    refine lv_iconst (v := 1) hx hb dX1_choice_15 (by decide) ?_
    refine lv_goto (tgt := 20) hx hb dX1_choice_16 (by decide) ?_
    exact sx_zretR hx hb hr hlocks (Or.inr rfl) (by rw [sm_kc, if_pos c_1]) dX1_choice_20
  · skip
    refine lv_iload_n hx hb dX1_choice_4 rfl (lv_at hl 1 rfl) ?_
    refine lv_iconst (v := 4) hx hb dX1_choice_5 (by decide) ?_
    refine lv_icmp_eq (tgt := 15) hx hb dX1_choice_6 (by decide) (fun c_2 => ?_) (fun c_2 => ?_)
    · skip
      refine lv_iconst (v := 1) hx hb dX1_choice_15 (by decide) ?_
      refine lv_goto (tgt := 20) hx hb dX1_choice_16 (by decide) ?_
      exact sx_zretR hx hb hr hlocks (Or.inr rfl) (by rw [sm_kc, if_neg c_1, if_pos c_2]) dX1_choice_20
    · skip
      refine lv_iload_n hx hb dX1_choice_9 rfl (lv_at hl 1 rfl) ?_
      refine lv_bipush (v := 9) hx hb dX1_choice_10 (by decide) ?_
      refine lv_icmp_ne (tgt := 19) hx hb dX1_choice_12 (by decide) (fun c_3 => ?_) (fun c_3 => ?_)
      · skip
        refine lv_iconst (v := 0) hx hb dX1_choice_19 (by decide) ?_
        exact sx_zretR hx hb hr hlocks (Or.inl rfl) (by rw [sm_kc, if_neg c_1, if_neg c_2, if_neg c_3]) dX1_choice_20
      · skip
        refine lv_iconst (v := 1) hx hb dX1_choice_15 (by decide) ?_
        refine lv_goto (tgt := 20) hx hb dX1_choice_16 (by decide) ?_
        exact sx_zretR hx hb hr hlocks (Or.inr rfl) (by rw [sm_kc, if_neg c_1, if_neg c_2, if_pos c_3]) dX1_choice_20
set_option maxHeartbeats 4000000 in
set_option maxRecDepth 100000 in
theorem cy_choices (l : Launch) (dC : Nat → ClassId) (dI : Nat → Nat → Nat) (ad : Nat → Nat) (cI : ClassId) (P : Pg) (n : Nat) (v F : Vs)  (hn : n ≤ 14) : MetR l (dC, dI) vwCl (tyY cI) yX1_choices (ws_ yX1_choices cX1_choices 3 (some .int)) ({ frames := 1, cells := 0, slots := 0, locals := 21 }) [.ref (ad 0)] (yW ad cI P n v F) (nI (sm_cb P n)) := by
  refine MetR.of (by decide) (Nat.le_of_ble_eq_true rfl) ?_
  intro p e s m below meth c ls hx hb hr hml hlocks hts hown hP hK hl
  have hown : s.vm.findClass RX1 = some m.cls := hown
  have hl : lv_has ls 3 [(0, .ref (ad 0))] := hl
  refine lv_iconst (v := 0) hx hb dX1_choices_0 (by decide) ?_
  refine lv_istore_n (lv' := [(1, .int 0), (0, .ref (ad 0))]) hx hb dX1_choices_1 rfl hl (by decide) rfl (fun ls hl => ?_)
  refine lv_iconst (v := 0) hx hb dX1_choices_2 (by decide) ?_
  refine lv_istore_n (lv' := [(2, .int 0), (1, .int 0), (0, .ref (ad 0))]) hx hb dX1_choices_3 rfl hl (by decide) rfl (fun ls hl => ?_)
  refine sx_loopR (σ := Nat) (lv := fun i => [(2, .int (nI i)), (1, .int (nI (sm_cb P i))), (0, .ref (ad 0))]) (I := fun i => i ≤ n) (μ := fun i => n - i) ?_ 0 (Nat.zero_le n) hl
  intro i hi ih ls hl
  have hl : lv_has ls 3 [(2, .int (nI i)), (1, .int (nI (sm_cb P i))), (0, .ref (ad 0))] := hl
  refine lv_iload_n hx hb dX1_choices_4 rfl (lv_at hl 0 rfl) ?_
  refine lv_aload_n hx hb dX1_choices_5 rfl (lv_at hl 2 rfl) ?_
  refine va_get (D := (dC, dI)) (ci := 1) (v := .int (nI n)) (C := RX1) (T := TX1) (N := 7) hx hb hts in_X1 hown hK hP 0 rfl rfl 0 (by decide) (hts _ q175) (fun _ h9 => h9) rfl dX1_choices_6 ?_
  refine lv_icmp_ge (tgt := 39) hx hb dX1_choices_9 (by decide) (fun c_1 => ?_) (fun c_1 => ?_)
  · skip
    have hin : i = n := Nat.le_antisymm hi ((nI_leI (by omega) (by omega)).mp c_1)
    subst hin
    refine lv_iload_n hx hb dX1_choices_39 rfl (lv_at hl 1 rfl) ?_
    exact sx_iretR hx hb hr hlocks (rfl) dX1_choices_40
  · skip
    have hin : i < n := Nat.lt_of_not_le (fun h => c_1 ((nI_leI (by omega) (by omega)).mpr h))
    refine lv_aload_n hx hb dX1_choices_12 rfl (lv_at hl 2 rfl) ?_
    refine lv_aload_n hx hb dX1_choices_13 rfl (lv_at hl 2 rfl) ?_
    refine va_get (D := (dC, dI)) (ci := 1) (v := .ref (ad 1)) (C := RX1) (T := TX1) (N := 7) hx hb hts in_X1 hown hK hP 0 rfl rfl 1 (by decide) (hts _ q176) (fun _ h9 => h9) rfl dX1_choices_14 ?_
    refine lv_iload_n hx hb dX1_choices_17 rfl (lv_at hl 0 rfl) ?_
    refine sx_iald (j := i) hx hb hK hP 1 0 rfl rfl (rfl) (by omega) (by decide) dX1_choices_18 ?_
    refine sx_callR (ci := 1) (As := [.int (P.1 i)]) (rest := []) ⟨hx, hb, hml, hown, hts⟩ (cy_choice l dC dI ad cI P n v F (P.1 i)) (cwV 1 hts (lw_V q209 q211 qs13 q22 q212) rfl rfl rfl (by decide +kernel) ⟨Nat.le_of_ble_eq_true rfl, Nat.le_of_ble_eq_true rfl⟩) hK hP rfl rfl rfl hl.1 rfl (Nat.le_of_ble_eq_true rfl) ⟨Nat.zero_le _, Nat.zero_le _⟩ dX1_choices_19 ?_
    refine lv_if_eq (tgt := 31) hx hb dX1_choices_22 (by decide) (fun c_2 => ?_) (fun c_2 => ?_)
    · skip
      have hc : ¬ sm_ch P i := fun hc => by
        rw [sm_kc_ch, if_pos hc] at c_2
        exact absurd c_2 (by decide)
      refine lv_iload_n hx hb dX1_choices_31 rfl (lv_at hl 1 rfl) ?_
      refine sx_topE (y := nI (sm_cb P (i + 1))) (by rw [sm_cb, if_neg hc]; rfl) ?_
      refine lv_istore_n (lv' := [(1, .int (nI (sm_cb P (i + 1)))), (2, .int (nI i)), (0, .ref (ad 0))]) hx hb dX1_choices_32 rfl hl (by decide) rfl (fun ls hl => ?_)
      refine lv_iinc (v := nI (i + 1)) (lv' := [(2, .int (nI (i + 1))), (1, .int (nI (sm_cb P (i + 1)))), (0, .ref (ad 0))]) hx hb dX1_choices_33 hl (k := 1) rfl (nI_1 _) (by decide) rfl (fun ls hl => ?_)
      refine lv_goto (tgt := 4) hx hb dX1_choices_36 (by decide) ?_
      exact ih (i + 1) hin (by omega) ls (lv_sub hl [0, 1, 2] rfl)
    · skip
      have hc : sm_ch P i := Classical.byContradiction (fun hc => c_2 (by rw [sm_kc_ch, if_neg hc]))
      refine lv_iload_n hx hb dX1_choices_25 rfl (lv_at hl 1 rfl) ?_
      refine lv_iconst (v := 1) hx hb dX1_choices_26 (by decide) ?_
      refine lv_iadd hx hb dX1_choices_27 ?_
      refine sx_topE (y := nI ((sm_cb P i) + 1)) (nI_1 _) ?_
      refine lv_goto (tgt := 32) hx hb dX1_choices_28 (by decide) ?_
      refine sx_topE (y := nI (sm_cb P (i + 1))) (by rw [sm_cb, if_pos hc]) ?_
      refine lv_istore_n (lv' := [(1, .int (nI (sm_cb P (i + 1)))), (2, .int (nI i)), (0, .ref (ad 0))]) hx hb dX1_choices_32 rfl hl (by decide) rfl (fun ls hl => ?_)
      refine lv_iinc (v := nI (i + 1)) (lv' := [(2, .int (nI (i + 1))), (1, .int (nI (sm_cb P (i + 1)))), (0, .ref (ad 0))]) hx hb dX1_choices_33 hl (k := 1) rfl (nI_1 _) (by decide) rfl (fun ls hl => ?_)
      refine lv_goto (tgt := 4) hx hb dX1_choices_36 (by decide) ?_
      exact ih (i + 1) hin (by omega) ls (lv_sub hl [0, 1, 2] rfl)
set_option maxHeartbeats 4000000 in
set_option maxRecDepth 100000 in
theorem cy_good (l : Launch) (dC : Nat → ClassId) (dI : Nat → Nat → Nat) (ad : Nat → Nat) (cI : ClassId) (P : Pg) (n : Nat) (v F : Vs) (k a b : Int32)  : MetR l (dC, dI) vwCl (tyY cI) yX1_good (ws_ yX1_good cX1_good 4 (some .boolean)) ({ frames := 1, cells := 0, slots := 0, locals := 21 }) [.ref (ad 0), .int k, .int a, .int b] (yW ad cI P n v F) (sm_mg k a b) := by
  refine MetR.of (by decide) (Nat.le_of_ble_eq_true rfl) ?_
  intro p e s m below meth c ls hx hb hr hml hlocks hts hown hP hK hl
  have hown : s.vm.findClass RX1 = some m.cls := hown
  have hl : lv_has ls 4 [(0, .ref (ad 0)), (1, .int k), (2, .int a), (3, .int b)] := hl
  refine lv_iload_n hx hb dX1_good_0 rfl (lv_at hl 1 rfl) ?_
  refine lv_if_ne (tgt := 39) hx hb dX1_good_1 (by decide) (fun c_1 => ?_) (fun c_1 => ?_)
  · skip
    refine lv_iload_n hx hb dX1_good_39 rfl (lv_at hl 1 rfl) ?_
    refine lv_iconst (v := 1) hx hb dX1_good_40 (by decide) ?_
    refine lv_icmp_ne (tgt := 70) hx hb dX1_good_41 (by decide) (fun c_2 => ?_) (fun c_2 => ?_)
    · skip
      refine lv_iload_n hx hb dX1_good_70 rfl (lv_at hl 1 rfl) ?_
      refine lv_bipush (v := 8) hx hb dX1_good_71 (by decide) ?_
      refine lv_icmp_eq (tgt := 103) hx hb dX1_good_73 (by decide) (fun c_3 => ?_) (fun c_3 => ?_)
      · skip
        refine lv_iconst (v := 1) hx hb dX1_good_103 (by decide) ?_
        refine lv_goto (tgt := 108) hx hb dX1_good_104 (by decide) ?_
        exact sx_zretR hx hb hr hlocks (Or.inr rfl) (by rw [← sm_dg_mg, sm_dg, if_neg c_1, if_neg c_2, if_pos c_3]) dX1_good_108
      · skip
        refine lv_iload_n hx hb dX1_good_76 rfl (lv_at hl 1 rfl) ?_
        refine lv_iconst (v := 2) hx hb dX1_good_77 (by decide) ?_
        refine lv_icmp_lt (tgt := 107) hx hb dX1_good_78 (by decide) (fun c_4 => ?_) (fun c_4 => ?_)
        · skip
          refine lv_iconst (v := 0) hx hb dX1_good_107 (by decide) ?_
          exact sx_zretR hx hb hr hlocks (Or.inl rfl) (by rw [← sm_dg_mg, sm_dg, if_neg c_1, if_neg c_2, if_neg c_3, if_pos c_4]) dX1_good_108
        · skip
          refine lv_iload_n hx hb dX1_good_81 rfl (lv_at hl 1 rfl) ?_
          refine lv_bipush (v := 9) hx hb dX1_good_82 (by decide) ?_
          refine lv_icmp_gt (tgt := 107) hx hb dX1_good_84 (by decide) (fun c_5 => ?_) (fun c_5 => ?_)
          · skip
            refine lv_iconst (v := 0) hx hb dX1_good_107 (by decide) ?_
            exact sx_zretR hx hb hr hlocks (Or.inl rfl) (by rw [← sm_dg_mg, sm_dg, if_neg c_1, if_neg c_2, if_neg c_3, if_neg c_4, if_pos c_5]) dX1_good_108
          · skip
            refine lv_aload_n hx hb dX1_good_87 rfl (lv_at hl 0 rfl) ?_
            refine lv_iload_n hx hb dX1_good_88 rfl (lv_at hl 2 rfl) ?_
            refine sx_callR (ci := 1) (As := [.int a]) (rest := []) ⟨hx, hb, hml, hown, hts⟩ (cy_variable l dC dI ad cI P n v F a) (cwV 1 hts (lw_V q205 q207 qs12 q22 q208) rfl rfl rfl (by decide +kernel) ⟨Nat.le_of_ble_eq_true rfl, Nat.le_of_ble_eq_true rfl⟩) hK hP rfl rfl rfl hl.1 rfl (Nat.le_of_ble_eq_true rfl) ⟨Nat.zero_le _, Nat.zero_le _⟩ dX1_good_89 ?_
            refine lv_if_eq (tgt := 107) hx hb dX1_good_92 (by decide) (fun c_6 => ?_) (fun c_6 => ?_)
            · skip
              refine lv_iconst (v := 0) hx hb dX1_good_107 (by decide) ?_
              exact sx_zretR hx hb hr hlocks (Or.inl rfl) (by rw [← sm_dg_mg, sm_dg, if_neg c_1, if_neg c_2, if_neg c_3, if_neg c_4, if_neg c_5, if_pos c_6]) dX1_good_108
            · skip
              refine lv_aload_n hx hb dX1_good_95 rfl (lv_at hl 0 rfl) ?_
              refine lv_iload_n hx hb dX1_good_96 rfl (lv_at hl 3 rfl) ?_
              refine sx_callR (ci := 1) (As := [.int b]) (rest := []) ⟨hx, hb, hml, hown, hts⟩ (cy_variable l dC dI ad cI P n v F b) (cwV 1 hts (lw_V q205 q207 qs12 q22 q208) rfl rfl rfl (by decide +kernel) ⟨Nat.le_of_ble_eq_true rfl, Nat.le_of_ble_eq_true rfl⟩) hK hP rfl rfl rfl hl.1 rfl (Nat.le_of_ble_eq_true rfl) ⟨Nat.zero_le _, Nat.zero_le _⟩ dX1_good_97 ?_
              refine lv_if_eq (tgt := 107) hx hb dX1_good_100 (by decide) (fun c_7 => ?_) (fun c_7 => ?_)
              · skip
                refine lv_iconst (v := 0) hx hb dX1_good_107 (by decide) ?_
                exact sx_zretR hx hb hr hlocks (Or.inl rfl) (by rw [← sm_dg_mg, sm_dg, if_neg c_1, if_neg c_2, if_neg c_3, if_neg c_4, if_neg c_5, if_neg c_6, if_pos c_7]) dX1_good_108
              · skip
                refine lv_iconst (v := 1) hx hb dX1_good_103 (by decide) ?_
                refine lv_goto (tgt := 108) hx hb dX1_good_104 (by decide) ?_
                exact sx_zretR hx hb hr hlocks (Or.inr rfl) (by rw [← sm_dg_mg, sm_dg, if_neg c_1, if_neg c_2, if_neg c_3, if_neg c_4, if_neg c_5, if_neg c_6, if_neg c_7]) dX1_good_108
    · skip
      refine lv_aload_n hx hb dX1_good_44 rfl (lv_at hl 0 rfl) ?_
      refine lv_iload_n hx hb dX1_good_45 rfl (lv_at hl 2 rfl) ?_
      refine sx_callR (ci := 1) (As := [.int a]) (rest := []) ⟨hx, hb, hml, hown, hts⟩ (cy_variable l dC dI ad cI P n v F a) (cwV 1 hts (lw_V q205 q207 qs12 q22 q208) rfl rfl rfl (by decide +kernel) ⟨Nat.le_of_ble_eq_true rfl, Nat.le_of_ble_eq_true rfl⟩) hK hP rfl rfl rfl hl.1 rfl (Nat.le_of_ble_eq_true rfl) ⟨Nat.zero_le _, Nat.zero_le _⟩ dX1_good_46 ?_
      refine lv_if_eq (tgt := 68) hx hb dX1_good_49 (by decide) (fun c_3 => ?_) (fun c_3 => ?_)
      · skip
        refine lv_iconst (v := 0) hx hb dX1_good_68 (by decide) ?_
        exact sx_zretR hx hb hr hlocks (Or.inl rfl) (by rw [← sm_dg_mg, sm_dg, if_neg c_1, if_pos c_2, if_pos c_3]) dX1_good_69
      · skip
        refine lv_iload_n hx hb dX1_good_52 rfl (lv_at hl 3 rfl) ?_
        refine lv_bipush (v := (-20)) hx hb dX1_good_53 (by decide) ?_
        refine lv_icmp_lt (tgt := 68) hx hb dX1_good_55 (by decide) (fun c_4 => ?_) (fun c_4 => ?_)
        · skip
          refine lv_iconst (v := 0) hx hb dX1_good_68 (by decide) ?_
          exact sx_zretR hx hb hr hlocks (Or.inl rfl) (by rw [← sm_dg_mg, sm_dg, if_neg c_1, if_pos c_2, if_neg c_3, if_pos c_4]) dX1_good_69
        · skip
          refine lv_iload_n hx hb dX1_good_58 rfl (lv_at hl 3 rfl) ?_
          refine lv_bipush (v := 20) hx hb dX1_good_59 (by decide) ?_
          refine lv_icmp_gt (tgt := 68) hx hb dX1_good_61 (by decide) (fun c_5 => ?_) (fun c_5 => ?_)
          · skip
            refine lv_iconst (v := 0) hx hb dX1_good_68 (by decide) ?_
            exact sx_zretR hx hb hr hlocks (Or.inl rfl) (by rw [← sm_dg_mg, sm_dg, if_neg c_1, if_pos c_2, if_neg c_3, if_neg c_4, if_pos c_5]) dX1_good_69
          · skip
            refine lv_iconst (v := 1) hx hb dX1_good_64 (by decide) ?_
            refine lv_goto (tgt := 69) hx hb dX1_good_65 (by decide) ?_
            exact sx_zretR hx hb hr hlocks (Or.inr rfl) (by rw [← sm_dg_mg, sm_dg, if_neg c_1, if_pos c_2, if_neg c_3, if_neg c_4, if_neg c_5]) dX1_good_69
  · skip
    refine lv_aload_n hx hb dX1_good_4 rfl (lv_at hl 0 rfl) ?_
    refine lv_iload_n hx hb dX1_good_5 rfl (lv_at hl 2 rfl) ?_
    refine sx_callR (ci := 1) (As := [.int a]) (rest := []) ⟨hx, hb, hml, hown, hts⟩ (cy_variable l dC dI ad cI P n v F a) (cwV 1 hts (lw_V q205 q207 qs12 q22 q208) rfl rfl rfl (by decide +kernel) ⟨Nat.le_of_ble_eq_true rfl, Nat.le_of_ble_eq_true rfl⟩) hK hP rfl rfl rfl hl.1 rfl (Nat.le_of_ble_eq_true rfl) ⟨Nat.zero_le _, Nat.zero_le _⟩ dX1_good_6 ?_
    refine lv_if_eq (tgt := 37) hx hb dX1_good_9 (by decide) (fun c_2 => ?_) (fun c_2 => ?_)
    · skip
      refine lv_iconst (v := 0) hx hb dX1_good_37 (by decide) ?_
      exact sx_zretR hx hb hr hlocks (Or.inl rfl) (by rw [← sm_dg_mg, sm_dg, if_pos c_1, if_pos c_2]) dX1_good_38
    · skip
      refine lv_iload_n hx hb dX1_good_12 rfl (lv_at hl 3 rfl) ?_
      refine lv_if_lt (tgt := 37) hx hb dX1_good_13 (by decide) (fun c_3 => ?_) (fun c_3 => ?_)
      · skip
        refine lv_iconst (v := 0) hx hb dX1_good_37 (by decide) ?_
        exact sx_zretR hx hb hr hlocks (Or.inl rfl) (by rw [← sm_dg_mg, sm_dg, if_pos c_1, if_neg c_2, if_pos c_3]) dX1_good_38
      · skip
        refine lv_iload_n hx hb dX1_good_16 rfl (lv_at hl 3 rfl) ?_
        refine lv_bipush (v := 15) hx hb dX1_good_17 (by decide) ?_
        refine lv_iand hx hb dX1_good_19 ?_
        refine lv_bipush (v := 12) hx hb dX1_good_20 (by decide) ?_
        refine lv_icmp_gt (tgt := 37) hx hb dX1_good_22 (by decide) (fun c_4 => ?_) (fun c_4 => ?_)
        · skip
          refine lv_iconst (v := 0) hx hb dX1_good_37 (by decide) ?_
          exact sx_zretR hx hb hr hlocks (Or.inl rfl) (by rw [← sm_dg_mg, sm_dg, if_pos c_1, if_neg c_2, if_neg c_3, if_pos c_4]) dX1_good_38
        · skip
          refine lv_iload_n hx hb dX1_good_25 rfl (lv_at hl 3 rfl) ?_
          refine lv_iconst (v := 4) hx hb dX1_good_26 (by decide) ?_
          refine lv_ishr hx hb dX1_good_27 ?_
          refine lv_bipush (v := 12) hx hb dX1_good_28 (by decide) ?_
          refine lv_icmp_gt (tgt := 37) hx hb dX1_good_30 (by decide) (fun c_5 => ?_) (fun c_5 => ?_)
          · skip
            refine lv_iconst (v := 0) hx hb dX1_good_37 (by decide) ?_
            exact sx_zretR hx hb hr hlocks (Or.inl rfl) (by rw [← sm_dg_mg, sm_dg, if_pos c_1, if_neg c_2, if_neg c_3, if_neg c_4, if_pos c_5]) dX1_good_38
          · skip
            refine lv_iconst (v := 1) hx hb dX1_good_33 (by decide) ?_
            refine lv_goto (tgt := 38) hx hb dX1_good_34 (by decide) ?_
            exact sx_zretR hx hb hr hlocks (Or.inr rfl) (by rw [← sm_dg_mg, sm_dg, if_pos c_1, if_neg c_2, if_neg c_3, if_neg c_4, if_neg c_5]) dX1_good_38
set_option maxHeartbeats 4000000 in
set_option maxRecDepth 100000 in
theorem cy_length (l : Launch) (dC : Nat → ClassId) (dI : Nat → Nat → Nat) (ad : Nat → Nat) (cI : ClassId) (P : Pg) (n : Nat) (v F : Vs)   : MetR l (dC, dI) vwCl (tyY cI) yX1_length (ws_ yX1_length cX1_length 1 (some .int)) ({ frames := 0, cells := 0, slots := 0, locals := 0 }) [.ref (ad 0)] (yW ad cI P n v F) (nI n) := by
  refine MetR.of (by decide) (Nat.le_of_ble_eq_true rfl) ?_
  intro p e s m below meth c ls hx hb hr hml hlocks hts hown hP hK hl
  have hown : s.vm.findClass RX1 = some m.cls := hown
  have hl : lv_has ls 1 [(0, .ref (ad 0))] := hl
  refine lv_aload_n hx hb dX1_length_0 rfl (lv_at hl 0 rfl) ?_
  refine va_get (D := (dC, dI)) (ci := 1) (v := .int (nI n)) (C := RX1) (T := TX1) (N := 7) hx hb hts in_X1 hown hK hP 0 rfl rfl 0 (by decide) (hts _ q175) (fun _ h9 => h9) rfl dX1_length_1 ?_
  exact sx_iretR hx hb hr hlocks (rfl) dX1_length_4
set_option maxHeartbeats 4000000 in
set_option maxRecDepth 100000 in
theorem cy_drop (l : Launch) (dC : Nat → ClassId) (dI : Nat → Nat → Nat) (ad : Nat → Nat) (cI : ClassId) (P : Pg) (n : Nat) (v F : Vs)  (hn : n ≤ 14) : MetI l (dC, dI) vwCl (tyY cI) yX1_drop (ws_ yX1_drop cX1_drop 1 (some .int)) ({ frames := 0, cells := 0, slots := 0, locals := 0 }) [.ref (ad 0)] (yW ad cI P n v F) (fun z : Nat => yW ad cI P z v F) (fun r z => z = n - 1 ∧ r = (if n = 0 then -1 else nI (n - 1))) := by
  refine MetI.of (by decide) (Nat.le_of_ble_eq_true rfl) ?_
  intro p e s m below meth c ls A hx hb hr hml hlocks hts hown hA hP hK hD hS hl
  have hown : s.vm.findClass RX1 = some m.cls := hown
  have hl : lv_has ls 1 [(0, .ref (ad 0))] := hl
  refine lv_aload_n hx hb dX1_drop_0 rfl (lv_at hl 0 rfl) ?_
  refine va_get (D := (dC, dI)) (ci := 1) (v := .int (nI n)) (C := RX1) (T := TX1) (N := 7) hx hb hts in_X1 hown hK hP 0 rfl rfl 0 (by decide) (hts _ q175) (fun _ h9 => h9) rfl dX1_drop_1 ?_
  refine lv_if_ne (tgt := 9) hx hb dX1_drop_4 (by decide) (fun c_1 => ?_) (fun c_1 => ?_)
  · skip
    have h0 : n ≠ 0 := fun h => c_1 (by rw [h]; rfl)
    obtain ⟨n', rfl⟩ : ∃ n', n = n' + 1 := ⟨n - 1, by omega⟩
    have hP : va_P (dC, dI) vwCl (yW ad cI P (n' + 1) v F) s.heap := hP
    refine lv_aload_n hx hb dX1_drop_9 rfl (lv_at hl 0 rfl) ?_
    refine lv_dup hx hb dX1_drop_10 rfl ?_
    refine va_get (D := (dC, dI)) (ci := 1) (v := .int (nI (n' + 1))) (C := RX1) (T := TX1) (N := 7) hx hb hts in_X1 hown hK hP 0 rfl rfl 0 (by decide) (hts _ q175) (fun _ h9 => h9) rfl dX1_drop_11 ?_
    refine lv_iconst (v := 1) hx hb dX1_drop_14 (by decide) ?_
    refine lv_isub hx hb dX1_drop_15 ?_
    refine sx_topE (y := nI n') (nI_pred n') ?_
    refine va_put (D := (dC, dI)) (ci := 1) (v := .int (nI n')) (ty := .int) (C := RX1) (T := TX1) (N := 7) hx hb hts in_X1 tyX1 tyX1_ok nmX1 hown hK hP hD hS 0 rfl rfl 0 (by decide) (hts _ q175) (fun _ h9 => h9) rfl (by decide +kernel) rfl rfl (Nat.le_of_ble_eq_true rfl) dX1_drop_16 (fun H locs hP hD hS => ?_)
    have hP : va_P (dC, dI) vwCl (yW ad cI P n' v F) H := hP
    have hD : va_D A (yW ad cI P n' v F) := hD
    refine lv_aload_n hx hb dX1_drop_19 rfl (lv_at hl 0 rfl) ?_
    refine va_get (D := (dC, dI)) (ci := 1) (v := .int (nI n')) (C := RX1) (T := TX1) (N := 7) hx hb hts in_X1 hown hK hP 0 rfl rfl 0 (by decide) (hts _ q175) (fun _ h9 => h9) rfl dX1_drop_20 ?_
    exact sx_iret hx hb hr hlocks hK n' ⟨rfl, by rw [if_neg (by omega)]; rfl⟩ hP hD hS dX1_drop_23
  · skip
    have h0 : n = 0 := (nI_eq (by omega) (by omega)).mp c_1
    subst h0
    refine lv_iconst (v := (-1)) hx hb dX1_drop_7 (by decide) ?_
    exact sx_iret hx hb hr hlocks hK 0 ⟨rfl, rfl⟩ hP hD hS dX1_drop_8
set_option maxHeartbeats 4000000 in
set_option maxRecDepth 100000 in
theorem cy_step (l : Launch) (dC : Nat → ClassId) (dI : Nat → Nat → Nat) (ad : Nat → Nat) (cI : ClassId) (P : Pg) (n : Nat) (v F : Vs) (k a b : Int32) (hn : n ≤ 14) : MetI l (dC, dI) vwCl (tyY cI) yX1_step (ws_ yX1_step cX1_step 4 (some .int)) ({ frames := 2, cells := 0, slots := 0, locals := 44 }) [.ref (ad 0), .int k, .int a, .int b] (yW ad cI P n v F) (fun u : Pg × Nat => yW ad cI u.1 u.2 v F) (fun r u => (r, u) = sm_sp P n k a b) := by
  refine MetI.of (by decide) (Nat.le_of_ble_eq_true rfl) ?_
  intro p e s m below meth c ls A hx hb hr hml hlocks hts hown hA hP hK hD hS hl
  have hown : s.vm.findClass RX1 = some m.cls := hown
  have hl : lv_has ls 4 [(0, .ref (ad 0)), (1, .int k), (2, .int a), (3, .int b)] := hl
  have hcb31 : sm_cb P n < 2 ^ 31 := by
    have := sm_cb_le P n
    omega
  refine sx_joinC (pc2 := 28) (ls2 := ls) (rest2 := []) (¬ sm_mg k a b = 0 ∧ ¬ (¬ sm_kc k = 0 ∧ 3 ≤ sm_cb P n)) (fun hgq => ?_) (fun jn => ?_)
  · skip
    obtain ⟨hg, hq⟩ := hgq
    refine lv_aload_n hx hb dX1_step_28 rfl (lv_at hl 0 rfl) ?_
    refine va_get (D := (dC, dI)) (ci := 1) (v := .int (nI n)) (C := RX1) (T := TX1) (N := 7) hx hb hts in_X1 hown hK hP 0 rfl rfl 0 (by decide) (hts _ q175) (fun _ h9 => h9) rfl dX1_step_29 ?_
    refine lv_bipush (v := 14) hx hb dX1_step_32 (by decide) ?_
    refine lv_icmp_lt (tgt := 40) hx hb dX1_step_34 (by decide) (fun c_1 => ?_) (fun c_1 => ?_)
    · skip
      have hlt : n < 14 := (nI_ltI (b := 14) (by omega) (by decide)).mp c_1
      have hres : sm_sp P n k a b = (nI n, sm_nP P n k a b, n + 1) := by rw [sm_sp, if_neg hg, if_neg hq, if_neg (by omega)]
      refine lv_aload_n hx hb dX1_step_40 rfl (lv_at hl 0 rfl) ?_
      refine va_get (D := (dC, dI)) (ci := 1) (v := .ref (ad 1)) (C := RX1) (T := TX1) (N := 7) hx hb hts in_X1 hown hK hP 0 rfl rfl 1 (by decide) (hts _ q176) (fun _ h9 => h9) rfl dX1_step_41 ?_
      refine lv_aload_n hx hb dX1_step_44 rfl (lv_at hl 0 rfl) ?_
      refine va_get (D := (dC, dI)) (ci := 1) (v := .int (nI n)) (C := RX1) (T := TX1) (N := 7) hx hb hts in_X1 hown hK hP 0 rfl rfl 0 (by decide) (hts _ q175) (fun _ h9 => h9) rfl dX1_step_45 ?_
      refine lv_iload_n hx hb dX1_step_48 rfl (lv_at hl 1 rfl) ?_
      refine sx_iast (j := n) hx hb hK hP hD hS 1 0 rfl rfl (rfl) (by omega) (by decide) dX1_step_49 (fun H locs hP hD hS => ?_)
      have hP : va_P (dC, dI) vwCl (yW ad cI (upd P.1 n k, P.2.1, P.2.2.1, P.2.2.2) n v F) H := hP
      have hD : va_D A (yW ad cI (upd P.1 n k, P.2.1, P.2.2.1, P.2.2.2) n v F) := hD
      refine lv_aload_n hx hb dX1_step_50 rfl (lv_at hl 0 rfl) ?_
      refine va_get (D := (dC, dI)) (ci := 1) (v := .ref (ad 2)) (C := RX1) (T := TX1) (N := 7) hx hb hts in_X1 hown hK hP 0 rfl rfl 2 (by decide) (hts _ q177) (fun _ h9 => h9) rfl dX1_step_51 ?_
      refine lv_aload_n hx hb dX1_step_54 rfl (lv_at hl 0 rfl) ?_
      refine va_get (D := (dC, dI)) (ci := 1) (v := .int (nI n)) (C := RX1) (T := TX1) (N := 7) hx hb hts in_X1 hown hK hP 0 rfl rfl 0 (by decide) (hts _ q175) (fun _ h9 => h9) rfl dX1_step_55 ?_
      refine lv_iload_n hx hb dX1_step_58 rfl (lv_at hl 1 rfl) ?_
      refine lv_bipush (v := 8) hx hb dX1_step_59 (by decide) ?_
      refine sx_join (pc2 := 69) (ls2 := ls) (rest2 := [.int (nI n), .ref (ad 2)]) (fun y => y = sm_n1 k a) (fun y ey => ?_) (fun jn1 => ?_)
      · skip
        refine sx_iast (j := n) hx hb hK hP hD hS 2 0 rfl rfl (rfl) (by omega) (by decide) dX1_step_69 (fun H locs hP hD hS => ?_)
        have hP : va_P (dC, dI) vwCl (yW ad cI (upd P.1 n k, upd P.2.1 n y, P.2.2.1, P.2.2.2) n v F) H := hP
        have hD : va_D A (yW ad cI (upd P.1 n k, upd P.2.1 n y, P.2.2.1, P.2.2.2) n v F) := hD
        refine lv_aload_n hx hb dX1_step_70 rfl (lv_at hl 0 rfl) ?_
        refine va_get (D := (dC, dI)) (ci := 1) (v := .ref (ad 3)) (C := RX1) (T := TX1) (N := 7) hx hb hts in_X1 hown hK hP 0 rfl rfl 3 (by decide) (hts _ q178) (fun _ h9 => h9) rfl dX1_step_71 ?_
        refine lv_aload_n hx hb dX1_step_74 rfl (lv_at hl 0 rfl) ?_
        refine va_get (D := (dC, dI)) (ci := 1) (v := .int (nI n)) (C := RX1) (T := TX1) (N := 7) hx hb hts in_X1 hown hK hP 0 rfl rfl 0 (by decide) (hts _ q175) (fun _ h9 => h9) rfl dX1_step_75 ?_
        refine lv_iload_n hx hb dX1_step_78 rfl (lv_at hl 1 rfl) ?_
        refine sx_join (pc2 := 102) (ls2 := ls) (rest2 := [.int (nI n), .ref (ad 3)]) (fun z => z = sm_n2 k b) (fun z ez => ?_) (fun jn2 => ?_)
        · skip
          refine sx_iast (j := n) hx hb hK hP hD hS 3 0 rfl rfl (rfl) (by omega) (by decide) dX1_step_102 (fun H locs hP hD hS => ?_)
          have hP : va_P (dC, dI) vwCl (yW ad cI (upd P.1 n k, upd P.2.1 n y, upd P.2.2.1 n z, P.2.2.2) n v F) H := hP
          have hD : va_D A (yW ad cI (upd P.1 n k, upd P.2.1 n y, upd P.2.2.1 n z, P.2.2.2) n v F) := hD
          refine lv_aload_n hx hb dX1_step_103 rfl (lv_at hl 0 rfl) ?_
          refine va_get (D := (dC, dI)) (ci := 1) (v := .ref (ad 4)) (C := RX1) (T := TX1) (N := 7) hx hb hts in_X1 hown hK hP 0 rfl rfl 4 (by decide) (hts _ q179) (fun _ h9 => h9) rfl dX1_step_104 ?_
          refine lv_aload_n hx hb dX1_step_107 rfl (lv_at hl 0 rfl) ?_
          refine va_get (D := (dC, dI)) (ci := 1) (v := .int (nI n)) (C := RX1) (T := TX1) (N := 7) hx hb hts in_X1 hown hK hP 0 rfl rfl 0 (by decide) (hts _ q175) (fun _ h9 => h9) rfl dX1_step_108 ?_
          refine lv_iload_n hx hb dX1_step_111 rfl (lv_at hl 1 rfl) ?_
          refine sx_join (pc2 := 124) (ls2 := ls) (rest2 := [.int (nI n), .ref (ad 4)]) (fun q => q = sm_n3 k b) (fun q eq => ?_) (fun jn3 => ?_)
          · skip
            refine sx_iast (j := n) hx hb hK hP hD hS 4 0 rfl rfl (rfl) (by omega) (by decide) dX1_step_124 (fun H locs hP hD hS => ?_)
            have hP : va_P (dC, dI) vwCl (yW ad cI (upd P.1 n k, upd P.2.1 n y, upd P.2.2.1 n z, upd P.2.2.2 n q) n v F) H := hP
            have hD : va_D A (yW ad cI (upd P.1 n k, upd P.2.1 n y, upd P.2.2.1 n z, upd P.2.2.2 n q) n v F) := hD
            refine lv_aload_n hx hb dX1_step_125 rfl (lv_at hl 0 rfl) ?_
            refine lv_dup hx hb dX1_step_126 rfl ?_
            refine va_get (D := (dC, dI)) (ci := 1) (v := .int (nI n)) (C := RX1) (T := TX1) (N := 7) hx hb hts in_X1 hown hK hP 0 rfl rfl 0 (by decide) (hts _ q175) (fun _ h9 => h9) rfl dX1_step_127 ?_
            refine lv_iconst (v := 1) hx hb dX1_step_130 (by decide) ?_
            refine lv_iadd hx hb dX1_step_131 ?_
            refine sx_topE (y := nI (n + 1)) (nI_1 _) ?_
            refine va_put (D := (dC, dI)) (ci := 1) (v := .int (nI (n + 1))) (ty := .int) (C := RX1) (T := TX1) (N := 7) hx hb hts in_X1 tyX1 tyX1_ok nmX1 hown hK hP hD hS 0 rfl rfl 0 (by decide) (hts _ q175) (fun _ h9 => h9) rfl (by decide +kernel) rfl rfl (Nat.le_of_ble_eq_true rfl) dX1_step_132 (fun H locs hP hD hS => ?_)
            have hP : va_P (dC, dI) vwCl (yW ad cI (upd P.1 n k, upd P.2.1 n y, upd P.2.2.1 n z, upd P.2.2.2 n q) (n + 1) v F) H := hP
            have hD : va_D A (yW ad cI (upd P.1 n k, upd P.2.1 n y, upd P.2.2.1 n z, upd P.2.2.2 n q) (n + 1) v F) := hD
            refine lv_aload_n hx hb dX1_step_135 rfl (lv_at hl 0 rfl) ?_
            refine va_get (D := (dC, dI)) (ci := 1) (v := .int (nI (n + 1))) (C := RX1) (T := TX1) (N := 7) hx hb hts in_X1 hown hK hP 0 rfl rfl 0 (by decide) (hts _ q175) (fun _ h9 => h9) rfl dX1_step_136 ?_
            refine lv_iconst (v := 1) hx hb dX1_step_139 (by decide) ?_
            refine lv_isub hx hb dX1_step_140 ?_
            refine sx_topE (y := nI n) (nI_pred n) ?_
            subst ey ez eq
            exact sx_iret hx hb hr hlocks hK (sm_nP P n k a b, n + 1) (hres.symm) hP hD hS dX1_step_141
          · skip
            refine lv_if_ne (tgt := 123) hx hb dX1_step_112 (by decide) (fun c_2 => ?_) (fun c_2 => ?_)
            · skip
              refine lv_iconst (v := 0) hx hb dX1_step_123 (by decide) ?_
              exact jn3 0 (by rw [sm_n3, if_neg c_2])
            · skip
              refine lv_iload_n hx hb dX1_step_115 rfl (lv_at hl 3 rfl) ?_
              refine lv_iconst (v := 4) hx hb dX1_step_116 (by decide) ?_
              refine lv_ishr hx hb dX1_step_117 ?_
              refine lv_iconst (v := 3) hx hb dX1_step_118 (by decide) ?_
              refine lv_isub hx hb dX1_step_119 ?_
              refine lv_goto (tgt := 124) hx hb dX1_step_120 (by decide) ?_
              exact jn3 _ (by rw [sm_n3, if_pos c_2])
        · skip
          refine lv_if_ne (tgt := 91) hx hb dX1_step_79 (by decide) (fun c_2 => ?_) (fun c_2 => ?_)
          · skip
            refine lv_iload_n hx hb dX1_step_91 rfl (lv_at hl 1 rfl) ?_
            refine lv_bipush (v := 8) hx hb dX1_step_92 (by decide) ?_
            refine lv_icmp_ne (tgt := 101) hx hb dX1_step_94 (by decide) (fun c_3 => ?_) (fun c_3 => ?_)
            · skip
              refine lv_iload_n hx hb dX1_step_101 rfl (lv_at hl 3 rfl) ?_
              exact jn2 _ (by rw [sm_n2, if_neg c_3, if_neg c_2])
            · skip
              refine lv_iconst (v := 0) hx hb dX1_step_97 (by decide) ?_
              refine lv_goto (tgt := 102) hx hb dX1_step_98 (by decide) ?_
              exact jn2 _ (by rw [sm_n2, if_pos c_3])
          · skip
            refine lv_iload_n hx hb dX1_step_82 rfl (lv_at hl 3 rfl) ?_
            refine lv_bipush (v := 15) hx hb dX1_step_83 (by decide) ?_
            refine lv_iand hx hb dX1_step_85 ?_
            refine lv_iconst (v := 3) hx hb dX1_step_86 (by decide) ?_
            refine lv_isub hx hb dX1_step_87 ?_
            refine lv_goto (tgt := 102) hx hb dX1_step_88 (by decide) ?_
            exact jn2 _ (by rw [sm_n2, if_neg (by rw [c_2]; decide), if_pos c_2])
      · skip
        refine lv_icmp_ne (tgt := 68) hx hb dX1_step_61 (by decide) (fun c_2 => ?_) (fun c_2 => ?_)
        · skip
          refine lv_iload_n hx hb dX1_step_68 rfl (lv_at hl 2 rfl) ?_
          exact jn1 _ (by rw [sm_n1, if_neg c_2])
        · skip
          refine lv_iconst (v := 0) hx hb dX1_step_64 (by decide) ?_
          refine lv_goto (tgt := 69) hx hb dX1_step_65 (by decide) ?_
          exact jn1 _ (by rw [sm_n1, if_pos c_2])
    · skip
      have hge : 14 ≤ n := Nat.le_of_not_lt (fun q => c_1 ((nI_ltI (b := 14) (by omega) (by decide)).mpr q))
      refine lv_bipush (v := (-2)) hx hb dX1_step_37 (by decide) ?_
      exact sx_iret hx hb hr hlocks hK (P, n) (by rw [sm_sp, if_neg hg, if_neg hq, if_pos hge]) hP hD hS dX1_step_39
  · skip
    refine lv_aload_n hx hb dX1_step_0 rfl (lv_at hl 0 rfl) ?_
    refine lv_iload_n hx hb dX1_step_1 rfl (lv_at hl 1 rfl) ?_
    refine lv_iload_n hx hb dX1_step_2 rfl (lv_at hl 2 rfl) ?_
    refine lv_iload_n hx hb dX1_step_3 rfl (lv_at hl 3 rfl) ?_
    refine sx_callR (ci := 1) (As := [.int k, .int a, .int b]) (rest := []) ⟨hx, hb, hml, hown, hts⟩ (cy_good l dC dI ad cI P n v F k a b) (cwV 3 hts (lw_V q201 q203 qs11 q22 q204) rfl rfl rfl (by decide +kernel) ⟨Nat.le_of_ble_eq_true rfl, Nat.le_of_ble_eq_true rfl⟩) hK hP rfl rfl rfl hl.1 rfl (Nat.le_of_ble_eq_true rfl) ⟨Nat.zero_le _, Nat.zero_le _⟩ dX1_step_4 ?_
    refine lv_if_eq (tgt := 26) hx hb dX1_step_7 (by decide) (fun c_1 => ?_) (fun c_1 => ?_)
    · skip
      refine lv_iconst (v := (-1)) hx hb dX1_step_26 (by decide) ?_
      exact sx_iret hx hb hr hlocks hK (P, n) (by rw [sm_sp, if_pos c_1]) hP hD hS dX1_step_27
    · skip
      refine lv_aload_n hx hb dX1_step_10 rfl (lv_at hl 0 rfl) ?_
      refine lv_iload_n hx hb dX1_step_11 rfl (lv_at hl 1 rfl) ?_
      refine sx_callR (ci := 1) (As := [.int k]) (rest := []) ⟨hx, hb, hml, hown, hts⟩ (cy_choice l dC dI ad cI P n v F k) (cwV 1 hts (lw_V q209 q211 qs13 q22 q212) rfl rfl rfl (by decide +kernel) ⟨Nat.le_of_ble_eq_true rfl, Nat.le_of_ble_eq_true rfl⟩) hK hP rfl rfl rfl hl.1 rfl (Nat.le_of_ble_eq_true rfl) ⟨Nat.zero_le _, Nat.zero_le _⟩ dX1_step_12 ?_
      refine lv_if_eq (tgt := 28) hx hb dX1_step_15 (by decide) (fun c_2 => ?_) (fun c_2 => ?_)
      · skip
        exact jn ⟨c_1, fun q => q.1 c_2⟩
      · skip
        refine lv_aload_n hx hb dX1_step_18 rfl (lv_at hl 0 rfl) ?_
        refine sx_callR (ci := 1) (As := []) (rest := []) ⟨hx, hb, hml, hown, hts⟩ (cy_choices l dC dI ad cI P n v F hn) (cwV 0 hts (lw_V q213 q215 qs14 q22 q216) rfl rfl rfl (by decide +kernel) ⟨Nat.le_of_ble_eq_true rfl, Nat.le_of_ble_eq_true rfl⟩) hK hP rfl rfl rfl hl.1 rfl (Nat.le_of_ble_eq_true rfl) ⟨Nat.zero_le _, Nat.zero_le _⟩ dX1_step_19 ?_
        refine lv_iconst (v := 3) hx hb dX1_step_22 (by decide) ?_
        refine lv_icmp_lt (tgt := 28) hx hb dX1_step_23 (by decide) (fun c_3 => ?_) (fun c_3 => ?_)
        · skip
          exact jn ⟨c_1, fun q => absurd ((nI_ltI (b := 3) hcb31 (by decide)).mp c_3) (by omega)⟩
        · skip
          refine lv_iconst (v := (-1)) hx hb dX1_step_26 (by decide) ?_
          exact sx_iret hx hb hr hlocks hK (P, n) (by rw [sm_sp, if_neg c_1, if_pos ⟨c_2, Nat.le_of_not_lt (fun q => c_3 ((nI_ltI (b := 3) hcb31 (by decide)).mpr q))⟩]) hP hD hS dX1_step_27
set_option maxHeartbeats 4000000 in
set_option maxRecDepth 100000 in
theorem cy_options (l : Launch) (dC : Nat → ClassId) (dI : Nat → Nat → Nat) (ad : Nat → Nat) (cI : ClassId) (P : Pg) (n : Nat) (v F : Vs) (i : Nat) (hi : i < n) (hn : n ≤ 14) (hV : sm_va P n) : MetR l (dC, dI) vwCl (tyY cI) yX1_options (ws_ yX1_options cX1_options 2 (some .int)) ({ frames := 0, cells := 0, slots := 0, locals := 0 }) [.ref (ad 0), .int (nI i)] (yW ad cI P n v F) (nI (sm_op P i)) := by
  refine MetR.of (by decide) (Nat.le_of_ble_eq_true rfl) ?_
  intro p e s m below meth c ls hx hb hr hml hlocks hts hown hP hK hl
  have hown : s.vm.findClass RX1 = some m.cls := hown
  have hl : lv_has ls 2 [(0, .ref (ad 0)), (1, .int (nI i))] := hl
  refine lv_aload_n hx hb dX1_options_0 rfl (lv_at hl 0 rfl) ?_
  refine va_get (D := (dC, dI)) (ci := 1) (v := .ref (ad 1)) (C := RX1) (T := TX1) (N := 7) hx hb hts in_X1 hown hK hP 0 rfl rfl 1 (by decide) (hts _ q176) (fun _ h9 => h9) rfl dX1_options_1 ?_
  refine lv_iload_n hx hb dX1_options_4 rfl (lv_at hl 1 rfl) ?_
  refine sx_iald (j := i) hx hb hK hP 1 0 rfl rfl (rfl) (by omega) (by decide) dX1_options_5 ?_
  refine lv_if_ne (tgt := 46) hx hb dX1_options_6 (by decide) (fun c_1 => ?_) (fun c_1 => ?_)
  · skip
    refine lv_aload_n hx hb dX1_options_46 rfl (lv_at hl 0 rfl) ?_
    refine va_get (D := (dC, dI)) (ci := 1) (v := .ref (ad 1)) (C := RX1) (T := TX1) (N := 7) hx hb hts in_X1 hown hK hP 0 rfl rfl 1 (by decide) (hts _ q176) (fun _ h9 => h9) rfl dX1_options_47 ?_
    refine lv_iload_n hx hb dX1_options_50 rfl (lv_at hl 1 rfl) ?_
    refine sx_iald (j := i) hx hb hK hP 1 0 rfl rfl (rfl) (by omega) (by decide) dX1_options_51 ?_
    refine lv_iconst (v := 4) hx hb dX1_options_52 (by decide) ?_
    refine lv_icmp_eq (tgt := 67) hx hb dX1_options_53 (by decide) (fun c_2 => ?_) (fun c_2 => ?_)
    · skip
      refine lv_iconst (v := 2) hx hb dX1_options_67 (by decide) ?_
      refine lv_goto (tgt := 72) hx hb dX1_options_68 (by decide) ?_
      exact sx_iretR hx hb hr hlocks (by rw [sm_op, if_neg c_1, if_pos (Or.inl c_2)]; rfl) dX1_options_72
    · skip
      refine lv_aload_n hx hb dX1_options_56 rfl (lv_at hl 0 rfl) ?_
      refine va_get (D := (dC, dI)) (ci := 1) (v := .ref (ad 1)) (C := RX1) (T := TX1) (N := 7) hx hb hts in_X1 hown hK hP 0 rfl rfl 1 (by decide) (hts _ q176) (fun _ h9 => h9) rfl dX1_options_57 ?_
      refine lv_iload_n hx hb dX1_options_60 rfl (lv_at hl 1 rfl) ?_
      refine sx_iald (j := i) hx hb hK hP 1 0 rfl rfl (rfl) (by omega) (by decide) dX1_options_61 ?_
      refine lv_bipush (v := 9) hx hb dX1_options_62 (by decide) ?_
      refine lv_icmp_ne (tgt := 71) hx hb dX1_options_64 (by decide) (fun c_3 => ?_) (fun c_3 => ?_)
      · skip
        refine lv_iconst (v := 1) hx hb dX1_options_71 (by decide) ?_
        exact sx_iretR hx hb hr hlocks (by rw [sm_op, if_neg c_1, if_neg (fun q => q.elim c_2 c_3)]; rfl) dX1_options_72
      · skip
        refine lv_iconst (v := 2) hx hb dX1_options_67 (by decide) ?_
        refine lv_goto (tgt := 72) hx hb dX1_options_68 (by decide) ?_
        exact sx_iretR hx hb hr hlocks (by rw [sm_op, if_neg c_1, if_pos (Or.inr c_3)]; rfl) dX1_options_72
  · skip
    obtain ⟨r1, r2, r3, r4⟩ := (hV i hi).2.2.1 c_1
    have ho : sm_op P i = ((P.2.2.2 i).toInt - (P.2.2.1 i).toInt + 1).toNat := by rw [sm_op, if_pos c_1]
    refine lv_aload_n hx hb dX1_options_9 rfl (lv_at hl 0 rfl) ?_
    refine va_get (D := (dC, dI)) (ci := 1) (v := .ref (ad 4)) (C := RX1) (T := TX1) (N := 7) hx hb hts in_X1 hown hK hP 0 rfl rfl 4 (by decide) (hts _ q179) (fun _ h9 => h9) rfl dX1_options_10 ?_
    refine lv_iload_n hx hb dX1_options_13 rfl (lv_at hl 1 rfl) ?_
    refine sx_iald (j := i) hx hb hK hP 4 0 rfl rfl (rfl) (by omega) (by decide) dX1_options_14 ?_
    refine lv_aload_n hx hb dX1_options_15 rfl (lv_at hl 0 rfl) ?_
    refine va_get (D := (dC, dI)) (ci := 1) (v := .ref (ad 3)) (C := RX1) (T := TX1) (N := 7) hx hb hts in_X1 hown hK hP 0 rfl rfl 3 (by decide) (hts _ q178) (fun _ h9 => h9) rfl dX1_options_16 ?_
    refine lv_iload_n hx hb dX1_options_19 rfl (lv_at hl 1 rfl) ?_
    refine sx_iald (j := i) hx hb hK hP 3 0 rfl rfl (rfl) (by omega) (by decide) dX1_options_20 ?_
    refine lv_icmp_ge (tgt := 28) hx hb dX1_options_21 (by decide) (fun c_2 => ?_) (fun c_2 => ?_)
    · skip
      refine lv_aload_n hx hb dX1_options_28 rfl (lv_at hl 0 rfl) ?_
      refine va_get (D := (dC, dI)) (ci := 1) (v := .ref (ad 4)) (C := RX1) (T := TX1) (N := 7) hx hb hts in_X1 hown hK hP 0 rfl rfl 4 (by decide) (hts _ q179) (fun _ h9 => h9) rfl dX1_options_29 ?_
      refine lv_iload_n hx hb dX1_options_32 rfl (lv_at hl 1 rfl) ?_
      refine sx_iald (j := i) hx hb hK hP 4 0 rfl rfl (rfl) (by omega) (by decide) dX1_options_33 ?_
      refine lv_aload_n hx hb dX1_options_34 rfl (lv_at hl 0 rfl) ?_
      refine va_get (D := (dC, dI)) (ci := 1) (v := .ref (ad 3)) (C := RX1) (T := TX1) (N := 7) hx hb hts in_X1 hown hK hP 0 rfl rfl 3 (by decide) (hts _ q178) (fun _ h9 => h9) rfl dX1_options_35 ?_
      refine lv_iload_n hx hb dX1_options_38 rfl (lv_at hl 1 rfl) ?_
      refine sx_iald (j := i) hx hb hK hP 3 0 rfl rfl (rfl) (by omega) (by decide) dX1_options_39 ?_
      refine lv_isub hx hb dX1_options_40 ?_
      refine lv_iconst (v := 1) hx hb dX1_options_41 (by decide) ?_
      refine lv_iadd hx hb dX1_options_42 ?_
      refine lv_goto (tgt := 72) hx hb dX1_options_43 (by decide) ?_
      exact sx_iretR hx hb hr hlocks (by rw [ho]; exact sm_opt_ge r1 r2 r3 r4 c_2) dX1_options_72
    · skip
      refine lv_iconst (v := 0) hx hb dX1_options_24 (by decide) ?_
      refine lv_goto (tgt := 72) hx hb dX1_options_25 (by decide) ?_
      exact sx_iretR hx hb hr hlocks (by rw [ho, sm_opt_lt c_2]; rfl) dX1_options_72
set_option maxHeartbeats 4000000 in
set_option maxRecDepth 100000 in
theorem cy_between (l : Launch) (dC : Nat → ClassId) (dI : Nat → Nat → Nat) (ad : Nat → Nat) (cI : ClassId) (P : Pg) (n : Nat) (v F : Vs) (i k : Nat) (hik : i ≤ k) (hkn : k ≤ n) (hn : n ≤ 14) (hV : sm_va P n) : MetR l (dC, dI) vwCl (tyY cI) yX1_between (ws_ yX1_between cX1_between 5 (some .int)) ({ frames := 1, cells := 0, slots := 0, locals := 21 }) [.ref (ad 0), .int (nI i), .int (nI k)] (yW ad cI P n v F) (nI (sm_pr P (k - i) i)) := by
  refine MetR.of (by decide) (Nat.le_of_ble_eq_true rfl) ?_
  intro p e s m below meth c ls hx hb hr hml hlocks hts hown hP hK hl
  have hown : s.vm.findClass RX1 = some m.cls := hown
  have hl : lv_has ls 5 [(0, .ref (ad 0)), (1, .int (nI i)), (2, .int (nI k))] := hl
  refine lv_iconst (v := 1) hx hb dX1_between_0 (by decide) ?_
  refine lv_istore_n (lv' := [(3, .int 1), (0, .ref (ad 0)), (1, .int (nI i)), (2, .int (nI k))]) hx hb dX1_between_1 rfl hl (by decide) rfl (fun ls hl => ?_)
  refine lv_iload_n hx hb dX1_between_2 rfl (lv_at hl 2 rfl) ?_
  refine lv_istore (lv' := [(4, .int (nI i)), (3, .int 1), (0, .ref (ad 0)), (1, .int (nI i)), (2, .int (nI k))]) hx hb dX1_between_3 hl (by decide) rfl (fun ls hl => ?_)
  refine sx_loopR (σ := Nat × Nat) (lv := fun x => [(4, .int (nI x.1)), (3, .int (nI x.2)), (0, .ref (ad 0)), (1, .int (nI i)), (2, .int (nI k))]) (I := fun x => x.1 ≤ k ∧ x.2 * sm_pr P (k - x.1) x.1 = sm_pr P (k - i) i) (μ := fun x => k - x.1) ?_ (i, 1) ⟨hik, Nat.one_mul _⟩ hl
  intro x hI ih ls hl
  obtain ⟨j, a⟩ := x
  obtain ⟨hj, ha⟩ := hI
  have hj : j ≤ k := hj
  have ha : a * sm_pr P (k - j) j = sm_pr P (k - i) i := ha
  have hl : lv_has ls 5 [(4, .int (nI j)), (3, .int (nI a)), (0, .ref (ad 0)), (1, .int (nI i)), (2, .int (nI k))] := hl
  refine lv_iload hx hb dX1_between_5 (lv_at hl 0 rfl) ?_
  refine lv_iload_n hx hb dX1_between_7 rfl (lv_at hl 4 rfl) ?_
  refine lv_icmp_ge (tgt := 26) hx hb dX1_between_8 (by decide) (fun c_1 => ?_) (fun c_1 => ?_)
  · skip
    have hjk : j = k := Nat.le_antisymm hj ((nI_leI (by omega) (by omega)).mp c_1)
    subst hjk
    rw [Nat.sub_self] at ha
    have ha : a = sm_pr P (j - i) i := (Nat.mul_one a).symm.trans ha
    refine lv_iload_n hx hb dX1_between_26 rfl (lv_at hl 1 rfl) ?_
    exact sx_iretR hx hb hr hlocks (by rw [ha]) dX1_between_27
  · skip
    have hjk : j < k := Nat.lt_of_not_le (fun h => c_1 ((nI_leI (by omega) (by omega)).mpr h))
    refine lv_iload_n hx hb dX1_between_11 rfl (lv_at hl 1 rfl) ?_
    refine lv_aload_n hx hb dX1_between_12 rfl (lv_at hl 2 rfl) ?_
    refine lv_iload hx hb dX1_between_13 (lv_at hl 0 rfl) ?_
    refine sx_callR (ci := 1) (As := [.int (nI j)]) (rest := [.int (nI a)]) ⟨hx, hb, hml, hown, hts⟩ (cy_options l dC dI ad cI P n v F j (by omega) hn hV) (cwV 1 hts (lw_V q241 q243 qs17 q22 q244) rfl rfl rfl (by decide +kernel) ⟨Nat.le_of_ble_eq_true rfl, Nat.le_of_ble_eq_true rfl⟩) hK hP rfl rfl rfl hl.1 rfl (Nat.le_of_ble_eq_true rfl) ⟨Nat.zero_le _, Nat.zero_le _⟩ dX1_between_15 ?_
    refine lv_imul hx hb dX1_between_18 ?_
    refine sx_topE (y := nI (a * sm_op P j)) (pk_mul _ _) ?_
    refine lv_istore_n (lv' := [(3, .int (nI (a * sm_op P j))), (4, .int (nI j)), (0, .ref (ad 0)), (1, .int (nI i)), (2, .int (nI k))]) hx hb dX1_between_19 rfl hl (by decide) rfl (fun ls hl => ?_)
    refine lv_iinc (v := nI (j + 1)) (lv' := [(4, .int (nI (j + 1))), (3, .int (nI (a * sm_op P j))), (0, .ref (ad 0)), (1, .int (nI i)), (2, .int (nI k))]) hx hb dX1_between_20 hl (k := 1) rfl (nI_1 _) (by decide) rfl (fun ls hl => ?_)
    refine lv_goto (tgt := 5) hx hb dX1_between_23 (by decide) ?_
    exact ih (j + 1, a * sm_op P j) ⟨hjk, by show a * sm_op P j * sm_pr P (k - (j + 1)) (j + 1) = _; rw [← ha, show k - j = (k - (j + 1)) + 1 by omega, sm_pr, Nat.mul_assoc]⟩ (by show k - (j + 1) < k - j; omega) ls (lv_sub hl [0, 1, 2, 3, 4] rfl)
set_option maxHeartbeats 4000000 in
set_option maxRecDepth 100000 in
theorem cy_begin (l : Launch) (dC : Nat → ClassId) (dI : Nat → Nat → Nat) (ad : Nat → Nat) (cI : ClassId) (P : Pg) (n : Nat) (v F : Vs)   : MetV l (dC, dI) vwCl (tyY cI) yX1_begin (ws_ yX1_begin cX1_begin 2 none) ({ frames := 0, cells := 0, slots := 0, locals := 0 }) [.ref (ad 0)] (yW ad cI P n v F) (fun _ : Unit => yW ad cI P n v (fun _ => -1)) (fun _ => True) := by
  refine MetV.of (by decide) (Nat.le_of_ble_eq_true rfl) ?_
  intro p e s m below meth c ls A hx hb hr hml hlocks hts hown hA hP hK hD hS hl
  have hown : s.vm.findClass RX1 = some m.cls := hown
  have hl : lv_has ls 2 [(0, .ref (ad 0))] := hl
  refine lv_iconst (v := 0) hx hb dX1_begin_0 (by decide) ?_
  refine lv_istore_n (lv' := [(1, .int 0), (0, .ref (ad 0))]) hx hb dX1_begin_1 rfl hl (by decide) rfl (fun ls hl => ?_)
  refine sx_loop (σ := Nat × Vs) (w := fun x => yW ad cI P n v x.2) (lv := fun x => [(1, .int (nI x.1)), (0, .ref (ad 0))]) (I := fun x => x.1 ≤ 14 ∧ ∀ j, j < x.1 → x.2 j = -1) (μ := fun x => 14 - x.1) ?_ (0, F) ⟨Nat.zero_le _, fun j hj => absurd hj (Nat.not_lt_zero _)⟩ hP hD hS hl
  intro x hI ih H locs hP hD hS ls hl
  obtain ⟨i, F⟩ := x
  obtain ⟨hi, hz⟩ := hI
  have hi : i ≤ 14 := hi
  have hz : ∀ j, j < i → F j = -1 := hz
  have hl : lv_has ls 2 [(1, .int (nI i)), (0, .ref (ad 0))] := hl
  have hP : va_P (dC, dI) vwCl (yW ad cI P n v F) H := hP
  have hD : va_D A (yW ad cI P n v F) := hD
  refine lv_iload_n hx hb dX1_begin_2 rfl (lv_at hl 0 rfl) ?_
  refine lv_bipush (v := 14) hx hb dX1_begin_3 (by decide) ?_
  refine lv_icmp_ge (tgt := 21) hx hb dX1_begin_5 (by decide) (fun c_1 => ?_) (fun c_1 => ?_)
  · skip
    have h4 : 14 ≤ i := (nI_leI (a := 14) (by decide) (by omega)).mp c_1
    have hP : va_P (dC, dI) vwCl (yW ad cI P n v (fun _ => -1)) H := hP.set (p := 6) (e := .inl (cI, 14, .inl (fun _ => -1))) hD rfl (by show H[ad 6]? = some (vp_cell cI (14, .inl (fun _ => -1))); rw [← sx_ext (f := F) (g := fun _ => -1) (fun j hj => hz j (by omega))]; exact hP 6 _ rfl) (fun _ _ => rfl)
    have hD : va_D A (yW ad cI P n v (fun _ => -1)) := hD.set (p := 6) (e := .inl (cI, 14, .inl (fun _ => -1))) rfl
    exact sx_vret hx hb hr hlocks hK () trivial hP hD hS dX1_begin_21
  · skip
    have h4 : i < 14 := Nat.lt_of_not_le (fun h => c_1 ((nI_leI (a := 14) (by decide) (by omega)).mpr h))
    refine lv_aload_n hx hb dX1_begin_8 rfl (lv_at hl 1 rfl) ?_
    refine va_get (D := (dC, dI)) (ci := 1) (v := .ref (ad 6)) (C := RX1) (T := TX1) (N := 7) hx hb hts in_X1 hown hK hP 0 rfl rfl 6 (by decide) (hts _ q181) (fun _ h9 => h9) rfl dX1_begin_9 ?_
    refine lv_iload_n hx hb dX1_begin_12 rfl (lv_at hl 0 rfl) ?_
    refine lv_iconst (v := (-1)) hx hb dX1_begin_13 (by decide) ?_
    refine sx_iast (j := i) hx hb hK hP hD hS 6 0 rfl rfl (rfl) (by omega) (by decide) dX1_begin_14 (fun H locs hP hD hS => ?_)
    have hP : va_P (dC, dI) vwCl (yW ad cI P n v (upd F i (-1))) H := hP
    have hD : va_D A (yW ad cI P n v (upd F i (-1))) := hD
    refine lv_iinc (v := nI (i + 1)) (lv' := [(1, .int (nI (i + 1))), (0, .ref (ad 0))]) hx hb dX1_begin_15 hl (k := 0) rfl (nI_1 _) (by decide) rfl (fun ls hl => ?_)
    refine lv_goto (tgt := 2) hx hb dX1_begin_18 (by decide) ?_
    exact ih (i + 1, upd F i (-1)) ⟨h4, fun j hj => by by_cases he : j = i; (rw [he]; exact pk_us); (rw [show (i + 1, upd F i (-1)).2 j = F j from pk_un he]; exact hz j (by have : j < i + 1 := hj; omega))⟩ (by show 14 - (i + 1) < 14 - i; omega) H locs hP hD hS ls (lv_sub hl [0, 1] rfl)
end
section
/-! THE REFERENCE: one step carried out, one run -/
/-- what carryOut does: its answer, the numbers, what the cuts remember -/
def sm_pO (P : Pg) (i d pv : Nat) (v F : Vs) (r : Int32) (u : Vs × Vs) : Prop :=
  (P.1 i = 8 ∧ u = (v, upd F i (if F i < 0 then nI pv else F i)) ∧ r = (if (if F i < 0 then nI pv else F i) = nI pv then 1 else 0)) ∨ (¬ P.1 i = 8 ∧ u = (sm_ap P i d v, F) ∧ r = (if sm_ok P i v = true then 1 else 0))
theorem sm_kinds {P : Pg} {n i : Nat} (hV : sm_va P n) (hi : i < n) : P.1 i = 0 ∨ P.1 i = 1 ∨ P.1 i = 2 ∨ P.1 i = 3 ∨ P.1 i = 4 ∨ P.1 i = 5 ∨ P.1 i = 6 ∨ P.1 i = 7 ∨ P.1 i = 8 ∨ P.1 i = 9 := by
  obtain ⟨⟨kk, hk9, hkk⟩, -⟩ := hV i hi
  have hq : kk = 0 ∨ kk = 1 ∨ kk = 2 ∨ kk = 3 ∨ kk = 4 ∨ kk = 5 ∨ kk = 6 ∨ kk = 7 ∨ kk = 8 ∨ kk = 9 := by omega
  rw [hkk]
  rcases hq with e | e | e | e | e | e | e | e | e | e <;> rw [e] <;> decide
set_option maxHeartbeats 4000000 in
set_option maxRecDepth 100000 in
theorem cy_carryOut (l : Launch) (dC : Nat → ClassId) (dI : Nat → Nat → Nat) (ad : Nat → Nat) (cI : ClassId) (P : Pg) (n : Nat) (v F : Vs) (i d pv : Nat) (hi : i < n) (hn : n ≤ 14) (hV : sm_va P n) (hd : d ≤ 13) : MetI l (dC, dI) vwCl (tyY cI) yX1_carryOut (ws_ yX1_carryOut cX1_carryOut 10 (some .boolean)) ({ frames := 0, cells := 0, slots := 0, locals := 0 }) [.ref (ad 0), .int (nI i), .int (nI d), .int (nI pv)] (yW ad cI P n v F) (fun u : Vs × Vs => yW ad cI P n u.1 u.2) (sm_pO P i d pv v F) := by
  refine MetI.of (by decide) (Nat.le_of_ble_eq_true rfl) ?_
  intro p e s m below meth c ls A hx hb hr hml hlocks hts hown hA hP hK hD hS hl
  have hown : s.vm.findClass RX1 = some m.cls := hown
  have hl : lv_has ls 10 [(0, .ref (ad 0)), (1, .int (nI i)), (2, .int (nI d)), (3, .int (nI pv))] := hl
  obtain ⟨-, gA, -, gB⟩ := hV i hi
  have gA2 := gA.2
  refine lv_aload_n hx hb dX1_carryOut_0 rfl (lv_at hl 0 rfl) ?_
  refine va_get (D := (dC, dI)) (ci := 1) (v := .ref (ad 1)) (C := RX1) (T := TX1) (N := 7) hx hb hts in_X1 hown hK hP 0 rfl rfl 1 (by decide) (hts _ q176) (fun _ h9 => h9) rfl dX1_carryOut_1 ?_
  refine lv_iload_n hx hb dX1_carryOut_4 rfl (lv_at hl 1 rfl) ?_
  refine sx_iald (j := i) hx hb hK hP 1 0 rfl rfl (rfl) (by omega) (by decide) dX1_carryOut_5 ?_
  rcases sm_kinds hV hi with hk | hk | hk | hk | hk | hk | hk | hk | hk | hk
  · skip
    refine sx_topE (y := 0) (hk) ?_
    have h8 : ¬ P.1 i = 8 := by rw [hk]; decide
    refine lv_istore (lv' := [(4, .int 0), (0, .ref (ad 0)), (1, .int (nI i)), (2, .int (nI d)), (3, .int (nI pv))]) hx hb dX1_carryOut_6 hl (by decide) rfl (fun ls hl => ?_)
    refine lv_aload_n hx hb dX1_carryOut_8 rfl (lv_at hl 1 rfl) ?_
    refine va_get (D := (dC, dI)) (ci := 1) (v := .ref (ad 2)) (C := RX1) (T := TX1) (N := 7) hx hb hts in_X1 hown hK hP 0 rfl rfl 2 (by decide) (hts _ q177) (fun _ h9 => h9) rfl dX1_carryOut_9 ?_
    refine lv_iload_n hx hb dX1_carryOut_12 rfl (lv_at hl 2 rfl) ?_
    refine sx_iald (j := i) hx hb hK hP 2 0 rfl rfl (rfl) (by omega) (by decide) dX1_carryOut_13 ?_
    refine sx_topE (y := nI (ix (P.2.1 i))) (gA.1) ?_
    refine lv_istore (lv' := [(5, .int (nI (ix (P.2.1 i)))), (4, .int 0), (0, .ref (ad 0)), (1, .int (nI i)), (2, .int (nI d)), (3, .int (nI pv))]) hx hb dX1_carryOut_14 hl (by decide) rfl (fun ls hl => ?_)
    refine lv_aload_n hx hb dX1_carryOut_16 rfl (lv_at hl 2 rfl) ?_
    refine va_get (D := (dC, dI)) (ci := 1) (v := .ref (ad 3)) (C := RX1) (T := TX1) (N := 7) hx hb hts in_X1 hown hK hP 0 rfl rfl 3 (by decide) (hts _ q178) (fun _ h9 => h9) rfl dX1_carryOut_17 ?_
    refine lv_iload_n hx hb dX1_carryOut_20 rfl (lv_at hl 3 rfl) ?_
    refine sx_iald (j := i) hx hb hK hP 3 0 rfl rfl (rfl) (by omega) (by decide) dX1_carryOut_21 ?_
    refine lv_istore (lv' := [(6, .int (P.2.2.1 i)), (5, .int (nI (ix (P.2.1 i)))), (4, .int 0), (0, .ref (ad 0)), (1, .int (nI i)), (2, .int (nI d)), (3, .int (nI pv))]) hx hb dX1_carryOut_22 hl (by decide) rfl (fun ls hl => ?_)
    refine lv_aload_n hx hb dX1_carryOut_24 rfl (lv_at hl 3 rfl) ?_
    refine va_get (D := (dC, dI)) (ci := 1) (v := .ref (ad 5)) (C := RX1) (T := TX1) (N := 7) hx hb hts in_X1 hown hK hP 0 rfl rfl 5 (by decide) (hts _ q180) (fun _ h9 => h9) rfl dX1_carryOut_25 ?_
    refine lv_iload hx hb dX1_carryOut_28 (lv_at hl 1 rfl) ?_
    refine sx_iald (j := (ix (P.2.1 i))) hx hb hK hP 5 0 rfl rfl (rfl) (by omega) (by decide) dX1_carryOut_30 ?_
    refine lv_istore (lv' := [(7, .int (v (ix (P.2.1 i)))), (6, .int (P.2.2.1 i)), (5, .int (nI (ix (P.2.1 i)))), (4, .int 0), (0, .ref (ad 0)), (1, .int (nI i)), (2, .int (nI d)), (3, .int (nI pv))]) hx hb dX1_carryOut_31 hl (by decide) rfl (fun ls hl => ?_)
    refine lv_iload hx hb dX1_carryOut_33 (lv_at hl 3 rfl) ?_
    refine lv_iconst (v := 2) hx hb dX1_carryOut_35 (by decide) ?_
    refine lv_icmp_lt (tgt := 58) hx hb dX1_carryOut_36 (by decide) (fun e_1 => ?_) (fun e_1 => ?_)
    rotate_left
    · skip
      exact absurd e_1 (by decide)
    refine lv_iconst (v := 0) hx hb dX1_carryOut_58 (by decide) ?_
    refine lv_istore (lv' := [(8, .int 0), (7, .int (v (ix (P.2.1 i)))), (6, .int (P.2.2.1 i)), (5, .int (nI (ix (P.2.1 i)))), (4, .int 0), (0, .ref (ad 0)), (1, .int (nI i)), (2, .int (nI d)), (3, .int (nI pv))]) hx hb dX1_carryOut_59 hl (by decide) rfl (fun ls hl => ?_)
    refine lv_iload hx hb dX1_carryOut_61 (lv_at hl 4 rfl) ?_
    refine lv_if_ne (tgt := 80) hx hb dX1_carryOut_63 (by decide) (fun e_2 => ?_) (fun e_2 => ?_)
    · skip
      exact absurd e_2 (by decide)
    refine lv_aload_n hx hb dX1_carryOut_66 rfl (lv_at hl 5 rfl) ?_
    refine va_get (D := (dC, dI)) (ci := 1) (v := .ref (ad 5)) (C := RX1) (T := TX1) (N := 7) hx hb hts in_X1 hown hK hP 0 rfl rfl 5 (by decide) (hts _ q180) (fun _ h9 => h9) rfl dX1_carryOut_67 ?_
    refine lv_iload hx hb dX1_carryOut_70 (lv_at hl 3 rfl) ?_
    refine lv_iload hx hb dX1_carryOut_72 (lv_at hl 2 rfl) ?_
    refine lv_iload_n hx hb dX1_carryOut_74 rfl (lv_at hl 7 rfl) ?_
    refine lv_iadd hx hb dX1_carryOut_75 ?_
    refine sx_iast (j := (ix (P.2.1 i))) hx hb hK hP hD hS 5 0 rfl rfl (rfl) (by omega) (by decide) dX1_carryOut_76 (fun H locs hP hD hS => ?_)
    have hP : va_P (dC, dI) vwCl (yW ad cI P n (upd v (ix (P.2.1 i)) ((P.2.2.1 i) + (nI d))) F) H := hP
    have hD : va_D A (yW ad cI P n (upd v (ix (P.2.1 i)) ((P.2.2.1 i) + (nI d))) F) := hD
    refine lv_goto (tgt := 200) hx hb dX1_carryOut_77 (by decide) ?_
    refine lv_iload hx hb dX1_carryOut_200 (lv_at hl 4 rfl) ?_
    refine lv_bipush (v := 8) hx hb dX1_carryOut_202 (by decide) ?_
    refine lv_icmp_ne (tgt := 248) hx hb dX1_carryOut_204 (by decide) (fun e_3 => ?_) (fun e_3 => ?_)
    rotate_left
    · skip
      exact absurd e_3 (by decide)
    refine lv_iload hx hb dX1_carryOut_248 (lv_at hl 4 rfl) ?_
    refine lv_iconst (v := 5) hx hb dX1_carryOut_250 (by decide) ?_
    refine lv_icmp_ne (tgt := 269) hx hb dX1_carryOut_251 (by decide) (fun e_4 => ?_) (fun e_4 => ?_)
    rotate_left
    · skip
      exact absurd e_4 (by decide)
    refine lv_iload hx hb dX1_carryOut_269 (lv_at hl 4 rfl) ?_
    refine lv_bipush (v := 6) hx hb dX1_carryOut_271 (by decide) ?_
    refine lv_icmp_ne (tgt := 291) hx hb dX1_carryOut_273 (by decide) (fun e_5 => ?_) (fun e_5 => ?_)
    rotate_left
    · skip
      exact absurd e_5 (by decide)
    refine lv_iload hx hb dX1_carryOut_291 (lv_at hl 4 rfl) ?_
    refine lv_bipush (v := 7) hx hb dX1_carryOut_293 (by decide) ?_
    refine lv_icmp_ne (tgt := 305) hx hb dX1_carryOut_295 (by decide) (fun e_6 => ?_) (fun e_6 => ?_)
    rotate_left
    · skip
      exact absurd e_6 (by decide)
    refine lv_iconst (v := 1) hx hb dX1_carryOut_305 (by decide) ?_
    refine lv_goto (tgt := 310) hx hb dX1_carryOut_306 (by decide) ?_
    have hok : sm_ok P i v = true := sm_ok_o (by rw [hk]; decide) (by rw [hk]; decide) (by rw [hk]; decide) v
    exact sx_zret hx hb hr hlocks (Or.inr rfl) hK (upd v (ix (P.2.1 i)) ((P.2.2.1 i) + (nI d)), F) (Or.inr ⟨h8, by rw [sm_ap_0 hk], by rw [if_pos hok]⟩) hP hD hS dX1_carryOut_310
  · skip
    refine sx_topE (y := 1) (hk) ?_
    have h8 : ¬ P.1 i = 8 := by rw [hk]; decide
    refine lv_istore (lv' := [(4, .int 1), (0, .ref (ad 0)), (1, .int (nI i)), (2, .int (nI d)), (3, .int (nI pv))]) hx hb dX1_carryOut_6 hl (by decide) rfl (fun ls hl => ?_)
    refine lv_aload_n hx hb dX1_carryOut_8 rfl (lv_at hl 1 rfl) ?_
    refine va_get (D := (dC, dI)) (ci := 1) (v := .ref (ad 2)) (C := RX1) (T := TX1) (N := 7) hx hb hts in_X1 hown hK hP 0 rfl rfl 2 (by decide) (hts _ q177) (fun _ h9 => h9) rfl dX1_carryOut_9 ?_
    refine lv_iload_n hx hb dX1_carryOut_12 rfl (lv_at hl 2 rfl) ?_
    refine sx_iald (j := i) hx hb hK hP 2 0 rfl rfl (rfl) (by omega) (by decide) dX1_carryOut_13 ?_
    refine sx_topE (y := nI (ix (P.2.1 i))) (gA.1) ?_
    refine lv_istore (lv' := [(5, .int (nI (ix (P.2.1 i)))), (4, .int 1), (0, .ref (ad 0)), (1, .int (nI i)), (2, .int (nI d)), (3, .int (nI pv))]) hx hb dX1_carryOut_14 hl (by decide) rfl (fun ls hl => ?_)
    refine lv_aload_n hx hb dX1_carryOut_16 rfl (lv_at hl 2 rfl) ?_
    refine va_get (D := (dC, dI)) (ci := 1) (v := .ref (ad 3)) (C := RX1) (T := TX1) (N := 7) hx hb hts in_X1 hown hK hP 0 rfl rfl 3 (by decide) (hts _ q178) (fun _ h9 => h9) rfl dX1_carryOut_17 ?_
    refine lv_iload_n hx hb dX1_carryOut_20 rfl (lv_at hl 3 rfl) ?_
    refine sx_iald (j := i) hx hb hK hP 3 0 rfl rfl (rfl) (by omega) (by decide) dX1_carryOut_21 ?_
    refine lv_istore (lv' := [(6, .int (P.2.2.1 i)), (5, .int (nI (ix (P.2.1 i)))), (4, .int 1), (0, .ref (ad 0)), (1, .int (nI i)), (2, .int (nI d)), (3, .int (nI pv))]) hx hb dX1_carryOut_22 hl (by decide) rfl (fun ls hl => ?_)
    refine lv_aload_n hx hb dX1_carryOut_24 rfl (lv_at hl 3 rfl) ?_
    refine va_get (D := (dC, dI)) (ci := 1) (v := .ref (ad 5)) (C := RX1) (T := TX1) (N := 7) hx hb hts in_X1 hown hK hP 0 rfl rfl 5 (by decide) (hts _ q180) (fun _ h9 => h9) rfl dX1_carryOut_25 ?_
    refine lv_iload hx hb dX1_carryOut_28 (lv_at hl 1 rfl) ?_
    refine sx_iald (j := (ix (P.2.1 i))) hx hb hK hP 5 0 rfl rfl (rfl) (by omega) (by decide) dX1_carryOut_30 ?_
    refine lv_istore (lv' := [(7, .int (v (ix (P.2.1 i)))), (6, .int (P.2.2.1 i)), (5, .int (nI (ix (P.2.1 i)))), (4, .int 1), (0, .ref (ad 0)), (1, .int (nI i)), (2, .int (nI d)), (3, .int (nI pv))]) hx hb dX1_carryOut_31 hl (by decide) rfl (fun ls hl => ?_)
    refine lv_iload hx hb dX1_carryOut_33 (lv_at hl 3 rfl) ?_
    refine lv_iconst (v := 2) hx hb dX1_carryOut_35 (by decide) ?_
    refine lv_icmp_lt (tgt := 58) hx hb dX1_carryOut_36 (by decide) (fun e_7 => ?_) (fun e_7 => ?_)
    rotate_left
    · skip
      exact absurd e_7 (by decide)
    refine lv_iconst (v := 0) hx hb dX1_carryOut_58 (by decide) ?_
    refine lv_istore (lv' := [(8, .int 0), (7, .int (v (ix (P.2.1 i)))), (6, .int (P.2.2.1 i)), (5, .int (nI (ix (P.2.1 i)))), (4, .int 1), (0, .ref (ad 0)), (1, .int (nI i)), (2, .int (nI d)), (3, .int (nI pv))]) hx hb dX1_carryOut_59 hl (by decide) rfl (fun ls hl => ?_)
    refine lv_iload hx hb dX1_carryOut_61 (lv_at hl 4 rfl) ?_
    refine lv_if_ne (tgt := 80) hx hb dX1_carryOut_63 (by decide) (fun e_8 => ?_) (fun e_8 => ?_)
    rotate_left
    · skip
      exact absurd e_8 (by decide)
    refine lv_iload hx hb dX1_carryOut_80 (lv_at hl 4 rfl) ?_
    refine lv_iconst (v := 1) hx hb dX1_carryOut_82 (by decide) ?_
    refine lv_icmp_ne (tgt := 98) hx hb dX1_carryOut_83 (by decide) (fun e_9 => ?_) (fun e_9 => ?_)
    · skip
      exact absurd e_9 (by decide)
    refine lv_aload_n hx hb dX1_carryOut_86 rfl (lv_at hl 5 rfl) ?_
    refine va_get (D := (dC, dI)) (ci := 1) (v := .ref (ad 5)) (C := RX1) (T := TX1) (N := 7) hx hb hts in_X1 hown hK hP 0 rfl rfl 5 (by decide) (hts _ q180) (fun _ h9 => h9) rfl dX1_carryOut_87 ?_
    refine lv_iload hx hb dX1_carryOut_90 (lv_at hl 3 rfl) ?_
    refine lv_iload hx hb dX1_carryOut_92 (lv_at hl 2 rfl) ?_
    refine sx_iast (j := (ix (P.2.1 i))) hx hb hK hP hD hS 5 0 rfl rfl (rfl) (by omega) (by decide) dX1_carryOut_94 (fun H locs hP hD hS => ?_)
    have hP : va_P (dC, dI) vwCl (yW ad cI P n (upd v (ix (P.2.1 i)) (P.2.2.1 i)) F) H := hP
    have hD : va_D A (yW ad cI P n (upd v (ix (P.2.1 i)) (P.2.2.1 i)) F) := hD
    refine lv_goto (tgt := 200) hx hb dX1_carryOut_95 (by decide) ?_
    refine lv_iload hx hb dX1_carryOut_200 (lv_at hl 4 rfl) ?_
    refine lv_bipush (v := 8) hx hb dX1_carryOut_202 (by decide) ?_
    refine lv_icmp_ne (tgt := 248) hx hb dX1_carryOut_204 (by decide) (fun e_10 => ?_) (fun e_10 => ?_)
    rotate_left
    · skip
      exact absurd e_10 (by decide)
    refine lv_iload hx hb dX1_carryOut_248 (lv_at hl 4 rfl) ?_
    refine lv_iconst (v := 5) hx hb dX1_carryOut_250 (by decide) ?_
    refine lv_icmp_ne (tgt := 269) hx hb dX1_carryOut_251 (by decide) (fun e_11 => ?_) (fun e_11 => ?_)
    rotate_left
    · skip
      exact absurd e_11 (by decide)
    refine lv_iload hx hb dX1_carryOut_269 (lv_at hl 4 rfl) ?_
    refine lv_bipush (v := 6) hx hb dX1_carryOut_271 (by decide) ?_
    refine lv_icmp_ne (tgt := 291) hx hb dX1_carryOut_273 (by decide) (fun e_12 => ?_) (fun e_12 => ?_)
    rotate_left
    · skip
      exact absurd e_12 (by decide)
    refine lv_iload hx hb dX1_carryOut_291 (lv_at hl 4 rfl) ?_
    refine lv_bipush (v := 7) hx hb dX1_carryOut_293 (by decide) ?_
    refine lv_icmp_ne (tgt := 305) hx hb dX1_carryOut_295 (by decide) (fun e_13 => ?_) (fun e_13 => ?_)
    rotate_left
    · skip
      exact absurd e_13 (by decide)
    refine lv_iconst (v := 1) hx hb dX1_carryOut_305 (by decide) ?_
    refine lv_goto (tgt := 310) hx hb dX1_carryOut_306 (by decide) ?_
    have hok : sm_ok P i v = true := sm_ok_o (by rw [hk]; decide) (by rw [hk]; decide) (by rw [hk]; decide) v
    exact sx_zret hx hb hr hlocks (Or.inr rfl) hK (upd v (ix (P.2.1 i)) (P.2.2.1 i), F) (Or.inr ⟨h8, by rw [sm_ap_1 hk], by rw [if_pos hok]⟩) hP hD hS dX1_carryOut_310
  · skip
    refine sx_topE (y := 2) (hk) ?_
    have gB : sm_v4 (P.2.2.1 i) := gB (by rw [hk]; decide) (by rw [hk]; decide)
    have gB2 := gB.2
    have h8 : ¬ P.1 i = 8 := by rw [hk]; decide
    refine lv_istore (lv' := [(4, .int 2), (0, .ref (ad 0)), (1, .int (nI i)), (2, .int (nI d)), (3, .int (nI pv))]) hx hb dX1_carryOut_6 hl (by decide) rfl (fun ls hl => ?_)
    refine lv_aload_n hx hb dX1_carryOut_8 rfl (lv_at hl 1 rfl) ?_
    refine va_get (D := (dC, dI)) (ci := 1) (v := .ref (ad 2)) (C := RX1) (T := TX1) (N := 7) hx hb hts in_X1 hown hK hP 0 rfl rfl 2 (by decide) (hts _ q177) (fun _ h9 => h9) rfl dX1_carryOut_9 ?_
    refine lv_iload_n hx hb dX1_carryOut_12 rfl (lv_at hl 2 rfl) ?_
    refine sx_iald (j := i) hx hb hK hP 2 0 rfl rfl (rfl) (by omega) (by decide) dX1_carryOut_13 ?_
    refine sx_topE (y := nI (ix (P.2.1 i))) (gA.1) ?_
    refine lv_istore (lv' := [(5, .int (nI (ix (P.2.1 i)))), (4, .int 2), (0, .ref (ad 0)), (1, .int (nI i)), (2, .int (nI d)), (3, .int (nI pv))]) hx hb dX1_carryOut_14 hl (by decide) rfl (fun ls hl => ?_)
    refine lv_aload_n hx hb dX1_carryOut_16 rfl (lv_at hl 2 rfl) ?_
    refine va_get (D := (dC, dI)) (ci := 1) (v := .ref (ad 3)) (C := RX1) (T := TX1) (N := 7) hx hb hts in_X1 hown hK hP 0 rfl rfl 3 (by decide) (hts _ q178) (fun _ h9 => h9) rfl dX1_carryOut_17 ?_
    refine lv_iload_n hx hb dX1_carryOut_20 rfl (lv_at hl 3 rfl) ?_
    refine sx_iald (j := i) hx hb hK hP 3 0 rfl rfl (rfl) (by omega) (by decide) dX1_carryOut_21 ?_
    refine sx_topE (y := nI (ix (P.2.2.1 i))) (gB.1) ?_
    refine lv_istore (lv' := [(6, .int (nI (ix (P.2.2.1 i)))), (5, .int (nI (ix (P.2.1 i)))), (4, .int 2), (0, .ref (ad 0)), (1, .int (nI i)), (2, .int (nI d)), (3, .int (nI pv))]) hx hb dX1_carryOut_22 hl (by decide) rfl (fun ls hl => ?_)
    refine lv_aload_n hx hb dX1_carryOut_24 rfl (lv_at hl 3 rfl) ?_
    refine va_get (D := (dC, dI)) (ci := 1) (v := .ref (ad 5)) (C := RX1) (T := TX1) (N := 7) hx hb hts in_X1 hown hK hP 0 rfl rfl 5 (by decide) (hts _ q180) (fun _ h9 => h9) rfl dX1_carryOut_25 ?_
    refine lv_iload hx hb dX1_carryOut_28 (lv_at hl 1 rfl) ?_
    refine sx_iald (j := (ix (P.2.1 i))) hx hb hK hP 5 0 rfl rfl (rfl) (by omega) (by decide) dX1_carryOut_30 ?_
    refine lv_istore (lv' := [(7, .int (v (ix (P.2.1 i)))), (6, .int (nI (ix (P.2.2.1 i)))), (5, .int (nI (ix (P.2.1 i)))), (4, .int 2), (0, .ref (ad 0)), (1, .int (nI i)), (2, .int (nI d)), (3, .int (nI pv))]) hx hb dX1_carryOut_31 hl (by decide) rfl (fun ls hl => ?_)
    refine lv_iload hx hb dX1_carryOut_33 (lv_at hl 3 rfl) ?_
    refine lv_iconst (v := 2) hx hb dX1_carryOut_35 (by decide) ?_
    refine lv_icmp_lt (tgt := 58) hx hb dX1_carryOut_36 (by decide) (fun e_14 => ?_) (fun e_14 => ?_)
    · skip
      exact absurd e_14 (by decide)
    refine lv_iload hx hb dX1_carryOut_39 (lv_at hl 3 rfl) ?_
    refine lv_bipush (v := 8) hx hb dX1_carryOut_41 (by decide) ?_
    refine lv_icmp_eq (tgt := 58) hx hb dX1_carryOut_43 (by decide) (fun e_15 => ?_) (fun e_15 => ?_)
    · skip
      exact absurd e_15 (by decide)
    refine lv_aload_n hx hb dX1_carryOut_46 rfl (lv_at hl 4 rfl) ?_
    refine va_get (D := (dC, dI)) (ci := 1) (v := .ref (ad 5)) (C := RX1) (T := TX1) (N := 7) hx hb hts in_X1 hown hK hP 0 rfl rfl 5 (by decide) (hts _ q180) (fun _ h9 => h9) rfl dX1_carryOut_47 ?_
    refine lv_iload hx hb dX1_carryOut_50 (lv_at hl 1 rfl) ?_
    refine lv_iconst (v := 3) hx hb dX1_carryOut_52 (by decide) ?_
    refine lv_iand hx hb dX1_carryOut_53 ?_
    refine sx_topE (y := nI (ix (P.2.2.1 i))) (by rw [← gB.1]; exact (sm_and3 gB).trans gB.1.symm) ?_
    refine sx_iald (j := (ix (P.2.2.1 i))) hx hb hK hP 5 0 rfl rfl (rfl) (by omega) (by decide) dX1_carryOut_54 ?_
    refine lv_goto (tgt := 59) hx hb dX1_carryOut_55 (by decide) ?_
    refine lv_istore (lv' := [(8, .int (v (ix (P.2.2.1 i)))), (7, .int (v (ix (P.2.1 i)))), (6, .int (nI (ix (P.2.2.1 i)))), (5, .int (nI (ix (P.2.1 i)))), (4, .int 2), (0, .ref (ad 0)), (1, .int (nI i)), (2, .int (nI d)), (3, .int (nI pv))]) hx hb dX1_carryOut_59 hl (by decide) rfl (fun ls hl => ?_)
    refine lv_iload hx hb dX1_carryOut_61 (lv_at hl 4 rfl) ?_
    refine lv_if_ne (tgt := 80) hx hb dX1_carryOut_63 (by decide) (fun e_16 => ?_) (fun e_16 => ?_)
    rotate_left
    · skip
      exact absurd e_16 (by decide)
    refine lv_iload hx hb dX1_carryOut_80 (lv_at hl 4 rfl) ?_
    refine lv_iconst (v := 1) hx hb dX1_carryOut_82 (by decide) ?_
    refine lv_icmp_ne (tgt := 98) hx hb dX1_carryOut_83 (by decide) (fun e_17 => ?_) (fun e_17 => ?_)
    rotate_left
    · skip
      exact absurd e_17 (by decide)
    refine lv_iload hx hb dX1_carryOut_98 (lv_at hl 4 rfl) ?_
    refine lv_iconst (v := 2) hx hb dX1_carryOut_100 (by decide) ?_
    refine lv_icmp_ne (tgt := 119) hx hb dX1_carryOut_101 (by decide) (fun e_18 => ?_) (fun e_18 => ?_)
    · skip
      exact absurd e_18 (by decide)
    refine lv_aload_n hx hb dX1_carryOut_104 rfl (lv_at hl 5 rfl) ?_
    refine va_get (D := (dC, dI)) (ci := 1) (v := .ref (ad 5)) (C := RX1) (T := TX1) (N := 7) hx hb hts in_X1 hown hK hP 0 rfl rfl 5 (by decide) (hts _ q180) (fun _ h9 => h9) rfl dX1_carryOut_105 ?_
    refine lv_iload hx hb dX1_carryOut_108 (lv_at hl 3 rfl) ?_
    refine lv_iload hx hb dX1_carryOut_110 (lv_at hl 1 rfl) ?_
    refine lv_iload hx hb dX1_carryOut_112 (lv_at hl 0 rfl) ?_
    refine lv_iadd hx hb dX1_carryOut_114 ?_
    refine sx_iast (j := (ix (P.2.1 i))) hx hb hK hP hD hS 5 0 rfl rfl (rfl) (by omega) (by decide) dX1_carryOut_115 (fun H locs hP hD hS => ?_)
    have hP : va_P (dC, dI) vwCl (yW ad cI P n (upd v (ix (P.2.1 i)) ((v (ix (P.2.1 i))) + (v (ix (P.2.2.1 i))))) F) H := hP
    have hD : va_D A (yW ad cI P n (upd v (ix (P.2.1 i)) ((v (ix (P.2.1 i))) + (v (ix (P.2.2.1 i))))) F) := hD
    refine lv_goto (tgt := 200) hx hb dX1_carryOut_116 (by decide) ?_
    refine lv_iload hx hb dX1_carryOut_200 (lv_at hl 4 rfl) ?_
    refine lv_bipush (v := 8) hx hb dX1_carryOut_202 (by decide) ?_
    refine lv_icmp_ne (tgt := 248) hx hb dX1_carryOut_204 (by decide) (fun e_19 => ?_) (fun e_19 => ?_)
    rotate_left
    · skip
      exact absurd e_19 (by decide)
    refine lv_iload hx hb dX1_carryOut_248 (lv_at hl 4 rfl) ?_
    refine lv_iconst (v := 5) hx hb dX1_carryOut_250 (by decide) ?_
    refine lv_icmp_ne (tgt := 269) hx hb dX1_carryOut_251 (by decide) (fun e_20 => ?_) (fun e_20 => ?_)
    rotate_left
    · skip
      exact absurd e_20 (by decide)
    refine lv_iload hx hb dX1_carryOut_269 (lv_at hl 4 rfl) ?_
    refine lv_bipush (v := 6) hx hb dX1_carryOut_271 (by decide) ?_
    refine lv_icmp_ne (tgt := 291) hx hb dX1_carryOut_273 (by decide) (fun e_21 => ?_) (fun e_21 => ?_)
    rotate_left
    · skip
      exact absurd e_21 (by decide)
    refine lv_iload hx hb dX1_carryOut_291 (lv_at hl 4 rfl) ?_
    refine lv_bipush (v := 7) hx hb dX1_carryOut_293 (by decide) ?_
    refine lv_icmp_ne (tgt := 305) hx hb dX1_carryOut_295 (by decide) (fun e_22 => ?_) (fun e_22 => ?_)
    rotate_left
    · skip
      exact absurd e_22 (by decide)
    refine lv_iconst (v := 1) hx hb dX1_carryOut_305 (by decide) ?_
    refine lv_goto (tgt := 310) hx hb dX1_carryOut_306 (by decide) ?_
    have hok : sm_ok P i v = true := sm_ok_o (by rw [hk]; decide) (by rw [hk]; decide) (by rw [hk]; decide) v
    exact sx_zret hx hb hr hlocks (Or.inr rfl) hK (upd v (ix (P.2.1 i)) ((v (ix (P.2.1 i))) + (v (ix (P.2.2.1 i)))), F) (Or.inr ⟨h8, by rw [sm_ap_2 hk], by rw [if_pos hok]⟩) hP hD hS dX1_carryOut_310
  · skip
    refine sx_topE (y := 3) (hk) ?_
    have gB : sm_v4 (P.2.2.1 i) := gB (by rw [hk]; decide) (by rw [hk]; decide)
    have gB2 := gB.2
    have h8 : ¬ P.1 i = 8 := by rw [hk]; decide
    refine lv_istore (lv' := [(4, .int 3), (0, .ref (ad 0)), (1, .int (nI i)), (2, .int (nI d)), (3, .int (nI pv))]) hx hb dX1_carryOut_6 hl (by decide) rfl (fun ls hl => ?_)
    refine lv_aload_n hx hb dX1_carryOut_8 rfl (lv_at hl 1 rfl) ?_
    refine va_get (D := (dC, dI)) (ci := 1) (v := .ref (ad 2)) (C := RX1) (T := TX1) (N := 7) hx hb hts in_X1 hown hK hP 0 rfl rfl 2 (by decide) (hts _ q177) (fun _ h9 => h9) rfl dX1_carryOut_9 ?_
    refine lv_iload_n hx hb dX1_carryOut_12 rfl (lv_at hl 2 rfl) ?_
    refine sx_iald (j := i) hx hb hK hP 2 0 rfl rfl (rfl) (by omega) (by decide) dX1_carryOut_13 ?_
    refine sx_topE (y := nI (ix (P.2.1 i))) (gA.1) ?_
    refine lv_istore (lv' := [(5, .int (nI (ix (P.2.1 i)))), (4, .int 3), (0, .ref (ad 0)), (1, .int (nI i)), (2, .int (nI d)), (3, .int (nI pv))]) hx hb dX1_carryOut_14 hl (by decide) rfl (fun ls hl => ?_)
    refine lv_aload_n hx hb dX1_carryOut_16 rfl (lv_at hl 2 rfl) ?_
    refine va_get (D := (dC, dI)) (ci := 1) (v := .ref (ad 3)) (C := RX1) (T := TX1) (N := 7) hx hb hts in_X1 hown hK hP 0 rfl rfl 3 (by decide) (hts _ q178) (fun _ h9 => h9) rfl dX1_carryOut_17 ?_
    refine lv_iload_n hx hb dX1_carryOut_20 rfl (lv_at hl 3 rfl) ?_
    refine sx_iald (j := i) hx hb hK hP 3 0 rfl rfl (rfl) (by omega) (by decide) dX1_carryOut_21 ?_
    refine sx_topE (y := nI (ix (P.2.2.1 i))) (gB.1) ?_
    refine lv_istore (lv' := [(6, .int (nI (ix (P.2.2.1 i)))), (5, .int (nI (ix (P.2.1 i)))), (4, .int 3), (0, .ref (ad 0)), (1, .int (nI i)), (2, .int (nI d)), (3, .int (nI pv))]) hx hb dX1_carryOut_22 hl (by decide) rfl (fun ls hl => ?_)
    refine lv_aload_n hx hb dX1_carryOut_24 rfl (lv_at hl 3 rfl) ?_
    refine va_get (D := (dC, dI)) (ci := 1) (v := .ref (ad 5)) (C := RX1) (T := TX1) (N := 7) hx hb hts in_X1 hown hK hP 0 rfl rfl 5 (by decide) (hts _ q180) (fun _ h9 => h9) rfl dX1_carryOut_25 ?_
    refine lv_iload hx hb dX1_carryOut_28 (lv_at hl 1 rfl) ?_
    refine sx_iald (j := (ix (P.2.1 i))) hx hb hK hP 5 0 rfl rfl (rfl) (by omega) (by decide) dX1_carryOut_30 ?_
    refine lv_istore (lv' := [(7, .int (v (ix (P.2.1 i)))), (6, .int (nI (ix (P.2.2.1 i)))), (5, .int (nI (ix (P.2.1 i)))), (4, .int 3), (0, .ref (ad 0)), (1, .int (nI i)), (2, .int (nI d)), (3, .int (nI pv))]) hx hb dX1_carryOut_31 hl (by decide) rfl (fun ls hl => ?_)
    refine lv_iload hx hb dX1_carryOut_33 (lv_at hl 3 rfl) ?_
    refine lv_iconst (v := 2) hx hb dX1_carryOut_35 (by decide) ?_
    refine lv_icmp_lt (tgt := 58) hx hb dX1_carryOut_36 (by decide) (fun e_23 => ?_) (fun e_23 => ?_)
    · skip
      exact absurd e_23 (by decide)
    refine lv_iload hx hb dX1_carryOut_39 (lv_at hl 3 rfl) ?_
    refine lv_bipush (v := 8) hx hb dX1_carryOut_41 (by decide) ?_
    refine lv_icmp_eq (tgt := 58) hx hb dX1_carryOut_43 (by decide) (fun e_24 => ?_) (fun e_24 => ?_)
    · skip
      exact absurd e_24 (by decide)
    refine lv_aload_n hx hb dX1_carryOut_46 rfl (lv_at hl 4 rfl) ?_
    refine va_get (D := (dC, dI)) (ci := 1) (v := .ref (ad 5)) (C := RX1) (T := TX1) (N := 7) hx hb hts in_X1 hown hK hP 0 rfl rfl 5 (by decide) (hts _ q180) (fun _ h9 => h9) rfl dX1_carryOut_47 ?_
    refine lv_iload hx hb dX1_carryOut_50 (lv_at hl 1 rfl) ?_
    refine lv_iconst (v := 3) hx hb dX1_carryOut_52 (by decide) ?_
    refine lv_iand hx hb dX1_carryOut_53 ?_
    refine sx_topE (y := nI (ix (P.2.2.1 i))) (by rw [← gB.1]; exact (sm_and3 gB).trans gB.1.symm) ?_
    refine sx_iald (j := (ix (P.2.2.1 i))) hx hb hK hP 5 0 rfl rfl (rfl) (by omega) (by decide) dX1_carryOut_54 ?_
    refine lv_goto (tgt := 59) hx hb dX1_carryOut_55 (by decide) ?_
    refine lv_istore (lv' := [(8, .int (v (ix (P.2.2.1 i)))), (7, .int (v (ix (P.2.1 i)))), (6, .int (nI (ix (P.2.2.1 i)))), (5, .int (nI (ix (P.2.1 i)))), (4, .int 3), (0, .ref (ad 0)), (1, .int (nI i)), (2, .int (nI d)), (3, .int (nI pv))]) hx hb dX1_carryOut_59 hl (by decide) rfl (fun ls hl => ?_)
    refine lv_iload hx hb dX1_carryOut_61 (lv_at hl 4 rfl) ?_
    refine lv_if_ne (tgt := 80) hx hb dX1_carryOut_63 (by decide) (fun e_25 => ?_) (fun e_25 => ?_)
    rotate_left
    · skip
      exact absurd e_25 (by decide)
    refine lv_iload hx hb dX1_carryOut_80 (lv_at hl 4 rfl) ?_
    refine lv_iconst (v := 1) hx hb dX1_carryOut_82 (by decide) ?_
    refine lv_icmp_ne (tgt := 98) hx hb dX1_carryOut_83 (by decide) (fun e_26 => ?_) (fun e_26 => ?_)
    rotate_left
    · skip
      exact absurd e_26 (by decide)
    refine lv_iload hx hb dX1_carryOut_98 (lv_at hl 4 rfl) ?_
    refine lv_iconst (v := 2) hx hb dX1_carryOut_100 (by decide) ?_
    refine lv_icmp_ne (tgt := 119) hx hb dX1_carryOut_101 (by decide) (fun e_27 => ?_) (fun e_27 => ?_)
    rotate_left
    · skip
      exact absurd e_27 (by decide)
    refine lv_iload hx hb dX1_carryOut_119 (lv_at hl 4 rfl) ?_
    refine lv_iconst (v := 3) hx hb dX1_carryOut_121 (by decide) ?_
    refine lv_icmp_ne (tgt := 140) hx hb dX1_carryOut_122 (by decide) (fun e_28 => ?_) (fun e_28 => ?_)
    · skip
      exact absurd e_28 (by decide)
    refine lv_aload_n hx hb dX1_carryOut_125 rfl (lv_at hl 5 rfl) ?_
    refine va_get (D := (dC, dI)) (ci := 1) (v := .ref (ad 5)) (C := RX1) (T := TX1) (N := 7) hx hb hts in_X1 hown hK hP 0 rfl rfl 5 (by decide) (hts _ q180) (fun _ h9 => h9) rfl dX1_carryOut_126 ?_
    refine lv_iload hx hb dX1_carryOut_129 (lv_at hl 3 rfl) ?_
    refine lv_iload hx hb dX1_carryOut_131 (lv_at hl 1 rfl) ?_
    refine lv_iload hx hb dX1_carryOut_133 (lv_at hl 0 rfl) ?_
    refine lv_imul hx hb dX1_carryOut_135 ?_
    refine sx_iast (j := (ix (P.2.1 i))) hx hb hK hP hD hS 5 0 rfl rfl (rfl) (by omega) (by decide) dX1_carryOut_136 (fun H locs hP hD hS => ?_)
    have hP : va_P (dC, dI) vwCl (yW ad cI P n (upd v (ix (P.2.1 i)) ((v (ix (P.2.1 i))) * (v (ix (P.2.2.1 i))))) F) H := hP
    have hD : va_D A (yW ad cI P n (upd v (ix (P.2.1 i)) ((v (ix (P.2.1 i))) * (v (ix (P.2.2.1 i))))) F) := hD
    refine lv_goto (tgt := 200) hx hb dX1_carryOut_137 (by decide) ?_
    refine lv_iload hx hb dX1_carryOut_200 (lv_at hl 4 rfl) ?_
    refine lv_bipush (v := 8) hx hb dX1_carryOut_202 (by decide) ?_
    refine lv_icmp_ne (tgt := 248) hx hb dX1_carryOut_204 (by decide) (fun e_29 => ?_) (fun e_29 => ?_)
    rotate_left
    · skip
      exact absurd e_29 (by decide)
    refine lv_iload hx hb dX1_carryOut_248 (lv_at hl 4 rfl) ?_
    refine lv_iconst (v := 5) hx hb dX1_carryOut_250 (by decide) ?_
    refine lv_icmp_ne (tgt := 269) hx hb dX1_carryOut_251 (by decide) (fun e_30 => ?_) (fun e_30 => ?_)
    rotate_left
    · skip
      exact absurd e_30 (by decide)
    refine lv_iload hx hb dX1_carryOut_269 (lv_at hl 4 rfl) ?_
    refine lv_bipush (v := 6) hx hb dX1_carryOut_271 (by decide) ?_
    refine lv_icmp_ne (tgt := 291) hx hb dX1_carryOut_273 (by decide) (fun e_31 => ?_) (fun e_31 => ?_)
    rotate_left
    · skip
      exact absurd e_31 (by decide)
    refine lv_iload hx hb dX1_carryOut_291 (lv_at hl 4 rfl) ?_
    refine lv_bipush (v := 7) hx hb dX1_carryOut_293 (by decide) ?_
    refine lv_icmp_ne (tgt := 305) hx hb dX1_carryOut_295 (by decide) (fun e_32 => ?_) (fun e_32 => ?_)
    rotate_left
    · skip
      exact absurd e_32 (by decide)
    refine lv_iconst (v := 1) hx hb dX1_carryOut_305 (by decide) ?_
    refine lv_goto (tgt := 310) hx hb dX1_carryOut_306 (by decide) ?_
    have hok : sm_ok P i v = true := sm_ok_o (by rw [hk]; decide) (by rw [hk]; decide) (by rw [hk]; decide) v
    exact sx_zret hx hb hr hlocks (Or.inr rfl) hK (upd v (ix (P.2.1 i)) ((v (ix (P.2.1 i))) * (v (ix (P.2.2.1 i)))), F) (Or.inr ⟨h8, by rw [sm_ap_3 hk], by rw [if_pos hok]⟩) hP hD hS dX1_carryOut_310
  · skip
    refine sx_topE (y := 4) (hk) ?_
    have gB : sm_v4 (P.2.2.1 i) := gB (by rw [hk]; decide) (by rw [hk]; decide)
    have gB2 := gB.2
    have h8 : ¬ P.1 i = 8 := by rw [hk]; decide
    refine lv_istore (lv' := [(4, .int 4), (0, .ref (ad 0)), (1, .int (nI i)), (2, .int (nI d)), (3, .int (nI pv))]) hx hb dX1_carryOut_6 hl (by decide) rfl (fun ls hl => ?_)
    refine lv_aload_n hx hb dX1_carryOut_8 rfl (lv_at hl 1 rfl) ?_
    refine va_get (D := (dC, dI)) (ci := 1) (v := .ref (ad 2)) (C := RX1) (T := TX1) (N := 7) hx hb hts in_X1 hown hK hP 0 rfl rfl 2 (by decide) (hts _ q177) (fun _ h9 => h9) rfl dX1_carryOut_9 ?_
    refine lv_iload_n hx hb dX1_carryOut_12 rfl (lv_at hl 2 rfl) ?_
    refine sx_iald (j := i) hx hb hK hP 2 0 rfl rfl (rfl) (by omega) (by decide) dX1_carryOut_13 ?_
    refine sx_topE (y := nI (ix (P.2.1 i))) (gA.1) ?_
    refine lv_istore (lv' := [(5, .int (nI (ix (P.2.1 i)))), (4, .int 4), (0, .ref (ad 0)), (1, .int (nI i)), (2, .int (nI d)), (3, .int (nI pv))]) hx hb dX1_carryOut_14 hl (by decide) rfl (fun ls hl => ?_)
    refine lv_aload_n hx hb dX1_carryOut_16 rfl (lv_at hl 2 rfl) ?_
    refine va_get (D := (dC, dI)) (ci := 1) (v := .ref (ad 3)) (C := RX1) (T := TX1) (N := 7) hx hb hts in_X1 hown hK hP 0 rfl rfl 3 (by decide) (hts _ q178) (fun _ h9 => h9) rfl dX1_carryOut_17 ?_
    refine lv_iload_n hx hb dX1_carryOut_20 rfl (lv_at hl 3 rfl) ?_
    refine sx_iald (j := i) hx hb hK hP 3 0 rfl rfl (rfl) (by omega) (by decide) dX1_carryOut_21 ?_
    refine sx_topE (y := nI (ix (P.2.2.1 i))) (gB.1) ?_
    refine lv_istore (lv' := [(6, .int (nI (ix (P.2.2.1 i)))), (5, .int (nI (ix (P.2.1 i)))), (4, .int 4), (0, .ref (ad 0)), (1, .int (nI i)), (2, .int (nI d)), (3, .int (nI pv))]) hx hb dX1_carryOut_22 hl (by decide) rfl (fun ls hl => ?_)
    refine lv_aload_n hx hb dX1_carryOut_24 rfl (lv_at hl 3 rfl) ?_
    refine va_get (D := (dC, dI)) (ci := 1) (v := .ref (ad 5)) (C := RX1) (T := TX1) (N := 7) hx hb hts in_X1 hown hK hP 0 rfl rfl 5 (by decide) (hts _ q180) (fun _ h9 => h9) rfl dX1_carryOut_25 ?_
    refine lv_iload hx hb dX1_carryOut_28 (lv_at hl 1 rfl) ?_
    refine sx_iald (j := (ix (P.2.1 i))) hx hb hK hP 5 0 rfl rfl (rfl) (by omega) (by decide) dX1_carryOut_30 ?_
    refine lv_istore (lv' := [(7, .int (v (ix (P.2.1 i)))), (6, .int (nI (ix (P.2.2.1 i)))), (5, .int (nI (ix (P.2.1 i)))), (4, .int 4), (0, .ref (ad 0)), (1, .int (nI i)), (2, .int (nI d)), (3, .int (nI pv))]) hx hb dX1_carryOut_31 hl (by decide) rfl (fun ls hl => ?_)
    refine lv_iload hx hb dX1_carryOut_33 (lv_at hl 3 rfl) ?_
    refine lv_iconst (v := 2) hx hb dX1_carryOut_35 (by decide) ?_
    refine lv_icmp_lt (tgt := 58) hx hb dX1_carryOut_36 (by decide) (fun e_33 => ?_) (fun e_33 => ?_)
    · skip
      exact absurd e_33 (by decide)
    refine lv_iload hx hb dX1_carryOut_39 (lv_at hl 3 rfl) ?_
    refine lv_bipush (v := 8) hx hb dX1_carryOut_41 (by decide) ?_
    refine lv_icmp_eq (tgt := 58) hx hb dX1_carryOut_43 (by decide) (fun e_34 => ?_) (fun e_34 => ?_)
    · skip
      exact absurd e_34 (by decide)
    refine lv_aload_n hx hb dX1_carryOut_46 rfl (lv_at hl 4 rfl) ?_
    refine va_get (D := (dC, dI)) (ci := 1) (v := .ref (ad 5)) (C := RX1) (T := TX1) (N := 7) hx hb hts in_X1 hown hK hP 0 rfl rfl 5 (by decide) (hts _ q180) (fun _ h9 => h9) rfl dX1_carryOut_47 ?_
    refine lv_iload hx hb dX1_carryOut_50 (lv_at hl 1 rfl) ?_
    refine lv_iconst (v := 3) hx hb dX1_carryOut_52 (by decide) ?_
    refine lv_iand hx hb dX1_carryOut_53 ?_
    refine sx_topE (y := nI (ix (P.2.2.1 i))) (by rw [← gB.1]; exact (sm_and3 gB).trans gB.1.symm) ?_
    refine sx_iald (j := (ix (P.2.2.1 i))) hx hb hK hP 5 0 rfl rfl (rfl) (by omega) (by decide) dX1_carryOut_54 ?_
    refine lv_goto (tgt := 59) hx hb dX1_carryOut_55 (by decide) ?_
    refine lv_istore (lv' := [(8, .int (v (ix (P.2.2.1 i)))), (7, .int (v (ix (P.2.1 i)))), (6, .int (nI (ix (P.2.2.1 i)))), (5, .int (nI (ix (P.2.1 i)))), (4, .int 4), (0, .ref (ad 0)), (1, .int (nI i)), (2, .int (nI d)), (3, .int (nI pv))]) hx hb dX1_carryOut_59 hl (by decide) rfl (fun ls hl => ?_)
    refine lv_iload hx hb dX1_carryOut_61 (lv_at hl 4 rfl) ?_
    refine lv_if_ne (tgt := 80) hx hb dX1_carryOut_63 (by decide) (fun e_35 => ?_) (fun e_35 => ?_)
    rotate_left
    · skip
      exact absurd e_35 (by decide)
    refine lv_iload hx hb dX1_carryOut_80 (lv_at hl 4 rfl) ?_
    refine lv_iconst (v := 1) hx hb dX1_carryOut_82 (by decide) ?_
    refine lv_icmp_ne (tgt := 98) hx hb dX1_carryOut_83 (by decide) (fun e_36 => ?_) (fun e_36 => ?_)
    rotate_left
    · skip
      exact absurd e_36 (by decide)
    refine lv_iload hx hb dX1_carryOut_98 (lv_at hl 4 rfl) ?_
    refine lv_iconst (v := 2) hx hb dX1_carryOut_100 (by decide) ?_
    refine lv_icmp_ne (tgt := 119) hx hb dX1_carryOut_101 (by decide) (fun e_37 => ?_) (fun e_37 => ?_)
    rotate_left
    · skip
      exact absurd e_37 (by decide)
    refine lv_iload hx hb dX1_carryOut_119 (lv_at hl 4 rfl) ?_
    refine lv_iconst (v := 3) hx hb dX1_carryOut_121 (by decide) ?_
    refine lv_icmp_ne (tgt := 140) hx hb dX1_carryOut_122 (by decide) (fun e_38 => ?_) (fun e_38 => ?_)
    rotate_left
    · skip
      exact absurd e_38 (by decide)
    refine lv_iload hx hb dX1_carryOut_140 (lv_at hl 4 rfl) ?_
    refine lv_iconst (v := 4) hx hb dX1_carryOut_142 (by decide) ?_
    refine lv_icmp_ne (tgt := 167) hx hb dX1_carryOut_143 (by decide) (fun e_39 => ?_) (fun e_39 => ?_)
    · skip
      exact absurd e_39 (by decide)
    refine lv_aload_n hx hb dX1_carryOut_146 rfl (lv_at hl 5 rfl) ?_
    refine va_get (D := (dC, dI)) (ci := 1) (v := .ref (ad 5)) (C := RX1) (T := TX1) (N := 7) hx hb hts in_X1 hown hK hP 0 rfl rfl 5 (by decide) (hts _ q180) (fun _ h9 => h9) rfl dX1_carryOut_147 ?_
    refine lv_iload hx hb dX1_carryOut_150 (lv_at hl 3 rfl) ?_
    refine lv_iload_n hx hb dX1_carryOut_152 rfl (lv_at hl 7 rfl) ?_
    refine lv_if_ne (tgt := 161) hx hb dX1_carryOut_153 (by decide) (fun c_d => ?_) (fun c_d => ?_)
    · skip
      have h0 : ¬ d = 0 := fun h => c_d (by rw [h]; rfl)
      refine lv_iload hx hb dX1_carryOut_161 (lv_at hl 1 rfl) ?_
      refine sx_iast (j := (ix (P.2.1 i))) hx hb hK hP hD hS 5 0 rfl rfl (rfl) (by omega) (by decide) dX1_carryOut_163 (fun H locs hP hD hS => ?_)
      have hP : va_P (dC, dI) vwCl (yW ad cI P n (upd v (ix (P.2.1 i)) (v (ix (P.2.1 i)))) F) H := hP
      have hD : va_D A (yW ad cI P n (upd v (ix (P.2.1 i)) (v (ix (P.2.1 i)))) F) := hD
      refine lv_goto (tgt := 200) hx hb dX1_carryOut_164 (by decide) ?_
      refine lv_iload hx hb dX1_carryOut_200 (lv_at hl 4 rfl) ?_
      refine lv_bipush (v := 8) hx hb dX1_carryOut_202 (by decide) ?_
      refine lv_icmp_ne (tgt := 248) hx hb dX1_carryOut_204 (by decide) (fun e_40 => ?_) (fun e_40 => ?_)
      rotate_left
      · skip
        exact absurd e_40 (by decide)
      refine lv_iload hx hb dX1_carryOut_248 (lv_at hl 4 rfl) ?_
      refine lv_iconst (v := 5) hx hb dX1_carryOut_250 (by decide) ?_
      refine lv_icmp_ne (tgt := 269) hx hb dX1_carryOut_251 (by decide) (fun e_41 => ?_) (fun e_41 => ?_)
      rotate_left
      · skip
        exact absurd e_41 (by decide)
      refine lv_iload hx hb dX1_carryOut_269 (lv_at hl 4 rfl) ?_
      refine lv_bipush (v := 6) hx hb dX1_carryOut_271 (by decide) ?_
      refine lv_icmp_ne (tgt := 291) hx hb dX1_carryOut_273 (by decide) (fun e_42 => ?_) (fun e_42 => ?_)
      rotate_left
      · skip
        exact absurd e_42 (by decide)
      refine lv_iload hx hb dX1_carryOut_291 (lv_at hl 4 rfl) ?_
      refine lv_bipush (v := 7) hx hb dX1_carryOut_293 (by decide) ?_
      refine lv_icmp_ne (tgt := 305) hx hb dX1_carryOut_295 (by decide) (fun e_43 => ?_) (fun e_43 => ?_)
      rotate_left
      · skip
        exact absurd e_43 (by decide)
      refine lv_iconst (v := 1) hx hb dX1_carryOut_305 (by decide) ?_
      refine lv_goto (tgt := 310) hx hb dX1_carryOut_306 (by decide) ?_
      have hok : sm_ok P i v = true := sm_ok_o (by rw [hk]; decide) (by rw [hk]; decide) (by rw [hk]; decide) v
      exact sx_zret hx hb hr hlocks (Or.inr rfl) hK (upd v (ix (P.2.1 i)) (v (ix (P.2.1 i))), F) (Or.inr ⟨h8, by rw [sm_ap_4 hk, if_neg h0], by rw [if_pos hok]⟩) hP hD hS dX1_carryOut_310
    · skip
      have h0 : d = 0 := (nI_eq (b := 0) (by omega) (by decide)).mp c_d
      refine lv_iload hx hb dX1_carryOut_156 (lv_at hl 0 rfl) ?_
      refine lv_goto (tgt := 163) hx hb dX1_carryOut_158 (by decide) ?_
      refine sx_iast (j := (ix (P.2.1 i))) hx hb hK hP hD hS 5 0 rfl rfl (rfl) (by omega) (by decide) dX1_carryOut_163 (fun H locs hP hD hS => ?_)
      have hP : va_P (dC, dI) vwCl (yW ad cI P n (upd v (ix (P.2.1 i)) (v (ix (P.2.2.1 i)))) F) H := hP
      have hD : va_D A (yW ad cI P n (upd v (ix (P.2.1 i)) (v (ix (P.2.2.1 i)))) F) := hD
      refine lv_goto (tgt := 200) hx hb dX1_carryOut_164 (by decide) ?_
      refine lv_iload hx hb dX1_carryOut_200 (lv_at hl 4 rfl) ?_
      refine lv_bipush (v := 8) hx hb dX1_carryOut_202 (by decide) ?_
      refine lv_icmp_ne (tgt := 248) hx hb dX1_carryOut_204 (by decide) (fun e_44 => ?_) (fun e_44 => ?_)
      rotate_left
      · skip
        exact absurd e_44 (by decide)
      refine lv_iload hx hb dX1_carryOut_248 (lv_at hl 4 rfl) ?_
      refine lv_iconst (v := 5) hx hb dX1_carryOut_250 (by decide) ?_
      refine lv_icmp_ne (tgt := 269) hx hb dX1_carryOut_251 (by decide) (fun e_45 => ?_) (fun e_45 => ?_)
      rotate_left
      · skip
        exact absurd e_45 (by decide)
      refine lv_iload hx hb dX1_carryOut_269 (lv_at hl 4 rfl) ?_
      refine lv_bipush (v := 6) hx hb dX1_carryOut_271 (by decide) ?_
      refine lv_icmp_ne (tgt := 291) hx hb dX1_carryOut_273 (by decide) (fun e_46 => ?_) (fun e_46 => ?_)
      rotate_left
      · skip
        exact absurd e_46 (by decide)
      refine lv_iload hx hb dX1_carryOut_291 (lv_at hl 4 rfl) ?_
      refine lv_bipush (v := 7) hx hb dX1_carryOut_293 (by decide) ?_
      refine lv_icmp_ne (tgt := 305) hx hb dX1_carryOut_295 (by decide) (fun e_47 => ?_) (fun e_47 => ?_)
      rotate_left
      · skip
        exact absurd e_47 (by decide)
      refine lv_iconst (v := 1) hx hb dX1_carryOut_305 (by decide) ?_
      refine lv_goto (tgt := 310) hx hb dX1_carryOut_306 (by decide) ?_
      have hok : sm_ok P i v = true := sm_ok_o (by rw [hk]; decide) (by rw [hk]; decide) (by rw [hk]; decide) v
      exact sx_zret hx hb hr hlocks (Or.inr rfl) hK (upd v (ix (P.2.1 i)) (v (ix (P.2.2.1 i))), F) (Or.inr ⟨h8, by rw [sm_ap_4 hk, if_pos h0], by rw [if_pos hok]⟩) hP hD hS dX1_carryOut_310
  · skip
    refine sx_topE (y := 5) (hk) ?_
    have gB : sm_v4 (P.2.2.1 i) := gB (by rw [hk]; decide) (by rw [hk]; decide)
    have gB2 := gB.2
    have h8 : ¬ P.1 i = 8 := by rw [hk]; decide
    refine lv_istore (lv' := [(4, .int 5), (0, .ref (ad 0)), (1, .int (nI i)), (2, .int (nI d)), (3, .int (nI pv))]) hx hb dX1_carryOut_6 hl (by decide) rfl (fun ls hl => ?_)
    refine lv_aload_n hx hb dX1_carryOut_8 rfl (lv_at hl 1 rfl) ?_
    refine va_get (D := (dC, dI)) (ci := 1) (v := .ref (ad 2)) (C := RX1) (T := TX1) (N := 7) hx hb hts in_X1 hown hK hP 0 rfl rfl 2 (by decide) (hts _ q177) (fun _ h9 => h9) rfl dX1_carryOut_9 ?_
    refine lv_iload_n hx hb dX1_carryOut_12 rfl (lv_at hl 2 rfl) ?_
    refine sx_iald (j := i) hx hb hK hP 2 0 rfl rfl (rfl) (by omega) (by decide) dX1_carryOut_13 ?_
    refine sx_topE (y := nI (ix (P.2.1 i))) (gA.1) ?_
    refine lv_istore (lv' := [(5, .int (nI (ix (P.2.1 i)))), (4, .int 5), (0, .ref (ad 0)), (1, .int (nI i)), (2, .int (nI d)), (3, .int (nI pv))]) hx hb dX1_carryOut_14 hl (by decide) rfl (fun ls hl => ?_)
    refine lv_aload_n hx hb dX1_carryOut_16 rfl (lv_at hl 2 rfl) ?_
    refine va_get (D := (dC, dI)) (ci := 1) (v := .ref (ad 3)) (C := RX1) (T := TX1) (N := 7) hx hb hts in_X1 hown hK hP 0 rfl rfl 3 (by decide) (hts _ q178) (fun _ h9 => h9) rfl dX1_carryOut_17 ?_
    refine lv_iload_n hx hb dX1_carryOut_20 rfl (lv_at hl 3 rfl) ?_
    refine sx_iald (j := i) hx hb hK hP 3 0 rfl rfl (rfl) (by omega) (by decide) dX1_carryOut_21 ?_
    refine sx_topE (y := nI (ix (P.2.2.1 i))) (gB.1) ?_
    refine lv_istore (lv' := [(6, .int (nI (ix (P.2.2.1 i)))), (5, .int (nI (ix (P.2.1 i)))), (4, .int 5), (0, .ref (ad 0)), (1, .int (nI i)), (2, .int (nI d)), (3, .int (nI pv))]) hx hb dX1_carryOut_22 hl (by decide) rfl (fun ls hl => ?_)
    refine lv_aload_n hx hb dX1_carryOut_24 rfl (lv_at hl 3 rfl) ?_
    refine va_get (D := (dC, dI)) (ci := 1) (v := .ref (ad 5)) (C := RX1) (T := TX1) (N := 7) hx hb hts in_X1 hown hK hP 0 rfl rfl 5 (by decide) (hts _ q180) (fun _ h9 => h9) rfl dX1_carryOut_25 ?_
    refine lv_iload hx hb dX1_carryOut_28 (lv_at hl 1 rfl) ?_
    refine sx_iald (j := (ix (P.2.1 i))) hx hb hK hP 5 0 rfl rfl (rfl) (by omega) (by decide) dX1_carryOut_30 ?_
    refine lv_istore (lv' := [(7, .int (v (ix (P.2.1 i)))), (6, .int (nI (ix (P.2.2.1 i)))), (5, .int (nI (ix (P.2.1 i)))), (4, .int 5), (0, .ref (ad 0)), (1, .int (nI i)), (2, .int (nI d)), (3, .int (nI pv))]) hx hb dX1_carryOut_31 hl (by decide) rfl (fun ls hl => ?_)
    refine lv_iload hx hb dX1_carryOut_33 (lv_at hl 3 rfl) ?_
    refine lv_iconst (v := 2) hx hb dX1_carryOut_35 (by decide) ?_
    refine lv_icmp_lt (tgt := 58) hx hb dX1_carryOut_36 (by decide) (fun e_48 => ?_) (fun e_48 => ?_)
    · skip
      exact absurd e_48 (by decide)
    refine lv_iload hx hb dX1_carryOut_39 (lv_at hl 3 rfl) ?_
    refine lv_bipush (v := 8) hx hb dX1_carryOut_41 (by decide) ?_
    refine lv_icmp_eq (tgt := 58) hx hb dX1_carryOut_43 (by decide) (fun e_49 => ?_) (fun e_49 => ?_)
    · skip
      exact absurd e_49 (by decide)
    refine lv_aload_n hx hb dX1_carryOut_46 rfl (lv_at hl 4 rfl) ?_
    refine va_get (D := (dC, dI)) (ci := 1) (v := .ref (ad 5)) (C := RX1) (T := TX1) (N := 7) hx hb hts in_X1 hown hK hP 0 rfl rfl 5 (by decide) (hts _ q180) (fun _ h9 => h9) rfl dX1_carryOut_47 ?_
    refine lv_iload hx hb dX1_carryOut_50 (lv_at hl 1 rfl) ?_
    refine lv_iconst (v := 3) hx hb dX1_carryOut_52 (by decide) ?_
    refine lv_iand hx hb dX1_carryOut_53 ?_
    refine sx_topE (y := nI (ix (P.2.2.1 i))) (by rw [← gB.1]; exact (sm_and3 gB).trans gB.1.symm) ?_
    refine sx_iald (j := (ix (P.2.2.1 i))) hx hb hK hP 5 0 rfl rfl (rfl) (by omega) (by decide) dX1_carryOut_54 ?_
    refine lv_goto (tgt := 59) hx hb dX1_carryOut_55 (by decide) ?_
    refine lv_istore (lv' := [(8, .int (v (ix (P.2.2.1 i)))), (7, .int (v (ix (P.2.1 i)))), (6, .int (nI (ix (P.2.2.1 i)))), (5, .int (nI (ix (P.2.1 i)))), (4, .int 5), (0, .ref (ad 0)), (1, .int (nI i)), (2, .int (nI d)), (3, .int (nI pv))]) hx hb dX1_carryOut_59 hl (by decide) rfl (fun ls hl => ?_)
    refine lv_iload hx hb dX1_carryOut_61 (lv_at hl 4 rfl) ?_
    refine lv_if_ne (tgt := 80) hx hb dX1_carryOut_63 (by decide) (fun e_50 => ?_) (fun e_50 => ?_)
    rotate_left
    · skip
      exact absurd e_50 (by decide)
    refine lv_iload hx hb dX1_carryOut_80 (lv_at hl 4 rfl) ?_
    refine lv_iconst (v := 1) hx hb dX1_carryOut_82 (by decide) ?_
    refine lv_icmp_ne (tgt := 98) hx hb dX1_carryOut_83 (by decide) (fun e_51 => ?_) (fun e_51 => ?_)
    rotate_left
    · skip
      exact absurd e_51 (by decide)
    refine lv_iload hx hb dX1_carryOut_98 (lv_at hl 4 rfl) ?_
    refine lv_iconst (v := 2) hx hb dX1_carryOut_100 (by decide) ?_
    refine lv_icmp_ne (tgt := 119) hx hb dX1_carryOut_101 (by decide) (fun e_52 => ?_) (fun e_52 => ?_)
    rotate_left
    · skip
      exact absurd e_52 (by decide)
    refine lv_iload hx hb dX1_carryOut_119 (lv_at hl 4 rfl) ?_
    refine lv_iconst (v := 3) hx hb dX1_carryOut_121 (by decide) ?_
    refine lv_icmp_ne (tgt := 140) hx hb dX1_carryOut_122 (by decide) (fun e_53 => ?_) (fun e_53 => ?_)
    rotate_left
    · skip
      exact absurd e_53 (by decide)
    refine lv_iload hx hb dX1_carryOut_140 (lv_at hl 4 rfl) ?_
    refine lv_iconst (v := 4) hx hb dX1_carryOut_142 (by decide) ?_
    refine lv_icmp_ne (tgt := 167) hx hb dX1_carryOut_143 (by decide) (fun e_54 => ?_) (fun e_54 => ?_)
    rotate_left
    · skip
      exact absurd e_54 (by decide)
    refine lv_iload hx hb dX1_carryOut_167 (lv_at hl 4 rfl) ?_
    refine lv_bipush (v := 9) hx hb dX1_carryOut_169 (by decide) ?_
    refine lv_icmp_ne (tgt := 200) hx hb dX1_carryOut_171 (by decide) (fun e_55 => ?_) (fun e_55 => ?_)
    rotate_left
    · skip
      exact absurd e_55 (by decide)
    refine lv_iload hx hb dX1_carryOut_200 (lv_at hl 4 rfl) ?_
    refine lv_bipush (v := 8) hx hb dX1_carryOut_202 (by decide) ?_
    refine lv_icmp_ne (tgt := 248) hx hb dX1_carryOut_204 (by decide) (fun e_56 => ?_) (fun e_56 => ?_)
    rotate_left
    · skip
      exact absurd e_56 (by decide)
    refine lv_iload hx hb dX1_carryOut_248 (lv_at hl 4 rfl) ?_
    refine lv_iconst (v := 5) hx hb dX1_carryOut_250 (by decide) ?_
    refine lv_icmp_ne (tgt := 269) hx hb dX1_carryOut_251 (by decide) (fun e_57 => ?_) (fun e_57 => ?_)
    · skip
      exact absurd e_57 (by decide)
    refine lv_iload hx hb dX1_carryOut_254 (lv_at hl 1 rfl) ?_
    refine lv_iload hx hb dX1_carryOut_256 (lv_at hl 0 rfl) ?_
    refine lv_icmp_ge (tgt := 265) hx hb dX1_carryOut_258 (by decide) (fun c_t => ?_) (fun c_t => ?_)
    · skip
      have hok : ¬ sm_ok P i v = true := by rw [sm_ok_5 hk, decide_eq_true_eq]; exact fun q => absurd c_t (Int32.not_le.mpr q)
      refine lv_iconst (v := 0) hx hb dX1_carryOut_265 (by decide) ?_
      refine lv_goto (tgt := 310) hx hb dX1_carryOut_266 (by decide) ?_
      exact sx_zret hx hb hr hlocks (Or.inl rfl) hK (v, F) (Or.inr ⟨h8, by rw [sm_ap_n (Or.inl hk)], by rw [if_neg hok]⟩) hP hD hS dX1_carryOut_310
    · skip
      have hok : sm_ok P i v = true := by rw [sm_ok_5 hk, decide_eq_true_eq]; exact Int32.not_le.mp c_t
      refine lv_iconst (v := 1) hx hb dX1_carryOut_261 (by decide) ?_
      refine lv_goto (tgt := 310) hx hb dX1_carryOut_262 (by decide) ?_
      exact sx_zret hx hb hr hlocks (Or.inr rfl) hK (v, F) (Or.inr ⟨h8, by rw [sm_ap_n (Or.inl hk)], by rw [if_pos hok]⟩) hP hD hS dX1_carryOut_310
  · skip
    refine sx_topE (y := 6) (hk) ?_
    have gB : sm_v4 (P.2.2.1 i) := gB (by rw [hk]; decide) (by rw [hk]; decide)
    have gB2 := gB.2
    have h8 : ¬ P.1 i = 8 := by rw [hk]; decide
    refine lv_istore (lv' := [(4, .int 6), (0, .ref (ad 0)), (1, .int (nI i)), (2, .int (nI d)), (3, .int (nI pv))]) hx hb dX1_carryOut_6 hl (by decide) rfl (fun ls hl => ?_)
    refine lv_aload_n hx hb dX1_carryOut_8 rfl (lv_at hl 1 rfl) ?_
    refine va_get (D := (dC, dI)) (ci := 1) (v := .ref (ad 2)) (C := RX1) (T := TX1) (N := 7) hx hb hts in_X1 hown hK hP 0 rfl rfl 2 (by decide) (hts _ q177) (fun _ h9 => h9) rfl dX1_carryOut_9 ?_
    refine lv_iload_n hx hb dX1_carryOut_12 rfl (lv_at hl 2 rfl) ?_
    refine sx_iald (j := i) hx hb hK hP 2 0 rfl rfl (rfl) (by omega) (by decide) dX1_carryOut_13 ?_
    refine sx_topE (y := nI (ix (P.2.1 i))) (gA.1) ?_
    refine lv_istore (lv' := [(5, .int (nI (ix (P.2.1 i)))), (4, .int 6), (0, .ref (ad 0)), (1, .int (nI i)), (2, .int (nI d)), (3, .int (nI pv))]) hx hb dX1_carryOut_14 hl (by decide) rfl (fun ls hl => ?_)
    refine lv_aload_n hx hb dX1_carryOut_16 rfl (lv_at hl 2 rfl) ?_
    refine va_get (D := (dC, dI)) (ci := 1) (v := .ref (ad 3)) (C := RX1) (T := TX1) (N := 7) hx hb hts in_X1 hown hK hP 0 rfl rfl 3 (by decide) (hts _ q178) (fun _ h9 => h9) rfl dX1_carryOut_17 ?_
    refine lv_iload_n hx hb dX1_carryOut_20 rfl (lv_at hl 3 rfl) ?_
    refine sx_iald (j := i) hx hb hK hP 3 0 rfl rfl (rfl) (by omega) (by decide) dX1_carryOut_21 ?_
    refine sx_topE (y := nI (ix (P.2.2.1 i))) (gB.1) ?_
    refine lv_istore (lv' := [(6, .int (nI (ix (P.2.2.1 i)))), (5, .int (nI (ix (P.2.1 i)))), (4, .int 6), (0, .ref (ad 0)), (1, .int (nI i)), (2, .int (nI d)), (3, .int (nI pv))]) hx hb dX1_carryOut_22 hl (by decide) rfl (fun ls hl => ?_)
    refine lv_aload_n hx hb dX1_carryOut_24 rfl (lv_at hl 3 rfl) ?_
    refine va_get (D := (dC, dI)) (ci := 1) (v := .ref (ad 5)) (C := RX1) (T := TX1) (N := 7) hx hb hts in_X1 hown hK hP 0 rfl rfl 5 (by decide) (hts _ q180) (fun _ h9 => h9) rfl dX1_carryOut_25 ?_
    refine lv_iload hx hb dX1_carryOut_28 (lv_at hl 1 rfl) ?_
    refine sx_iald (j := (ix (P.2.1 i))) hx hb hK hP 5 0 rfl rfl (rfl) (by omega) (by decide) dX1_carryOut_30 ?_
    refine lv_istore (lv' := [(7, .int (v (ix (P.2.1 i)))), (6, .int (nI (ix (P.2.2.1 i)))), (5, .int (nI (ix (P.2.1 i)))), (4, .int 6), (0, .ref (ad 0)), (1, .int (nI i)), (2, .int (nI d)), (3, .int (nI pv))]) hx hb dX1_carryOut_31 hl (by decide) rfl (fun ls hl => ?_)
    refine lv_iload hx hb dX1_carryOut_33 (lv_at hl 3 rfl) ?_
    refine lv_iconst (v := 2) hx hb dX1_carryOut_35 (by decide) ?_
    refine lv_icmp_lt (tgt := 58) hx hb dX1_carryOut_36 (by decide) (fun e_58 => ?_) (fun e_58 => ?_)
    · skip
      exact absurd e_58 (by decide)
    refine lv_iload hx hb dX1_carryOut_39 (lv_at hl 3 rfl) ?_
    refine lv_bipush (v := 8) hx hb dX1_carryOut_41 (by decide) ?_
    refine lv_icmp_eq (tgt := 58) hx hb dX1_carryOut_43 (by decide) (fun e_59 => ?_) (fun e_59 => ?_)
    · skip
      exact absurd e_59 (by decide)
    refine lv_aload_n hx hb dX1_carryOut_46 rfl (lv_at hl 4 rfl) ?_
    refine va_get (D := (dC, dI)) (ci := 1) (v := .ref (ad 5)) (C := RX1) (T := TX1) (N := 7) hx hb hts in_X1 hown hK hP 0 rfl rfl 5 (by decide) (hts _ q180) (fun _ h9 => h9) rfl dX1_carryOut_47 ?_
    refine lv_iload hx hb dX1_carryOut_50 (lv_at hl 1 rfl) ?_
    refine lv_iconst (v := 3) hx hb dX1_carryOut_52 (by decide) ?_
    refine lv_iand hx hb dX1_carryOut_53 ?_
    refine sx_topE (y := nI (ix (P.2.2.1 i))) (by rw [← gB.1]; exact (sm_and3 gB).trans gB.1.symm) ?_
    refine sx_iald (j := (ix (P.2.2.1 i))) hx hb hK hP 5 0 rfl rfl (rfl) (by omega) (by decide) dX1_carryOut_54 ?_
    refine lv_goto (tgt := 59) hx hb dX1_carryOut_55 (by decide) ?_
    refine lv_istore (lv' := [(8, .int (v (ix (P.2.2.1 i)))), (7, .int (v (ix (P.2.1 i)))), (6, .int (nI (ix (P.2.2.1 i)))), (5, .int (nI (ix (P.2.1 i)))), (4, .int 6), (0, .ref (ad 0)), (1, .int (nI i)), (2, .int (nI d)), (3, .int (nI pv))]) hx hb dX1_carryOut_59 hl (by decide) rfl (fun ls hl => ?_)
    refine lv_iload hx hb dX1_carryOut_61 (lv_at hl 4 rfl) ?_
    refine lv_if_ne (tgt := 80) hx hb dX1_carryOut_63 (by decide) (fun e_60 => ?_) (fun e_60 => ?_)
    rotate_left
    · skip
      exact absurd e_60 (by decide)
    refine lv_iload hx hb dX1_carryOut_80 (lv_at hl 4 rfl) ?_
    refine lv_iconst (v := 1) hx hb dX1_carryOut_82 (by decide) ?_
    refine lv_icmp_ne (tgt := 98) hx hb dX1_carryOut_83 (by decide) (fun e_61 => ?_) (fun e_61 => ?_)
    rotate_left
    · skip
      exact absurd e_61 (by decide)
    refine lv_iload hx hb dX1_carryOut_98 (lv_at hl 4 rfl) ?_
    refine lv_iconst (v := 2) hx hb dX1_carryOut_100 (by decide) ?_
    refine lv_icmp_ne (tgt := 119) hx hb dX1_carryOut_101 (by decide) (fun e_62 => ?_) (fun e_62 => ?_)
    rotate_left
    · skip
      exact absurd e_62 (by decide)
    refine lv_iload hx hb dX1_carryOut_119 (lv_at hl 4 rfl) ?_
    refine lv_iconst (v := 3) hx hb dX1_carryOut_121 (by decide) ?_
    refine lv_icmp_ne (tgt := 140) hx hb dX1_carryOut_122 (by decide) (fun e_63 => ?_) (fun e_63 => ?_)
    rotate_left
    · skip
      exact absurd e_63 (by decide)
    refine lv_iload hx hb dX1_carryOut_140 (lv_at hl 4 rfl) ?_
    refine lv_iconst (v := 4) hx hb dX1_carryOut_142 (by decide) ?_
    refine lv_icmp_ne (tgt := 167) hx hb dX1_carryOut_143 (by decide) (fun e_64 => ?_) (fun e_64 => ?_)
    rotate_left
    · skip
      exact absurd e_64 (by decide)
    refine lv_iload hx hb dX1_carryOut_167 (lv_at hl 4 rfl) ?_
    refine lv_bipush (v := 9) hx hb dX1_carryOut_169 (by decide) ?_
    refine lv_icmp_ne (tgt := 200) hx hb dX1_carryOut_171 (by decide) (fun e_65 => ?_) (fun e_65 => ?_)
    rotate_left
    · skip
      exact absurd e_65 (by decide)
    refine lv_iload hx hb dX1_carryOut_200 (lv_at hl 4 rfl) ?_
    refine lv_bipush (v := 8) hx hb dX1_carryOut_202 (by decide) ?_
    refine lv_icmp_ne (tgt := 248) hx hb dX1_carryOut_204 (by decide) (fun e_66 => ?_) (fun e_66 => ?_)
    rotate_left
    · skip
      exact absurd e_66 (by decide)
    refine lv_iload hx hb dX1_carryOut_248 (lv_at hl 4 rfl) ?_
    refine lv_iconst (v := 5) hx hb dX1_carryOut_250 (by decide) ?_
    refine lv_icmp_ne (tgt := 269) hx hb dX1_carryOut_251 (by decide) (fun e_67 => ?_) (fun e_67 => ?_)
    rotate_left
    · skip
      exact absurd e_67 (by decide)
    refine lv_iload hx hb dX1_carryOut_269 (lv_at hl 4 rfl) ?_
    refine lv_bipush (v := 6) hx hb dX1_carryOut_271 (by decide) ?_
    refine lv_icmp_ne (tgt := 291) hx hb dX1_carryOut_273 (by decide) (fun e_68 => ?_) (fun e_68 => ?_)
    · skip
      exact absurd e_68 (by decide)
    refine lv_iload hx hb dX1_carryOut_276 (lv_at hl 1 rfl) ?_
    refine lv_iload hx hb dX1_carryOut_278 (lv_at hl 0 rfl) ?_
    refine lv_icmp_ne (tgt := 287) hx hb dX1_carryOut_280 (by decide) (fun c_t => ?_) (fun c_t => ?_)
    · skip
      have hok : ¬ sm_ok P i v = true := by rw [sm_ok_6 hk, decide_eq_true_eq]; exact c_t
      refine lv_iconst (v := 0) hx hb dX1_carryOut_287 (by decide) ?_
      refine lv_goto (tgt := 310) hx hb dX1_carryOut_288 (by decide) ?_
      exact sx_zret hx hb hr hlocks (Or.inl rfl) hK (v, F) (Or.inr ⟨h8, by rw [sm_ap_n (Or.inr (Or.inl hk))], by rw [if_neg hok]⟩) hP hD hS dX1_carryOut_310
    · skip
      have hok : sm_ok P i v = true := by rw [sm_ok_6 hk, decide_eq_true_eq]; exact c_t
      refine lv_iconst (v := 1) hx hb dX1_carryOut_283 (by decide) ?_
      refine lv_goto (tgt := 310) hx hb dX1_carryOut_284 (by decide) ?_
      exact sx_zret hx hb hr hlocks (Or.inr rfl) hK (v, F) (Or.inr ⟨h8, by rw [sm_ap_n (Or.inr (Or.inl hk))], by rw [if_pos hok]⟩) hP hD hS dX1_carryOut_310
  · skip
    refine sx_topE (y := 7) (hk) ?_
    have gB : sm_v4 (P.2.2.1 i) := gB (by rw [hk]; decide) (by rw [hk]; decide)
    have gB2 := gB.2
    have h8 : ¬ P.1 i = 8 := by rw [hk]; decide
    refine lv_istore (lv' := [(4, .int 7), (0, .ref (ad 0)), (1, .int (nI i)), (2, .int (nI d)), (3, .int (nI pv))]) hx hb dX1_carryOut_6 hl (by decide) rfl (fun ls hl => ?_)
    refine lv_aload_n hx hb dX1_carryOut_8 rfl (lv_at hl 1 rfl) ?_
    refine va_get (D := (dC, dI)) (ci := 1) (v := .ref (ad 2)) (C := RX1) (T := TX1) (N := 7) hx hb hts in_X1 hown hK hP 0 rfl rfl 2 (by decide) (hts _ q177) (fun _ h9 => h9) rfl dX1_carryOut_9 ?_
    refine lv_iload_n hx hb dX1_carryOut_12 rfl (lv_at hl 2 rfl) ?_
    refine sx_iald (j := i) hx hb hK hP 2 0 rfl rfl (rfl) (by omega) (by decide) dX1_carryOut_13 ?_
    refine sx_topE (y := nI (ix (P.2.1 i))) (gA.1) ?_
    refine lv_istore (lv' := [(5, .int (nI (ix (P.2.1 i)))), (4, .int 7), (0, .ref (ad 0)), (1, .int (nI i)), (2, .int (nI d)), (3, .int (nI pv))]) hx hb dX1_carryOut_14 hl (by decide) rfl (fun ls hl => ?_)
    refine lv_aload_n hx hb dX1_carryOut_16 rfl (lv_at hl 2 rfl) ?_
    refine va_get (D := (dC, dI)) (ci := 1) (v := .ref (ad 3)) (C := RX1) (T := TX1) (N := 7) hx hb hts in_X1 hown hK hP 0 rfl rfl 3 (by decide) (hts _ q178) (fun _ h9 => h9) rfl dX1_carryOut_17 ?_
    refine lv_iload_n hx hb dX1_carryOut_20 rfl (lv_at hl 3 rfl) ?_
    refine sx_iald (j := i) hx hb hK hP 3 0 rfl rfl (rfl) (by omega) (by decide) dX1_carryOut_21 ?_
    refine sx_topE (y := nI (ix (P.2.2.1 i))) (gB.1) ?_
    refine lv_istore (lv' := [(6, .int (nI (ix (P.2.2.1 i)))), (5, .int (nI (ix (P.2.1 i)))), (4, .int 7), (0, .ref (ad 0)), (1, .int (nI i)), (2, .int (nI d)), (3, .int (nI pv))]) hx hb dX1_carryOut_22 hl (by decide) rfl (fun ls hl => ?_)
    refine lv_aload_n hx hb dX1_carryOut_24 rfl (lv_at hl 3 rfl) ?_
    refine va_get (D := (dC, dI)) (ci := 1) (v := .ref (ad 5)) (C := RX1) (T := TX1) (N := 7) hx hb hts in_X1 hown hK hP 0 rfl rfl 5 (by decide) (hts _ q180) (fun _ h9 => h9) rfl dX1_carryOut_25 ?_
    refine lv_iload hx hb dX1_carryOut_28 (lv_at hl 1 rfl) ?_
    refine sx_iald (j := (ix (P.2.1 i))) hx hb hK hP 5 0 rfl rfl (rfl) (by omega) (by decide) dX1_carryOut_30 ?_
    refine lv_istore (lv' := [(7, .int (v (ix (P.2.1 i)))), (6, .int (nI (ix (P.2.2.1 i)))), (5, .int (nI (ix (P.2.1 i)))), (4, .int 7), (0, .ref (ad 0)), (1, .int (nI i)), (2, .int (nI d)), (3, .int (nI pv))]) hx hb dX1_carryOut_31 hl (by decide) rfl (fun ls hl => ?_)
    refine lv_iload hx hb dX1_carryOut_33 (lv_at hl 3 rfl) ?_
    refine lv_iconst (v := 2) hx hb dX1_carryOut_35 (by decide) ?_
    refine lv_icmp_lt (tgt := 58) hx hb dX1_carryOut_36 (by decide) (fun e_69 => ?_) (fun e_69 => ?_)
    · skip
      exact absurd e_69 (by decide)
    refine lv_iload hx hb dX1_carryOut_39 (lv_at hl 3 rfl) ?_
    refine lv_bipush (v := 8) hx hb dX1_carryOut_41 (by decide) ?_
    refine lv_icmp_eq (tgt := 58) hx hb dX1_carryOut_43 (by decide) (fun e_70 => ?_) (fun e_70 => ?_)
    · skip
      exact absurd e_70 (by decide)
    refine lv_aload_n hx hb dX1_carryOut_46 rfl (lv_at hl 4 rfl) ?_
    refine va_get (D := (dC, dI)) (ci := 1) (v := .ref (ad 5)) (C := RX1) (T := TX1) (N := 7) hx hb hts in_X1 hown hK hP 0 rfl rfl 5 (by decide) (hts _ q180) (fun _ h9 => h9) rfl dX1_carryOut_47 ?_
    refine lv_iload hx hb dX1_carryOut_50 (lv_at hl 1 rfl) ?_
    refine lv_iconst (v := 3) hx hb dX1_carryOut_52 (by decide) ?_
    refine lv_iand hx hb dX1_carryOut_53 ?_
    refine sx_topE (y := nI (ix (P.2.2.1 i))) (by rw [← gB.1]; exact (sm_and3 gB).trans gB.1.symm) ?_
    refine sx_iald (j := (ix (P.2.2.1 i))) hx hb hK hP 5 0 rfl rfl (rfl) (by omega) (by decide) dX1_carryOut_54 ?_
    refine lv_goto (tgt := 59) hx hb dX1_carryOut_55 (by decide) ?_
    refine lv_istore (lv' := [(8, .int (v (ix (P.2.2.1 i)))), (7, .int (v (ix (P.2.1 i)))), (6, .int (nI (ix (P.2.2.1 i)))), (5, .int (nI (ix (P.2.1 i)))), (4, .int 7), (0, .ref (ad 0)), (1, .int (nI i)), (2, .int (nI d)), (3, .int (nI pv))]) hx hb dX1_carryOut_59 hl (by decide) rfl (fun ls hl => ?_)
    refine lv_iload hx hb dX1_carryOut_61 (lv_at hl 4 rfl) ?_
    refine lv_if_ne (tgt := 80) hx hb dX1_carryOut_63 (by decide) (fun e_71 => ?_) (fun e_71 => ?_)
    rotate_left
    · skip
      exact absurd e_71 (by decide)
    refine lv_iload hx hb dX1_carryOut_80 (lv_at hl 4 rfl) ?_
    refine lv_iconst (v := 1) hx hb dX1_carryOut_82 (by decide) ?_
    refine lv_icmp_ne (tgt := 98) hx hb dX1_carryOut_83 (by decide) (fun e_72 => ?_) (fun e_72 => ?_)
    rotate_left
    · skip
      exact absurd e_72 (by decide)
    refine lv_iload hx hb dX1_carryOut_98 (lv_at hl 4 rfl) ?_
    refine lv_iconst (v := 2) hx hb dX1_carryOut_100 (by decide) ?_
    refine lv_icmp_ne (tgt := 119) hx hb dX1_carryOut_101 (by decide) (fun e_73 => ?_) (fun e_73 => ?_)
    rotate_left
    · skip
      exact absurd e_73 (by decide)
    refine lv_iload hx hb dX1_carryOut_119 (lv_at hl 4 rfl) ?_
    refine lv_iconst (v := 3) hx hb dX1_carryOut_121 (by decide) ?_
    refine lv_icmp_ne (tgt := 140) hx hb dX1_carryOut_122 (by decide) (fun e_74 => ?_) (fun e_74 => ?_)
    rotate_left
    · skip
      exact absurd e_74 (by decide)
    refine lv_iload hx hb dX1_carryOut_140 (lv_at hl 4 rfl) ?_
    refine lv_iconst (v := 4) hx hb dX1_carryOut_142 (by decide) ?_
    refine lv_icmp_ne (tgt := 167) hx hb dX1_carryOut_143 (by decide) (fun e_75 => ?_) (fun e_75 => ?_)
    rotate_left
    · skip
      exact absurd e_75 (by decide)
    refine lv_iload hx hb dX1_carryOut_167 (lv_at hl 4 rfl) ?_
    refine lv_bipush (v := 9) hx hb dX1_carryOut_169 (by decide) ?_
    refine lv_icmp_ne (tgt := 200) hx hb dX1_carryOut_171 (by decide) (fun e_76 => ?_) (fun e_76 => ?_)
    rotate_left
    · skip
      exact absurd e_76 (by decide)
    refine lv_iload hx hb dX1_carryOut_200 (lv_at hl 4 rfl) ?_
    refine lv_bipush (v := 8) hx hb dX1_carryOut_202 (by decide) ?_
    refine lv_icmp_ne (tgt := 248) hx hb dX1_carryOut_204 (by decide) (fun e_77 => ?_) (fun e_77 => ?_)
    rotate_left
    · skip
      exact absurd e_77 (by decide)
    refine lv_iload hx hb dX1_carryOut_248 (lv_at hl 4 rfl) ?_
    refine lv_iconst (v := 5) hx hb dX1_carryOut_250 (by decide) ?_
    refine lv_icmp_ne (tgt := 269) hx hb dX1_carryOut_251 (by decide) (fun e_78 => ?_) (fun e_78 => ?_)
    rotate_left
    · skip
      exact absurd e_78 (by decide)
    refine lv_iload hx hb dX1_carryOut_269 (lv_at hl 4 rfl) ?_
    refine lv_bipush (v := 6) hx hb dX1_carryOut_271 (by decide) ?_
    refine lv_icmp_ne (tgt := 291) hx hb dX1_carryOut_273 (by decide) (fun e_79 => ?_) (fun e_79 => ?_)
    rotate_left
    · skip
      exact absurd e_79 (by decide)
    refine lv_iload hx hb dX1_carryOut_291 (lv_at hl 4 rfl) ?_
    refine lv_bipush (v := 7) hx hb dX1_carryOut_293 (by decide) ?_
    refine lv_icmp_ne (tgt := 305) hx hb dX1_carryOut_295 (by decide) (fun e_80 => ?_) (fun e_80 => ?_)
    · skip
      exact absurd e_80 (by decide)
    refine lv_iload hx hb dX1_carryOut_298 (lv_at hl 1 rfl) ?_
    refine lv_iload hx hb dX1_carryOut_300 (lv_at hl 0 rfl) ?_
    refine lv_icmp_eq (tgt := 309) hx hb dX1_carryOut_302 (by decide) (fun c_t => ?_) (fun c_t => ?_)
    · skip
      have hok : ¬ sm_ok P i v = true := by rw [sm_ok_7 hk, decide_eq_true_eq]; exact fun q => q c_t
      refine lv_iconst (v := 0) hx hb dX1_carryOut_309 (by decide) ?_
      exact sx_zret hx hb hr hlocks (Or.inl rfl) hK (v, F) (Or.inr ⟨h8, by rw [sm_ap_n (Or.inr (Or.inr (Or.inl hk)))], by rw [if_neg hok]⟩) hP hD hS dX1_carryOut_310
    · skip
      have hok : sm_ok P i v = true := by rw [sm_ok_7 hk, decide_eq_true_eq]; exact c_t
      refine lv_iconst (v := 1) hx hb dX1_carryOut_305 (by decide) ?_
      refine lv_goto (tgt := 310) hx hb dX1_carryOut_306 (by decide) ?_
      exact sx_zret hx hb hr hlocks (Or.inr rfl) hK (v, F) (Or.inr ⟨h8, by rw [sm_ap_n (Or.inr (Or.inr (Or.inl hk)))], by rw [if_pos hok]⟩) hP hD hS dX1_carryOut_310
  · skip
    refine sx_topE (y := 8) (hk) ?_
    have gB : sm_v4 (P.2.2.1 i) := gB (by rw [hk]; decide) (by rw [hk]; decide)
    have gB2 := gB.2
    refine lv_istore (lv' := [(4, .int 8), (0, .ref (ad 0)), (1, .int (nI i)), (2, .int (nI d)), (3, .int (nI pv))]) hx hb dX1_carryOut_6 hl (by decide) rfl (fun ls hl => ?_)
    refine lv_aload_n hx hb dX1_carryOut_8 rfl (lv_at hl 1 rfl) ?_
    refine va_get (D := (dC, dI)) (ci := 1) (v := .ref (ad 2)) (C := RX1) (T := TX1) (N := 7) hx hb hts in_X1 hown hK hP 0 rfl rfl 2 (by decide) (hts _ q177) (fun _ h9 => h9) rfl dX1_carryOut_9 ?_
    refine lv_iload_n hx hb dX1_carryOut_12 rfl (lv_at hl 2 rfl) ?_
    refine sx_iald (j := i) hx hb hK hP 2 0 rfl rfl (rfl) (by omega) (by decide) dX1_carryOut_13 ?_
    refine sx_topE (y := nI (ix (P.2.1 i))) (gA.1) ?_
    refine lv_istore (lv' := [(5, .int (nI (ix (P.2.1 i)))), (4, .int 8), (0, .ref (ad 0)), (1, .int (nI i)), (2, .int (nI d)), (3, .int (nI pv))]) hx hb dX1_carryOut_14 hl (by decide) rfl (fun ls hl => ?_)
    refine lv_aload_n hx hb dX1_carryOut_16 rfl (lv_at hl 2 rfl) ?_
    refine va_get (D := (dC, dI)) (ci := 1) (v := .ref (ad 3)) (C := RX1) (T := TX1) (N := 7) hx hb hts in_X1 hown hK hP 0 rfl rfl 3 (by decide) (hts _ q178) (fun _ h9 => h9) rfl dX1_carryOut_17 ?_
    refine lv_iload_n hx hb dX1_carryOut_20 rfl (lv_at hl 3 rfl) ?_
    refine sx_iald (j := i) hx hb hK hP 3 0 rfl rfl (rfl) (by omega) (by decide) dX1_carryOut_21 ?_
    refine sx_topE (y := nI (ix (P.2.2.1 i))) (gB.1) ?_
    refine lv_istore (lv' := [(6, .int (nI (ix (P.2.2.1 i)))), (5, .int (nI (ix (P.2.1 i)))), (4, .int 8), (0, .ref (ad 0)), (1, .int (nI i)), (2, .int (nI d)), (3, .int (nI pv))]) hx hb dX1_carryOut_22 hl (by decide) rfl (fun ls hl => ?_)
    refine lv_aload_n hx hb dX1_carryOut_24 rfl (lv_at hl 3 rfl) ?_
    refine va_get (D := (dC, dI)) (ci := 1) (v := .ref (ad 5)) (C := RX1) (T := TX1) (N := 7) hx hb hts in_X1 hown hK hP 0 rfl rfl 5 (by decide) (hts _ q180) (fun _ h9 => h9) rfl dX1_carryOut_25 ?_
    refine lv_iload hx hb dX1_carryOut_28 (lv_at hl 1 rfl) ?_
    refine sx_iald (j := (ix (P.2.1 i))) hx hb hK hP 5 0 rfl rfl (rfl) (by omega) (by decide) dX1_carryOut_30 ?_
    refine lv_istore (lv' := [(7, .int (v (ix (P.2.1 i)))), (6, .int (nI (ix (P.2.2.1 i)))), (5, .int (nI (ix (P.2.1 i)))), (4, .int 8), (0, .ref (ad 0)), (1, .int (nI i)), (2, .int (nI d)), (3, .int (nI pv))]) hx hb dX1_carryOut_31 hl (by decide) rfl (fun ls hl => ?_)
    refine lv_iload hx hb dX1_carryOut_33 (lv_at hl 3 rfl) ?_
    refine lv_iconst (v := 2) hx hb dX1_carryOut_35 (by decide) ?_
    refine lv_icmp_lt (tgt := 58) hx hb dX1_carryOut_36 (by decide) (fun e_81 => ?_) (fun e_81 => ?_)
    · skip
      exact absurd e_81 (by decide)
    refine lv_iload hx hb dX1_carryOut_39 (lv_at hl 3 rfl) ?_
    refine lv_bipush (v := 8) hx hb dX1_carryOut_41 (by decide) ?_
    refine lv_icmp_eq (tgt := 58) hx hb dX1_carryOut_43 (by decide) (fun e_82 => ?_) (fun e_82 => ?_)
    rotate_left
    · skip
      exact absurd e_82 (by decide)
    refine lv_iconst (v := 0) hx hb dX1_carryOut_58 (by decide) ?_
    refine lv_istore (lv' := [(8, .int 0), (7, .int (v (ix (P.2.1 i)))), (6, .int (nI (ix (P.2.2.1 i)))), (5, .int (nI (ix (P.2.1 i)))), (4, .int 8), (0, .ref (ad 0)), (1, .int (nI i)), (2, .int (nI d)), (3, .int (nI pv))]) hx hb dX1_carryOut_59 hl (by decide) rfl (fun ls hl => ?_)
    refine lv_iload hx hb dX1_carryOut_61 (lv_at hl 4 rfl) ?_
    refine lv_if_ne (tgt := 80) hx hb dX1_carryOut_63 (by decide) (fun e_83 => ?_) (fun e_83 => ?_)
    rotate_left
    · skip
      exact absurd e_83 (by decide)
    refine lv_iload hx hb dX1_carryOut_80 (lv_at hl 4 rfl) ?_
    refine lv_iconst (v := 1) hx hb dX1_carryOut_82 (by decide) ?_
    refine lv_icmp_ne (tgt := 98) hx hb dX1_carryOut_83 (by decide) (fun e_84 => ?_) (fun e_84 => ?_)
    rotate_left
    · skip
      exact absurd e_84 (by decide)
    refine lv_iload hx hb dX1_carryOut_98 (lv_at hl 4 rfl) ?_
    refine lv_iconst (v := 2) hx hb dX1_carryOut_100 (by decide) ?_
    refine lv_icmp_ne (tgt := 119) hx hb dX1_carryOut_101 (by decide) (fun e_85 => ?_) (fun e_85 => ?_)
    rotate_left
    · skip
      exact absurd e_85 (by decide)
    refine lv_iload hx hb dX1_carryOut_119 (lv_at hl 4 rfl) ?_
    refine lv_iconst (v := 3) hx hb dX1_carryOut_121 (by decide) ?_
    refine lv_icmp_ne (tgt := 140) hx hb dX1_carryOut_122 (by decide) (fun e_86 => ?_) (fun e_86 => ?_)
    rotate_left
    · skip
      exact absurd e_86 (by decide)
    refine lv_iload hx hb dX1_carryOut_140 (lv_at hl 4 rfl) ?_
    refine lv_iconst (v := 4) hx hb dX1_carryOut_142 (by decide) ?_
    refine lv_icmp_ne (tgt := 167) hx hb dX1_carryOut_143 (by decide) (fun e_87 => ?_) (fun e_87 => ?_)
    rotate_left
    · skip
      exact absurd e_87 (by decide)
    refine lv_iload hx hb dX1_carryOut_167 (lv_at hl 4 rfl) ?_
    refine lv_bipush (v := 9) hx hb dX1_carryOut_169 (by decide) ?_
    refine lv_icmp_ne (tgt := 200) hx hb dX1_carryOut_171 (by decide) (fun e_88 => ?_) (fun e_88 => ?_)
    rotate_left
    · skip
      exact absurd e_88 (by decide)
    refine lv_iload hx hb dX1_carryOut_200 (lv_at hl 4 rfl) ?_
    refine lv_bipush (v := 8) hx hb dX1_carryOut_202 (by decide) ?_
    refine lv_icmp_ne (tgt := 248) hx hb dX1_carryOut_204 (by decide) (fun e_89 => ?_) (fun e_89 => ?_)
    · skip
      exact absurd e_89 (by decide)
    refine lv_aload_n hx hb dX1_carryOut_207 rfl (lv_at hl 5 rfl) ?_
    refine va_get (D := (dC, dI)) (ci := 1) (v := .ref (ad 6)) (C := RX1) (T := TX1) (N := 7) hx hb hts in_X1 hown hK hP 0 rfl rfl 6 (by decide) (hts _ q181) (fun _ h9 => h9) rfl dX1_carryOut_208 ?_
    refine lv_iload_n hx hb dX1_carryOut_211 rfl (lv_at hl 6 rfl) ?_
    refine lv_aload_n hx hb dX1_carryOut_212 rfl (lv_at hl 5 rfl) ?_
    refine va_get (D := (dC, dI)) (ci := 1) (v := .ref (ad 6)) (C := RX1) (T := TX1) (N := 7) hx hb hts in_X1 hown hK hP 0 rfl rfl 6 (by decide) (hts _ q181) (fun _ h9 => h9) rfl dX1_carryOut_213 ?_
    refine lv_iload_n hx hb dX1_carryOut_216 rfl (lv_at hl 6 rfl) ?_
    refine sx_iald (j := i) hx hb hK hP 6 0 rfl rfl (rfl) (by omega) (by decide) dX1_carryOut_217 ?_
    refine sx_join (pc2 := 231) (ls2 := ls) (rest2 := [.int (nI i), .ref (ad 6)]) (fun y => y = if F i < 0 then nI pv else F i) (fun y ey => ?_) (fun jn => ?_)
    · skip
      refine sx_iast (j := i) hx hb hK hP hD hS 6 0 rfl rfl (rfl) (by omega) (by decide) dX1_carryOut_231 (fun H locs hP hD hS => ?_)
      have hP : va_P (dC, dI) vwCl (yW ad cI P n v (upd F i y)) H := hP
      have hD : va_D A (yW ad cI P n v (upd F i y)) := hD
      refine lv_aload_n hx hb dX1_carryOut_232 rfl (lv_at hl 5 rfl) ?_
      refine va_get (D := (dC, dI)) (ci := 1) (v := .ref (ad 6)) (C := RX1) (T := TX1) (N := 7) hx hb hts in_X1 hown hK hP 0 rfl rfl 6 (by decide) (hts _ q181) (fun _ h9 => h9) rfl dX1_carryOut_233 ?_
      refine lv_iload_n hx hb dX1_carryOut_236 rfl (lv_at hl 6 rfl) ?_
      refine sx_iald (j := i) hx hb hK hP 6 0 rfl rfl (rfl) (by omega) (by decide) dX1_carryOut_237 ?_
      refine sx_topE (y := y) (pk_us) ?_
      refine lv_iload_n hx hb dX1_carryOut_238 rfl (lv_at hl 8 rfl) ?_
      refine lv_icmp_ne (tgt := 246) hx hb dX1_carryOut_239 (by decide) (fun c_t => ?_) (fun c_t => ?_)
      · skip
        refine lv_iconst (v := 0) hx hb dX1_carryOut_246 (by decide) ?_
        subst ey
        exact sx_zret hx hb hr hlocks (Or.inl rfl) hK (v, upd F i (if F i < 0 then nI pv else F i)) (Or.inl ⟨hk, rfl, by rw [if_neg c_t]⟩) hP hD hS dX1_carryOut_247
      · skip
        refine lv_iconst (v := 1) hx hb dX1_carryOut_242 (by decide) ?_
        refine lv_goto (tgt := 247) hx hb dX1_carryOut_243 (by decide) ?_
        subst ey
        exact sx_zret hx hb hr hlocks (Or.inr rfl) hK (v, upd F i (if F i < 0 then nI pv else F i)) (Or.inl ⟨hk, rfl, by rw [if_pos c_t]⟩) hP hD hS dX1_carryOut_247
    · skip
      refine lv_if_ge (tgt := 225) hx hb dX1_carryOut_218 (by decide) (fun c_g => ?_) (fun c_g => ?_)
      · skip
        refine lv_aload_n hx hb dX1_carryOut_225 rfl (lv_at hl 5 rfl) ?_
        refine va_get (D := (dC, dI)) (ci := 1) (v := .ref (ad 6)) (C := RX1) (T := TX1) (N := 7) hx hb hts in_X1 hown hK hP 0 rfl rfl 6 (by decide) (hts _ q181) (fun _ h9 => h9) rfl dX1_carryOut_226 ?_
        refine lv_iload_n hx hb dX1_carryOut_229 rfl (lv_at hl 6 rfl) ?_
        refine sx_iald (j := i) hx hb hK hP 6 0 rfl rfl (rfl) (by omega) (by decide) dX1_carryOut_230 ?_
        exact jn _ (by rw [if_neg (Int32.not_lt.mpr c_g)])
      · skip
        refine lv_iload_n hx hb dX1_carryOut_221 rfl (lv_at hl 8 rfl) ?_
        refine lv_goto (tgt := 231) hx hb dX1_carryOut_222 (by decide) ?_
        exact jn _ (by rw [if_pos (Int32.not_le.mp c_g)])
  · skip
    refine sx_topE (y := 9) (hk) ?_
    have gB : sm_v4 (P.2.2.1 i) := gB (by rw [hk]; decide) (by rw [hk]; decide)
    have gB2 := gB.2
    have h8 : ¬ P.1 i = 8 := by rw [hk]; decide
    refine lv_istore (lv' := [(4, .int 9), (0, .ref (ad 0)), (1, .int (nI i)), (2, .int (nI d)), (3, .int (nI pv))]) hx hb dX1_carryOut_6 hl (by decide) rfl (fun ls hl => ?_)
    refine lv_aload_n hx hb dX1_carryOut_8 rfl (lv_at hl 1 rfl) ?_
    refine va_get (D := (dC, dI)) (ci := 1) (v := .ref (ad 2)) (C := RX1) (T := TX1) (N := 7) hx hb hts in_X1 hown hK hP 0 rfl rfl 2 (by decide) (hts _ q177) (fun _ h9 => h9) rfl dX1_carryOut_9 ?_
    refine lv_iload_n hx hb dX1_carryOut_12 rfl (lv_at hl 2 rfl) ?_
    refine sx_iald (j := i) hx hb hK hP 2 0 rfl rfl (rfl) (by omega) (by decide) dX1_carryOut_13 ?_
    refine sx_topE (y := nI (ix (P.2.1 i))) (gA.1) ?_
    refine lv_istore (lv' := [(5, .int (nI (ix (P.2.1 i)))), (4, .int 9), (0, .ref (ad 0)), (1, .int (nI i)), (2, .int (nI d)), (3, .int (nI pv))]) hx hb dX1_carryOut_14 hl (by decide) rfl (fun ls hl => ?_)
    refine lv_aload_n hx hb dX1_carryOut_16 rfl (lv_at hl 2 rfl) ?_
    refine va_get (D := (dC, dI)) (ci := 1) (v := .ref (ad 3)) (C := RX1) (T := TX1) (N := 7) hx hb hts in_X1 hown hK hP 0 rfl rfl 3 (by decide) (hts _ q178) (fun _ h9 => h9) rfl dX1_carryOut_17 ?_
    refine lv_iload_n hx hb dX1_carryOut_20 rfl (lv_at hl 3 rfl) ?_
    refine sx_iald (j := i) hx hb hK hP 3 0 rfl rfl (rfl) (by omega) (by decide) dX1_carryOut_21 ?_
    refine sx_topE (y := nI (ix (P.2.2.1 i))) (gB.1) ?_
    refine lv_istore (lv' := [(6, .int (nI (ix (P.2.2.1 i)))), (5, .int (nI (ix (P.2.1 i)))), (4, .int 9), (0, .ref (ad 0)), (1, .int (nI i)), (2, .int (nI d)), (3, .int (nI pv))]) hx hb dX1_carryOut_22 hl (by decide) rfl (fun ls hl => ?_)
    refine lv_aload_n hx hb dX1_carryOut_24 rfl (lv_at hl 3 rfl) ?_
    refine va_get (D := (dC, dI)) (ci := 1) (v := .ref (ad 5)) (C := RX1) (T := TX1) (N := 7) hx hb hts in_X1 hown hK hP 0 rfl rfl 5 (by decide) (hts _ q180) (fun _ h9 => h9) rfl dX1_carryOut_25 ?_
    refine lv_iload hx hb dX1_carryOut_28 (lv_at hl 1 rfl) ?_
    refine sx_iald (j := (ix (P.2.1 i))) hx hb hK hP 5 0 rfl rfl (rfl) (by omega) (by decide) dX1_carryOut_30 ?_
    refine lv_istore (lv' := [(7, .int (v (ix (P.2.1 i)))), (6, .int (nI (ix (P.2.2.1 i)))), (5, .int (nI (ix (P.2.1 i)))), (4, .int 9), (0, .ref (ad 0)), (1, .int (nI i)), (2, .int (nI d)), (3, .int (nI pv))]) hx hb dX1_carryOut_31 hl (by decide) rfl (fun ls hl => ?_)
    refine lv_iload hx hb dX1_carryOut_33 (lv_at hl 3 rfl) ?_
    refine lv_iconst (v := 2) hx hb dX1_carryOut_35 (by decide) ?_
    refine lv_icmp_lt (tgt := 58) hx hb dX1_carryOut_36 (by decide) (fun e_90 => ?_) (fun e_90 => ?_)
    · skip
      exact absurd e_90 (by decide)
    refine lv_iload hx hb dX1_carryOut_39 (lv_at hl 3 rfl) ?_
    refine lv_bipush (v := 8) hx hb dX1_carryOut_41 (by decide) ?_
    refine lv_icmp_eq (tgt := 58) hx hb dX1_carryOut_43 (by decide) (fun e_91 => ?_) (fun e_91 => ?_)
    · skip
      exact absurd e_91 (by decide)
    refine lv_aload_n hx hb dX1_carryOut_46 rfl (lv_at hl 4 rfl) ?_
    refine va_get (D := (dC, dI)) (ci := 1) (v := .ref (ad 5)) (C := RX1) (T := TX1) (N := 7) hx hb hts in_X1 hown hK hP 0 rfl rfl 5 (by decide) (hts _ q180) (fun _ h9 => h9) rfl dX1_carryOut_47 ?_
    refine lv_iload hx hb dX1_carryOut_50 (lv_at hl 1 rfl) ?_
    refine lv_iconst (v := 3) hx hb dX1_carryOut_52 (by decide) ?_
    refine lv_iand hx hb dX1_carryOut_53 ?_
    refine sx_topE (y := nI (ix (P.2.2.1 i))) (by rw [← gB.1]; exact (sm_and3 gB).trans gB.1.symm) ?_
    refine sx_iald (j := (ix (P.2.2.1 i))) hx hb hK hP 5 0 rfl rfl (rfl) (by omega) (by decide) dX1_carryOut_54 ?_
    refine lv_goto (tgt := 59) hx hb dX1_carryOut_55 (by decide) ?_
    refine lv_istore (lv' := [(8, .int (v (ix (P.2.2.1 i)))), (7, .int (v (ix (P.2.1 i)))), (6, .int (nI (ix (P.2.2.1 i)))), (5, .int (nI (ix (P.2.1 i)))), (4, .int 9), (0, .ref (ad 0)), (1, .int (nI i)), (2, .int (nI d)), (3, .int (nI pv))]) hx hb dX1_carryOut_59 hl (by decide) rfl (fun ls hl => ?_)
    refine lv_iload hx hb dX1_carryOut_61 (lv_at hl 4 rfl) ?_
    refine lv_if_ne (tgt := 80) hx hb dX1_carryOut_63 (by decide) (fun e_92 => ?_) (fun e_92 => ?_)
    rotate_left
    · skip
      exact absurd e_92 (by decide)
    refine lv_iload hx hb dX1_carryOut_80 (lv_at hl 4 rfl) ?_
    refine lv_iconst (v := 1) hx hb dX1_carryOut_82 (by decide) ?_
    refine lv_icmp_ne (tgt := 98) hx hb dX1_carryOut_83 (by decide) (fun e_93 => ?_) (fun e_93 => ?_)
    rotate_left
    · skip
      exact absurd e_93 (by decide)
    refine lv_iload hx hb dX1_carryOut_98 (lv_at hl 4 rfl) ?_
    refine lv_iconst (v := 2) hx hb dX1_carryOut_100 (by decide) ?_
    refine lv_icmp_ne (tgt := 119) hx hb dX1_carryOut_101 (by decide) (fun e_94 => ?_) (fun e_94 => ?_)
    rotate_left
    · skip
      exact absurd e_94 (by decide)
    refine lv_iload hx hb dX1_carryOut_119 (lv_at hl 4 rfl) ?_
    refine lv_iconst (v := 3) hx hb dX1_carryOut_121 (by decide) ?_
    refine lv_icmp_ne (tgt := 140) hx hb dX1_carryOut_122 (by decide) (fun e_95 => ?_) (fun e_95 => ?_)
    rotate_left
    · skip
      exact absurd e_95 (by decide)
    refine lv_iload hx hb dX1_carryOut_140 (lv_at hl 4 rfl) ?_
    refine lv_iconst (v := 4) hx hb dX1_carryOut_142 (by decide) ?_
    refine lv_icmp_ne (tgt := 167) hx hb dX1_carryOut_143 (by decide) (fun e_96 => ?_) (fun e_96 => ?_)
    rotate_left
    · skip
      exact absurd e_96 (by decide)
    refine lv_iload hx hb dX1_carryOut_167 (lv_at hl 4 rfl) ?_
    refine lv_bipush (v := 9) hx hb dX1_carryOut_169 (by decide) ?_
    refine lv_icmp_ne (tgt := 200) hx hb dX1_carryOut_171 (by decide) (fun e_97 => ?_) (fun e_97 => ?_)
    · skip
      exact absurd e_97 (by decide)
    refine lv_iload_n hx hb dX1_carryOut_174 rfl (lv_at hl 7 rfl) ?_
    refine lv_if_ne (tgt := 183) hx hb dX1_carryOut_175 (by decide) (fun c_d => ?_) (fun c_d => ?_)
    · skip
      have h0 : ¬ d = 0 := fun h => c_d (by rw [h]; rfl)
      refine lv_iload hx hb dX1_carryOut_183 (lv_at hl 2 rfl) ?_
      refine lv_iconst (v := 3) hx hb dX1_carryOut_185 (by decide) ?_
      refine lv_iand hx hb dX1_carryOut_186 ?_
      refine sx_topE (y := nI (ix (P.2.2.1 i))) (by rw [← gB.1]; exact (sm_and3 gB).trans gB.1.symm) ?_
      refine lv_istore (lv' := [(9, .int (nI (ix (P.2.2.1 i)))), (8, .int (v (ix (P.2.2.1 i)))), (7, .int (v (ix (P.2.1 i)))), (6, .int (nI (ix (P.2.2.1 i)))), (5, .int (nI (ix (P.2.1 i)))), (4, .int 9), (0, .ref (ad 0)), (1, .int (nI i)), (2, .int (nI d)), (3, .int (nI pv))]) hx hb dX1_carryOut_187 hl (by decide) rfl (fun ls hl => ?_)
      refine lv_aload_n hx hb dX1_carryOut_189 rfl (lv_at hl 6 rfl) ?_
      refine va_get (D := (dC, dI)) (ci := 1) (v := .ref (ad 5)) (C := RX1) (T := TX1) (N := 7) hx hb hts in_X1 hown hK hP 0 rfl rfl 5 (by decide) (hts _ q180) (fun _ h9 => h9) rfl dX1_carryOut_190 ?_
      refine lv_iload hx hb dX1_carryOut_193 (lv_at hl 0 rfl) ?_
      refine lv_dup2_11 hx hb dX1_carryOut_195 rfl rfl ?_
      refine sx_iald (j := (ix (P.2.2.1 i))) hx hb hK hP 5 0 rfl rfl (rfl) (by omega) (by decide) dX1_carryOut_196 ?_
      refine lv_iconst (v := 1) hx hb dX1_carryOut_197 (by decide) ?_
      refine lv_iadd hx hb dX1_carryOut_198 ?_
      refine sx_iast (j := (ix (P.2.2.1 i))) hx hb hK hP hD hS 5 0 rfl rfl (rfl) (by omega) (by decide) dX1_carryOut_199 (fun H locs hP hD hS => ?_)
      have hP : va_P (dC, dI) vwCl (yW ad cI P n (upd v (ix (P.2.2.1 i)) ((v (ix (P.2.2.1 i))) + 1)) F) H := hP
      have hD : va_D A (yW ad cI P n (upd v (ix (P.2.2.1 i)) ((v (ix (P.2.2.1 i))) + 1)) F) := hD
      refine lv_iload hx hb dX1_carryOut_200 (lv_at hl 5 rfl) ?_
      refine lv_bipush (v := 8) hx hb dX1_carryOut_202 (by decide) ?_
      refine lv_icmp_ne (tgt := 248) hx hb dX1_carryOut_204 (by decide) (fun e_98 => ?_) (fun e_98 => ?_)
      rotate_left
      · skip
        exact absurd e_98 (by decide)
      refine lv_iload hx hb dX1_carryOut_248 (lv_at hl 5 rfl) ?_
      refine lv_iconst (v := 5) hx hb dX1_carryOut_250 (by decide) ?_
      refine lv_icmp_ne (tgt := 269) hx hb dX1_carryOut_251 (by decide) (fun e_99 => ?_) (fun e_99 => ?_)
      rotate_left
      · skip
        exact absurd e_99 (by decide)
      refine lv_iload hx hb dX1_carryOut_269 (lv_at hl 5 rfl) ?_
      refine lv_bipush (v := 6) hx hb dX1_carryOut_271 (by decide) ?_
      refine lv_icmp_ne (tgt := 291) hx hb dX1_carryOut_273 (by decide) (fun e_100 => ?_) (fun e_100 => ?_)
      rotate_left
      · skip
        exact absurd e_100 (by decide)
      refine lv_iload hx hb dX1_carryOut_291 (lv_at hl 5 rfl) ?_
      refine lv_bipush (v := 7) hx hb dX1_carryOut_293 (by decide) ?_
      refine lv_icmp_ne (tgt := 305) hx hb dX1_carryOut_295 (by decide) (fun e_101 => ?_) (fun e_101 => ?_)
      rotate_left
      · skip
        exact absurd e_101 (by decide)
      refine lv_iconst (v := 1) hx hb dX1_carryOut_305 (by decide) ?_
      refine lv_goto (tgt := 310) hx hb dX1_carryOut_306 (by decide) ?_
      have hok : sm_ok P i v = true := sm_ok_o (by rw [hk]; decide) (by rw [hk]; decide) (by rw [hk]; decide) v
      exact sx_zret hx hb hr hlocks (Or.inr rfl) hK (upd v (ix (P.2.2.1 i)) ((v (ix (P.2.2.1 i))) + 1), F) (Or.inr ⟨h8, by rw [sm_ap_9 hk, if_neg h0], by rw [if_pos hok]⟩) hP hD hS dX1_carryOut_310
    · skip
      have h0 : d = 0 := (nI_eq (b := 0) (by omega) (by decide)).mp c_d
      refine lv_iload hx hb dX1_carryOut_178 (lv_at hl 3 rfl) ?_
      refine lv_goto (tgt := 187) hx hb dX1_carryOut_180 (by decide) ?_
      refine lv_istore (lv' := [(9, .int (nI (ix (P.2.1 i)))), (8, .int (v (ix (P.2.2.1 i)))), (7, .int (v (ix (P.2.1 i)))), (6, .int (nI (ix (P.2.2.1 i)))), (5, .int (nI (ix (P.2.1 i)))), (4, .int 9), (0, .ref (ad 0)), (1, .int (nI i)), (2, .int (nI d)), (3, .int (nI pv))]) hx hb dX1_carryOut_187 hl (by decide) rfl (fun ls hl => ?_)
      refine lv_aload_n hx hb dX1_carryOut_189 rfl (lv_at hl 6 rfl) ?_
      refine va_get (D := (dC, dI)) (ci := 1) (v := .ref (ad 5)) (C := RX1) (T := TX1) (N := 7) hx hb hts in_X1 hown hK hP 0 rfl rfl 5 (by decide) (hts _ q180) (fun _ h9 => h9) rfl dX1_carryOut_190 ?_
      refine lv_iload hx hb dX1_carryOut_193 (lv_at hl 0 rfl) ?_
      refine lv_dup2_11 hx hb dX1_carryOut_195 rfl rfl ?_
      refine sx_iald (j := (ix (P.2.1 i))) hx hb hK hP 5 0 rfl rfl (rfl) (by omega) (by decide) dX1_carryOut_196 ?_
      refine lv_iconst (v := 1) hx hb dX1_carryOut_197 (by decide) ?_
      refine lv_iadd hx hb dX1_carryOut_198 ?_
      refine sx_iast (j := (ix (P.2.1 i))) hx hb hK hP hD hS 5 0 rfl rfl (rfl) (by omega) (by decide) dX1_carryOut_199 (fun H locs hP hD hS => ?_)
      have hP : va_P (dC, dI) vwCl (yW ad cI P n (upd v (ix (P.2.1 i)) ((v (ix (P.2.1 i))) + 1)) F) H := hP
      have hD : va_D A (yW ad cI P n (upd v (ix (P.2.1 i)) ((v (ix (P.2.1 i))) + 1)) F) := hD
      refine lv_iload hx hb dX1_carryOut_200 (lv_at hl 5 rfl) ?_
      refine lv_bipush (v := 8) hx hb dX1_carryOut_202 (by decide) ?_
      refine lv_icmp_ne (tgt := 248) hx hb dX1_carryOut_204 (by decide) (fun e_102 => ?_) (fun e_102 => ?_)
      rotate_left
      · skip
        exact absurd e_102 (by decide)
      refine lv_iload hx hb dX1_carryOut_248 (lv_at hl 5 rfl) ?_
      refine lv_iconst (v := 5) hx hb dX1_carryOut_250 (by decide) ?_
      refine lv_icmp_ne (tgt := 269) hx hb dX1_carryOut_251 (by decide) (fun e_103 => ?_) (fun e_103 => ?_)
      rotate_left
      · skip
        exact absurd e_103 (by decide)
      refine lv_iload hx hb dX1_carryOut_269 (lv_at hl 5 rfl) ?_
      refine lv_bipush (v := 6) hx hb dX1_carryOut_271 (by decide) ?_
      refine lv_icmp_ne (tgt := 291) hx hb dX1_carryOut_273 (by decide) (fun e_104 => ?_) (fun e_104 => ?_)
      rotate_left
      · skip
        exact absurd e_104 (by decide)
      refine lv_iload hx hb dX1_carryOut_291 (lv_at hl 5 rfl) ?_
      refine lv_bipush (v := 7) hx hb dX1_carryOut_293 (by decide) ?_
      refine lv_icmp_ne (tgt := 305) hx hb dX1_carryOut_295 (by decide) (fun e_105 => ?_) (fun e_105 => ?_)
      rotate_left
      · skip
        exact absurd e_105 (by decide)
      refine lv_iconst (v := 1) hx hb dX1_carryOut_305 (by decide) ?_
      refine lv_goto (tgt := 310) hx hb dX1_carryOut_306 (by decide) ?_
      have hok : sm_ok P i v = true := sm_ok_o (by rw [hk]; decide) (by rw [hk]; decide) (by rw [hk]; decide) v
      exact sx_zret hx hb hr hlocks (Or.inr rfl) hK (upd v (ix (P.2.1 i)) ((v (ix (P.2.1 i))) + 1), F) (Or.inr ⟨h8, by rw [sm_ap_9 hk, if_pos h0], by rw [if_pos hok]⟩) hP hD hS dX1_carryOut_310
/-- what a run answers -/
def sm_pR (R : Bool × Vs × Vs) (r : Int32) (u : Vs × Vs) : Prop := u = R.2 ∧ r = (if R.1 = true then 1 else 0)
theorem sm_pR_01 {R : Bool × Vs × Vs} {r : Int32} {u : Vs × Vs} (h : sm_pR R r u) : r = 0 ∨ r = 1 := by
  rw [h.2]
  by_cases q : R.1 = true
  · rw [if_pos q]; exact Or.inr rfl
  · rw [if_neg q]; exact Or.inl rfl
theorem sm_pr_pos (P : Pg) : ∀ (j f i : Nat), 0 < sm_pr P (f + j) i → 0 < sm_pr P f (i + j) := by
  intro j
  induction j with
  | zero => intro f i h; exact h
  | succ j ih =>
    intro f i h
    rw [show f + (j + 1) = (f + j) + 1 by omega, sm_pr] at h
    have := ih f (i + 1) (Nat.pos_of_mul_pos_left h)
    rwa [show i + 1 + j = i + (j + 1) by omega] at this
theorem sm_pr_at {P : Pg} {k i : Nat} (h : 0 < sm_pr P k 0) (hi : i ≤ k) : 0 < sm_pr P (k - i) i := by
  have := sm_pr_pos P i (k - i) 0 (by rw [show k - i + i = k by omega]; exact h)
  rwa [Nat.zero_add] at this
theorem sm_op_at {P : Pg} {k i : Nat} (h : 0 < sm_pr P k 0) (hi : i < k) : 0 < sm_op P i := by
  have := sm_pr_at h (Nat.le_of_lt hi)
  rw [sm_fuel hi, sm_pr] at this
  exact Nat.pos_of_mul_pos_right this
/-- the loop of run -/
def sm_RI (P : Pg) (code k : Nat) (R : Bool × Vs × Vs) (x : Int32 × Nat × Vs × Vs) : Prop := x.2.1 ≤ k ∧ ((x.1 = 1 ∧ sm_mr P code (k - x.2.1) x.2.1 x.2.2.1 x.2.2.2 = R) ∨ (x.1 = 0 ∧ R = (false, x.2.2)))
theorem sm_mr_8 {P : Pg} {code f i : Nat} {v F : Vs} (h8 : P.1 i = 8) (q : (if F i < 0 then nI (code / sm_pr P f (i + 1)) else F i) = nI (code / sm_pr P f (i + 1))) : sm_mr P code (f + 1) i v F = sm_mr P code f (i + 1) v (upd F i (if F i < 0 then nI (code / sm_pr P f (i + 1)) else F i)) := by
  rw [sm_mr, if_pos h8, if_pos q]
theorem sm_mr_8n {P : Pg} {code f i : Nat} {v F : Vs} (h8 : P.1 i = 8) (q : ¬ (if F i < 0 then nI (code / sm_pr P f (i + 1)) else F i) = nI (code / sm_pr P f (i + 1))) : sm_mr P code (f + 1) i v F = (false, v, upd F i (if F i < 0 then nI (code / sm_pr P f (i + 1)) else F i)) := by
  rw [sm_mr, if_pos h8, if_neg q]
theorem sm_mr_go {P : Pg} {code f i : Nat} {v F : Vs} (h8 : ¬ P.1 i = 8) (q : sm_ok P i v = true) : sm_mr P code (f + 1) i v F = sm_mr P code f (i + 1) (sm_ap P i (code / sm_pr P f (i + 1) % sm_op P i) v) F := by
  rw [sm_mr, if_neg h8, if_pos q]
theorem sm_mr_no {P : Pg} {code f i : Nat} {v F : Vs} (h8 : ¬ P.1 i = 8) (q : ¬ sm_ok P i v = true) : sm_mr P code (f + 1) i v F = (false, sm_ap P i (code / sm_pr P f (i + 1) % sm_op P i) v, F) := by
  rw [sm_mr, if_neg h8, if_neg q]
/-- one turn of the loop -/
theorem sm_RI_next {P : Pg} {code k i : Nat} {R : Bool × Vs × Vs} {v F : Vs} {r : Int32} {u : Vs × Vs} (hi : i < k) (h : sm_mr P code (k - i) i v F = R) (hu : sm_pO P i (code / sm_pr P (k - (i + 1)) (i + 1) % sm_op P i) (code / sm_pr P (k - (i + 1)) (i + 1)) v F r u) : sm_RI P code k R (r, i + 1, u) := by
  refine ⟨hi, ?_⟩
  rw [sm_fuel hi] at h
  rcases hu with ⟨h8, rfl, hr⟩ | ⟨h8, rfl, hr⟩
  · by_cases q : (if F i < 0 then nI (code / sm_pr P (k - (i + 1)) (i + 1)) else F i) = nI (code / sm_pr P (k - (i + 1)) (i + 1))
    · rw [if_pos q] at hr
      rw [sm_mr_8 h8 q] at h
      exact Or.inl ⟨hr, h⟩
    · rw [if_neg q] at hr
      rw [sm_mr_8n h8 q] at h
      exact Or.inr ⟨hr, h.symm⟩
  · by_cases q : sm_ok P i v = true
    · rw [if_pos q] at hr
      rw [sm_mr_go h8 q] at h
      exact Or.inl ⟨hr, h⟩
    · rw [if_neg q] at hr
      rw [sm_mr_no h8 q] at h
      exact Or.inr ⟨hr, h.symm⟩
set_option maxHeartbeats 4000000 in
set_option maxRecDepth 100000 in
theorem cy_run (l : Launch) (dC : Nat → ClassId) (dI : Nat → Nat → Nat) (ad : Nat → Nat) (cI : ClassId) (P : Pg) (n : Nat) (v F : Vs) (code k : Nat) (hc31 : code < 2 ^ 31) (hkn : k ≤ n) (hn : n ≤ 14) (hV : sm_va P n) (hpos : 0 < sm_pr P k 0) (hp31 : ∀ i, i ≤ k → sm_pr P (k - i) i < 2 ^ 31) : MetI l (dC, dI) vwCl (tyY cI) yX1_run (ws_ yX1_run cX1_run 9 (some .boolean)) ({ frames := 2, cells := 0, slots := 0, locals := 45 }) [.ref (ad 0), .int (nI code), .int (nI k)] (yW ad cI P n v F) (fun u : Vs × Vs => yW ad cI P n u.1 u.2) (sm_pR (sm_mr P code k 0 sm_z F)) := by
  refine MetI.of (by decide) (Nat.le_of_ble_eq_true rfl) ?_
  intro p e s m below meth c ls A hx hb hr hml hlocks hts hown hA hP hK hD hS hl
  have hown : s.vm.findClass RX1 = some m.cls := hown
  have hl : lv_has ls 9 [(0, .ref (ad 0)), (1, .int (nI code)), (2, .int (nI k))] := hl
  refine lv_iconst (v := 0) hx hb dX1_run_0 (by decide) ?_
  refine lv_istore_n (lv' := [(3, .int 0), (0, .ref (ad 0)), (1, .int (nI code)), (2, .int (nI k))]) hx hb dX1_run_1 rfl hl (by decide) rfl (fun ls hl => ?_)
  refine sx_loop (σ := Nat × Vs) (w := fun x => yW ad cI P n x.2 F) (lv := fun x => [(3, .int (nI x.1)), (0, .ref (ad 0)), (1, .int (nI code)), (2, .int (nI k))]) (I := fun x => x.1 ≤ 4 ∧ ∀ j, j < x.1 → x.2 j = 0) (μ := fun x => 4 - x.1) ?_ (0, v) ⟨Nat.zero_le _, fun j hj => absurd hj (Nat.not_lt_zero _)⟩ hP hD hS hl
  intro x hI ih H locs hP hD hS ls hl
  obtain ⟨i, v⟩ := x
  obtain ⟨hi, hz⟩ := hI
  have hi : i ≤ 4 := hi
  have hz : ∀ j, j < i → v j = 0 := hz
  have hl : lv_has ls 9 [(3, .int (nI i)), (0, .ref (ad 0)), (1, .int (nI code)), (2, .int (nI k))] := hl
  have hP : va_P (dC, dI) vwCl (yW ad cI P n v F) H := hP
  have hD : va_D A (yW ad cI P n v F) := hD
  refine lv_iload_n hx hb dX1_run_2 rfl (lv_at hl 0 rfl) ?_
  refine lv_iconst (v := 4) hx hb dX1_run_3 (by decide) ?_
  refine lv_icmp_ge (tgt := 20) hx hb dX1_run_4 (by decide) (fun c_1 => ?_) (fun c_1 => ?_)
  · skip
    have h4 : 4 ≤ i := (nI_leI (a := 4) (by decide) (by omega)).mp c_1
    have hP : va_P (dC, dI) vwCl (yW ad cI P n sm_z F) H := hP.set (p := 5) (e := .inl (cI, 4, .inl sm_z)) hD rfl (by show H[ad 5]? = some (vp_cell cI (4, .inl sm_z)); rw [← sx_ext (f := v) (g := sm_z) (fun j hj => hz j (by omega))]; exact hP 5 _ rfl) (fun _ _ => rfl)
    have hD : va_D A (yW ad cI P n sm_z F) := hD.set (p := 5) (e := .inl (cI, 4, .inl sm_z)) rfl
    clear ih hz hi h4 c_1
    refine lv_iconst (v := 1) hx hb dX1_run_20 (by decide) ?_
    refine lv_istore_n (lv' := [(3, .int 1), (0, .ref (ad 0)), (1, .int (nI code)), (2, .int (nI k))]) hx hb dX1_run_21 rfl hl (by decide) rfl (fun ls hl => ?_)
    refine lv_iconst (v := 0) hx hb dX1_run_22 (by decide) ?_
    refine lv_istore (lv' := [(4, .int 0), (3, .int 1), (0, .ref (ad 0)), (1, .int (nI code)), (2, .int (nI k))]) hx hb dX1_run_23 hl (by decide) rfl (fun ls hl => ?_)
    refine sx_loop (σ := Int32 × Nat × Vs × Vs) (w := fun x => yW ad cI P n x.2.2.1 x.2.2.2) (lv := fun x => [(4, .int (nI x.2.1)), (3, .int x.1), (0, .ref (ad 0)), (1, .int (nI code)), (2, .int (nI k))]) (I := sm_RI P code k (sm_mr P code k 0 sm_z F)) (μ := fun x => k - x.2.1) ?_ (1, 0, sm_z, F) ⟨Nat.zero_le _, Or.inl ⟨rfl, rfl⟩⟩ hP hD hS (lv_sub hl [0, 1, 2, 3, 4] rfl)
    generalize hRe : sm_mr P code k 0 sm_z F = RR
    intro x hI ih H locs hP hD hS ls hl
    obtain ⟨g, i, v1, F1⟩ := x
    obtain ⟨hi, hI⟩ := hI
    have hi : i ≤ k := hi
    have hI : (g = 1 ∧ sm_mr P code (k - i) i v1 F1 = RR) ∨ (g = 0 ∧ RR = (false, v1, F1)) := hI
    have hg01 : g = 0 ∨ g = 1 := by
      rcases hI with q | q
      · exact Or.inr q.1
      · exact Or.inl q.1
    have hl : lv_has ls 9 [(4, .int (nI i)), (3, .int g), (0, .ref (ad 0)), (1, .int (nI code)), (2, .int (nI k))] := hl
    have hP : va_P (dC, dI) vwCl (yW ad cI P n v1 F1) H := hP
    have hD : va_D A (yW ad cI P n v1 F1) := hD
    refine lv_iload hx hb dX1_run_25 (lv_at hl 0 rfl) ?_
    refine lv_iload_n hx hb dX1_run_27 rfl (lv_at hl 4 rfl) ?_
    refine lv_icmp_ge (tgt := 102) hx hb dX1_run_28 (by decide) (fun c_2 => ?_) (fun c_2 => ?_)
    · skip
      have hik : i = k := Nat.le_antisymm hi ((nI_leI (by omega) (by omega)).mp c_2)
      have hres : sm_pR RR g (v1, F1) := by
        rcases hI with ⟨q1, q2⟩ | ⟨q1, q2⟩
        · rw [hik, Nat.sub_self] at q2
          rw [← q2, q1]
          exact ⟨rfl, rfl⟩
        · rw [q2, q1]
          exact ⟨rfl, rfl⟩
      refine lv_iload_n hx hb dX1_run_102 rfl (lv_at hl 1 rfl) ?_
      exact sx_zret hx hb hr hlocks hg01 hK (v1, F1) (hres) hP hD hS dX1_run_103
    · skip
      have hik : i < k := Nat.lt_of_not_le (fun h => c_2 ((nI_leI (by omega) (by omega)).mpr h))
      refine lv_iload_n hx hb dX1_run_31 rfl (lv_at hl 1 rfl) ?_
      refine lv_if_eq (tgt := 102) hx hb dX1_run_32 (by decide) (fun c_3 => ?_) (fun c_3 => ?_)
      · skip
        have hres : sm_pR RR g (v1, F1) := by
          rcases hI with ⟨q1, q2⟩ | ⟨q1, q2⟩
          · exact absurd (q1.symm.trans c_3) (by decide)
          · rw [q2, q1]
            exact ⟨rfl, rfl⟩
        refine lv_iload_n hx hb dX1_run_102 rfl (lv_at hl 1 rfl) ?_
        exact sx_zret hx hb hr hlocks hg01 hK (v1, F1) (hres) hP hD hS dX1_run_103
      · skip
        have hI : sm_mr P code (k - i) i v1 F1 = RR := by
          rcases hI with ⟨q1, q2⟩ | ⟨q1, q2⟩
          · exact q2
          · exact absurd q1 c_3
        have hq0 : 0 < sm_pr P (k - (i + 1)) (i + 1) := sm_pr_at hpos hik
        have hq31 : sm_pr P (k - (i + 1)) (i + 1) < 2 ^ 31 := hp31 (i + 1) hik
        have ho0 : 0 < sm_op P i := sm_op_at hpos hik
        have ho13 : sm_op P i ≤ 13 := hV.bd i (by omega)
        have hB31 : code / sm_pr P (k - (i + 1)) (i + 1) < 2 ^ 31 := Nat.lt_of_le_of_lt (Nat.div_le_self _ _) hc31
        have hd13 : code / sm_pr P (k - (i + 1)) (i + 1) % sm_op P i ≤ 13 := by
          have := Nat.mod_lt (code / sm_pr P (k - (i + 1)) (i + 1)) ho0
          omega
        refine lv_aload_n hx hb dX1_run_35 rfl (lv_at hl 2 rfl) ?_
        refine lv_iload hx hb dX1_run_36 (lv_at hl 0 rfl) ?_
        refine lv_iconst (v := 1) hx hb dX1_run_38 (by decide) ?_
        refine lv_iadd hx hb dX1_run_39 ?_
        refine sx_topE (y := nI (i + 1)) (nI_1 _) ?_
        refine lv_iload_n hx hb dX1_run_40 rfl (lv_at hl 4 rfl) ?_
        refine sx_callR (ci := 1) (As := [.int (nI (i + 1)), .int (nI k)]) (rest := []) ⟨hx, hb, hml, hown, hts⟩ (cy_between l dC dI ad cI P n v1 F1 (i + 1) k hik hkn hn hV) (cwV 2 hts (lw_V q237 q239 qs16 q22 q240) rfl rfl rfl (by decide +kernel) ⟨Nat.le_of_ble_eq_true rfl, Nat.le_of_ble_eq_true rfl⟩) hK hP rfl rfl rfl hl.1 rfl (Nat.le_of_ble_eq_true rfl) ⟨Nat.zero_le _, Nat.zero_le _⟩ dX1_run_41 ?_
        refine lv_istore (lv' := [(5, .int (nI (sm_pr P (k - (i + 1)) (i + 1)))), (4, .int (nI i)), (3, .int g), (0, .ref (ad 0)), (1, .int (nI code)), (2, .int (nI k))]) hx hb dX1_run_44 hl (by decide) rfl (fun ls hl => ?_)
        refine lv_aload_n hx hb dX1_run_46 rfl (lv_at hl 3 rfl) ?_
        refine lv_iload hx hb dX1_run_47 (lv_at hl 1 rfl) ?_
        refine sx_callR (ci := 1) (As := [.int (nI i)]) (rest := []) ⟨hx, hb, hml, hown, hts⟩ (cy_options l dC dI ad cI P n v1 F1 i (by omega) hn hV) (cwV 1 hts (lw_V q241 q243 qs17 q22 q244) rfl rfl rfl (by decide +kernel) ⟨Nat.le_of_ble_eq_true rfl, Nat.le_of_ble_eq_true rfl⟩) hK hP rfl rfl rfl hl.1 rfl (Nat.le_of_ble_eq_true rfl) ⟨Nat.zero_le _, Nat.zero_le _⟩ dX1_run_49 ?_
        refine lv_istore (lv' := [(6, .int (nI (sm_op P i))), (5, .int (nI (sm_pr P (k - (i + 1)) (i + 1)))), (4, .int (nI i)), (3, .int g), (0, .ref (ad 0)), (1, .int (nI code)), (2, .int (nI k))]) hx hb dX1_run_52 hl (by decide) rfl (fun ls hl => ?_)
        refine lv_iload hx hb dX1_run_54 (lv_at hl 1 rfl) ?_
        refine lv_if_le (tgt := 66) hx hb dX1_run_56 (by decide) (fun c_4 => ?_) (fun c_4 => ?_)
        · skip
          exact absurd c_4 (nI_nle hq0 hq31)
        refine lv_iload_n hx hb dX1_run_59 rfl (lv_at hl 5 rfl) ?_
        refine lv_iload hx hb dX1_run_60 (lv_at hl 1 rfl) ?_
        refine lv_idiv hx hb dX1_run_62 (nI_ne0 hq0 hq31) ?_
        refine sx_topE (y := nI (code / sm_pr P (k - (i + 1)) (i + 1))) (pk_div hc31 hq0 hq31) ?_
        refine lv_goto (tgt := 67) hx hb dX1_run_63 (by decide) ?_
        refine lv_istore (lv' := [(7, .int (nI (code / sm_pr P (k - (i + 1)) (i + 1)))), (6, .int (nI (sm_op P i))), (5, .int (nI (sm_pr P (k - (i + 1)) (i + 1)))), (4, .int (nI i)), (3, .int g), (0, .ref (ad 0)), (1, .int (nI code)), (2, .int (nI k))]) hx hb dX1_run_67 hl (by decide) rfl (fun ls hl => ?_)
        refine lv_iload hx hb dX1_run_69 (lv_at hl 1 rfl) ?_
        refine lv_if_le (tgt := 82) hx hb dX1_run_71 (by decide) (fun c_5 => ?_) (fun c_5 => ?_)
        · skip
          exact absurd c_5 (nI_nle ho0 (by omega))
        refine lv_iload hx hb dX1_run_74 (lv_at hl 0 rfl) ?_
        refine lv_iload hx hb dX1_run_76 (lv_at hl 1 rfl) ?_
        refine lv_irem hx hb dX1_run_78 (nI_ne0 ho0 (by omega)) ?_
        refine sx_topE (y := nI (code / sm_pr P (k - (i + 1)) (i + 1) % sm_op P i)) (pk_rem hB31 ho0 (by omega)) ?_
        refine lv_goto (tgt := 83) hx hb dX1_run_79 (by decide) ?_
        refine lv_istore (lv' := [(8, .int (nI (code / sm_pr P (k - (i + 1)) (i + 1) % sm_op P i))), (7, .int (nI (code / sm_pr P (k - (i + 1)) (i + 1)))), (6, .int (nI (sm_op P i))), (5, .int (nI (sm_pr P (k - (i + 1)) (i + 1)))), (4, .int (nI i)), (3, .int g), (0, .ref (ad 0)), (1, .int (nI code)), (2, .int (nI k))]) hx hb dX1_run_83 hl (by decide) rfl (fun ls hl => ?_)
        refine lv_aload_n hx hb dX1_run_85 rfl (lv_at hl 6 rfl) ?_
        refine lv_iload hx hb dX1_run_86 (lv_at hl 4 rfl) ?_
        refine lv_iload hx hb dX1_run_88 (lv_at hl 0 rfl) ?_
        refine lv_iload hx hb dX1_run_90 (lv_at hl 1 rfl) ?_
        refine sx_callI (ci := 1) (As := [.int (nI i), .int (nI (code / sm_pr P (k - (i + 1)) (i + 1) % sm_op P i)), .int (nI (code / sm_pr P (k - (i + 1)) (i + 1)))]) (rest := []) ⟨hx, hb, hml, hown, hts⟩ (cy_carryOut l dC dI ad cI P n v1 F1 i (code / sm_pr P (k - (i + 1)) (i + 1) % sm_op P i) (code / sm_pr P (k - (i + 1)) (i + 1)) (by omega) hn hV hd13) (cwV 3 hts (lw_V q249 q251 qs19 q22 q252) rfl rfl rfl (by decide +kernel) ⟨Nat.le_of_ble_eq_true rfl, Nat.le_of_ble_eq_true rfl⟩) hK hP hD hS hA rfl rfl rfl hl.1 rfl (Nat.le_of_ble_eq_true rfl) ⟨Nat.zero_le _, Nat.zero_le _⟩ dX1_run_92 (fun r u H locs hw_ hP hD hS => ?_)
        refine lv_istore_n (lv' := [(3, .int r), (8, .int (nI (code / sm_pr P (k - (i + 1)) (i + 1) % sm_op P i))), (7, .int (nI (code / sm_pr P (k - (i + 1)) (i + 1)))), (6, .int (nI (sm_op P i))), (5, .int (nI (sm_pr P (k - (i + 1)) (i + 1)))), (4, .int (nI i)), (0, .ref (ad 0)), (1, .int (nI code)), (2, .int (nI k))]) hx hb dX1_run_95 rfl hl (by decide) rfl (fun ls hl => ?_)
        refine lv_iinc (v := nI (i + 1)) (lv' := [(4, .int (nI (i + 1))), (3, .int r), (8, .int (nI (code / sm_pr P (k - (i + 1)) (i + 1) % sm_op P i))), (7, .int (nI (code / sm_pr P (k - (i + 1)) (i + 1)))), (6, .int (nI (sm_op P i))), (5, .int (nI (sm_pr P (k - (i + 1)) (i + 1)))), (0, .ref (ad 0)), (1, .int (nI code)), (2, .int (nI k))]) hx hb dX1_run_96 hl (k := 5) rfl (nI_1 _) (by decide) rfl (fun ls hl => ?_)
        refine lv_goto (tgt := 25) hx hb dX1_run_99 (by decide) ?_
        exact ih (r, i + 1, u) (sm_RI_next hik hI hw_) (by show k - (i + 1) < k - i; omega) H locs hP hD hS ls (lv_sub hl [0, 1, 6, 7, 8] rfl)
  · skip
    have h4 : i < 4 := Nat.lt_of_not_le (fun h => c_1 ((nI_leI (a := 4) (by decide) (by omega)).mpr h))
    refine lv_aload_n hx hb dX1_run_7 rfl (lv_at hl 1 rfl) ?_
    refine va_get (D := (dC, dI)) (ci := 1) (v := .ref (ad 5)) (C := RX1) (T := TX1) (N := 7) hx hb hts in_X1 hown hK hP 0 rfl rfl 5 (by decide) (hts _ q180) (fun _ h9 => h9) rfl dX1_run_8 ?_
    refine lv_iload_n hx hb dX1_run_11 rfl (lv_at hl 0 rfl) ?_
    refine lv_iconst (v := 0) hx hb dX1_run_12 (by decide) ?_
    refine sx_iast (j := i) hx hb hK hP hD hS 5 0 rfl rfl (rfl) (by omega) (by decide) dX1_run_13 (fun H locs hP hD hS => ?_)
    have hP : va_P (dC, dI) vwCl (yW ad cI P n (upd v i 0) F) H := hP
    have hD : va_D A (yW ad cI P n (upd v i 0) F) := hD
    refine lv_iinc (v := nI (i + 1)) (lv' := [(3, .int (nI (i + 1))), (0, .ref (ad 0)), (1, .int (nI code)), (2, .int (nI k))]) hx hb dX1_run_14 hl (k := 0) rfl (nI_1 _) (by decide) rfl (fun ls hl => ?_)
    refine lv_goto (tgt := 2) hx hb dX1_run_17 (by decide) ?_
    exact ih (i + 1, upd v i 0) ⟨h4, fun j hj => by by_cases he : j = i; (rw [he]; exact pk_us); (rw [show (i + 1, upd v i 0).2 j = v j from pk_un he]; exact hz j (by have : j < i + 1 := hj; omega))⟩ (by show 4 - (i + 1) < 4 - i; omega) H locs hP hD hS ls (lv_sub hl [0, 1, 2, 3] rfl)
end
section
/-! THE REFERENCE: its queries, as answers about the list of the search -/
/-- the answers that the codes from c on give -/
def sm_M (P : Pg) (n c : Nat) (F : Vs) : List Vs := (sm_ml P n (sm_pr P n 0 - c) c F).1
theorem sm_M_end {P : Pg} {n c : Nat} (h : sm_pr P n 0 ≤ c) (F : Vs) : sm_M P n c F = [] := by
  unfold sm_M
  rw [show sm_pr P n 0 - c = 0 by omega]
  rfl
theorem sm_run_yes {P : Pg} {n c : Nat} {F v2 F2 : Vs} {r : Int32} (h : c < sm_pr P n 0) (hw : sm_pR (sm_mr P c n 0 sm_z F) r (v2, F2)) (hr : ¬ r = 0) : sm_M P n c F = v2 :: sm_M P n (c + 1) F2 := by
  obtain ⟨hu, hr2⟩ := hw
  have h1 : (sm_mr P c n 0 sm_z F).1 = true := Classical.byContradiction (fun q => hr (by rw [hr2, if_neg q]))
  unfold sm_M
  rw [sm_fuel h, sm_ml, if_pos h1, ← hu]
theorem sm_run_no {P : Pg} {n c : Nat} {F v2 F2 : Vs} {r : Int32} (h : c < sm_pr P n 0) (hw : sm_pR (sm_mr P c n 0 sm_z F) r (v2, F2)) (hr : r = 0) : sm_M P n c F = sm_M P n (c + 1) F2 := by
  obtain ⟨hu, hr2⟩ := hw
  have h1 : ¬ (sm_mr P c n 0 sm_z F).1 = true := fun q => by
    rw [if_pos q, hr] at hr2
    exact absurd hr2 (by decide)
  unfold sm_M
  rw [sm_fuel h, sm_ml, if_neg h1, ← hu]
theorem sm_pr_all {P : Pg} {k i : Nat} (hV : sm_va P k) (hcb : sm_cb P k ≤ 3) (hi : i ≤ k) : sm_pr P (k - i) i ≤ 2197 := by
  refine Nat.le_trans (sm_pr_le P (k - i) i (by rw [show i + (k - i) = k by omega]; exact hV.bd)) (sm_pow3 ?_)
  have := sm_cc_cb P (k - i) i
  rw [show i + (k - i) = k by omega] at this
  omega
theorem sm_all_le {P : Pg} {k : Nat} (hV : sm_va P k) (hcb : sm_cb P k ≤ 3) : sm_pr P k 0 ≤ 2197 := by
  have := sm_pr_all hV hcb (Nat.zero_le k)
  rwa [Nat.sub_zero] at this
theorem sm_M_0 {P : Pg} {k : Nat} (hV : sm_va P k) (hcb : sm_cb P k ≤ 3) : sm_M P k 0 (fun _ => -1) = sm_L P k := by
  unfold sm_M sm_L
  rw [Nat.sub_zero]
  exact sm_main (by have := sm_all_le hV hcb; omega)
theorem sm_rE_bad {L : List Vs} {w q : Int32} (h0 : ¬ q = 0) (h1 : ¬ q = 1) : sm_rE L w q = -1000000000 := by
  unfold sm_rE
  by_cases hw : sm_iv w = 0
  · rw [if_pos hw]
  · rw [if_neg hw]
    by_cases hq : q < 0
    · rw [if_pos hq]
    · rw [if_neg hq, if_neg]
      obtain ⟨j, hj, rfl⟩ := nI_of hq
      intro h
      have h := (nI_leI (b := 1) hj (by decide)).mp h
      have hj2 : j = 0 ∨ j = 1 := by omega
      rcases hj2 with e | e
      · exact h0 (by rw [e]; rfl)
      · exact h1 (by rw [e]; rfl)
theorem sm_rE_ok {L : List Vs} {w q : Int32} (hw : ¬ sm_iv w = 0) (h : q = 0 ∨ q = 1) : sm_rE L w q = sm_ex (ix w) q L false (-1000000000) := by
  unfold sm_rE
  rw [if_neg hw]
  rcases h with h | h
  · rw [if_neg (by rw [h]; decide), if_pos (by rw [h]; decide)]
  · rw [if_neg (by rw [h]; decide), if_pos (by rw [h]; decide)]
theorem sm_rE_iv {L : List Vs} {w q : Int32} (hw : sm_iv w = 0) : sm_rE L w q = -1000000000 := by
  unfold sm_rE
  rw [if_pos hw]
set_option maxHeartbeats 4000000 in
set_option maxRecDepth 100000 in
theorem cy_ways (l : Launch) (dC : Nat → ClassId) (dI : Nat → Nat → Nat) (ad : Nat → Nat) (cI : ClassId) (P : Pg) (n : Nat) (v F : Vs) (q : Int32) (hn : n ≤ 14) (hV : sm_va P n) (hcb : sm_cb P n ≤ 3) : MetI l (dC, dI) vwCl (tyY cI) yX1_ways (ws_ yX1_ways cX1_ways 5 (some .int)) ({ frames := 3, cells := 0, slots := 0, locals := 73 }) [.ref (ad 0), .int q] (yW ad cI P n v F) (fun u : Vs × Vs => yW ad cI P n u.1 u.2) (fun r _ => r = (if q < 0 then -1 else if q ≤ nI n then nI (sm_L P (ix q)).length else -1)) := by
  refine MetI.of (by decide) (Nat.le_of_ble_eq_true rfl) ?_
  intro p e s m below meth c ls A hx hb hr hml hlocks hts hown hA hP hK hD hS hl
  have hown : s.vm.findClass RX1 = some m.cls := hown
  have hl : lv_has ls 5 [(0, .ref (ad 0)), (1, .int q)] := hl
  refine lv_iload_n hx hb dX1_ways_0 rfl (lv_at hl 1 rfl) ?_
  refine lv_if_lt (tgt := 12) hx hb dX1_ways_1 (by decide) (fun c_1 => ?_) (fun c_1 => ?_)
  · skip
    refine lv_iconst (v := (-1)) hx hb dX1_ways_12 (by decide) ?_
    exact sx_iret hx hb hr hlocks hK (v, F) (by rw [if_pos c_1]) hP hD hS dX1_ways_13
  · skip
    refine lv_iload_n hx hb dX1_ways_4 rfl (lv_at hl 1 rfl) ?_
    refine lv_aload_n hx hb dX1_ways_5 rfl (lv_at hl 0 rfl) ?_
    refine va_get (D := (dC, dI)) (ci := 1) (v := .int (nI n)) (C := RX1) (T := TX1) (N := 7) hx hb hts in_X1 hown hK hP 0 rfl rfl 0 (by decide) (hts _ q175) (fun _ h9 => h9) rfl dX1_ways_6 ?_
    refine lv_icmp_le (tgt := 14) hx hb dX1_ways_9 (by decide) (fun c_2 => ?_) (fun c_2 => ?_)
    · skip
      obtain ⟨k, hk, rfl⟩ := nI_of c_1
      have hkn : k ≤ n := (nI_leI hk (by omega)).mp c_2
      have hVk := hV.mono hkn
      have hcbk : sm_cb P k ≤ 3 := Nat.le_trans (sm_cb_mono P hkn) hcb
      have hall := sm_all_le (P := P) (k := k) hVk hcbk
      have hLn := sm_L_len hVk hcbk
      have hres : (if nI k < 0 then -1 else if nI k ≤ nI n then nI (sm_L P (ix (nI k))).length else -1) = nI (sm_L P k).length := by rw [if_neg c_1, if_pos c_2, show ix (nI k) = k from nI_clamp hk]
      refine lv_aload_n hx hb dX1_ways_14 rfl (lv_at hl 0 rfl) ?_
      refine sx_callV (ci := 1) (As := []) (rest := []) ⟨hx, hb, hml, hown, hts⟩ (cy_begin l dC dI ad cI P n v F) (cwV 0 hts (lw_V q233 q235 qs15 q22 q236) rfl rfl rfl (by decide +kernel) ⟨Nat.le_of_ble_eq_true rfl, Nat.le_of_ble_eq_true rfl⟩) hK hP hD hS hA rfl rfl rfl hl.1 rfl (Nat.le_of_ble_eq_true rfl) ⟨Nat.zero_le _, Nat.zero_le _⟩ dX1_ways_15 (fun u_ H locs hw_ hP hD hS => ?_)
      have hP : va_P (dC, dI) vwCl (yW ad cI P n v (fun _ => -1)) H := hP
      have hD : va_D A (yW ad cI P n v (fun _ => -1)) := hD
      refine lv_aload_n hx hb dX1_ways_18 rfl (lv_at hl 0 rfl) ?_
      refine lv_iconst (v := 0) hx hb dX1_ways_19 (by decide) ?_
      refine lv_iload_n hx hb dX1_ways_20 rfl (lv_at hl 1 rfl) ?_
      refine sx_callR (ci := 1) (As := [.int 0, .int (nI k)]) (rest := []) ⟨hx, hb, hml, hown, hts⟩ (cy_between l dC dI ad cI P n v (fun _ => -1) 0 k (Nat.zero_le _) (hkn) hn hV) (cwV 2 hts (lw_V q237 q239 qs16 q22 q240) rfl rfl rfl (by decide +kernel) ⟨Nat.le_of_ble_eq_true rfl, Nat.le_of_ble_eq_true rfl⟩) hK hP rfl rfl rfl hl.1 rfl (Nat.le_of_ble_eq_true rfl) ⟨Nat.zero_le _, Nat.zero_le _⟩ dX1_ways_21 ?_
      refine sx_topE (y := nI (sm_pr P k 0)) (by rw [Nat.sub_zero]) ?_
      refine lv_istore_n (lv' := [(2, .int (nI (sm_pr P k 0))), (0, .ref (ad 0)), (1, .int (nI k))]) hx hb dX1_ways_24 rfl hl (by decide) rfl (fun ls hl => ?_)
      refine lv_iconst (v := 0) hx hb dX1_ways_25 (by decide) ?_
      refine lv_istore_n (lv' := [(3, .int 0), (2, .int (nI (sm_pr P k 0))), (0, .ref (ad 0)), (1, .int (nI k))]) hx hb dX1_ways_26 rfl hl (by decide) rfl (fun ls hl => ?_)
      refine lv_iconst (v := 0) hx hb dX1_ways_27 (by decide) ?_
      refine lv_istore (lv' := [(4, .int 0), (3, .int 0), (2, .int (nI (sm_pr P k 0))), (0, .ref (ad 0)), (1, .int (nI k))]) hx hb dX1_ways_28 hl (by decide) rfl (fun ls hl => ?_)
      refine sx_loop (σ := Nat × Vs × Vs × Nat) (w := fun x => yW ad cI P n x.2.1 x.2.2.1) (lv := fun x => [(0, .ref (ad 0)), (1, .int (nI k)), (2, .int (nI (sm_pr P k 0))), (3, .int (nI x.2.2.2)), (4, .int (nI x.1))]) (I := fun x => x.1 ≤ sm_pr P k 0 ∧ x.2.2.2 + (sm_M P k x.1 x.2.2.1).length = (sm_L P k).length) (μ := fun x => sm_pr P k 0 - x.1) ?_ (0, v, (fun _ => -1), 0) ⟨Nat.zero_le _, by rw [sm_M_0 hVk hcbk]; exact Nat.zero_add _⟩ hP hD hS (lv_sub hl [3, 4, 2, 1, 0] rfl)
      intro x hI ih H locs hP hD hS ls hl
      obtain ⟨c0, v1, F1, d0⟩ := x
      obtain ⟨hc0, hd0⟩ := hI
      have hc0 : c0 ≤ sm_pr P k 0 := hc0
      have hd0 : d0 + (sm_M P k c0 F1).length = (sm_L P k).length := hd0
      have hl : lv_has ls 5 [(0, .ref (ad 0)), (1, .int (nI k)), (2, .int (nI (sm_pr P k 0))), (3, .int (nI d0)), (4, .int (nI c0))] := hl
      have hP : va_P (dC, dI) vwCl (yW ad cI P n v1 F1) H := hP
      have hD : va_D A (yW ad cI P n v1 F1) := hD
      refine lv_iload hx hb dX1_ways_30 (lv_at hl 4 rfl) ?_
      refine lv_iload_n hx hb dX1_ways_32 rfl (lv_at hl 2 rfl) ?_
      refine lv_icmp_ge (tgt := 60) hx hb dX1_ways_33 (by decide) (fun c_3 => ?_) (fun c_3 => ?_)
      · skip
        have hce : sm_pr P k 0 ≤ c0 := (nI_leI (by omega) (by omega)).mp c_3
        rw [sm_M_end hce] at hd0
        have hd0 : d0 = (sm_L P k).length := hd0
        refine lv_iload_n hx hb dX1_ways_60 rfl (lv_at hl 3 rfl) ?_
        exact sx_iret hx hb hr hlocks hK (v1, F1) (by rw [hres, hd0]) hP hD hS dX1_ways_61
      · skip
        have hcl : c0 < sm_pr P k 0 := Nat.lt_of_not_le (fun h => c_3 ((nI_leI (by omega) (by omega)).mpr h))
        refine lv_aload_n hx hb dX1_ways_36 rfl (lv_at hl 0 rfl) ?_
        refine lv_iload hx hb dX1_ways_37 (lv_at hl 4 rfl) ?_
        refine lv_iload_n hx hb dX1_ways_39 rfl (lv_at hl 1 rfl) ?_
        refine sx_callI (ci := 1) (As := [.int (nI c0), .int (nI k)]) (rest := []) ⟨hx, hb, hml, hown, hts⟩ (cy_run l dC dI ad cI P n v1 F1 c0 k (by omega) (hkn) hn hV (by omega) (fun i hi => by have := sm_pr_all (hVk) (hcbk) hi; omega)) (cwV 2 hts (lw_V q245 q247 qs18 q22 q248) rfl rfl rfl (by decide +kernel) ⟨Nat.le_of_ble_eq_true rfl, Nat.le_of_ble_eq_true rfl⟩) hK hP hD hS hA rfl rfl rfl hl.1 rfl (Nat.le_of_ble_eq_true rfl) ⟨Nat.zero_le _, Nat.zero_le _⟩ dX1_ways_40 (fun r u H locs hw_ hP hD hS => ?_)
        obtain ⟨v2, F2⟩ := u
        have hP : va_P (dC, dI) vwCl (yW ad cI P n v2 F2) H := hP
        have hD : va_D A (yW ad cI P n v2 F2) := hD
        refine lv_if_eq (tgt := 52) hx hb dX1_ways_43 (by decide) (fun c_r => ?_) (fun c_r => ?_)
        · skip
          have hM := sm_run_no hcl hw_ c_r
          rw [hM] at hd0
          refine lv_iload_n hx hb dX1_ways_52 rfl (lv_at hl 3 rfl) ?_
          refine lv_istore_n (lv' := [(3, .int (nI d0)), (0, .ref (ad 0)), (1, .int (nI k)), (2, .int (nI (sm_pr P k 0))), (4, .int (nI c0))]) hx hb dX1_ways_53 rfl hl (by decide) rfl (fun ls hl => ?_)
          refine lv_iinc (v := nI (c0 + 1)) (lv' := [(4, .int (nI (c0 + 1))), (3, .int (nI d0)), (0, .ref (ad 0)), (1, .int (nI k)), (2, .int (nI (sm_pr P k 0)))]) hx hb dX1_ways_54 hl (k := 4) rfl (nI_1 _) (by decide) rfl (fun ls hl => ?_)
          refine lv_goto (tgt := 30) hx hb dX1_ways_57 (by decide) ?_
          exact ih (c0 + 1, v2, F2, d0) ⟨hcl, hd0⟩ (by show _ - (c0 + 1) < _ - c0; omega) H locs hP hD hS ls (lv_sub hl [2, 3, 4, 1, 0] rfl)
        · skip
          have hM := sm_run_yes hcl hw_ c_r
          rw [hM] at hd0
          have hd0 : d0 + ((sm_M P k (c0 + 1) F2).length + 1) = (sm_L P k).length := hd0
          refine lv_iload_n hx hb dX1_ways_46 rfl (lv_at hl 3 rfl) ?_
          refine lv_iconst (v := 1) hx hb dX1_ways_47 (by decide) ?_
          refine lv_iadd hx hb dX1_ways_48 ?_
          refine sx_topE (y := nI (d0 + 1)) (nI_1 _) ?_
          refine lv_goto (tgt := 53) hx hb dX1_ways_49 (by decide) ?_
          refine lv_istore_n (lv' := [(3, .int (nI (d0 + 1))), (0, .ref (ad 0)), (1, .int (nI k)), (2, .int (nI (sm_pr P k 0))), (4, .int (nI c0))]) hx hb dX1_ways_53 rfl hl (by decide) rfl (fun ls hl => ?_)
          refine lv_iinc (v := nI (c0 + 1)) (lv' := [(4, .int (nI (c0 + 1))), (3, .int (nI (d0 + 1))), (0, .ref (ad 0)), (1, .int (nI k)), (2, .int (nI (sm_pr P k 0)))]) hx hb dX1_ways_54 hl (k := 4) rfl (nI_1 _) (by decide) rfl (fun ls hl => ?_)
          refine lv_goto (tgt := 30) hx hb dX1_ways_57 (by decide) ?_
          exact ih (c0 + 1, v2, F2, d0 + 1) ⟨hcl, by show d0 + 1 + (sm_M P k (c0 + 1) F2).length = _; omega⟩ (by show _ - (c0 + 1) < _ - c0; omega) H locs hP hD hS ls (lv_sub hl [2, 3, 4, 1, 0] rfl)
    · skip
      refine lv_iconst (v := (-1)) hx hb dX1_ways_12 (by decide) ?_
      exact sx_iret hx hb hr hlocks hK (v, F) (by rw [if_neg c_1, if_neg c_2]) hP hD hS dX1_ways_13
set_option maxHeartbeats 4000000 in
set_option maxRecDepth 100000 in
theorem cy_answers (l : Launch) (dC : Nat → ClassId) (dI : Nat → Nat → Nat) (ad : Nat → Nat) (cI : ClassId) (P : Pg) (n : Nat) (v F : Vs)  (hn : n ≤ 14) (hV : sm_va P n) (hcb : sm_cb P n ≤ 3) : MetI l (dC, dI) vwCl (tyY cI) yX1_answers (ws_ yX1_answers cX1_answers 1 (some .int)) ({ frames := 4, cells := 0, slots := 0, locals := 97 }) [.ref (ad 0)] (yW ad cI P n v F) (fun u : Vs × Vs => yW ad cI P n u.1 u.2) (fun r _ => r = nI (sm_L P n).length) := by
  refine MetI.of (by decide) (Nat.le_of_ble_eq_true rfl) ?_
  intro p e s m below meth c ls A hx hb hr hml hlocks hts hown hA hP hK hD hS hl
  have hown : s.vm.findClass RX1 = some m.cls := hown
  have hl : lv_has ls 1 [(0, .ref (ad 0))] := hl
  refine lv_aload_n hx hb dX1_answers_0 rfl (lv_at hl 0 rfl) ?_
  refine lv_aload_n hx hb dX1_answers_1 rfl (lv_at hl 0 rfl) ?_
  refine va_get (D := (dC, dI)) (ci := 1) (v := .int (nI n)) (C := RX1) (T := TX1) (N := 7) hx hb hts in_X1 hown hK hP 0 rfl rfl 0 (by decide) (hts _ q175) (fun _ h9 => h9) rfl dX1_answers_2 ?_
  refine sx_callI (ci := 1) (As := [.int (nI n)]) (rest := []) ⟨hx, hb, hml, hown, hts⟩ (cy_ways l dC dI ad cI P n v F (nI n) hn hV hcb) (cwV 1 hts (lw_V q229 q230 q231 q22 q232) rfl rfl rfl (by decide +kernel) ⟨Nat.le_of_ble_eq_true rfl, Nat.le_of_ble_eq_true rfl⟩) hK hP hD hS hA rfl rfl rfl hl.1 rfl (Nat.le_of_ble_eq_true rfl) ⟨Nat.zero_le _, Nat.zero_le _⟩ dX1_answers_5 (fun r u H locs hw_ hP hD hS => ?_)
  exact sx_iret hx hb hr hlocks hK u (by rw [hw_, if_neg (nI_pos (by omega)), if_pos (nI_le (Nat.le_refl n) (by omega)), show ix (nI n) = n from nI_clamp (by omega)]) hP hD hS dX1_answers_8
set_option maxHeartbeats 4000000 in
set_option maxRecDepth 100000 in
theorem cy_value (l : Launch) (dC : Nat → ClassId) (dI : Nat → Nat → Nat) (ad : Nat → Nat) (cI : ClassId) (P : Pg) (n : Nat) (v F : Vs) (q w : Int32) (hn : n ≤ 14) (hV : sm_va P n) (hcb : sm_cb P n ≤ 3) : MetI l (dC, dI) vwCl (tyY cI) yX1_value (ws_ yX1_value cX1_value 6 (some .int)) ({ frames := 3, cells := 0, slots := 0, locals := 73 }) [.ref (ad 0), .int q, .int w] (yW ad cI P n v F) (fun u : Vs × Vs => yW ad cI P n u.1 u.2) (fun r _ => r = sm_rV (sm_L P n) q w) := by
  refine MetI.of (by decide) (Nat.le_of_ble_eq_true rfl) ?_
  intro p e s m below meth c ls A hx hb hr hml hlocks hts hown hA hP hK hD hS hl
  have hown : s.vm.findClass RX1 = some m.cls := hown
  have hl : lv_has ls 6 [(0, .ref (ad 0)), (1, .int q), (2, .int w)] := hl
  have hall := sm_all_le (P := P) (k := n) hV hcb
  have hLn := sm_L_len hV hcb
  refine lv_aload_n hx hb dX1_value_0 rfl (lv_at hl 0 rfl) ?_
  refine sx_callV (ci := 1) (As := []) (rest := []) ⟨hx, hb, hml, hown, hts⟩ (cy_begin l dC dI ad cI P n v F) (cwV 0 hts (lw_V q233 q235 qs15 q22 q236) rfl rfl rfl (by decide +kernel) ⟨Nat.le_of_ble_eq_true rfl, Nat.le_of_ble_eq_true rfl⟩) hK hP hD hS hA rfl rfl rfl hl.1 rfl (Nat.le_of_ble_eq_true rfl) ⟨Nat.zero_le _, Nat.zero_le _⟩ dX1_value_1 (fun u_ H locs hw_ hP hD hS => ?_)
  have hP : va_P (dC, dI) vwCl (yW ad cI P n v (fun _ => -1)) H := hP
  have hD : va_D A (yW ad cI P n v (fun _ => -1)) := hD
  refine lv_aload_n hx hb dX1_value_4 rfl (lv_at hl 0 rfl) ?_
  refine lv_iconst (v := 0) hx hb dX1_value_5 (by decide) ?_
  refine lv_aload_n hx hb dX1_value_6 rfl (lv_at hl 0 rfl) ?_
  refine va_get (D := (dC, dI)) (ci := 1) (v := .int (nI n)) (C := RX1) (T := TX1) (N := 7) hx hb hts in_X1 hown hK hP 0 rfl rfl 0 (by decide) (hts _ q175) (fun _ h9 => h9) rfl dX1_value_7 ?_
  refine sx_callR (ci := 1) (As := [.int 0, .int (nI n)]) (rest := []) ⟨hx, hb, hml, hown, hts⟩ (cy_between l dC dI ad cI P n v (fun _ => -1) 0 n (Nat.zero_le _) (Nat.le_refl n) hn hV) (cwV 2 hts (lw_V q237 q239 qs16 q22 q240) rfl rfl rfl (by decide +kernel) ⟨Nat.le_of_ble_eq_true rfl, Nat.le_of_ble_eq_true rfl⟩) hK hP rfl rfl rfl hl.1 rfl (Nat.le_of_ble_eq_true rfl) ⟨Nat.zero_le _, Nat.zero_le _⟩ dX1_value_10 ?_
  refine sx_topE (y := nI (sm_pr P n 0)) (by rw [Nat.sub_zero]) ?_
  refine lv_istore_n (lv' := [(3, .int (nI (sm_pr P n 0))), (0, .ref (ad 0)), (1, .int q), (2, .int w)]) hx hb dX1_value_13 rfl hl (by decide) rfl (fun ls hl => ?_)
  refine lv_iconst (v := 0) hx hb dX1_value_14 (by decide) ?_
  refine lv_istore (lv' := [(4, .int 0), (3, .int (nI (sm_pr P n 0))), (0, .ref (ad 0)), (1, .int q), (2, .int w)]) hx hb dX1_value_15 hl (by decide) rfl (fun ls hl => ?_)
  refine lv_iconst (v := 0) hx hb dX1_value_17 (by decide) ?_
  refine lv_istore (lv' := [(5, .int 0), (4, .int 0), (3, .int (nI (sm_pr P n 0))), (0, .ref (ad 0)), (1, .int q), (2, .int w)]) hx hb dX1_value_18 hl (by decide) rfl (fun ls hl => ?_)
  refine sx_loop (σ := Nat × Vs × Vs × Nat) (w := fun x => yW ad cI P n x.2.1 x.2.2.1) (lv := fun x => [(0, .ref (ad 0)), (1, .int q), (2, .int w), (3, .int (nI (sm_pr P n 0))), (4, .int (nI x.2.2.2)), (5, .int (nI x.1))]) (I := fun x => x.1 ≤ sm_pr P n 0 ∧ sm_M P n x.1 x.2.2.1 = (sm_L P n).drop x.2.2.2 ∧ x.2.2.2 ≤ (sm_L P n).length ∧ ∀ j, j < x.2.2.2 → ¬ nI j = q) (μ := fun x => sm_pr P n 0 - x.1) ?_ (0, v, (fun _ => -1), 0) ⟨Nat.zero_le _, sm_M_0 hV hcb, Nat.zero_le _, fun j hj => absurd hj (Nat.not_lt_zero _)⟩ hP hD hS (lv_sub hl [3, 4, 5, 2, 1, 0] rfl)
  intro x hI ih H locs hP hD hS ls hl
  obtain ⟨c0, v1, F1, d0⟩ := x
  obtain ⟨hc0, hd0, hdl, hno⟩ := hI
  have hc0 : c0 ≤ sm_pr P n 0 := hc0
  have hd0 : sm_M P n c0 F1 = (sm_L P n).drop d0 := hd0
  have hdl : d0 ≤ (sm_L P n).length := hdl
  have hno : ∀ j, j < d0 → ¬ nI j = q := hno
  have hl : lv_has ls 6 [(0, .ref (ad 0)), (1, .int q), (2, .int w), (3, .int (nI (sm_pr P n 0))), (4, .int (nI d0)), (5, .int (nI c0))] := hl
  have hP : va_P (dC, dI) vwCl (yW ad cI P n v1 F1) H := hP
  have hD : va_D A (yW ad cI P n v1 F1) := hD
  refine lv_iload hx hb dX1_value_20 (lv_at hl 5 rfl) ?_
  refine lv_iload_n hx hb dX1_value_22 rfl (lv_at hl 3 rfl) ?_
  refine lv_icmp_ge (tgt := 69) hx hb dX1_value_23 (by decide) (fun c_3 => ?_) (fun c_3 => ?_)
  · skip
    have hce : sm_pr P n 0 ≤ c0 := (nI_leI (by omega) (by omega)).mp c_3
    rw [sm_M_end hce] at hd0
    have hld : (sm_L P n).length ≤ d0 := List.drop_eq_nil_iff.mp hd0.symm
    have hres : sm_rV (sm_L P n) q w = -1000000000 := by
      unfold sm_rV
      by_cases hq : q < 0
      · rw [if_pos hq]
      · rw [if_neg hq]
        by_cases hw : sm_iv w = 0
        · rw [if_pos hw]
        · rw [if_neg hw]
          obtain ⟨j, hj, rfl⟩ := nI_of hq
          rw [show ix (nI j) = j from nI_clamp hj]
          have hjd : d0 ≤ j := Nat.le_of_not_lt (fun h => hno j h rfl)
          rw [List.getElem?_eq_none (by omega)]
          rfl
    refine lv_ldc (v := -1000000000) hx hb hown (hts _ q257) dX1_value_69 ?_
    exact sx_iret hx hb hr hlocks hK (v1, F1) (hres.symm) hP hD hS dX1_value_71
  · skip
    have hcl : c0 < sm_pr P n 0 := Nat.lt_of_not_le (fun h => c_3 ((nI_leI (by omega) (by omega)).mpr h))
    refine lv_aload_n hx hb dX1_value_26 rfl (lv_at hl 0 rfl) ?_
    refine lv_iload_n hx hb dX1_value_27 rfl (lv_at hl 2 rfl) ?_
    refine sx_callR (ci := 1) (As := [.int w]) (rest := []) ⟨hx, hb, hml, hown, hts⟩ (cy_variable l dC dI ad cI P n v1 F1 w) (cwV 1 hts (lw_V q205 q207 qs12 q22 q208) rfl rfl rfl (by decide +kernel) ⟨Nat.le_of_ble_eq_true rfl, Nat.le_of_ble_eq_true rfl⟩) hK hP rfl rfl rfl hl.1 rfl (Nat.le_of_ble_eq_true rfl) ⟨Nat.zero_le _, Nat.zero_le _⟩ dX1_value_28 ?_
    refine lv_if_eq (tgt := 69) hx hb dX1_value_31 (by decide) (fun c_v => ?_) (fun c_v => ?_)
    · skip
      refine lv_ldc (v := -1000000000) hx hb hown (hts _ q257) dX1_value_69 ?_
      exact sx_iret hx hb hr hlocks hK (v1, F1) (by unfold sm_rV; by_cases hq : q < 0; (rw [if_pos hq]); (rw [if_neg hq, if_pos c_v])) hP hD hS dX1_value_71
    · skip
      have gW := sm_iv_v4 c_v
      have gW2 := gW.2
      refine lv_aload_n hx hb dX1_value_34 rfl (lv_at hl 0 rfl) ?_
      refine lv_iload hx hb dX1_value_35 (lv_at hl 5 rfl) ?_
      refine lv_aload_n hx hb dX1_value_37 rfl (lv_at hl 0 rfl) ?_
      refine va_get (D := (dC, dI)) (ci := 1) (v := .int (nI n)) (C := RX1) (T := TX1) (N := 7) hx hb hts in_X1 hown hK hP 0 rfl rfl 0 (by decide) (hts _ q175) (fun _ h9 => h9) rfl dX1_value_38 ?_
      refine sx_callI (ci := 1) (As := [.int (nI c0), .int (nI n)]) (rest := []) ⟨hx, hb, hml, hown, hts⟩ (cy_run l dC dI ad cI P n v1 F1 c0 n (by omega) (Nat.le_refl n) hn hV (by omega) (fun i hi => by have := sm_pr_all (hV) (hcb) hi; omega)) (cwV 2 hts (lw_V q245 q247 qs18 q22 q248) rfl rfl rfl (by decide +kernel) ⟨Nat.le_of_ble_eq_true rfl, Nat.le_of_ble_eq_true rfl⟩) hK hP hD hS hA rfl rfl rfl hl.1 rfl (Nat.le_of_ble_eq_true rfl) ⟨Nat.zero_le _, Nat.zero_le _⟩ dX1_value_41 (fun r u H locs hw_ hP hD hS => ?_)
      obtain ⟨v2, F2⟩ := u
      have hP : va_P (dC, dI) vwCl (yW ad cI P n v2 F2) H := hP
      have hD : va_D A (yW ad cI P n v2 F2) := hD
      refine lv_if_eq (tgt := 63) hx hb dX1_value_44 (by decide) (fun c_r => ?_) (fun c_r => ?_)
      · skip
        have hM := sm_run_no hcl hw_ c_r
        rw [hM] at hd0
        refine lv_iinc (v := nI (c0 + 1)) (lv' := [(5, .int (nI (c0 + 1))), (0, .ref (ad 0)), (1, .int q), (2, .int w), (3, .int (nI (sm_pr P n 0))), (4, .int (nI d0))]) hx hb dX1_value_63 hl (k := 5) rfl (nI_1 _) (by decide) rfl (fun ls hl => ?_)
        refine lv_goto (tgt := 20) hx hb dX1_value_66 (by decide) ?_
        exact ih (c0 + 1, v2, F2, d0) ⟨hcl, hd0, hdl, hno⟩ (by show _ - (c0 + 1) < _ - c0; omega) H locs hP hD hS ls (lv_sub hl [1, 2, 3, 4, 5, 0] rfl)
      · skip
        have hM := sm_run_yes hcl hw_ c_r
        rw [hM] at hd0
        have hdl2 : d0 < (sm_L P n).length := Nat.lt_of_not_le (fun h => by
          rw [List.drop_eq_nil_iff.mpr h] at hd0
          cases hd0)
        refine lv_iload hx hb dX1_value_47 (lv_at hl 4 rfl) ?_
        refine lv_iload_n hx hb dX1_value_49 rfl (lv_at hl 1 rfl) ?_
        refine lv_icmp_ne (tgt := 60) hx hb dX1_value_50 (by decide) (fun c_q => ?_) (fun c_q => ?_)
        · skip
          refine lv_iinc (v := nI (d0 + 1)) (lv' := [(4, .int (nI (d0 + 1))), (0, .ref (ad 0)), (1, .int q), (2, .int w), (3, .int (nI (sm_pr P n 0))), (5, .int (nI c0))]) hx hb dX1_value_60 hl (k := 4) rfl (nI_1 _) (by decide) rfl (fun ls hl => ?_)
          refine lv_iinc (v := nI (c0 + 1)) (lv' := [(5, .int (nI (c0 + 1))), (4, .int (nI (d0 + 1))), (0, .ref (ad 0)), (1, .int q), (2, .int w), (3, .int (nI (sm_pr P n 0)))]) hx hb dX1_value_63 hl (k := 5) rfl (nI_1 _) (by decide) rfl (fun ls hl => ?_)
          refine lv_goto (tgt := 20) hx hb dX1_value_66 (by decide) ?_
          exact ih (c0 + 1, v2, F2, d0 + 1) ⟨hcl, by show sm_M P n (c0 + 1) F2 = (sm_L P n).drop (d0 + 1); rw [← List.tail_drop, ← hd0]; rfl, hdl2, fun j hj => by by_cases he : j = d0; (rw [he]; exact c_q); (exact hno j (by have : j < d0 + 1 := hj; omega))⟩ (by show _ - (c0 + 1) < _ - c0; omega) H locs hP hD hS ls (lv_sub hl [2, 3, 4, 5, 1, 0] rfl)
        · skip
          have hat : (sm_L P n)[d0]? = some v2 := by
            rw [← List.head?_drop, ← hd0]
            rfl
          have hres : sm_rV (sm_L P n) q w = v2 (ix w) := by
            unfold sm_rV
            rw [← c_q, if_neg (nI_pos (by omega)), if_neg c_v, show ix (nI d0) = d0 from nI_clamp (by omega), hat]
            rfl
          refine lv_aload_n hx hb dX1_value_53 rfl (lv_at hl 0 rfl) ?_
          refine va_get (D := (dC, dI)) (ci := 1) (v := .ref (ad 5)) (C := RX1) (T := TX1) (N := 7) hx hb hts in_X1 hown hK hP 0 rfl rfl 5 (by decide) (hts _ q180) (fun _ h9 => h9) rfl dX1_value_54 ?_
          refine lv_iload_n hx hb dX1_value_57 rfl (lv_at hl 2 rfl) ?_
          refine sx_iald (j := ix w) hx hb hK hP 5 0 rfl rfl (gW.1) (gW.2) (by decide) dX1_value_58 ?_
          exact sx_iret hx hb hr hlocks hK (v2, F2) (hres.symm) hP hD hS dX1_value_59
set_option maxHeartbeats 4000000 in
set_option maxRecDepth 100000 in
theorem cy_countWith (l : Launch) (dC : Nat → ClassId) (dI : Nat → Nat → Nat) (ad : Nat → Nat) (cI : ClassId) (P : Pg) (n : Nat) (v F : Vs) (w q : Int32) (hn : n ≤ 14) (hV : sm_va P n) (hcb : sm_cb P n ≤ 3) : MetI l (dC, dI) vwCl (tyY cI) yX1_countWith (ws_ yX1_countWith cX1_countWith 6 (some .int)) ({ frames := 3, cells := 0, slots := 0, locals := 73 }) [.ref (ad 0), .int w, .int q] (yW ad cI P n v F) (fun u : Vs × Vs => yW ad cI P n u.1 u.2) (fun r _ => r = sm_rC (sm_L P n) w q) := by
  refine MetI.of (by decide) (Nat.le_of_ble_eq_true rfl) ?_
  intro p e s m below meth c ls A hx hb hr hml hlocks hts hown hA hP hK hD hS hl
  have hown : s.vm.findClass RX1 = some m.cls := hown
  have hl : lv_has ls 6 [(0, .ref (ad 0)), (1, .int w), (2, .int q)] := hl
  have hall := sm_all_le (P := P) (k := n) hV hcb
  have hLn := sm_L_len hV hcb
  refine lv_aload_n hx hb dX1_countWith_0 rfl (lv_at hl 0 rfl) ?_
  refine sx_callV (ci := 1) (As := []) (rest := []) ⟨hx, hb, hml, hown, hts⟩ (cy_begin l dC dI ad cI P n v F) (cwV 0 hts (lw_V q233 q235 qs15 q22 q236) rfl rfl rfl (by decide +kernel) ⟨Nat.le_of_ble_eq_true rfl, Nat.le_of_ble_eq_true rfl⟩) hK hP hD hS hA rfl rfl rfl hl.1 rfl (Nat.le_of_ble_eq_true rfl) ⟨Nat.zero_le _, Nat.zero_le _⟩ dX1_countWith_1 (fun u_ H locs hw_ hP hD hS => ?_)
  have hP : va_P (dC, dI) vwCl (yW ad cI P n v (fun _ => -1)) H := hP
  have hD : va_D A (yW ad cI P n v (fun _ => -1)) := hD
  refine lv_aload_n hx hb dX1_countWith_4 rfl (lv_at hl 0 rfl) ?_
  refine lv_iconst (v := 0) hx hb dX1_countWith_5 (by decide) ?_
  refine lv_aload_n hx hb dX1_countWith_6 rfl (lv_at hl 0 rfl) ?_
  refine va_get (D := (dC, dI)) (ci := 1) (v := .int (nI n)) (C := RX1) (T := TX1) (N := 7) hx hb hts in_X1 hown hK hP 0 rfl rfl 0 (by decide) (hts _ q175) (fun _ h9 => h9) rfl dX1_countWith_7 ?_
  refine sx_callR (ci := 1) (As := [.int 0, .int (nI n)]) (rest := []) ⟨hx, hb, hml, hown, hts⟩ (cy_between l dC dI ad cI P n v (fun _ => -1) 0 n (Nat.zero_le _) (Nat.le_refl n) hn hV) (cwV 2 hts (lw_V q237 q239 qs16 q22 q240) rfl rfl rfl (by decide +kernel) ⟨Nat.le_of_ble_eq_true rfl, Nat.le_of_ble_eq_true rfl⟩) hK hP rfl rfl rfl hl.1 rfl (Nat.le_of_ble_eq_true rfl) ⟨Nat.zero_le _, Nat.zero_le _⟩ dX1_countWith_10 ?_
  refine sx_topE (y := nI (sm_pr P n 0)) (by rw [Nat.sub_zero]) ?_
  refine lv_istore_n (lv' := [(3, .int (nI (sm_pr P n 0))), (0, .ref (ad 0)), (1, .int w), (2, .int q)]) hx hb dX1_countWith_13 rfl hl (by decide) rfl (fun ls hl => ?_)
  refine lv_iconst (v := 0) hx hb dX1_countWith_14 (by decide) ?_
  refine lv_istore (lv' := [(4, .int 0), (3, .int (nI (sm_pr P n 0))), (0, .ref (ad 0)), (1, .int w), (2, .int q)]) hx hb dX1_countWith_15 hl (by decide) rfl (fun ls hl => ?_)
  refine lv_iconst (v := 0) hx hb dX1_countWith_17 (by decide) ?_
  refine lv_istore (lv' := [(5, .int 0), (4, .int 0), (3, .int (nI (sm_pr P n 0))), (0, .ref (ad 0)), (1, .int w), (2, .int q)]) hx hb dX1_countWith_18 hl (by decide) rfl (fun ls hl => ?_)
  refine sx_loop (σ := Nat × Vs × Vs × Nat) (w := fun x => yW ad cI P n x.2.1 x.2.2.1) (lv := fun x => [(0, .ref (ad 0)), (1, .int w), (2, .int q), (3, .int (nI (sm_pr P n 0))), (4, .int (nI x.2.2.2)), (5, .int (nI x.1))]) (I := fun x => x.1 ≤ sm_pr P n 0 ∧ x.2.2.2 + sm_ctw (ix w) q (sm_M P n x.1 x.2.2.1) = sm_ctw (ix w) q (sm_L P n) ∧ (sm_iv w = 0 → x.2.2.2 = 0)) (μ := fun x => sm_pr P n 0 - x.1) ?_ (0, v, (fun _ => -1), 0) ⟨Nat.zero_le _, by rw [sm_M_0 hV hcb]; exact Nat.zero_add _, fun _ => rfl⟩ hP hD hS (lv_sub hl [3, 4, 5, 2, 1, 0] rfl)
  intro x hI ih H locs hP hD hS ls hl
  obtain ⟨c0, v1, F1, d0⟩ := x
  obtain ⟨hc0, hd0, hz0⟩ := hI
  have hc0 : c0 ≤ sm_pr P n 0 := hc0
  have hd0 : d0 + sm_ctw (ix w) q (sm_M P n c0 F1) = sm_ctw (ix w) q (sm_L P n) := hd0
  have hz0 : sm_iv w = 0 → d0 = 0 := hz0
  have hl : lv_has ls 6 [(0, .ref (ad 0)), (1, .int w), (2, .int q), (3, .int (nI (sm_pr P n 0))), (4, .int (nI d0)), (5, .int (nI c0))] := hl
  have hP : va_P (dC, dI) vwCl (yW ad cI P n v1 F1) H := hP
  have hD : va_D A (yW ad cI P n v1 F1) := hD
  refine lv_iload hx hb dX1_countWith_20 (lv_at hl 5 rfl) ?_
  refine lv_iload_n hx hb dX1_countWith_22 rfl (lv_at hl 3 rfl) ?_
  refine lv_icmp_ge (tgt := 74) hx hb dX1_countWith_23 (by decide) (fun c_3 => ?_) (fun c_3 => ?_)
  · skip
    have hce : sm_pr P n 0 ≤ c0 := (nI_leI (by omega) (by omega)).mp c_3
    rw [sm_M_end hce] at hd0
    have hd0 : d0 = sm_ctw (ix w) q (sm_L P n) := hd0
    have hres : sm_rC (sm_L P n) w q = nI d0 := by
      unfold sm_rC
      by_cases hw : sm_iv w = 0
      · rw [if_pos hw, hz0 hw]; rfl
      · rw [if_neg hw, hd0]
    refine lv_iload hx hb dX1_countWith_74 (lv_at hl 4 rfl) ?_
    exact sx_iret hx hb hr hlocks hK (v1, F1) (hres.symm) hP hD hS dX1_countWith_76
  · skip
    have hcl : c0 < sm_pr P n 0 := Nat.lt_of_not_le (fun h => c_3 ((nI_leI (by omega) (by omega)).mpr h))
    refine lv_aload_n hx hb dX1_countWith_26 rfl (lv_at hl 0 rfl) ?_
    refine lv_iload_n hx hb dX1_countWith_27 rfl (lv_at hl 1 rfl) ?_
    refine sx_callR (ci := 1) (As := [.int w]) (rest := []) ⟨hx, hb, hml, hown, hts⟩ (cy_variable l dC dI ad cI P n v1 F1 w) (cwV 1 hts (lw_V q205 q207 qs12 q22 q208) rfl rfl rfl (by decide +kernel) ⟨Nat.le_of_ble_eq_true rfl, Nat.le_of_ble_eq_true rfl⟩) hK hP rfl rfl rfl hl.1 rfl (Nat.le_of_ble_eq_true rfl) ⟨Nat.zero_le _, Nat.zero_le _⟩ dX1_countWith_28 ?_
    refine lv_if_eq (tgt := 74) hx hb dX1_countWith_31 (by decide) (fun c_v => ?_) (fun c_v => ?_)
    · skip
      refine lv_iload hx hb dX1_countWith_74 (lv_at hl 4 rfl) ?_
      exact sx_iret hx hb hr hlocks hK (v1, F1) (by rw [sm_rC, if_pos c_v, hz0 c_v]; rfl) hP hD hS dX1_countWith_76
    · skip
      have gW := sm_iv_v4 c_v
      have gW2 := gW.2
      refine lv_aload_n hx hb dX1_countWith_34 rfl (lv_at hl 0 rfl) ?_
      refine lv_iload hx hb dX1_countWith_35 (lv_at hl 5 rfl) ?_
      refine lv_aload_n hx hb dX1_countWith_37 rfl (lv_at hl 0 rfl) ?_
      refine va_get (D := (dC, dI)) (ci := 1) (v := .int (nI n)) (C := RX1) (T := TX1) (N := 7) hx hb hts in_X1 hown hK hP 0 rfl rfl 0 (by decide) (hts _ q175) (fun _ h9 => h9) rfl dX1_countWith_38 ?_
      refine sx_callI (ci := 1) (As := [.int (nI c0), .int (nI n)]) (rest := []) ⟨hx, hb, hml, hown, hts⟩ (cy_run l dC dI ad cI P n v1 F1 c0 n (by omega) (Nat.le_refl n) hn hV (by omega) (fun i hi => by have := sm_pr_all (hV) (hcb) hi; omega)) (cwV 2 hts (lw_V q245 q247 qs18 q22 q248) rfl rfl rfl (by decide +kernel) ⟨Nat.le_of_ble_eq_true rfl, Nat.le_of_ble_eq_true rfl⟩) hK hP hD hS hA rfl rfl rfl hl.1 rfl (Nat.le_of_ble_eq_true rfl) ⟨Nat.zero_le _, Nat.zero_le _⟩ dX1_countWith_41 (fun r u H locs hw_ hP hD hS => ?_)
      obtain ⟨v2, F2⟩ := u
      have hP : va_P (dC, dI) vwCl (yW ad cI P n v2 F2) H := hP
      have hD : va_D A (yW ad cI P n v2 F2) := hD
      refine lv_if_eq (tgt := 64) hx hb dX1_countWith_44 (by decide) (fun c_r => ?_) (fun c_r => ?_)
      · skip
        have hM := sm_run_no hcl hw_ c_r
        rw [hM] at hd0
        refine lv_iload hx hb dX1_countWith_64 (lv_at hl 4 rfl) ?_
        refine lv_istore (lv' := [(4, .int (nI d0)), (0, .ref (ad 0)), (1, .int w), (2, .int q), (3, .int (nI (sm_pr P n 0))), (5, .int (nI c0))]) hx hb dX1_countWith_66 hl (by decide) rfl (fun ls hl => ?_)
        refine lv_iinc (v := nI (c0 + 1)) (lv' := [(5, .int (nI (c0 + 1))), (4, .int (nI d0)), (0, .ref (ad 0)), (1, .int w), (2, .int q), (3, .int (nI (sm_pr P n 0)))]) hx hb dX1_countWith_68 hl (k := 5) rfl (nI_1 _) (by decide) rfl (fun ls hl => ?_)
        refine lv_goto (tgt := 20) hx hb dX1_countWith_71 (by decide) ?_
        exact ih (c0 + 1, v2, F2, d0) ⟨hcl, hd0, hz0⟩ (by show _ - (c0 + 1) < _ - c0; omega) H locs hP hD hS ls (lv_sub hl [2, 3, 4, 5, 1, 0] rfl)
      · skip
        have hM := sm_run_yes hcl hw_ c_r
        rw [hM, sm_ctw] at hd0
        refine lv_aload_n hx hb dX1_countWith_47 rfl (lv_at hl 0 rfl) ?_
        refine va_get (D := (dC, dI)) (ci := 1) (v := .ref (ad 5)) (C := RX1) (T := TX1) (N := 7) hx hb hts in_X1 hown hK hP 0 rfl rfl 5 (by decide) (hts _ q180) (fun _ h9 => h9) rfl dX1_countWith_48 ?_
        refine lv_iload_n hx hb dX1_countWith_51 rfl (lv_at hl 1 rfl) ?_
        refine sx_iald (j := ix w) hx hb hK hP 5 0 rfl rfl (gW.1) (gW.2) (by decide) dX1_countWith_52 ?_
        refine lv_iload_n hx hb dX1_countWith_53 rfl (lv_at hl 2 rfl) ?_
        refine lv_icmp_ne (tgt := 64) hx hb dX1_countWith_54 (by decide) (fun c_q => ?_) (fun c_q => ?_)
        · skip
          rw [if_neg c_q] at hd0
          refine lv_iload hx hb dX1_countWith_64 (lv_at hl 4 rfl) ?_
          refine lv_istore (lv' := [(4, .int (nI d0)), (0, .ref (ad 0)), (1, .int w), (2, .int q), (3, .int (nI (sm_pr P n 0))), (5, .int (nI c0))]) hx hb dX1_countWith_66 hl (by decide) rfl (fun ls hl => ?_)
          refine lv_iinc (v := nI (c0 + 1)) (lv' := [(5, .int (nI (c0 + 1))), (4, .int (nI d0)), (0, .ref (ad 0)), (1, .int w), (2, .int q), (3, .int (nI (sm_pr P n 0)))]) hx hb dX1_countWith_68 hl (k := 5) rfl (nI_1 _) (by decide) rfl (fun ls hl => ?_)
          refine lv_goto (tgt := 20) hx hb dX1_countWith_71 (by decide) ?_
          exact ih (c0 + 1, v2, F2, d0) ⟨hcl, by show d0 + sm_ctw (ix w) q (sm_M P n (c0 + 1) F2) = _; omega, fun h => absurd h c_v⟩ (by show _ - (c0 + 1) < _ - c0; omega) H locs hP hD hS ls (lv_sub hl [2, 3, 4, 5, 1, 0] rfl)
        · skip
          rw [if_pos c_q] at hd0
          refine lv_iload hx hb dX1_countWith_57 (lv_at hl 4 rfl) ?_
          refine lv_iconst (v := 1) hx hb dX1_countWith_59 (by decide) ?_
          refine lv_iadd hx hb dX1_countWith_60 ?_
          refine sx_topE (y := nI (d0 + 1)) (nI_1 _) ?_
          refine lv_goto (tgt := 66) hx hb dX1_countWith_61 (by decide) ?_
          refine lv_istore (lv' := [(4, .int (nI (d0 + 1))), (0, .ref (ad 0)), (1, .int w), (2, .int q), (3, .int (nI (sm_pr P n 0))), (5, .int (nI c0))]) hx hb dX1_countWith_66 hl (by decide) rfl (fun ls hl => ?_)
          refine lv_iinc (v := nI (c0 + 1)) (lv' := [(5, .int (nI (c0 + 1))), (4, .int (nI (d0 + 1))), (0, .ref (ad 0)), (1, .int w), (2, .int q), (3, .int (nI (sm_pr P n 0)))]) hx hb dX1_countWith_68 hl (k := 5) rfl (nI_1 _) (by decide) rfl (fun ls hl => ?_)
          refine lv_goto (tgt := 20) hx hb dX1_countWith_71 (by decide) ?_
          exact ih (c0 + 1, v2, F2, d0 + 1) ⟨hcl, by show d0 + 1 + sm_ctw (ix w) q (sm_M P n (c0 + 1) F2) = _; omega, fun h => absurd h c_v⟩ (by show _ - (c0 + 1) < _ - c0; omega) H locs hP hD hS ls (lv_sub hl [2, 3, 4, 5, 1, 0] rfl)
set_option maxHeartbeats 4000000 in
set_option maxRecDepth 100000 in
theorem cy_firstWith (l : Launch) (dC : Nat → ClassId) (dI : Nat → Nat → Nat) (ad : Nat → Nat) (cI : ClassId) (P : Pg) (n : Nat) (v F : Vs) (w q : Int32) (hn : n ≤ 14) (hV : sm_va P n) (hcb : sm_cb P n ≤ 3) : MetI l (dC, dI) vwCl (tyY cI) yX1_firstWith (ws_ yX1_firstWith cX1_firstWith 6 (some .int)) ({ frames := 3, cells := 0, slots := 0, locals := 73 }) [.ref (ad 0), .int w, .int q] (yW ad cI P n v F) (fun u : Vs × Vs => yW ad cI P n u.1 u.2) (fun r _ => r = sm_rF (sm_L P n) w q) := by
  refine MetI.of (by decide) (Nat.le_of_ble_eq_true rfl) ?_
  intro p e s m below meth c ls A hx hb hr hml hlocks hts hown hA hP hK hD hS hl
  have hown : s.vm.findClass RX1 = some m.cls := hown
  have hl : lv_has ls 6 [(0, .ref (ad 0)), (1, .int w), (2, .int q)] := hl
  have hall := sm_all_le (P := P) (k := n) hV hcb
  have hLn := sm_L_len hV hcb
  refine lv_aload_n hx hb dX1_firstWith_0 rfl (lv_at hl 0 rfl) ?_
  refine sx_callV (ci := 1) (As := []) (rest := []) ⟨hx, hb, hml, hown, hts⟩ (cy_begin l dC dI ad cI P n v F) (cwV 0 hts (lw_V q233 q235 qs15 q22 q236) rfl rfl rfl (by decide +kernel) ⟨Nat.le_of_ble_eq_true rfl, Nat.le_of_ble_eq_true rfl⟩) hK hP hD hS hA rfl rfl rfl hl.1 rfl (Nat.le_of_ble_eq_true rfl) ⟨Nat.zero_le _, Nat.zero_le _⟩ dX1_firstWith_1 (fun u_ H locs hw_ hP hD hS => ?_)
  have hP : va_P (dC, dI) vwCl (yW ad cI P n v (fun _ => -1)) H := hP
  have hD : va_D A (yW ad cI P n v (fun _ => -1)) := hD
  refine lv_aload_n hx hb dX1_firstWith_4 rfl (lv_at hl 0 rfl) ?_
  refine lv_iconst (v := 0) hx hb dX1_firstWith_5 (by decide) ?_
  refine lv_aload_n hx hb dX1_firstWith_6 rfl (lv_at hl 0 rfl) ?_
  refine va_get (D := (dC, dI)) (ci := 1) (v := .int (nI n)) (C := RX1) (T := TX1) (N := 7) hx hb hts in_X1 hown hK hP 0 rfl rfl 0 (by decide) (hts _ q175) (fun _ h9 => h9) rfl dX1_firstWith_7 ?_
  refine sx_callR (ci := 1) (As := [.int 0, .int (nI n)]) (rest := []) ⟨hx, hb, hml, hown, hts⟩ (cy_between l dC dI ad cI P n v (fun _ => -1) 0 n (Nat.zero_le _) (Nat.le_refl n) hn hV) (cwV 2 hts (lw_V q237 q239 qs16 q22 q240) rfl rfl rfl (by decide +kernel) ⟨Nat.le_of_ble_eq_true rfl, Nat.le_of_ble_eq_true rfl⟩) hK hP rfl rfl rfl hl.1 rfl (Nat.le_of_ble_eq_true rfl) ⟨Nat.zero_le _, Nat.zero_le _⟩ dX1_firstWith_10 ?_
  refine sx_topE (y := nI (sm_pr P n 0)) (by rw [Nat.sub_zero]) ?_
  refine lv_istore_n (lv' := [(3, .int (nI (sm_pr P n 0))), (0, .ref (ad 0)), (1, .int w), (2, .int q)]) hx hb dX1_firstWith_13 rfl hl (by decide) rfl (fun ls hl => ?_)
  refine lv_iconst (v := 0) hx hb dX1_firstWith_14 (by decide) ?_
  refine lv_istore (lv' := [(4, .int 0), (3, .int (nI (sm_pr P n 0))), (0, .ref (ad 0)), (1, .int w), (2, .int q)]) hx hb dX1_firstWith_15 hl (by decide) rfl (fun ls hl => ?_)
  refine lv_iconst (v := 0) hx hb dX1_firstWith_17 (by decide) ?_
  refine lv_istore (lv' := [(5, .int 0), (4, .int 0), (3, .int (nI (sm_pr P n 0))), (0, .ref (ad 0)), (1, .int w), (2, .int q)]) hx hb dX1_firstWith_18 hl (by decide) rfl (fun ls hl => ?_)
  refine sx_loop (σ := Nat × Vs × Vs × Nat) (w := fun x => yW ad cI P n x.2.1 x.2.2.1) (lv := fun x => [(0, .ref (ad 0)), (1, .int w), (2, .int q), (3, .int (nI (sm_pr P n 0))), (4, .int (nI x.2.2.2)), (5, .int (nI x.1))]) (I := fun x => x.1 ≤ sm_pr P n 0 ∧ sm_fw (ix w) q (sm_M P n x.1 x.2.2.1) x.2.2.2 = sm_fw (ix w) q (sm_L P n) 0) (μ := fun x => sm_pr P n 0 - x.1) ?_ (0, v, (fun _ => -1), 0) ⟨Nat.zero_le _, by rw [sm_M_0 hV hcb]⟩ hP hD hS (lv_sub hl [3, 4, 5, 2, 1, 0] rfl)
  intro x hI ih H locs hP hD hS ls hl
  obtain ⟨c0, v1, F1, d0⟩ := x
  obtain ⟨hc0, hd0⟩ := hI
  have hc0 : c0 ≤ sm_pr P n 0 := hc0
  have hd0 : sm_fw (ix w) q (sm_M P n c0 F1) d0 = sm_fw (ix w) q (sm_L P n) 0 := hd0
  have hl : lv_has ls 6 [(0, .ref (ad 0)), (1, .int w), (2, .int q), (3, .int (nI (sm_pr P n 0))), (4, .int (nI d0)), (5, .int (nI c0))] := hl
  have hP : va_P (dC, dI) vwCl (yW ad cI P n v1 F1) H := hP
  have hD : va_D A (yW ad cI P n v1 F1) := hD
  refine lv_iload hx hb dX1_firstWith_20 (lv_at hl 5 rfl) ?_
  refine lv_iload_n hx hb dX1_firstWith_22 rfl (lv_at hl 3 rfl) ?_
  refine lv_icmp_ge (tgt := 69) hx hb dX1_firstWith_23 (by decide) (fun c_3 => ?_) (fun c_3 => ?_)
  · skip
    have hce : sm_pr P n 0 ≤ c0 := (nI_leI (by omega) (by omega)).mp c_3
    rw [sm_M_end hce] at hd0
    have hres : sm_rF (sm_L P n) w q = -1 := by
      unfold sm_rF
      by_cases hw : sm_iv w = 0
      · rw [if_pos hw]
      · rw [if_neg hw, ← hd0]; rfl
    refine lv_iconst (v := (-1)) hx hb dX1_firstWith_69 (by decide) ?_
    exact sx_iret hx hb hr hlocks hK (v1, F1) (hres.symm) hP hD hS dX1_firstWith_70
  · skip
    have hcl : c0 < sm_pr P n 0 := Nat.lt_of_not_le (fun h => c_3 ((nI_leI (by omega) (by omega)).mpr h))
    refine lv_aload_n hx hb dX1_firstWith_26 rfl (lv_at hl 0 rfl) ?_
    refine lv_iload_n hx hb dX1_firstWith_27 rfl (lv_at hl 1 rfl) ?_
    refine sx_callR (ci := 1) (As := [.int w]) (rest := []) ⟨hx, hb, hml, hown, hts⟩ (cy_variable l dC dI ad cI P n v1 F1 w) (cwV 1 hts (lw_V q205 q207 qs12 q22 q208) rfl rfl rfl (by decide +kernel) ⟨Nat.le_of_ble_eq_true rfl, Nat.le_of_ble_eq_true rfl⟩) hK hP rfl rfl rfl hl.1 rfl (Nat.le_of_ble_eq_true rfl) ⟨Nat.zero_le _, Nat.zero_le _⟩ dX1_firstWith_28 ?_
    refine lv_if_eq (tgt := 69) hx hb dX1_firstWith_31 (by decide) (fun c_v => ?_) (fun c_v => ?_)
    · skip
      refine lv_iconst (v := (-1)) hx hb dX1_firstWith_69 (by decide) ?_
      exact sx_iret hx hb hr hlocks hK (v1, F1) (by rw [sm_rF, if_pos c_v]) hP hD hS dX1_firstWith_70
    · skip
      have gW := sm_iv_v4 c_v
      have gW2 := gW.2
      refine lv_aload_n hx hb dX1_firstWith_34 rfl (lv_at hl 0 rfl) ?_
      refine lv_iload hx hb dX1_firstWith_35 (lv_at hl 5 rfl) ?_
      refine lv_aload_n hx hb dX1_firstWith_37 rfl (lv_at hl 0 rfl) ?_
      refine va_get (D := (dC, dI)) (ci := 1) (v := .int (nI n)) (C := RX1) (T := TX1) (N := 7) hx hb hts in_X1 hown hK hP 0 rfl rfl 0 (by decide) (hts _ q175) (fun _ h9 => h9) rfl dX1_firstWith_38 ?_
      refine sx_callI (ci := 1) (As := [.int (nI c0), .int (nI n)]) (rest := []) ⟨hx, hb, hml, hown, hts⟩ (cy_run l dC dI ad cI P n v1 F1 c0 n (by omega) (Nat.le_refl n) hn hV (by omega) (fun i hi => by have := sm_pr_all (hV) (hcb) hi; omega)) (cwV 2 hts (lw_V q245 q247 qs18 q22 q248) rfl rfl rfl (by decide +kernel) ⟨Nat.le_of_ble_eq_true rfl, Nat.le_of_ble_eq_true rfl⟩) hK hP hD hS hA rfl rfl rfl hl.1 rfl (Nat.le_of_ble_eq_true rfl) ⟨Nat.zero_le _, Nat.zero_le _⟩ dX1_firstWith_41 (fun r u H locs hw_ hP hD hS => ?_)
      obtain ⟨v2, F2⟩ := u
      have hP : va_P (dC, dI) vwCl (yW ad cI P n v2 F2) H := hP
      have hD : va_D A (yW ad cI P n v2 F2) := hD
      refine lv_if_eq (tgt := 63) hx hb dX1_firstWith_44 (by decide) (fun c_r => ?_) (fun c_r => ?_)
      · skip
        have hM := sm_run_no hcl hw_ c_r
        rw [hM] at hd0
        refine lv_iinc (v := nI (c0 + 1)) (lv' := [(5, .int (nI (c0 + 1))), (0, .ref (ad 0)), (1, .int w), (2, .int q), (3, .int (nI (sm_pr P n 0))), (4, .int (nI d0))]) hx hb dX1_firstWith_63 hl (k := 5) rfl (nI_1 _) (by decide) rfl (fun ls hl => ?_)
        refine lv_goto (tgt := 20) hx hb dX1_firstWith_66 (by decide) ?_
        exact ih (c0 + 1, v2, F2, d0) ⟨hcl, hd0⟩ (by show _ - (c0 + 1) < _ - c0; omega) H locs hP hD hS ls (lv_sub hl [1, 2, 3, 4, 5, 0] rfl)
      · skip
        have hM := sm_run_yes hcl hw_ c_r
        rw [hM, sm_fw] at hd0
        refine lv_aload_n hx hb dX1_firstWith_47 rfl (lv_at hl 0 rfl) ?_
        refine va_get (D := (dC, dI)) (ci := 1) (v := .ref (ad 5)) (C := RX1) (T := TX1) (N := 7) hx hb hts in_X1 hown hK hP 0 rfl rfl 5 (by decide) (hts _ q180) (fun _ h9 => h9) rfl dX1_firstWith_48 ?_
        refine lv_iload_n hx hb dX1_firstWith_51 rfl (lv_at hl 1 rfl) ?_
        refine sx_iald (j := ix w) hx hb hK hP 5 0 rfl rfl (gW.1) (gW.2) (by decide) dX1_firstWith_52 ?_
        refine lv_iload_n hx hb dX1_firstWith_53 rfl (lv_at hl 2 rfl) ?_
        refine lv_icmp_ne (tgt := 60) hx hb dX1_firstWith_54 (by decide) (fun c_q => ?_) (fun c_q => ?_)
        · skip
          rw [if_neg c_q] at hd0
          refine lv_iinc (v := nI (d0 + 1)) (lv' := [(4, .int (nI (d0 + 1))), (0, .ref (ad 0)), (1, .int w), (2, .int q), (3, .int (nI (sm_pr P n 0))), (5, .int (nI c0))]) hx hb dX1_firstWith_60 hl (k := 4) rfl (nI_1 _) (by decide) rfl (fun ls hl => ?_)
          refine lv_iinc (v := nI (c0 + 1)) (lv' := [(5, .int (nI (c0 + 1))), (4, .int (nI (d0 + 1))), (0, .ref (ad 0)), (1, .int w), (2, .int q), (3, .int (nI (sm_pr P n 0)))]) hx hb dX1_firstWith_63 hl (k := 5) rfl (nI_1 _) (by decide) rfl (fun ls hl => ?_)
          refine lv_goto (tgt := 20) hx hb dX1_firstWith_66 (by decide) ?_
          exact ih (c0 + 1, v2, F2, d0 + 1) ⟨hcl, hd0⟩ (by show _ - (c0 + 1) < _ - c0; omega) H locs hP hD hS ls (lv_sub hl [2, 3, 4, 5, 1, 0] rfl)
        · skip
          rw [if_pos c_q] at hd0
          refine lv_iload hx hb dX1_firstWith_57 (lv_at hl 4 rfl) ?_
          exact sx_iret hx hb hr hlocks hK (v2, F2) (by rw [sm_rF, if_neg c_v, ← hd0]) hP hD hS dX1_firstWith_59
set_option maxHeartbeats 4000000 in
set_option maxRecDepth 100000 in
theorem cy_extreme (l : Launch) (dC : Nat → ClassId) (dI : Nat → Nat → Nat) (ad : Nat → Nat) (cI : ClassId) (P : Pg) (n : Nat) (v F : Vs) (w q : Int32) (hn : n ≤ 14) (hV : sm_va P n) (hcb : sm_cb P n ≤ 3) : MetI l (dC, dI) vwCl (tyY cI) yX1_extreme (ws_ yX1_extreme cX1_extreme 8 (some .int)) ({ frames := 3, cells := 0, slots := 0, locals := 73 }) [.ref (ad 0), .int w, .int q] (yW ad cI P n v F) (fun u : Vs × Vs => yW ad cI P n u.1 u.2) (fun r _ => r = sm_rE (sm_L P n) w q) := by
  refine MetI.of (by decide) (Nat.le_of_ble_eq_true rfl) ?_
  intro p e s m below meth c ls A hx hb hr hml hlocks hts hown hA hP hK hD hS hl
  have hown : s.vm.findClass RX1 = some m.cls := hown
  have hl : lv_has ls 8 [(0, .ref (ad 0)), (1, .int w), (2, .int q)] := hl
  have hall := sm_all_le (P := P) (k := n) hV hcb
  have hLn := sm_L_len hV hcb
  refine lv_aload_n hx hb dX1_extreme_0 rfl (lv_at hl 0 rfl) ?_
  refine sx_callV (ci := 1) (As := []) (rest := []) ⟨hx, hb, hml, hown, hts⟩ (cy_begin l dC dI ad cI P n v F) (cwV 0 hts (lw_V q233 q235 qs15 q22 q236) rfl rfl rfl (by decide +kernel) ⟨Nat.le_of_ble_eq_true rfl, Nat.le_of_ble_eq_true rfl⟩) hK hP hD hS hA rfl rfl rfl hl.1 rfl (Nat.le_of_ble_eq_true rfl) ⟨Nat.zero_le _, Nat.zero_le _⟩ dX1_extreme_1 (fun u_ H locs hw_ hP hD hS => ?_)
  have hP : va_P (dC, dI) vwCl (yW ad cI P n v (fun _ => -1)) H := hP
  have hD : va_D A (yW ad cI P n v (fun _ => -1)) := hD
  refine lv_aload_n hx hb dX1_extreme_4 rfl (lv_at hl 0 rfl) ?_
  refine lv_iconst (v := 0) hx hb dX1_extreme_5 (by decide) ?_
  refine lv_aload_n hx hb dX1_extreme_6 rfl (lv_at hl 0 rfl) ?_
  refine va_get (D := (dC, dI)) (ci := 1) (v := .int (nI n)) (C := RX1) (T := TX1) (N := 7) hx hb hts in_X1 hown hK hP 0 rfl rfl 0 (by decide) (hts _ q175) (fun _ h9 => h9) rfl dX1_extreme_7 ?_
  refine sx_callR (ci := 1) (As := [.int 0, .int (nI n)]) (rest := []) ⟨hx, hb, hml, hown, hts⟩ (cy_between l dC dI ad cI P n v (fun _ => -1) 0 n (Nat.zero_le _) (Nat.le_refl n) hn hV) (cwV 2 hts (lw_V q237 q239 qs16 q22 q240) rfl rfl rfl (by decide +kernel) ⟨Nat.le_of_ble_eq_true rfl, Nat.le_of_ble_eq_true rfl⟩) hK hP rfl rfl rfl hl.1 rfl (Nat.le_of_ble_eq_true rfl) ⟨Nat.zero_le _, Nat.zero_le _⟩ dX1_extreme_10 ?_
  refine sx_topE (y := nI (sm_pr P n 0)) (by rw [Nat.sub_zero]) ?_
  refine lv_istore_n (lv' := [(3, .int (nI (sm_pr P n 0))), (0, .ref (ad 0)), (1, .int w), (2, .int q)]) hx hb dX1_extreme_13 rfl hl (by decide) rfl (fun ls hl => ?_)
  refine lv_ldc (v := -1000000000) hx hb hown (hts _ q257) dX1_extreme_14 ?_
  refine lv_istore (lv' := [(4, .int (-1000000000)), (3, .int (nI (sm_pr P n 0))), (0, .ref (ad 0)), (1, .int w), (2, .int q)]) hx hb dX1_extreme_16 hl (by decide) rfl (fun ls hl => ?_)
  refine lv_iconst (v := 0) hx hb dX1_extreme_18 (by decide) ?_
  refine lv_istore (lv' := [(5, .int 0), (4, .int (-1000000000)), (3, .int (nI (sm_pr P n 0))), (0, .ref (ad 0)), (1, .int w), (2, .int q)]) hx hb dX1_extreme_19 hl (by decide) rfl (fun ls hl => ?_)
  refine lv_iconst (v := 0) hx hb dX1_extreme_21 (by decide) ?_
  refine lv_istore (lv' := [(6, .int 0), (5, .int 0), (4, .int (-1000000000)), (3, .int (nI (sm_pr P n 0))), (0, .ref (ad 0)), (1, .int w), (2, .int q)]) hx hb dX1_extreme_22 hl (by decide) rfl (fun ls hl => ?_)
  refine sx_loop (σ := Nat × Vs × Vs × Int32 × Bool) (w := fun x => yW ad cI P n x.2.1 x.2.2.1) (lv := fun x => [(0, .ref (ad 0)), (1, .int w), (2, .int q), (3, .int (nI (sm_pr P n 0))), (4, .int x.2.2.2.1), (5, .int (if x.2.2.2.2 = true then 1 else 0)), (6, .int (nI x.1))]) (I := fun x => x.1 ≤ sm_pr P n 0 ∧ sm_ex (ix w) q (sm_M P n x.1 x.2.2.1) x.2.2.2.2 x.2.2.2.1 = sm_ex (ix w) q (sm_L P n) false (-1000000000) ∧ (sm_iv w = 0 ∨ (¬ q = 0 ∧ ¬ q = 1) → x.2.2.2.1 = -1000000000)) (μ := fun x => sm_pr P n 0 - x.1) ?_ (0, v, (fun _ => -1), -1000000000, false) ⟨Nat.zero_le _, by rw [sm_M_0 hV hcb], fun _ => rfl⟩ hP hD hS (lv_sub hl [4, 5, 6, 3, 2, 1, 0] rfl)
  intro x hI ih H locs hP hD hS ls hl
  obtain ⟨c0, v1, F1, b0, s0⟩ := x
  obtain ⟨hc0, hd0, hz0⟩ := hI
  have hc0 : c0 ≤ sm_pr P n 0 := hc0
  have hd0 : sm_ex (ix w) q (sm_M P n c0 F1) s0 b0 = sm_ex (ix w) q (sm_L P n) false (-1000000000) := hd0
  have hz0 : sm_iv w = 0 ∨ (¬ q = 0 ∧ ¬ q = 1) → b0 = -1000000000 := hz0
  have hl : lv_has ls 8 [(0, .ref (ad 0)), (1, .int w), (2, .int q), (3, .int (nI (sm_pr P n 0))), (4, .int b0), (5, .int (if s0 = true then 1 else 0)), (6, .int (nI c0))] := hl
  have hP : va_P (dC, dI) vwCl (yW ad cI P n v1 F1) H := hP
  have hD : va_D A (yW ad cI P n v1 F1) := hD
  refine lv_iload hx hb dX1_extreme_24 (lv_at hl 6 rfl) ?_
  refine lv_iload_n hx hb dX1_extreme_26 rfl (lv_at hl 3 rfl) ?_
  refine lv_icmp_ge (tgt := 128) hx hb dX1_extreme_27 (by decide) (fun c_3 => ?_) (fun c_3 => ?_)
  · skip
    have hce : sm_pr P n 0 ≤ c0 := (nI_leI (by omega) (by omega)).mp c_3
    rw [sm_M_end hce] at hd0
    have hres : sm_rE (sm_L P n) w q = b0 := by
      by_cases hw : sm_iv w = 0
      · rw [sm_rE_iv hw, hz0 (Or.inl hw)]
      · by_cases hq : q = 0 ∨ q = 1
        · rw [sm_rE_ok hw hq, ← hd0]; rfl
        · rw [sm_rE_bad (fun h => hq (Or.inl h)) (fun h => hq (Or.inr h)), hz0 (Or.inr ⟨fun h => hq (Or.inl h), fun h => hq (Or.inr h)⟩)]
    refine lv_iload hx hb dX1_extreme_128 (lv_at hl 4 rfl) ?_
    exact sx_iret hx hb hr hlocks hK (v1, F1) (hres.symm) hP hD hS dX1_extreme_130
  · skip
    have hcl : c0 < sm_pr P n 0 := Nat.lt_of_not_le (fun h => c_3 ((nI_leI (by omega) (by omega)).mpr h))
    refine lv_aload_n hx hb dX1_extreme_30 rfl (lv_at hl 0 rfl) ?_
    refine lv_iload_n hx hb dX1_extreme_31 rfl (lv_at hl 1 rfl) ?_
    refine sx_callR (ci := 1) (As := [.int w]) (rest := []) ⟨hx, hb, hml, hown, hts⟩ (cy_variable l dC dI ad cI P n v1 F1 w) (cwV 1 hts (lw_V q205 q207 qs12 q22 q208) rfl rfl rfl (by decide +kernel) ⟨Nat.le_of_ble_eq_true rfl, Nat.le_of_ble_eq_true rfl⟩) hK hP rfl rfl rfl hl.1 rfl (Nat.le_of_ble_eq_true rfl) ⟨Nat.zero_le _, Nat.zero_le _⟩ dX1_extreme_32 ?_
    refine lv_if_eq (tgt := 128) hx hb dX1_extreme_35 (by decide) (fun c_v => ?_) (fun c_v => ?_)
    · skip
      refine lv_iload hx hb dX1_extreme_128 (lv_at hl 4 rfl) ?_
      exact sx_iret hx hb hr hlocks hK (v1, F1) (by rw [sm_rE_iv c_v, hz0 (Or.inl c_v)]) hP hD hS dX1_extreme_130
    · skip
      have gW := sm_iv_v4 c_v
      have gW2 := gW.2
      refine sx_joinC (pc2 := 47) (ls2 := ls) (rest2 := []) (q = 0 ∨ q = 1) (fun hq01 => ?_) (fun jn => ?_)
      · skip
        refine lv_aload_n hx hb dX1_extreme_47 rfl (lv_at hl 0 rfl) ?_
        refine lv_iload hx hb dX1_extreme_48 (lv_at hl 6 rfl) ?_
        refine lv_aload_n hx hb dX1_extreme_50 rfl (lv_at hl 0 rfl) ?_
        refine va_get (D := (dC, dI)) (ci := 1) (v := .int (nI n)) (C := RX1) (T := TX1) (N := 7) hx hb hts in_X1 hown hK hP 0 rfl rfl 0 (by decide) (hts _ q175) (fun _ h9 => h9) rfl dX1_extreme_51 ?_
        refine sx_callI (ci := 1) (As := [.int (nI c0), .int (nI n)]) (rest := []) ⟨hx, hb, hml, hown, hts⟩ (cy_run l dC dI ad cI P n v1 F1 c0 n (by omega) (Nat.le_refl n) hn hV (by omega) (fun i hi => by have := sm_pr_all (hV) (hcb) hi; omega)) (cwV 2 hts (lw_V q245 q247 qs18 q22 q248) rfl rfl rfl (by decide +kernel) ⟨Nat.le_of_ble_eq_true rfl, Nat.le_of_ble_eq_true rfl⟩) hK hP hD hS hA rfl rfl rfl hl.1 rfl (Nat.le_of_ble_eq_true rfl) ⟨Nat.zero_le _, Nat.zero_le _⟩ dX1_extreme_54 (fun r u H locs hw_ hP hD hS => ?_)
        obtain ⟨v2, F2⟩ := u
        have hP : va_P (dC, dI) vwCl (yW ad cI P n v2 F2) H := hP
        have hD : va_D A (yW ad cI P n v2 F2) := hD
        refine lv_if_eq (tgt := 122) hx hb dX1_extreme_57 (by decide) (fun c_r => ?_) (fun c_r => ?_)
        · skip
          have hM := sm_run_no hcl hw_ c_r
          rw [hM] at hd0
          refine lv_iinc (v := nI (c0 + 1)) (lv' := [(6, .int (nI (c0 + 1))), (0, .ref (ad 0)), (1, .int w), (2, .int q), (3, .int (nI (sm_pr P n 0))), (4, .int b0), (5, .int (if s0 = true then 1 else 0))]) hx hb dX1_extreme_122 hl (k := 6) rfl (nI_1 _) (by decide) rfl (fun ls hl => ?_)
          refine lv_goto (tgt := 24) hx hb dX1_extreme_125 (by decide) ?_
          exact ih (c0 + 1, v2, F2, b0, s0) ⟨hcl, hd0, hz0⟩ (by show _ - (c0 + 1) < _ - c0; omega) H locs hP hD hS ls (lv_sub hl [1, 2, 3, 4, 5, 6, 0] rfl)
        · skip
          have hM := sm_run_yes hcl hw_ c_r
          rw [hM, sm_ex] at hd0
          refine lv_iload hx hb dX1_extreme_60 (lv_at hl 5 rfl) ?_
          refine lv_if_eq (tgt := 94) hx hb dX1_extreme_62 (by decide) (fun c_s => ?_) (fun c_s => ?_)
          · skip
            have hs : s0 = false := by
              cases s0 with
              | false => rfl
              | true => exact absurd c_s (by decide)
            rw [hs, if_pos rfl] at hd0
            refine lv_iconst (v := 1) hx hb dX1_extreme_94 (by decide) ?_
            refine lv_goto (tgt := 99) hx hb dX1_extreme_95 (by decide) ?_
            refine lv_istore (lv' := [(7, .int 1), (0, .ref (ad 0)), (1, .int w), (2, .int q), (3, .int (nI (sm_pr P n 0))), (4, .int b0), (5, .int (if s0 = true then 1 else 0)), (6, .int (nI c0))]) hx hb dX1_extreme_99 hl (by decide) rfl (fun ls hl => ?_)
            refine lv_iload hx hb dX1_extreme_101 (lv_at hl 0 rfl) ?_
            refine lv_if_eq (tgt := 115) hx hb dX1_extreme_103 (by decide) (fun e_106 => ?_) (fun e_106 => ?_)
            · skip
              exact absurd e_106 (by decide)
            refine lv_aload_n hx hb dX1_extreme_106 rfl (lv_at hl 1 rfl) ?_
            refine va_get (D := (dC, dI)) (ci := 1) (v := .ref (ad 5)) (C := RX1) (T := TX1) (N := 7) hx hb hts in_X1 hown hK hP 0 rfl rfl 5 (by decide) (hts _ q180) (fun _ h9 => h9) rfl dX1_extreme_107 ?_
            refine lv_iload_n hx hb dX1_extreme_110 rfl (lv_at hl 2 rfl) ?_
            refine sx_iald (j := ix w) hx hb hK hP 5 0 rfl rfl (gW.1) (gW.2) (by decide) dX1_extreme_111 ?_
            refine lv_goto (tgt := 117) hx hb dX1_extreme_112 (by decide) ?_
            refine lv_istore (lv' := [(4, .int (v2 (ix w))), (7, .int 1), (0, .ref (ad 0)), (1, .int w), (2, .int q), (3, .int (nI (sm_pr P n 0))), (5, .int (if s0 = true then 1 else 0)), (6, .int (nI c0))]) hx hb dX1_extreme_117 hl (by decide) rfl (fun ls hl => ?_)
            refine lv_iconst (v := 1) hx hb dX1_extreme_119 (by decide) ?_
            refine lv_istore (lv' := [(5, .int 1), (4, .int (v2 (ix w))), (7, .int 1), (0, .ref (ad 0)), (1, .int w), (2, .int q), (3, .int (nI (sm_pr P n 0))), (6, .int (nI c0))]) hx hb dX1_extreme_120 hl (by decide) rfl (fun ls hl => ?_)
            refine lv_iinc (v := nI (c0 + 1)) (lv' := [(6, .int (nI (c0 + 1))), (5, .int 1), (4, .int (v2 (ix w))), (7, .int 1), (0, .ref (ad 0)), (1, .int w), (2, .int q), (3, .int (nI (sm_pr P n 0)))]) hx hb dX1_extreme_122 hl (k := 7) rfl (nI_1 _) (by decide) rfl (fun ls hl => ?_)
            refine lv_goto (tgt := 24) hx hb dX1_extreme_125 (by decide) ?_
            exact ih (c0 + 1, v2, F2, v2 (ix w), true) ⟨hcl, hd0, fun h => absurd h (by intro h; rcases h with h | h; (exact c_v h); (rcases hq01 with e | e; (exact h.1 e); (exact h.2 e)))⟩ (by show _ - (c0 + 1) < _ - c0; omega) H locs hP hD hS ls (lv_sub hl [4, 5, 6, 7, 2, 1, 0] rfl)
          · skip
            have hs : s0 = true := by
              cases s0 with
              | true => rfl
              | false => exact absurd rfl c_s
            rw [hs, if_neg (by decide)] at hd0
            refine lv_iload_n hx hb dX1_extreme_65 rfl (lv_at hl 2 rfl) ?_
            refine lv_if_ne (tgt := 83) hx hb dX1_extreme_66 (by decide) (fun c_q => ?_) (fun c_q => ?_)
            · skip
              rw [if_neg c_q] at hd0
              refine lv_aload_n hx hb dX1_extreme_83 rfl (lv_at hl 0 rfl) ?_
              refine va_get (D := (dC, dI)) (ci := 1) (v := .ref (ad 5)) (C := RX1) (T := TX1) (N := 7) hx hb hts in_X1 hown hK hP 0 rfl rfl 5 (by decide) (hts _ q180) (fun _ h9 => h9) rfl dX1_extreme_84 ?_
              refine lv_iload_n hx hb dX1_extreme_87 rfl (lv_at hl 1 rfl) ?_
              refine sx_iald (j := ix w) hx hb hK hP 5 0 rfl rfl (gW.1) (gW.2) (by decide) dX1_extreme_88 ?_
              refine lv_iload hx hb dX1_extreme_89 (lv_at hl 4 rfl) ?_
              refine lv_icmp_le (tgt := 98) hx hb dX1_extreme_91 (by decide) (fun c_b => ?_) (fun c_b => ?_)
              · skip
                rw [if_neg (Int32.not_lt.mpr c_b)] at hd0
                refine lv_iconst (v := 0) hx hb dX1_extreme_98 (by decide) ?_
                refine lv_istore (lv' := [(7, .int 0), (0, .ref (ad 0)), (1, .int w), (2, .int q), (3, .int (nI (sm_pr P n 0))), (4, .int b0), (5, .int (if s0 = true then 1 else 0)), (6, .int (nI c0))]) hx hb dX1_extreme_99 hl (by decide) rfl (fun ls hl => ?_)
                refine lv_iload hx hb dX1_extreme_101 (lv_at hl 0 rfl) ?_
                refine lv_if_eq (tgt := 115) hx hb dX1_extreme_103 (by decide) (fun e_107 => ?_) (fun e_107 => ?_)
                rotate_left
                · skip
                  exact absurd e_107 (by decide)
                refine lv_iload hx hb dX1_extreme_115 (lv_at hl 5 rfl) ?_
                refine lv_istore (lv' := [(4, .int b0), (7, .int 0), (0, .ref (ad 0)), (1, .int w), (2, .int q), (3, .int (nI (sm_pr P n 0))), (5, .int (if s0 = true then 1 else 0)), (6, .int (nI c0))]) hx hb dX1_extreme_117 hl (by decide) rfl (fun ls hl => ?_)
                refine lv_iconst (v := 1) hx hb dX1_extreme_119 (by decide) ?_
                refine lv_istore (lv' := [(5, .int 1), (4, .int b0), (7, .int 0), (0, .ref (ad 0)), (1, .int w), (2, .int q), (3, .int (nI (sm_pr P n 0))), (6, .int (nI c0))]) hx hb dX1_extreme_120 hl (by decide) rfl (fun ls hl => ?_)
                refine lv_iinc (v := nI (c0 + 1)) (lv' := [(6, .int (nI (c0 + 1))), (5, .int 1), (4, .int b0), (7, .int 0), (0, .ref (ad 0)), (1, .int w), (2, .int q), (3, .int (nI (sm_pr P n 0)))]) hx hb dX1_extreme_122 hl (k := 7) rfl (nI_1 _) (by decide) rfl (fun ls hl => ?_)
                refine lv_goto (tgt := 24) hx hb dX1_extreme_125 (by decide) ?_
                exact ih (c0 + 1, v2, F2, b0, true) ⟨hcl, hd0, fun h => absurd h (by intro h; rcases h with h | h; (exact c_v h); (rcases hq01 with e | e; (exact h.1 e); (exact h.2 e)))⟩ (by show _ - (c0 + 1) < _ - c0; omega) H locs hP hD hS ls (lv_sub hl [4, 5, 6, 7, 2, 1, 0] rfl)
              · skip
                rw [if_pos (Int32.not_le.mp c_b)] at hd0
                refine lv_iconst (v := 1) hx hb dX1_extreme_94 (by decide) ?_
                refine lv_goto (tgt := 99) hx hb dX1_extreme_95 (by decide) ?_
                refine lv_istore (lv' := [(7, .int 1), (0, .ref (ad 0)), (1, .int w), (2, .int q), (3, .int (nI (sm_pr P n 0))), (4, .int b0), (5, .int (if s0 = true then 1 else 0)), (6, .int (nI c0))]) hx hb dX1_extreme_99 hl (by decide) rfl (fun ls hl => ?_)
                refine lv_iload hx hb dX1_extreme_101 (lv_at hl 0 rfl) ?_
                refine lv_if_eq (tgt := 115) hx hb dX1_extreme_103 (by decide) (fun e_108 => ?_) (fun e_108 => ?_)
                · skip
                  exact absurd e_108 (by decide)
                refine lv_aload_n hx hb dX1_extreme_106 rfl (lv_at hl 1 rfl) ?_
                refine va_get (D := (dC, dI)) (ci := 1) (v := .ref (ad 5)) (C := RX1) (T := TX1) (N := 7) hx hb hts in_X1 hown hK hP 0 rfl rfl 5 (by decide) (hts _ q180) (fun _ h9 => h9) rfl dX1_extreme_107 ?_
                refine lv_iload_n hx hb dX1_extreme_110 rfl (lv_at hl 2 rfl) ?_
                refine sx_iald (j := ix w) hx hb hK hP 5 0 rfl rfl (gW.1) (gW.2) (by decide) dX1_extreme_111 ?_
                refine lv_goto (tgt := 117) hx hb dX1_extreme_112 (by decide) ?_
                refine lv_istore (lv' := [(4, .int (v2 (ix w))), (7, .int 1), (0, .ref (ad 0)), (1, .int w), (2, .int q), (3, .int (nI (sm_pr P n 0))), (5, .int (if s0 = true then 1 else 0)), (6, .int (nI c0))]) hx hb dX1_extreme_117 hl (by decide) rfl (fun ls hl => ?_)
                refine lv_iconst (v := 1) hx hb dX1_extreme_119 (by decide) ?_
                refine lv_istore (lv' := [(5, .int 1), (4, .int (v2 (ix w))), (7, .int 1), (0, .ref (ad 0)), (1, .int w), (2, .int q), (3, .int (nI (sm_pr P n 0))), (6, .int (nI c0))]) hx hb dX1_extreme_120 hl (by decide) rfl (fun ls hl => ?_)
                refine lv_iinc (v := nI (c0 + 1)) (lv' := [(6, .int (nI (c0 + 1))), (5, .int 1), (4, .int (v2 (ix w))), (7, .int 1), (0, .ref (ad 0)), (1, .int w), (2, .int q), (3, .int (nI (sm_pr P n 0)))]) hx hb dX1_extreme_122 hl (k := 7) rfl (nI_1 _) (by decide) rfl (fun ls hl => ?_)
                refine lv_goto (tgt := 24) hx hb dX1_extreme_125 (by decide) ?_
                exact ih (c0 + 1, v2, F2, v2 (ix w), true) ⟨hcl, hd0, fun h => absurd h (by intro h; rcases h with h | h; (exact c_v h); (rcases hq01 with e | e; (exact h.1 e); (exact h.2 e)))⟩ (by show _ - (c0 + 1) < _ - c0; omega) H locs hP hD hS ls (lv_sub hl [4, 5, 6, 7, 2, 1, 0] rfl)
            · skip
              rw [if_pos c_q] at hd0
              refine lv_aload_n hx hb dX1_extreme_69 rfl (lv_at hl 0 rfl) ?_
              refine va_get (D := (dC, dI)) (ci := 1) (v := .ref (ad 5)) (C := RX1) (T := TX1) (N := 7) hx hb hts in_X1 hown hK hP 0 rfl rfl 5 (by decide) (hts _ q180) (fun _ h9 => h9) rfl dX1_extreme_70 ?_
              refine lv_iload_n hx hb dX1_extreme_73 rfl (lv_at hl 1 rfl) ?_
              refine sx_iald (j := ix w) hx hb hK hP 5 0 rfl rfl (gW.1) (gW.2) (by decide) dX1_extreme_74 ?_
              refine lv_iload hx hb dX1_extreme_75 (lv_at hl 4 rfl) ?_
              refine lv_icmp_ge (tgt := 98) hx hb dX1_extreme_77 (by decide) (fun c_b => ?_) (fun c_b => ?_)
              · skip
                rw [if_neg (Int32.not_lt.mpr c_b)] at hd0
                refine lv_iconst (v := 0) hx hb dX1_extreme_98 (by decide) ?_
                refine lv_istore (lv' := [(7, .int 0), (0, .ref (ad 0)), (1, .int w), (2, .int q), (3, .int (nI (sm_pr P n 0))), (4, .int b0), (5, .int (if s0 = true then 1 else 0)), (6, .int (nI c0))]) hx hb dX1_extreme_99 hl (by decide) rfl (fun ls hl => ?_)
                refine lv_iload hx hb dX1_extreme_101 (lv_at hl 0 rfl) ?_
                refine lv_if_eq (tgt := 115) hx hb dX1_extreme_103 (by decide) (fun e_109 => ?_) (fun e_109 => ?_)
                rotate_left
                · skip
                  exact absurd e_109 (by decide)
                refine lv_iload hx hb dX1_extreme_115 (lv_at hl 5 rfl) ?_
                refine lv_istore (lv' := [(4, .int b0), (7, .int 0), (0, .ref (ad 0)), (1, .int w), (2, .int q), (3, .int (nI (sm_pr P n 0))), (5, .int (if s0 = true then 1 else 0)), (6, .int (nI c0))]) hx hb dX1_extreme_117 hl (by decide) rfl (fun ls hl => ?_)
                refine lv_iconst (v := 1) hx hb dX1_extreme_119 (by decide) ?_
                refine lv_istore (lv' := [(5, .int 1), (4, .int b0), (7, .int 0), (0, .ref (ad 0)), (1, .int w), (2, .int q), (3, .int (nI (sm_pr P n 0))), (6, .int (nI c0))]) hx hb dX1_extreme_120 hl (by decide) rfl (fun ls hl => ?_)
                refine lv_iinc (v := nI (c0 + 1)) (lv' := [(6, .int (nI (c0 + 1))), (5, .int 1), (4, .int b0), (7, .int 0), (0, .ref (ad 0)), (1, .int w), (2, .int q), (3, .int (nI (sm_pr P n 0)))]) hx hb dX1_extreme_122 hl (k := 7) rfl (nI_1 _) (by decide) rfl (fun ls hl => ?_)
                refine lv_goto (tgt := 24) hx hb dX1_extreme_125 (by decide) ?_
                exact ih (c0 + 1, v2, F2, b0, true) ⟨hcl, hd0, fun h => absurd h (by intro h; rcases h with h | h; (exact c_v h); (rcases hq01 with e | e; (exact h.1 e); (exact h.2 e)))⟩ (by show _ - (c0 + 1) < _ - c0; omega) H locs hP hD hS ls (lv_sub hl [4, 5, 6, 7, 2, 1, 0] rfl)
              · skip
                rw [if_pos (Int32.not_le.mp c_b)] at hd0
                refine lv_goto (tgt := 94) hx hb dX1_extreme_80 (by decide) ?_
                refine lv_iconst (v := 1) hx hb dX1_extreme_94 (by decide) ?_
                refine lv_goto (tgt := 99) hx hb dX1_extreme_95 (by decide) ?_
                refine lv_istore (lv' := [(7, .int 1), (0, .ref (ad 0)), (1, .int w), (2, .int q), (3, .int (nI (sm_pr P n 0))), (4, .int b0), (5, .int (if s0 = true then 1 else 0)), (6, .int (nI c0))]) hx hb dX1_extreme_99 hl (by decide) rfl (fun ls hl => ?_)
                refine lv_iload hx hb dX1_extreme_101 (lv_at hl 0 rfl) ?_
                refine lv_if_eq (tgt := 115) hx hb dX1_extreme_103 (by decide) (fun e_110 => ?_) (fun e_110 => ?_)
                · skip
                  exact absurd e_110 (by decide)
                refine lv_aload_n hx hb dX1_extreme_106 rfl (lv_at hl 1 rfl) ?_
                refine va_get (D := (dC, dI)) (ci := 1) (v := .ref (ad 5)) (C := RX1) (T := TX1) (N := 7) hx hb hts in_X1 hown hK hP 0 rfl rfl 5 (by decide) (hts _ q180) (fun _ h9 => h9) rfl dX1_extreme_107 ?_
                refine lv_iload_n hx hb dX1_extreme_110 rfl (lv_at hl 2 rfl) ?_
                refine sx_iald (j := ix w) hx hb hK hP 5 0 rfl rfl (gW.1) (gW.2) (by decide) dX1_extreme_111 ?_
                refine lv_goto (tgt := 117) hx hb dX1_extreme_112 (by decide) ?_
                refine lv_istore (lv' := [(4, .int (v2 (ix w))), (7, .int 1), (0, .ref (ad 0)), (1, .int w), (2, .int q), (3, .int (nI (sm_pr P n 0))), (5, .int (if s0 = true then 1 else 0)), (6, .int (nI c0))]) hx hb dX1_extreme_117 hl (by decide) rfl (fun ls hl => ?_)
                refine lv_iconst (v := 1) hx hb dX1_extreme_119 (by decide) ?_
                refine lv_istore (lv' := [(5, .int 1), (4, .int (v2 (ix w))), (7, .int 1), (0, .ref (ad 0)), (1, .int w), (2, .int q), (3, .int (nI (sm_pr P n 0))), (6, .int (nI c0))]) hx hb dX1_extreme_120 hl (by decide) rfl (fun ls hl => ?_)
                refine lv_iinc (v := nI (c0 + 1)) (lv' := [(6, .int (nI (c0 + 1))), (5, .int 1), (4, .int (v2 (ix w))), (7, .int 1), (0, .ref (ad 0)), (1, .int w), (2, .int q), (3, .int (nI (sm_pr P n 0)))]) hx hb dX1_extreme_122 hl (k := 7) rfl (nI_1 _) (by decide) rfl (fun ls hl => ?_)
                refine lv_goto (tgt := 24) hx hb dX1_extreme_125 (by decide) ?_
                exact ih (c0 + 1, v2, F2, v2 (ix w), true) ⟨hcl, hd0, fun h => absurd h (by intro h; rcases h with h | h; (exact c_v h); (rcases hq01 with e | e; (exact h.1 e); (exact h.2 e)))⟩ (by show _ - (c0 + 1) < _ - c0; omega) H locs hP hD hS ls (lv_sub hl [4, 5, 6, 7, 2, 1, 0] rfl)
      · skip
        refine lv_iload_n hx hb dX1_extreme_38 rfl (lv_at hl 2 rfl) ?_
        refine lv_if_eq (tgt := 47) hx hb dX1_extreme_39 (by decide) (fun c_0 => ?_) (fun c_0 => ?_)
        · skip
          exact jn (Or.inl c_0)
        · skip
          refine lv_iload_n hx hb dX1_extreme_42 rfl (lv_at hl 2 rfl) ?_
          refine lv_iconst (v := 1) hx hb dX1_extreme_43 (by decide) ?_
          refine lv_icmp_ne (tgt := 128) hx hb dX1_extreme_44 (by decide) (fun c_1 => ?_) (fun c_1 => ?_)
          · skip
            refine lv_iload hx hb dX1_extreme_128 (lv_at hl 4 rfl) ?_
            exact sx_iret hx hb hr hlocks hK (v1, F1) (by rw [sm_rE_bad c_0 c_1, hz0 (Or.inr ⟨c_0, c_1⟩)]) hP hD hS dX1_extreme_130
          · skip
            exact jn (Or.inr c_1)
end
section
/-! THE CLAIM OUT OF ONE WALK OF THE LAW'S BODY. Your part is whole_start (and what it stands on); all else here is the same for every law, but numbers. -/
def R_law : String := "SearchMachineLaw"
def lw_P (b : Addr) (xs : List Int32) (args : Array Value) (s : State) : Prop := args = #[.ref b] ∧ s.IntsAt b xs ∧ xs.length ≤ 256 ∧ (Jvm.Cond.and given_1 narrow_1).before args s = true
def lw_Q (_ : Array Value) (s : State) (o : Outcome) (t : State) : Prop := o = .returned (some (.int 1)) ∧ Framed s o t [] 600000 7290000
def lw_Z (below : List Frame) (a : Array Value) (s : State) : State → Prop := fun t => ∃ o, t.status = .running ∧ Ended t below o ∧ lw_Q a s o t
/-- the law's own end, with 1 on the stack, nothing written that was there before, its room as the claim has it -/
theorem lw_ret {p : Program} {l : Launch} {e : Env} {s : State} {m : MethodId} {below : List Frame} {meth : Method} {c : Code} {b : Nat} (hx : p.tables.exec = Jvm.exec) (hb : c.code = code) (hr : meth.sig.returnType = ret) (hlocks : meth.locks = false) {pc : Nat} {H : Heap} {ls : Array Slot} (hdg : decode code pc = .ok (.ireturn, 1)) : W p l e room_1 s m #[Value.ref b] below meth c H [] 600000 7290000 (lw_Z below #[Value.ref b] s) (F0 m pc ls [.int 1]) := by
  intro T hT X
  obtain ⟨fs, hret, hrun, hended, hW, hframe⟩ := X.leave (v := some (.int 1)) (hlocks := hlocks) (fun h => by rw [hr] at h; cases h)
  have hmeth' : T.vm.method? m = some meth := X.method'
  refine ⟨T.setFrames fs, ?_, .returned (some (.int 1)), hrun, hended, rfl, ⟨_, rfl⟩, hW, hframe⟩
  jvm_step X.here [X.here.top, hx, hb, hdg, hmeth', hr, ret, narrow_b1]
  (try refine ⟨rfl, ?_⟩); (try refine ⟨rfl, ?_⟩)
  first | (intro acts; rw [hret _ acts rfl rfl rfl]) | rw [hret _ _ rfl rfl rfl]
  exact Steps.refl _
/-- what holds at the law's entry: the machine, the code, the tables' words (any of lw_tbl by 'hts w (by decide +kernel)'), the script of L ints xs at the cell b, what the Statement gives of the start (any of its parts by flat_of_before) -/
def lw_At (p : Program) (s : State) (m : MethodId) (meth : Method) (c : Code) (b L : Nat) (xs : Nat → Int32) : Prop :=
  p.tables.exec = Jvm.exec ∧ c.code = code ∧ meth.sig.returnType = ret ∧ c.maxLocals = 4 ∧ s.vm.findClass R_law = some m.cls ∧ (∀ w ∈ lw_tbl, w.before #[Value.ref b] s = true) ∧ va_X b L xs s s.heap ∧ b < s.heap.size ∧ meth.locks = false ∧ (Jvm.Cond.and given_1 narrow_1).before #[Value.ref b] s = true
/-! calls out of the law: the callee's world is the first part of the caller's; behind the call it is the last -/
section SXF
variable {p : Program} {l : Launch} {e : Env} {R : Room} {s : State} {m : MethodId} {args : Array Value} {below : List Frame} {meth : Method} {c : Code} {H : Heap} {locs : List Loc} {cells slots : Nat} {Q : State → Prop}
variable {cc : ByteArray} {pc : Nat} {ls : Array Slot} {rest st0 : List Value} {D : va_G} {cl : List vw_C} {A : Nat → Prop} {b : Nat} {tys : List (ClassId × FieldType)} {w wr : va_W} {H0 : Heap}
theorem sx_P_l (h : va_P D cl (w ++ wr) H) : va_P D cl w H := fun k q hk => h k q (by
  rw [List.getElem?_append_left (List.getElem?_eq_some_iff.mp hk).1]; exact hk)
theorem sx_P_r (h : va_P D cl (w ++ wr) H) : va_P D cl wr H := fun k q hk => h (w.length + k) q (by
  rw [List.getElem?_append_right (Nat.le_add_right _ _), Nat.add_sub_cancel_left]; exact hk)
theorem sx_D_l (h : va_D A (w ++ wr)) : va_D A w := by
  have up : ∀ (k : Nat) (q : Nat × va_E), w[k]? = some q → (w ++ wr)[k]? = some q := fun k q hk => by
    rw [List.getElem?_append_left (List.getElem?_eq_some_iff.mp hk).1]; exact hk
  exact ⟨fun i j x y hi hj => h.1 i j x y (up i x hi) (up j y hj), fun k q hk => h.2 k q (up k q hk)⟩
theorem sx_D_r (h : va_D A (w ++ wr)) : va_D A wr := by
  have up : ∀ (k : Nat) (q : Nat × va_E), wr[k]? = some q → (w ++ wr)[w.length + k]? = some q := fun k q hk => by
    rw [List.getElem?_append_right (Nat.le_add_right _ _), Nat.add_sub_cancel_left]; exact hk
  exact ⟨fun i j x y hi hj e => by have := h.1 _ _ x y (up i x hi) (up j y hj) e; omega, fun k q hk => h.2 _ q (up k q hk)⟩
theorem sx_D_x (h : va_D A (w ++ wr)) {i j : Nat} {x y : Nat × va_E} (hi : w[i]? = some x) (hj : wr[j]? = some y) : x.1 ≠ y.1 := by
  intro e
  have h1 := (List.getElem?_eq_some_iff.mp hi).1
  have := h.1 i (w.length + j) x y (by rw [List.getElem?_append_left h1]; exact hi) (by rw [List.getElem?_append_right (Nat.le_add_right _ _), Nat.add_sub_cancel_left]; exact hj) e
  omega
variable {y : MethodName} {bytes : ByteArray} {maxL nL n index ci N : Nat} {ret : Option FieldType} {wc : List Cond} {rm : Room} {Ts : List Cond} {own C : String} {As : List Value} {T : u_T} {fs : List Value}
theorem sx_callIF {σ : Type} {wf : σ → va_W} {post : Int32 → σ → Prop} (S : CallFix p m c cc nL s args Ts own) (hM : MetI l D cl tys y wc rm (.ref b :: As) w wf post) (cw : CallW R s args own C index y bytes maxL ret wc rm 0 0 n)
    (hK : va_K D cl tys s) (hP : va_P D cl (w ++ wr) H) (hD : va_D A (w ++ wr)) (hS : va_S A H0 H locs) (hA : ∀ q, H0.size ≤ q → A q) (hc : cl[ci]? = some (C, T, N)) (he : w[0]? = some (b, .inr (ci, fs)))
    (hn : As.length = n) (hsize : ls.size = nL) (hstack : st0 = As.reverse ++ .ref b :: rest) (hW : (rest.map fun v => v.category).sum ≤ 8) (hf : cells ≤ R.cells ∧ slots ≤ R.slots) (hdg : decode cc pc = .ok (.invokevirtual index, 3))
    (kk : ∀ (r : Int32) (u : σ) (H1 : Heap) (locs1 : List Loc), post r u → va_P D cl (wr ++ wf u) H1 → va_D A (wr ++ wf u) → va_S A H0 H1 locs1 → W p l e R s m args below meth c H1 locs1 cells slots Q (F0 m (pc + 3) ls (.int r :: rest))) : W p l e R s m args below meth c H locs cells slots Q (F0 m pc ls st0) := by
  have hPc : va_P D cl w H := sx_P_l hP
  have hDc : va_D A w := sx_D_l hD
  have hF : ∀ q, va_A w H.size q → A q := by
    intro q h
    rcases h with ⟨k, e, h⟩ | h
    · exact hDc.2 k (q, e) h
    · exact hA q (Nat.le_trans hS.1 h)
  refine va_calli (va_runV (As := As) (rest := rest) S (hM H.size) cw ⟨sx_blind, va_recv hK hPc hc he, fun U hU hW2 => ⟨rfl, by rw [hU], by rw [hU]; exact hPc, va_K.moved hW2.alike hK, hDc.weaken (fun _ _ _ _ => trivial)⟩⟩ rfl hn hsize hstack (lv_room hW) hdg hf) hS (fun q _ h => hF q h) hF (fun r u t H1 locs1 ht hvm hw1 hB hz1 hk1 hS1 => ?_)
  obtain ⟨b1, b2, b3⟩ := hB
  rw [ht] at b1
  have apart : ∀ (k : Nat) (q : Nat × va_E), wr[k]? = some q → q.1 < H.size ∧ ¬ va_A w H.size q.1 := by
    intro k q hk
    have hl := (sx_P_r hP k q hk).lt
    refine ⟨hl, fun h => ?_⟩
    rcases h with ⟨k2, e, h⟩ | h
    · exact sx_D_x hD h hk rfl
    · omega
  refine kk r u H1 locs1 hw1 (va_P.app (fun k q hk => (sx_P_r hP k q hk).kept (hk1 q.1 (apart k q hk).1 (apart k q hk).2)) b1) (va_D.app (sx_D_r hD) (b3.weaken (fun k q _ h => hF q.1 h)) (fun i j x y hx hy hxy => ?_)) hS1
  exact (apart i x hx).2 (by rw [hxy]; exact b3.2 j y hy)
theorem sx_callRF {r : Int32} (S : CallFix p m c cc nL s args Ts own) (hM : MetR l D cl tys y wc rm (.ref b :: As) w r) (cw : CallW R s args own C index y bytes maxL ret wc rm 0 0 n)
    (hK : va_K D cl tys s) (hP : va_P D cl w H) (hc : cl[ci]? = some (C, T, N)) (he : w[0]? = some (b, .inr (ci, fs)))
    (hn : As.length = n) (hsize : ls.size = nL) (hstack : st0 = As.reverse ++ .ref b :: rest) (hW : (rest.map fun v => v.category).sum ≤ 8) (hf : cells ≤ R.cells ∧ slots ≤ R.slots) (hdg : decode cc pc = .ok (.invokevirtual index, 3))
    (kk : W p l e R s m args below meth c H locs cells slots Q (F0 m (pc + 3) ls (.int r :: rest))) : W p l e R s m args below meth c H locs cells slots Q (F0 m pc ls st0) :=
  sx_callR S hM cw hK hP hc he hn hsize hstack hW hf hdg kk
/-- the script, by a place -/
theorem sx_sld (hexec : p.tables.exec = Jvm.exec) (hb : c.code = cc) {a L : Nat} {xs : Nat → Int32} (hX : va_X a L xs s H0) (hbl : a < H0.size) (hbA : ¬ A a) (hS : va_S A H0 H locs) {i : Int32} {j : Nat} (hi : i = nI j) (hj : j < L) (hL : L ≤ 256) (hdg : decode cc pc = .ok (.iaload, 1))
    (kk : W p l e R s m args below meth c H locs cells slots Q (F0 m (pc + 1) ls (.int (xs j) :: rest))) : W p l e R s m args below meth c H locs cells slots Q (F0 m pc ls (.int i :: .ref a :: rest)) := by
  subst hi
  refine va_sld hexec hb hX hbl hbA hS (vp_in_nI hj (by omega)) hdg ?_
  rw [nI_clamp (by omega)]
  exact kk
end SXF
theorem sm_len4 {L i : Nat} (hL : L ≤ 256) (hi : i ≤ L) (h : ¬ nI L - 4 < nI i) : i + 4 ≤ L := by
  rw [Int32.lt_iff_toInt_lt, show nI L - 4 = nI L - nI 4 from rfl, pk_sub_toInt (by omega) (by omega), nI_toInt (by omega)] at h
  omega
end
section
/-! THE LAW -/
/-- the two objects of the law, with the same program -/
abbrev zW (ax ay : Nat → Nat) (cB cI cJ : ClassId) (P : Pg) (n : Nat) (u : XS) (v F : Vs) : va_W := xF ax cB cI P n u ++ yW ay cJ P n v F
abbrev Zs : Type := Nat × Pg × Nat × XS × Vs × Vs
set_option maxHeartbeats 4000000 in
set_option maxRecDepth 100000 in
theorem law_loop {p : Program} {l : Launch} {e : Env} {s : State} {m : MethodId} {below : List Frame} {meth : Method} {c : Code} {dC : Nat → ClassId} {dI : Nat → Nat → Nat} {b L : Nat} {xs : Nat → Int32} (hL : L ≤ 256) (C0 : lw_At p s m meth c b L xs) (ax ay : Nat → Nat) (cB cI cJ : ClassId) (hKx : va_K (dC, dI) vwCl (tyX cB cI) s) (hKy : va_K (dC, dI) vwCl (tyY cJ) s) {H : Heap} {locs : List Loc} {ls : Array Slot} (u : XS) (v F : Vs) (hP : va_P (dC, dI) vwCl (zW ax ay cB cI cJ (sm_z, sm_z, sm_z, sm_z) 0 u v F) H) (hD : va_D (fun q : Nat => s.heap.size ≤ q) (zW ax ay cB cI cJ (sm_z, sm_z, sm_z, sm_z) 0 u v F)) (hS : va_S (fun q : Nat => s.heap.size ≤ q) s.heap H locs) (hl : lv_has ls 4 [(3, .int 0), (0, .ref b), (1, .ref (ax 0)), (2, .ref (ay 0))]) : W p l e room_1 s m #[Value.ref b] below meth c H locs 18 200 (lw_Z below #[Value.ref b] s) (F0 m 18 ls []) := by
  obtain ⟨hx, hb, hr, hml, hown, hts0, hX, hbl, hlocks, hgv⟩ := C0
  have hts : ∀ w ∈ lw_all, w.before #[Value.ref b] s = true := fun w h => hts0 w (lw_all_tbl h)
  have hA : ∀ q : Nat, s.heap.size ≤ q → (fun q : Nat => s.heap.size ≤ q) q := fun _ h => h
  have hbA : ¬ (fun q : Nat => s.heap.size ≤ q) b := Nat.not_le.mpr hbl
  refine sx_loop (σ := Zs) (w := fun x => zW ax ay cB cI cJ x.2.1 x.2.2.1 x.2.2.2.1 x.2.2.2.2.1 x.2.2.2.2.2) (lv := fun x => [(3, .int (nI x.1)), (0, .ref b), (1, .ref (ax 0)), (2, .ref (ay 0))]) (I := fun x => x.1 ≤ L ∧ sm_In x.2.1 x.2.2.1) (μ := fun x => L - x.1) ?_ (0, (sm_z, sm_z, sm_z, sm_z), 0, u, v, F) ⟨Nat.zero_le _, sm_In_0⟩ hP hD hS hl
  clear hP hD hS hl
  intro x hI ih H locs hP hD hS ls hl
  obtain ⟨i, P, n, u, v, F⟩ := x
  obtain ⟨hi, hIn⟩ := hI
  have hi : i ≤ L := hi
  have hIn : sm_In P n := hIn
  obtain ⟨hn, hV, hcb⟩ := id hIn
  obtain ⟨v1, pt1, en1, tt1, tv1, tx1, oc1, o11, o21, o31⟩ := u
  have hl : lv_has ls 4 [(3, .int (nI i)), (0, .ref b), (1, .ref (ax 0)), (2, .ref (ay 0))] := hl
  have hP : va_P (dC, dI) vwCl (xW ax cB cI P n v1 pt1 en1 tt1 tv1 tx1 oc1 o11 o21 o31 ++ yW ay cJ P n v F) H := hP
  have hD : va_D (fun q : Nat => s.heap.size ≤ q) (xW ax cB cI P n v1 pt1 en1 tt1 tv1 tx1 oc1 o11 o21 o31 ++ yW ay cJ P n v F) := hD
  refine lv_iload_n hx hb dL_law_18 rfl (lv_at hl 0 rfl) ?_
  refine lv_aload_n hx hb dL_law_19 rfl (lv_at hl 1 rfl) ?_
  refine va_slen hx hb hX hbl hbA hS dL_law_20 ?_
  refine lv_iconst (v := 4) hx hb dL_law_21 (by decide) ?_
  refine lv_isub hx hb dL_law_22 ?_
  refine lv_icmp_gt (tgt := 327) hx hb dL_law_23 (by decide) (fun c_1 => ?_) (fun c_1 => ?_)
  · skip
    refine lv_iconst (v := 1) hx hb dL_law_327 (by decide) ?_
    refine va_forget (fun q hq => hS.2.2 q hq) ?_
    refine W.widen (k := 600000) (n := 7290000) (Nat.le_of_ble_eq_true rfl) (Nat.le_of_ble_eq_true rfl) ?_
    exact lw_ret hx hb hr hlocks dL_law_328
  · skip
    have hi4 : i + 4 ≤ L := sm_len4 hL hi c_1
    refine lv_aload_n hx hb dL_law_26 rfl (lv_at hl 1 rfl) ?_
    refine lv_iload_n hx hb dL_law_27 rfl (lv_at hl 0 rfl) ?_
    refine sx_sld (j := i) hx hb hX hbl hbA hS rfl (by omega) hL dL_law_28 ?_
    refine lv_bipush (v := 15) hx hb dL_law_29 (by decide) ?_
    refine lv_iand hx hb dL_law_31 ?_
    obtain ⟨kk, hkk, ekk⟩ := pk_andE (xs i) (m := 15) 4 (by decide)
    have hkk : kk < 16 := hkk
    refine sx_topE (y := nI kk) (ekk) ?_
    have hcases : kk = 0 ∨ kk = 1 ∨ kk = 2 ∨ kk = 3 ∨ kk = 4 ∨ kk = 5 ∨ kk = 6 ∨ kk = 7 ∨ kk = 8 ∨ 9 ≤ kk := by omega
    rcases hcases with hk | hk | hk | hk | hk | hk | hk | hk | hk | hk
    · skip
      subst hk
      refine sx_topE (y := 0) (rfl) ?_
      refine lv_tableIn (tgt := 84) hx hb dL_law_32 (by decide) (by decide) rfl (by decide) ?_
      refine lv_aload_n hx hb dL_law_84 rfl (lv_at hl 2 rfl) ?_
      refine lv_aload_n hx hb dL_law_85 rfl (lv_at hl 1 rfl) ?_
      refine lv_iload_n hx hb dL_law_86 rfl (lv_at hl 0 rfl) ?_
      refine lv_iconst (v := 1) hx hb dL_law_87 (by decide) ?_
      refine lv_iadd hx hb dL_law_88 ?_
      refine sx_topE (y := nI (i + 1)) (nI_1 _) ?_
      refine sx_sld (j := i + 1) hx hb hX hbl hbA hS rfl (by omega) hL dL_law_89 ?_
      refine lv_aload_n hx hb dL_law_90 rfl (lv_at hl 1 rfl) ?_
      refine lv_iload_n hx hb dL_law_91 rfl (lv_at hl 0 rfl) ?_
      refine lv_iconst (v := 2) hx hb dL_law_92 (by decide) ?_
      refine lv_iadd hx hb dL_law_93 ?_
      refine sx_topE (y := nI (i + 2)) (nI_add i 2) ?_
      refine sx_sld (j := i + 2) hx hb hX hbl hbA hS rfl (by omega) hL dL_law_94 ?_
      refine lv_aload_n hx hb dL_law_95 rfl (lv_at hl 1 rfl) ?_
      refine lv_iload_n hx hb dL_law_96 rfl (lv_at hl 0 rfl) ?_
      refine lv_iconst (v := 3) hx hb dL_law_97 (by decide) ?_
      refine lv_iadd hx hb dL_law_98 ?_
      refine sx_topE (y := nI (i + 3)) (nI_add i 3) ?_
      refine sx_sld (j := i + 3) hx hb hX hbl hbA hS rfl (by omega) hL dL_law_99 ?_
      refine sx_callIF (ci := 0) (As := [.int (xs (i + 1)), .int (xs (i + 2)), .int (xs (i + 3))]) (rest := []) ⟨hx, hb, hml, hown, hts⟩ (ct_step l dC dI ax cB cI P n v1 pt1 en1 tt1 tv1 tx1 oc1 o11 o21 o31 (xs (i + 1)) (xs (i + 2)) (xs (i + 3)) hn) (cwV 3 hts (lw_V q79 q80 q81 q21 q82) rfl rfl rfl (by decide +kernel) ⟨Nat.le_of_ble_eq_true rfl, Nat.le_of_ble_eq_true rfl⟩) hKx hP hD hS hA rfl rfl rfl hl.1 rfl (Nat.le_of_ble_eq_true rfl) ⟨Nat.le_of_ble_eq_true rfl, Nat.le_of_ble_eq_true rfl⟩ dL_law_100 (fun r1 z1 H locs hw1 hP hD hS => ?_)
      obtain ⟨P1, n1⟩ := z1
      have hP : va_P (dC, dI) vwCl (yW ay cJ P n v F ++ xW ax cB cI P1 n1 v1 pt1 en1 tt1 tv1 tx1 oc1 o11 o21 o31) H := hP
      have hD : va_D (fun q : Nat => s.heap.size ≤ q) (yW ay cJ P n v F ++ xW ax cB cI P1 n1 v1 pt1 en1 tt1 tv1 tx1 oc1 o11 o21 o31) := hD
      refine lv_aload_n hx hb dL_law_103 rfl (lv_at hl 3 rfl) ?_
      refine lv_aload_n hx hb dL_law_104 rfl (lv_at hl 1 rfl) ?_
      refine lv_iload_n hx hb dL_law_105 rfl (lv_at hl 0 rfl) ?_
      refine lv_iconst (v := 1) hx hb dL_law_106 (by decide) ?_
      refine lv_iadd hx hb dL_law_107 ?_
      refine sx_topE (y := nI (i + 1)) (nI_1 _) ?_
      refine sx_sld (j := i + 1) hx hb hX hbl hbA hS rfl (by omega) hL dL_law_108 ?_
      refine lv_aload_n hx hb dL_law_109 rfl (lv_at hl 1 rfl) ?_
      refine lv_iload_n hx hb dL_law_110 rfl (lv_at hl 0 rfl) ?_
      refine lv_iconst (v := 2) hx hb dL_law_111 (by decide) ?_
      refine lv_iadd hx hb dL_law_112 ?_
      refine sx_topE (y := nI (i + 2)) (nI_add i 2) ?_
      refine sx_sld (j := i + 2) hx hb hX hbl hbA hS rfl (by omega) hL dL_law_113 ?_
      refine lv_aload_n hx hb dL_law_114 rfl (lv_at hl 1 rfl) ?_
      refine lv_iload_n hx hb dL_law_115 rfl (lv_at hl 0 rfl) ?_
      refine lv_iconst (v := 3) hx hb dL_law_116 (by decide) ?_
      refine lv_iadd hx hb dL_law_117 ?_
      refine sx_topE (y := nI (i + 3)) (nI_add i 3) ?_
      refine sx_sld (j := i + 3) hx hb hX hbl hbA hS rfl (by omega) hL dL_law_118 ?_
      refine sx_callIF (ci := 1) (As := [.int (xs (i + 1)), .int (xs (i + 2)), .int (xs (i + 3))]) (rest := [.int r1]) ⟨hx, hb, hml, hown, hts⟩ (cy_step l dC dI ay cJ P n v F (xs (i + 1)) (xs (i + 2)) (xs (i + 3)) hn) (cwV 3 hts (lw_V q197 q198 q199 q22 q200) rfl rfl rfl (by decide +kernel) ⟨Nat.le_of_ble_eq_true rfl, Nat.le_of_ble_eq_true rfl⟩) hKy hP hD hS hA rfl rfl rfl hl.1 rfl (Nat.le_of_ble_eq_true rfl) ⟨Nat.le_of_ble_eq_true rfl, Nat.le_of_ble_eq_true rfl⟩ dL_law_119 (fun r2 z2 H locs hw2 hP hD hS => ?_)
      obtain ⟨P2, n2⟩ := z2
      have hw1 : (r1, P1, n1) = sm_sp P n (xs (i + 1)) (xs (i + 2)) (xs (i + 3)) := hw1
      have hw2 : (r2, P2, n2) = sm_sp P n (xs (i + 1)) (xs (i + 2)) (xs (i + 3)) := hw2
      obtain ⟨e1, e2⟩ := Prod.mk.inj (hw1.trans hw2.symm)
      obtain ⟨e3, e4⟩ := Prod.mk.inj e2
      subst e1 e3 e4
      have hIn1 : sm_In P1 n1 := by
        have := sm_In_step (xs (i + 1)) (xs (i + 2)) (xs (i + 3)) hIn
        rw [← hw1] at this
        exact this
      have hP : va_P (dC, dI) vwCl (xW ax cB cI P1 n1 v1 pt1 en1 tt1 tv1 tx1 oc1 o11 o21 o31 ++ yW ay cJ P1 n1 v F) H := hP
      have hD : va_D (fun q : Nat => s.heap.size ≤ q) (xW ax cB cI P1 n1 v1 pt1 en1 tt1 tv1 tx1 oc1 o11 o21 o31 ++ yW ay cJ P1 n1 v F) := hD
      refine lv_icmp_eq (tgt := 321) hx hb dL_law_122 (by decide) (fun c_2 => ?_) (fun c_2 => ?_)
      rotate_left
      · skip
        exact absurd rfl c_2
      refine lv_iinc (v := nI (i + 4)) (lv' := [(3, .int (nI (i + 4))), (0, .ref b), (1, .ref (ax 0)), (2, .ref (ay 0))]) hx hb dL_law_321 hl (k := 0) rfl (nI_add i 4) (by decide) rfl (fun ls hl => ?_)
      refine lv_goto (tgt := 18) hx hb dL_law_324 (by decide) ?_
      exact ih (i + 4, P1, n1, (v1, pt1, en1, tt1, tv1, tx1, oc1, o11, o21, o31), v, F) ⟨hi4, hIn1⟩ (by show L - (i + 4) < L - i; omega) H locs hP hD hS ls (lv_sub hl [0, 1, 2, 3] rfl)
    · skip
      subst hk
      refine sx_topE (y := 1) (rfl) ?_
      refine lv_tableIn (tgt := 127) hx hb dL_law_32 (by decide) (by decide) rfl (by decide) ?_
      refine lv_aload_n hx hb dL_law_127 rfl (lv_at hl 2 rfl) ?_
      refine sx_callIF (ci := 0) (As := []) (rest := []) ⟨hx, hb, hml, hown, hts⟩ (ct_drop l dC dI ax cB cI P n v1 pt1 en1 tt1 tv1 tx1 oc1 o11 o21 o31 hn) (cwV 0 hts (lw_V q96 q97 q98 q21 q99) rfl rfl rfl (by decide +kernel) ⟨Nat.le_of_ble_eq_true rfl, Nat.le_of_ble_eq_true rfl⟩) hKx hP hD hS hA rfl rfl rfl hl.1 rfl (Nat.le_of_ble_eq_true rfl) ⟨Nat.le_of_ble_eq_true rfl, Nat.le_of_ble_eq_true rfl⟩ dL_law_128 (fun r1 n1 H locs hw1 hP hD hS => ?_)
      have hP : va_P (dC, dI) vwCl (yW ay cJ P n v F ++ xW ax cB cI P n1 v1 pt1 en1 tt1 tv1 tx1 oc1 o11 o21 o31) H := hP
      have hD : va_D (fun q : Nat => s.heap.size ≤ q) (yW ay cJ P n v F ++ xW ax cB cI P n1 v1 pt1 en1 tt1 tv1 tx1 oc1 o11 o21 o31) := hD
      refine lv_aload_n hx hb dL_law_131 rfl (lv_at hl 3 rfl) ?_
      refine sx_callIF (ci := 1) (As := []) (rest := [.int r1]) ⟨hx, hb, hml, hown, hts⟩ (cy_drop l dC dI ay cJ P n v F hn) (cwV 0 hts (lw_V q217 q218 q219 q22 q220) rfl rfl rfl (by decide +kernel) ⟨Nat.le_of_ble_eq_true rfl, Nat.le_of_ble_eq_true rfl⟩) hKy hP hD hS hA rfl rfl rfl hl.1 rfl (Nat.le_of_ble_eq_true rfl) ⟨Nat.le_of_ble_eq_true rfl, Nat.le_of_ble_eq_true rfl⟩ dL_law_132 (fun r2 n2 H locs hw2 hP hD hS => ?_)
      have e1 : n2 = n1 := hw2.1.trans hw1.1.symm
      subst e1
      have hP : va_P (dC, dI) vwCl (xW ax cB cI P n2 v1 pt1 en1 tt1 tv1 tx1 oc1 o11 o21 o31 ++ yW ay cJ P n2 v F) H := hP
      have hD : va_D (fun q : Nat => s.heap.size ≤ q) (xW ax cB cI P n2 v1 pt1 en1 tt1 tv1 tx1 oc1 o11 o21 o31 ++ yW ay cJ P n2 v F) := hD
      refine lv_icmp_eq (tgt := 321) hx hb dL_law_135 (by decide) (fun c_2 => ?_) (fun c_2 => ?_)
      rotate_left
      · skip
        exact absurd (hw1.2.trans hw2.2.symm) c_2
      refine lv_iinc (v := nI (i + 4)) (lv' := [(3, .int (nI (i + 4))), (0, .ref b), (1, .ref (ax 0)), (2, .ref (ay 0))]) hx hb dL_law_321 hl (k := 0) rfl (nI_add i 4) (by decide) rfl (fun ls hl => ?_)
      refine lv_goto (tgt := 18) hx hb dL_law_324 (by decide) ?_
      exact ih (i + 4, P, n2, (v1, pt1, en1, tt1, tv1, tx1, oc1, o11, o21, o31), v, F) ⟨hi4, by rw [show n2 = n - 1 from hw2.1]; exact sm_In_drop hIn⟩ (by show L - (i + 4) < L - i; omega) H locs hP hD hS ls (lv_sub hl [0, 1, 2, 3] rfl)
    · skip
      subst hk
      refine sx_topE (y := 2) (rfl) ?_
      refine lv_tableIn (tgt := 140) hx hb dL_law_32 (by decide) (by decide) rfl (by decide) ?_
      refine lv_aload_n hx hb dL_law_140 rfl (lv_at hl 2 rfl) ?_
      have hPx := sx_P_l hP
      have hPy := sx_P_r hP
      refine sx_callRF (ci := 0) (As := []) (rest := []) ⟨hx, hb, hml, hown, hts⟩ (ct_length l dC dI ax cB cI P n v1 pt1 en1 tt1 tv1 tx1 oc1 o11 o21 o31) (cwV 0 hts (lw_V q100 q101 q102 q21 q103) rfl rfl rfl (by decide +kernel) ⟨Nat.le_of_ble_eq_true rfl, Nat.le_of_ble_eq_true rfl⟩) hKx hPx rfl rfl rfl hl.1 rfl (Nat.le_of_ble_eq_true rfl) ⟨Nat.le_of_ble_eq_true rfl, Nat.le_of_ble_eq_true rfl⟩ dL_law_141 ?_
      refine lv_aload_n hx hb dL_law_144 rfl (lv_at hl 3 rfl) ?_
      refine sx_callRF (ci := 1) (As := []) (rest := [.int (nI n)]) ⟨hx, hb, hml, hown, hts⟩ (cy_length l dC dI ay cJ P n v F) (cwV 0 hts (lw_V q221 q222 q223 q22 q224) rfl rfl rfl (by decide +kernel) ⟨Nat.le_of_ble_eq_true rfl, Nat.le_of_ble_eq_true rfl⟩) hKy hPy rfl rfl rfl hl.1 rfl (Nat.le_of_ble_eq_true rfl) ⟨Nat.le_of_ble_eq_true rfl, Nat.le_of_ble_eq_true rfl⟩ dL_law_145 ?_
      refine lv_icmp_eq (tgt := 321) hx hb dL_law_148 (by decide) (fun c_2 => ?_) (fun c_2 => ?_)
      rotate_left
      · skip
        exact absurd rfl c_2
      refine lv_iinc (v := nI (i + 4)) (lv' := [(3, .int (nI (i + 4))), (0, .ref b), (1, .ref (ax 0)), (2, .ref (ay 0))]) hx hb dL_law_321 hl (k := 0) rfl (nI_add i 4) (by decide) rfl (fun ls hl => ?_)
      refine lv_goto (tgt := 18) hx hb dL_law_324 (by decide) ?_
      exact ih (i + 4, P, n, (v1, pt1, en1, tt1, tv1, tx1, oc1, o11, o21, o31), v, F) ⟨hi4, hIn⟩ (by show L - (i + 4) < L - i; omega) H locs hP hD hS ls (lv_sub hl [0, 1, 2, 3] rfl)
    · skip
      subst hk
      refine sx_topE (y := 3) (rfl) ?_
      refine lv_tableIn (tgt := 153) hx hb dL_law_32 (by decide) (by decide) rfl (by decide) ?_
      refine lv_aload_n hx hb dL_law_153 rfl (lv_at hl 2 rfl) ?_
      refine sx_callIF (ci := 0) (As := []) (rest := []) ⟨hx, hb, hml, hown, hts⟩ (ct_answers l dC dI ax cB cI P n v1 pt1 en1 tt1 tv1 tx1 oc1 o11 o21 o31  hn hV hcb) (cwV 0 hts (lw_V q104 q105 q106 q21 q107) rfl rfl rfl (by decide +kernel) ⟨Nat.le_of_ble_eq_true rfl, Nat.le_of_ble_eq_true rfl⟩) hKx hP hD hS hA rfl rfl rfl hl.1 rfl (Nat.le_of_ble_eq_true rfl) ⟨Nat.le_of_ble_eq_true rfl, Nat.le_of_ble_eq_true rfl⟩ dL_law_154 (fun r1 z1 H locs hw1 hP hD hS => ?_)
      have hP : va_P (dC, dI) vwCl (yW ay cJ P n v F ++ xF ax cB cI P n z1) H := hP
      have hD : va_D (fun q : Nat => s.heap.size ≤ q) (yW ay cJ P n v F ++ xF ax cB cI P n z1) := hD
      refine lv_aload_n hx hb dL_law_157 rfl (lv_at hl 3 rfl) ?_
      refine sx_callIF (ci := 1) (As := []) (rest := [.int r1]) ⟨hx, hb, hml, hown, hts⟩ (cy_answers l dC dI ay cJ P n v F  hn hV hcb) (cwV 0 hts (lw_V q225 q226 q227 q22 q228) rfl rfl rfl (by decide +kernel) ⟨Nat.le_of_ble_eq_true rfl, Nat.le_of_ble_eq_true rfl⟩) hKy hP hD hS hA rfl rfl rfl hl.1 rfl (Nat.le_of_ble_eq_true rfl) ⟨Nat.le_of_ble_eq_true rfl, Nat.le_of_ble_eq_true rfl⟩ dL_law_158 (fun r2 z2 H locs hw2 hP hD hS => ?_)
      have hP : va_P (dC, dI) vwCl (xF ax cB cI P n z1 ++ yW ay cJ P n z2.1 z2.2) H := hP
      have hD : va_D (fun q : Nat => s.heap.size ≤ q) (xF ax cB cI P n z1 ++ yW ay cJ P n z2.1 z2.2) := hD
      refine lv_icmp_eq (tgt := 321) hx hb dL_law_161 (by decide) (fun c_2 => ?_) (fun c_2 => ?_)
      rotate_left
      · skip
        exact absurd (hw1.trans hw2.symm) c_2
      refine lv_iinc (v := nI (i + 4)) (lv' := [(3, .int (nI (i + 4))), (0, .ref b), (1, .ref (ax 0)), (2, .ref (ay 0))]) hx hb dL_law_321 hl (k := 0) rfl (nI_add i 4) (by decide) rfl (fun ls hl => ?_)
      refine lv_goto (tgt := 18) hx hb dL_law_324 (by decide) ?_
      exact ih (i + 4, P, n, z1, z2.1, z2.2) ⟨hi4, hIn⟩ (by show L - (i + 4) < L - i; omega) H locs hP hD hS ls (lv_sub hl [0, 1, 2, 3] rfl)
    · skip
      subst hk
      refine sx_topE (y := 4) (rfl) ?_
      refine lv_tableIn (tgt := 166) hx hb dL_law_32 (by decide) (by decide) rfl (by decide) ?_
      refine lv_aload_n hx hb dL_law_166 rfl (lv_at hl 2 rfl) ?_
      refine lv_aload_n hx hb dL_law_167 rfl (lv_at hl 1 rfl) ?_
      refine lv_iload_n hx hb dL_law_168 rfl (lv_at hl 0 rfl) ?_
      refine lv_iconst (v := 1) hx hb dL_law_169 (by decide) ?_
      refine lv_iadd hx hb dL_law_170 ?_
      refine sx_topE (y := nI (i + 1)) (nI_1 _) ?_
      refine sx_sld (j := i + 1) hx hb hX hbl hbA hS rfl (by omega) hL dL_law_171 ?_
      refine lv_aload_n hx hb dL_law_172 rfl (lv_at hl 1 rfl) ?_
      refine lv_iload_n hx hb dL_law_173 rfl (lv_at hl 0 rfl) ?_
      refine lv_iconst (v := 2) hx hb dL_law_174 (by decide) ?_
      refine lv_iadd hx hb dL_law_175 ?_
      refine sx_topE (y := nI (i + 2)) (nI_add i 2) ?_
      refine sx_sld (j := i + 2) hx hb hX hbl hbA hS rfl (by omega) hL dL_law_176 ?_
      refine sx_callIF (ci := 0) (As := [.int (xs (i + 1)), .int (xs (i + 2))]) (rest := []) ⟨hx, hb, hml, hown, hts⟩ (ct_value l dC dI ax cB cI P n v1 pt1 en1 tt1 tv1 tx1 oc1 o11 o21 o31 (xs (i + 1)) (xs (i + 2)) hn hV hcb) (cwV 2 hts (lw_V q148 q149 q150 q21 q151) rfl rfl rfl (by decide +kernel) ⟨Nat.le_of_ble_eq_true rfl, Nat.le_of_ble_eq_true rfl⟩) hKx hP hD hS hA rfl rfl rfl hl.1 rfl (Nat.le_of_ble_eq_true rfl) ⟨Nat.le_of_ble_eq_true rfl, Nat.le_of_ble_eq_true rfl⟩ dL_law_177 (fun r1 z1 H locs hw1 hP hD hS => ?_)
      have hP : va_P (dC, dI) vwCl (yW ay cJ P n v F ++ xF ax cB cI P n z1) H := hP
      have hD : va_D (fun q : Nat => s.heap.size ≤ q) (yW ay cJ P n v F ++ xF ax cB cI P n z1) := hD
      refine lv_aload_n hx hb dL_law_180 rfl (lv_at hl 3 rfl) ?_
      refine lv_aload_n hx hb dL_law_181 rfl (lv_at hl 1 rfl) ?_
      refine lv_iload_n hx hb dL_law_182 rfl (lv_at hl 0 rfl) ?_
      refine lv_iconst (v := 1) hx hb dL_law_183 (by decide) ?_
      refine lv_iadd hx hb dL_law_184 ?_
      refine sx_topE (y := nI (i + 1)) (nI_1 _) ?_
      refine sx_sld (j := i + 1) hx hb hX hbl hbA hS rfl (by omega) hL dL_law_185 ?_
      refine lv_aload_n hx hb dL_law_186 rfl (lv_at hl 1 rfl) ?_
      refine lv_iload_n hx hb dL_law_187 rfl (lv_at hl 0 rfl) ?_
      refine lv_iconst (v := 2) hx hb dL_law_188 (by decide) ?_
      refine lv_iadd hx hb dL_law_189 ?_
      refine sx_topE (y := nI (i + 2)) (nI_add i 2) ?_
      refine sx_sld (j := i + 2) hx hb hX hbl hbA hS rfl (by omega) hL dL_law_190 ?_
      refine sx_callIF (ci := 1) (As := [.int (xs (i + 1)), .int (xs (i + 2))]) (rest := [.int r1]) ⟨hx, hb, hml, hown, hts⟩ (cy_value l dC dI ay cJ P n v F (xs (i + 1)) (xs (i + 2)) hn hV hcb) (cwV 2 hts (lw_V q253 q254 q255 q22 q256) rfl rfl rfl (by decide +kernel) ⟨Nat.le_of_ble_eq_true rfl, Nat.le_of_ble_eq_true rfl⟩) hKy hP hD hS hA rfl rfl rfl hl.1 rfl (Nat.le_of_ble_eq_true rfl) ⟨Nat.le_of_ble_eq_true rfl, Nat.le_of_ble_eq_true rfl⟩ dL_law_191 (fun r2 z2 H locs hw2 hP hD hS => ?_)
      have hP : va_P (dC, dI) vwCl (xF ax cB cI P n z1 ++ yW ay cJ P n z2.1 z2.2) H := hP
      have hD : va_D (fun q : Nat => s.heap.size ≤ q) (xF ax cB cI P n z1 ++ yW ay cJ P n z2.1 z2.2) := hD
      refine lv_icmp_eq (tgt := 321) hx hb dL_law_194 (by decide) (fun c_2 => ?_) (fun c_2 => ?_)
      rotate_left
      · skip
        exact absurd (hw1.trans hw2.symm) c_2
      refine lv_iinc (v := nI (i + 4)) (lv' := [(3, .int (nI (i + 4))), (0, .ref b), (1, .ref (ax 0)), (2, .ref (ay 0))]) hx hb dL_law_321 hl (k := 0) rfl (nI_add i 4) (by decide) rfl (fun ls hl => ?_)
      refine lv_goto (tgt := 18) hx hb dL_law_324 (by decide) ?_
      exact ih (i + 4, P, n, z1, z2.1, z2.2) ⟨hi4, hIn⟩ (by show L - (i + 4) < L - i; omega) H locs hP hD hS ls (lv_sub hl [0, 1, 2, 3] rfl)
    · skip
      subst hk
      refine sx_topE (y := 5) (rfl) ?_
      refine lv_tableIn (tgt := 199) hx hb dL_law_32 (by decide) (by decide) rfl (by decide) ?_
      refine lv_aload_n hx hb dL_law_199 rfl (lv_at hl 2 rfl) ?_
      refine lv_aload_n hx hb dL_law_200 rfl (lv_at hl 1 rfl) ?_
      refine lv_iload_n hx hb dL_law_201 rfl (lv_at hl 0 rfl) ?_
      refine lv_iconst (v := 1) hx hb dL_law_202 (by decide) ?_
      refine lv_iadd hx hb dL_law_203 ?_
      refine sx_topE (y := nI (i + 1)) (nI_1 _) ?_
      refine sx_sld (j := i + 1) hx hb hX hbl hbA hS rfl (by omega) hL dL_law_204 ?_
      refine lv_aload_n hx hb dL_law_205 rfl (lv_at hl 1 rfl) ?_
      refine lv_iload_n hx hb dL_law_206 rfl (lv_at hl 0 rfl) ?_
      refine lv_iconst (v := 2) hx hb dL_law_207 (by decide) ?_
      refine lv_iadd hx hb dL_law_208 ?_
      refine sx_topE (y := nI (i + 2)) (nI_add i 2) ?_
      refine sx_sld (j := i + 2) hx hb hX hbl hbA hS rfl (by omega) hL dL_law_209 ?_
      refine sx_callIF (ci := 0) (As := [.int (xs (i + 1)), .int (xs (i + 2))]) (rest := []) ⟨hx, hb, hml, hown, hts⟩ (ct_countWith l dC dI ax cB cI P n v1 pt1 en1 tt1 tv1 tx1 oc1 o11 o21 o31 (xs (i + 1)) (xs (i + 2)) hn hV hcb) (cwV 2 hts (lw_V q153 q154 q155 q21 q156) rfl rfl rfl (by decide +kernel) ⟨Nat.le_of_ble_eq_true rfl, Nat.le_of_ble_eq_true rfl⟩) hKx hP hD hS hA rfl rfl rfl hl.1 rfl (Nat.le_of_ble_eq_true rfl) ⟨Nat.le_of_ble_eq_true rfl, Nat.le_of_ble_eq_true rfl⟩ dL_law_210 (fun r1 z1 H locs hw1 hP hD hS => ?_)
      have hP : va_P (dC, dI) vwCl (yW ay cJ P n v F ++ xF ax cB cI P n z1) H := hP
      have hD : va_D (fun q : Nat => s.heap.size ≤ q) (yW ay cJ P n v F ++ xF ax cB cI P n z1) := hD
      refine lv_aload_n hx hb dL_law_213 rfl (lv_at hl 3 rfl) ?_
      refine lv_aload_n hx hb dL_law_214 rfl (lv_at hl 1 rfl) ?_
      refine lv_iload_n hx hb dL_law_215 rfl (lv_at hl 0 rfl) ?_
      refine lv_iconst (v := 1) hx hb dL_law_216 (by decide) ?_
      refine lv_iadd hx hb dL_law_217 ?_
      refine sx_topE (y := nI (i + 1)) (nI_1 _) ?_
      refine sx_sld (j := i + 1) hx hb hX hbl hbA hS rfl (by omega) hL dL_law_218 ?_
      refine lv_aload_n hx hb dL_law_219 rfl (lv_at hl 1 rfl) ?_
      refine lv_iload_n hx hb dL_law_220 rfl (lv_at hl 0 rfl) ?_
      refine lv_iconst (v := 2) hx hb dL_law_221 (by decide) ?_
      refine lv_iadd hx hb dL_law_222 ?_
      refine sx_topE (y := nI (i + 2)) (nI_add i 2) ?_
      refine sx_sld (j := i + 2) hx hb hX hbl hbA hS rfl (by omega) hL dL_law_223 ?_
      refine sx_callIF (ci := 1) (As := [.int (xs (i + 1)), .int (xs (i + 2))]) (rest := [.int r1]) ⟨hx, hb, hml, hown, hts⟩ (cy_countWith l dC dI ay cJ P n v F (xs (i + 1)) (xs (i + 2)) hn hV hcb) (cwV 2 hts (lw_V q258 q259 q260 q22 q261) rfl rfl rfl (by decide +kernel) ⟨Nat.le_of_ble_eq_true rfl, Nat.le_of_ble_eq_true rfl⟩) hKy hP hD hS hA rfl rfl rfl hl.1 rfl (Nat.le_of_ble_eq_true rfl) ⟨Nat.le_of_ble_eq_true rfl, Nat.le_of_ble_eq_true rfl⟩ dL_law_224 (fun r2 z2 H locs hw2 hP hD hS => ?_)
      have hP : va_P (dC, dI) vwCl (xF ax cB cI P n z1 ++ yW ay cJ P n z2.1 z2.2) H := hP
      have hD : va_D (fun q : Nat => s.heap.size ≤ q) (xF ax cB cI P n z1 ++ yW ay cJ P n z2.1 z2.2) := hD
      refine lv_icmp_eq (tgt := 321) hx hb dL_law_227 (by decide) (fun c_2 => ?_) (fun c_2 => ?_)
      rotate_left
      · skip
        exact absurd (hw1.trans hw2.symm) c_2
      refine lv_iinc (v := nI (i + 4)) (lv' := [(3, .int (nI (i + 4))), (0, .ref b), (1, .ref (ax 0)), (2, .ref (ay 0))]) hx hb dL_law_321 hl (k := 0) rfl (nI_add i 4) (by decide) rfl (fun ls hl => ?_)
      refine lv_goto (tgt := 18) hx hb dL_law_324 (by decide) ?_
      exact ih (i + 4, P, n, z1, z2.1, z2.2) ⟨hi4, hIn⟩ (by show L - (i + 4) < L - i; omega) H locs hP hD hS ls (lv_sub hl [0, 1, 2, 3] rfl)
    · skip
      subst hk
      refine sx_topE (y := 6) (rfl) ?_
      refine lv_tableIn (tgt := 232) hx hb dL_law_32 (by decide) (by decide) rfl (by decide) ?_
      refine lv_aload_n hx hb dL_law_232 rfl (lv_at hl 2 rfl) ?_
      refine lv_aload_n hx hb dL_law_233 rfl (lv_at hl 1 rfl) ?_
      refine lv_iload_n hx hb dL_law_234 rfl (lv_at hl 0 rfl) ?_
      refine lv_iconst (v := 1) hx hb dL_law_235 (by decide) ?_
      refine lv_iadd hx hb dL_law_236 ?_
      refine sx_topE (y := nI (i + 1)) (nI_1 _) ?_
      refine sx_sld (j := i + 1) hx hb hX hbl hbA hS rfl (by omega) hL dL_law_237 ?_
      refine lv_aload_n hx hb dL_law_238 rfl (lv_at hl 1 rfl) ?_
      refine lv_iload_n hx hb dL_law_239 rfl (lv_at hl 0 rfl) ?_
      refine lv_iconst (v := 2) hx hb dL_law_240 (by decide) ?_
      refine lv_iadd hx hb dL_law_241 ?_
      refine sx_topE (y := nI (i + 2)) (nI_add i 2) ?_
      refine sx_sld (j := i + 2) hx hb hX hbl hbA hS rfl (by omega) hL dL_law_242 ?_
      refine sx_callIF (ci := 0) (As := [.int (xs (i + 1)), .int (xs (i + 2))]) (rest := []) ⟨hx, hb, hml, hown, hts⟩ (ct_firstWith l dC dI ax cB cI P n v1 pt1 en1 tt1 tv1 tx1 oc1 o11 o21 o31 (xs (i + 1)) (xs (i + 2)) hn hV hcb) (cwV 2 hts (lw_V q157 q158 q159 q21 q160) rfl rfl rfl (by decide +kernel) ⟨Nat.le_of_ble_eq_true rfl, Nat.le_of_ble_eq_true rfl⟩) hKx hP hD hS hA rfl rfl rfl hl.1 rfl (Nat.le_of_ble_eq_true rfl) ⟨Nat.le_of_ble_eq_true rfl, Nat.le_of_ble_eq_true rfl⟩ dL_law_243 (fun r1 z1 H locs hw1 hP hD hS => ?_)
      have hP : va_P (dC, dI) vwCl (yW ay cJ P n v F ++ xF ax cB cI P n z1) H := hP
      have hD : va_D (fun q : Nat => s.heap.size ≤ q) (yW ay cJ P n v F ++ xF ax cB cI P n z1) := hD
      refine lv_aload_n hx hb dL_law_246 rfl (lv_at hl 3 rfl) ?_
      refine lv_aload_n hx hb dL_law_247 rfl (lv_at hl 1 rfl) ?_
      refine lv_iload_n hx hb dL_law_248 rfl (lv_at hl 0 rfl) ?_
      refine lv_iconst (v := 1) hx hb dL_law_249 (by decide) ?_
      refine lv_iadd hx hb dL_law_250 ?_
      refine sx_topE (y := nI (i + 1)) (nI_1 _) ?_
      refine sx_sld (j := i + 1) hx hb hX hbl hbA hS rfl (by omega) hL dL_law_251 ?_
      refine lv_aload_n hx hb dL_law_252 rfl (lv_at hl 1 rfl) ?_
      refine lv_iload_n hx hb dL_law_253 rfl (lv_at hl 0 rfl) ?_
      refine lv_iconst (v := 2) hx hb dL_law_254 (by decide) ?_
      refine lv_iadd hx hb dL_law_255 ?_
      refine sx_topE (y := nI (i + 2)) (nI_add i 2) ?_
      refine sx_sld (j := i + 2) hx hb hX hbl hbA hS rfl (by omega) hL dL_law_256 ?_
      refine sx_callIF (ci := 1) (As := [.int (xs (i + 1)), .int (xs (i + 2))]) (rest := [.int r1]) ⟨hx, hb, hml, hown, hts⟩ (cy_firstWith l dC dI ay cJ P n v F (xs (i + 1)) (xs (i + 2)) hn hV hcb) (cwV 2 hts (lw_V q262 q263 q264 q22 q265) rfl rfl rfl (by decide +kernel) ⟨Nat.le_of_ble_eq_true rfl, Nat.le_of_ble_eq_true rfl⟩) hKy hP hD hS hA rfl rfl rfl hl.1 rfl (Nat.le_of_ble_eq_true rfl) ⟨Nat.le_of_ble_eq_true rfl, Nat.le_of_ble_eq_true rfl⟩ dL_law_257 (fun r2 z2 H locs hw2 hP hD hS => ?_)
      have hP : va_P (dC, dI) vwCl (xF ax cB cI P n z1 ++ yW ay cJ P n z2.1 z2.2) H := hP
      have hD : va_D (fun q : Nat => s.heap.size ≤ q) (xF ax cB cI P n z1 ++ yW ay cJ P n z2.1 z2.2) := hD
      refine lv_icmp_eq (tgt := 321) hx hb dL_law_260 (by decide) (fun c_2 => ?_) (fun c_2 => ?_)
      rotate_left
      · skip
        exact absurd (hw1.trans hw2.symm) c_2
      refine lv_iinc (v := nI (i + 4)) (lv' := [(3, .int (nI (i + 4))), (0, .ref b), (1, .ref (ax 0)), (2, .ref (ay 0))]) hx hb dL_law_321 hl (k := 0) rfl (nI_add i 4) (by decide) rfl (fun ls hl => ?_)
      refine lv_goto (tgt := 18) hx hb dL_law_324 (by decide) ?_
      exact ih (i + 4, P, n, z1, z2.1, z2.2) ⟨hi4, hIn⟩ (by show L - (i + 4) < L - i; omega) H locs hP hD hS ls (lv_sub hl [0, 1, 2, 3] rfl)
    · skip
      subst hk
      refine sx_topE (y := 7) (rfl) ?_
      refine lv_tableIn (tgt := 265) hx hb dL_law_32 (by decide) (by decide) rfl (by decide) ?_
      refine lv_aload_n hx hb dL_law_265 rfl (lv_at hl 2 rfl) ?_
      refine lv_aload_n hx hb dL_law_266 rfl (lv_at hl 1 rfl) ?_
      refine lv_iload_n hx hb dL_law_267 rfl (lv_at hl 0 rfl) ?_
      refine lv_iconst (v := 1) hx hb dL_law_268 (by decide) ?_
      refine lv_iadd hx hb dL_law_269 ?_
      refine sx_topE (y := nI (i + 1)) (nI_1 _) ?_
      refine sx_sld (j := i + 1) hx hb hX hbl hbA hS rfl (by omega) hL dL_law_270 ?_
      refine lv_aload_n hx hb dL_law_271 rfl (lv_at hl 1 rfl) ?_
      refine lv_iload_n hx hb dL_law_272 rfl (lv_at hl 0 rfl) ?_
      refine lv_iconst (v := 2) hx hb dL_law_273 (by decide) ?_
      refine lv_iadd hx hb dL_law_274 ?_
      refine sx_topE (y := nI (i + 2)) (nI_add i 2) ?_
      refine sx_sld (j := i + 2) hx hb hX hbl hbA hS rfl (by omega) hL dL_law_275 ?_
      refine sx_callIF (ci := 0) (As := [.int (xs (i + 1)), .int (xs (i + 2))]) (rest := []) ⟨hx, hb, hml, hown, hts⟩ (ct_extreme l dC dI ax cB cI P n v1 pt1 en1 tt1 tv1 tx1 oc1 o11 o21 o31 (xs (i + 1)) (xs (i + 2)) hn hV hcb) (cwV 2 hts (lw_V q161 q162 q163 q21 q164) rfl rfl rfl (by decide +kernel) ⟨Nat.le_of_ble_eq_true rfl, Nat.le_of_ble_eq_true rfl⟩) hKx hP hD hS hA rfl rfl rfl hl.1 rfl (Nat.le_of_ble_eq_true rfl) ⟨Nat.le_of_ble_eq_true rfl, Nat.le_of_ble_eq_true rfl⟩ dL_law_276 (fun r1 z1 H locs hw1 hP hD hS => ?_)
      have hP : va_P (dC, dI) vwCl (yW ay cJ P n v F ++ xF ax cB cI P n z1) H := hP
      have hD : va_D (fun q : Nat => s.heap.size ≤ q) (yW ay cJ P n v F ++ xF ax cB cI P n z1) := hD
      refine lv_aload_n hx hb dL_law_279 rfl (lv_at hl 3 rfl) ?_
      refine lv_aload_n hx hb dL_law_280 rfl (lv_at hl 1 rfl) ?_
      refine lv_iload_n hx hb dL_law_281 rfl (lv_at hl 0 rfl) ?_
      refine lv_iconst (v := 1) hx hb dL_law_282 (by decide) ?_
      refine lv_iadd hx hb dL_law_283 ?_
      refine sx_topE (y := nI (i + 1)) (nI_1 _) ?_
      refine sx_sld (j := i + 1) hx hb hX hbl hbA hS rfl (by omega) hL dL_law_284 ?_
      refine lv_aload_n hx hb dL_law_285 rfl (lv_at hl 1 rfl) ?_
      refine lv_iload_n hx hb dL_law_286 rfl (lv_at hl 0 rfl) ?_
      refine lv_iconst (v := 2) hx hb dL_law_287 (by decide) ?_
      refine lv_iadd hx hb dL_law_288 ?_
      refine sx_topE (y := nI (i + 2)) (nI_add i 2) ?_
      refine sx_sld (j := i + 2) hx hb hX hbl hbA hS rfl (by omega) hL dL_law_289 ?_
      refine sx_callIF (ci := 1) (As := [.int (xs (i + 1)), .int (xs (i + 2))]) (rest := [.int r1]) ⟨hx, hb, hml, hown, hts⟩ (cy_extreme l dC dI ay cJ P n v F (xs (i + 1)) (xs (i + 2)) hn hV hcb) (cwV 2 hts (lw_V q266 q267 q268 q22 q269) rfl rfl rfl (by decide +kernel) ⟨Nat.le_of_ble_eq_true rfl, Nat.le_of_ble_eq_true rfl⟩) hKy hP hD hS hA rfl rfl rfl hl.1 rfl (Nat.le_of_ble_eq_true rfl) ⟨Nat.le_of_ble_eq_true rfl, Nat.le_of_ble_eq_true rfl⟩ dL_law_290 (fun r2 z2 H locs hw2 hP hD hS => ?_)
      have hP : va_P (dC, dI) vwCl (xF ax cB cI P n z1 ++ yW ay cJ P n z2.1 z2.2) H := hP
      have hD : va_D (fun q : Nat => s.heap.size ≤ q) (xF ax cB cI P n z1 ++ yW ay cJ P n z2.1 z2.2) := hD
      refine lv_icmp_eq (tgt := 321) hx hb dL_law_293 (by decide) (fun c_2 => ?_) (fun c_2 => ?_)
      rotate_left
      · skip
        exact absurd (hw1.trans hw2.symm) c_2
      refine lv_iinc (v := nI (i + 4)) (lv' := [(3, .int (nI (i + 4))), (0, .ref b), (1, .ref (ax 0)), (2, .ref (ay 0))]) hx hb dL_law_321 hl (k := 0) rfl (nI_add i 4) (by decide) rfl (fun ls hl => ?_)
      refine lv_goto (tgt := 18) hx hb dL_law_324 (by decide) ?_
      exact ih (i + 4, P, n, z1, z2.1, z2.2) ⟨hi4, hIn⟩ (by show L - (i + 4) < L - i; omega) H locs hP hD hS ls (lv_sub hl [0, 1, 2, 3] rfl)
    · skip
      subst hk
      refine sx_topE (y := 8) (rfl) ?_
      refine lv_tableIn (tgt := 298) hx hb dL_law_32 (by decide) (by decide) rfl (by decide) ?_
      refine lv_aload_n hx hb dL_law_298 rfl (lv_at hl 2 rfl) ?_
      refine lv_aload_n hx hb dL_law_299 rfl (lv_at hl 1 rfl) ?_
      refine lv_iload_n hx hb dL_law_300 rfl (lv_at hl 0 rfl) ?_
      refine lv_iconst (v := 1) hx hb dL_law_301 (by decide) ?_
      refine lv_iadd hx hb dL_law_302 ?_
      refine sx_topE (y := nI (i + 1)) (nI_1 _) ?_
      refine sx_sld (j := i + 1) hx hb hX hbl hbA hS rfl (by omega) hL dL_law_303 ?_
      refine sx_callIF (ci := 0) (As := [.int (xs (i + 1))]) (rest := []) ⟨hx, hb, hml, hown, hts⟩ (ct_ways l dC dI ax cB cI P n v1 pt1 en1 tt1 tv1 tx1 oc1 o11 o21 o31 (xs (i + 1)) hn hV hcb) (cwV 1 hts (lw_V q165 q166 q167 q21 q168) rfl rfl rfl (by decide +kernel) ⟨Nat.le_of_ble_eq_true rfl, Nat.le_of_ble_eq_true rfl⟩) hKx hP hD hS hA rfl rfl rfl hl.1 rfl (Nat.le_of_ble_eq_true rfl) ⟨Nat.le_of_ble_eq_true rfl, Nat.le_of_ble_eq_true rfl⟩ dL_law_304 (fun r1 z1 H locs hw1 hP hD hS => ?_)
      have hP : va_P (dC, dI) vwCl (yW ay cJ P n v F ++ xF ax cB cI P n z1) H := hP
      have hD : va_D (fun q : Nat => s.heap.size ≤ q) (yW ay cJ P n v F ++ xF ax cB cI P n z1) := hD
      refine lv_aload_n hx hb dL_law_307 rfl (lv_at hl 3 rfl) ?_
      refine lv_aload_n hx hb dL_law_308 rfl (lv_at hl 1 rfl) ?_
      refine lv_iload_n hx hb dL_law_309 rfl (lv_at hl 0 rfl) ?_
      refine lv_iconst (v := 1) hx hb dL_law_310 (by decide) ?_
      refine lv_iadd hx hb dL_law_311 ?_
      refine sx_topE (y := nI (i + 1)) (nI_1 _) ?_
      refine sx_sld (j := i + 1) hx hb hX hbl hbA hS rfl (by omega) hL dL_law_312 ?_
      refine sx_callIF (ci := 1) (As := [.int (xs (i + 1))]) (rest := [.int r1]) ⟨hx, hb, hml, hown, hts⟩ (cy_ways l dC dI ay cJ P n v F (xs (i + 1)) hn hV hcb) (cwV 1 hts (lw_V q270 q230 q231 q22 q232) rfl rfl rfl (by decide +kernel) ⟨Nat.le_of_ble_eq_true rfl, Nat.le_of_ble_eq_true rfl⟩) hKy hP hD hS hA rfl rfl rfl hl.1 rfl (Nat.le_of_ble_eq_true rfl) ⟨Nat.le_of_ble_eq_true rfl, Nat.le_of_ble_eq_true rfl⟩ dL_law_313 (fun r2 z2 H locs hw2 hP hD hS => ?_)
      have hP : va_P (dC, dI) vwCl (xF ax cB cI P n z1 ++ yW ay cJ P n z2.1 z2.2) H := hP
      have hD : va_D (fun q : Nat => s.heap.size ≤ q) (xF ax cB cI P n z1 ++ yW ay cJ P n z2.1 z2.2) := hD
      refine lv_icmp_eq (tgt := 321) hx hb dL_law_316 (by decide) (fun c_2 => ?_) (fun c_2 => ?_)
      rotate_left
      · skip
        exact absurd (hw1.trans hw2.symm) c_2
      refine lv_iinc (v := nI (i + 4)) (lv' := [(3, .int (nI (i + 4))), (0, .ref b), (1, .ref (ax 0)), (2, .ref (ay 0))]) hx hb dL_law_321 hl (k := 0) rfl (nI_add i 4) (by decide) rfl (fun ls hl => ?_)
      refine lv_goto (tgt := 18) hx hb dL_law_324 (by decide) ?_
      exact ih (i + 4, P, n, z1, z2.1, z2.2) ⟨hi4, hIn⟩ (by show L - (i + 4) < L - i; omega) H locs hP hD hS ls (lv_sub hl [0, 1, 2, 3] rfl)
    · skip
      refine lv_tableOut (tgt := 321) hx hb dL_law_32 (Or.inr (by rw [nI_toInt (by omega)]; omega)) (by decide) ?_
      refine lv_iinc (v := nI (i + 4)) (lv' := [(3, .int (nI (i + 4))), (0, .ref b), (1, .ref (ax 0)), (2, .ref (ay 0))]) hx hb dL_law_321 hl (k := 0) rfl (nI_add i 4) (by decide) rfl (fun ls hl => ?_)
      refine lv_goto (tgt := 18) hx hb dL_law_324 (by decide) ?_
      exact ih (i + 4, P, n, (v1, pt1, en1, tt1, tv1, tx1, oc1, o11, o21, o31), v, F) ⟨hi4, hIn⟩ (by show L - (i + 4) < L - i; omega) H locs hP hD hS ls (lv_sub hl [0, 1, 2, 3] rfl)
set_option maxHeartbeats 4000000 in
set_option maxRecDepth 100000 in
theorem whole_start {p : Program} {e : Env} {s : State} {m : MethodId} {below : List Frame} {meth : Method} {c : Code} (l : Launch) {b L : Nat} {xs : Nat → Int32} (hL : L ≤ 256) (C0 : lw_At p s m meth c b L xs) : W p l e room_1 s m #[Value.ref b] below meth c s.heap [] 0 0 (lw_Z below #[Value.ref b] s) (entryFrame m ([Value.ref b] : List Value).toArray 4) := by
  obtain ⟨hx, hb, hr, hml, hown, hts0, hX, hbl, hlocks, hgv⟩ := id C0
  have hts : ∀ w ∈ lw_all, w.before #[Value.ref b] s = true := fun w h => hts0 w (lw_all_tbl h)
  have hA : ∀ q : Nat, s.heap.size ≤ q → (fun q : Nat => s.heap.size ≤ q) q := fun _ h => h
  have hbA : ¬ (fun q : Nat => s.heap.size ≤ q) b := Nat.not_le.mpr hbl
  obtain ⟨c0, iS0, hKn0⟩ := u_known (C := RX0) (T := TX0) (N := 15) (n := 15) hts in_X0 (hts _ q24)
  obtain ⟨c1, iS1, hKn1⟩ := u_known (C := RX1) (T := TX1) (N := 7) (n := 7) hts in_X1 (hts _ q170)
  obtain ⟨dC, dI, hKc⟩ : ∃ (dC : Nat → ClassId) (dI : Nat → Nat → Nat), ∀ (k : Nat) (q : vw_C), vwCl[k]? = some q → u_Kn s q.1 q.2.1 q.2.2 (dC k) (dI k) := by
    refine ⟨fun k => if k = 0 then c0 else c1, fun k => if k = 0 then iS0 else iS1, ?_⟩
    intro k q hq
    match k, hq with
    | 0, hq => cases hq; exact hKn0
    | 1, hq => cases hq; exact hKn1
    | k + 2, hq => simp [vwCl] at hq
  have hS : va_S (fun q : Nat => s.heap.size ≤ q) s.heap s.heap [] := va_S.rf
  have hK : va_K (dC, dI) vwCl [] s := ⟨hKc, fun k q h => by simp at h⟩
  have hP : va_P (dC, dI) vwCl [] s.heap := fun k q h => by simp at h
  have hD : va_D (fun q : Nat => s.heap.size ≤ q) [] := ⟨fun i j p q h => by simp at h, fun k q h => by simp at h⟩
  have hl := lv_entry ([.ref b]) (n := 4) (Nat.le_of_ble_eq_true rfl)
  rw [lg_entry_eq]
  generalize (lg_sl ([.ref b]) ++ List.replicate (4 - (lg_sl ([.ref b])).length) Slot.unset).toArray = ls at hl ⊢
  have hl : lv_has ls 4 [(0, .ref b)] := hl
  refine va_new (ci := 0) (fs := [.null, .null, .null, .null, .int 0, .null, .int 0, .int 0, .int 0, .null, .null, .int 0, .null, .null, .null]) (C := RX0) (T := TX0) (N := 15) hx hb hts in_X0 tyX0 tyX0_ok hown (hts _ q23) (hts _ q24) (hts _ q21) hK hP hD hS hA rfl (fun j hj => by rcases (show j = 0 ∨ j = 1 ∨ j = 2 ∨ j = 3 ∨ j = 4 ∨ j = 5 ∨ j = 6 ∨ j = 7 ∨ j = 8 ∨ j = 9 ∨ j = 10 ∨ j = 11 ∨ j = 12 ∨ j = 13 ∨ j = 14 by omega) with rfl | rfl | rfl | rfl | rfl | rfl | rfl | rfl | rfl | rfl | rfl | rfl | rfl | rfl | rfl <;> rfl) (Nat.le_of_ble_eq_true rfl) (Nat.le_of_ble_eq_true rfl) dL_law_0 (fun qx H hP hD hS => ?_)
  have hP : va_P (dC, dI) vwCl [(qx, .inr (0, [.null, .null, .null, .null, .int 0, .null, .int 0, .int 0, .int 0, .null, .null, .int 0, .null, .null, .null]))] H := hP
  have hD : va_D (fun q : Nat => s.heap.size ≤ q) [(qx, .inr (0, [.null, .null, .null, .null, .int 0, .null, .int 0, .int 0, .int 0, .null, .null, .int 0, .null, .null, .null]))] := hD
  refine W.widen (k := 1) (n := 15) (by omega) (by omega) ?_
  refine lv_dup hx hb dL_law_3 rfl ?_
  have hPc := hP
  have hDc := hD
  have hKc2 := hK
  have hFc := va_free (wc := [(qx, .inr (0, [.null, .null, .null, .null, .int 0, .null, .int 0, .int 0, .int 0, .null, .null, .int 0, .null, .null, .null]))]) hD hS hA [0] rfl
  refine va_callv (va_runI (As := []) (rest := [.ref qx]) ⟨hx, hb, hml, hown, hts⟩ (ct_X0init l dC dI qx H.size) (cwI 0 hts (lw_meth q27) rfl rfl rfl (hts _ q21) (hts _ q25) (hts _ q26) rfl (by decide +kernel) ⟨Nat.le_of_ble_eq_true rfl, Nat.le_of_ble_eq_true rfl⟩) ⟨fun a U g mk q => by obtain ⟨q0, q1, qP, qK, qD⟩ := q; exact ⟨q0, q1, qP, va_K.moved (u := U) (U := U.calling g mk a) (Vm.Alike.refl U.vm) qK, qD⟩, fun U hU hW => ⟨rfl, by rw [hU], by rw [hU]; exact hPc, va_K.moved hW.alike hKc2, hDc.weaken (fun _ _ _ _ => trivial)⟩⟩ rfl rfl hl.1 rfl (lv_room (Nat.le_of_ble_eq_true rfl)) dL_law_4 ⟨Nat.le_of_ble_eq_true rfl, Nat.le_of_ble_eq_true rfl⟩) hS (fun q _ h => hFc q h) hFc (fun u t H1 locs ht hvm hwx hB hz1 hk1 hS => ?_)
  obtain ⟨ax, cB, cI⟩ := u
  obtain ⟨hP1, hK1, hD1⟩ := hB
  rw [ht] at hP1
  have hKx := va_K.moved hvm.symm hK1
  have hax : ax 0 = qx := hwx
  subst hax
  clear hP hD hPc hDc hKc2
  have hP : va_P (dC, dI) vwCl (xW ax cB cI (sm_z, sm_z, sm_z, sm_z) 0 sm_z 0 0 0 sm_z sm_z 0 sm_z sm_z sm_z) H1 := hP1
  have hD : va_D (fun q : Nat => s.heap.size ≤ q) (xW ax cB cI (sm_z, sm_z, sm_z, sm_z) 0 sm_z 0 0 0 sm_z sm_z 0 sm_z sm_z sm_z) := hD1.weaken (fun k q _ h => hFc q.1 h)
  have hKx : va_K (dC, dI) vwCl (tyX cB cI) s := hKx
  clear hP1 hD1 hFc hk1 hz1
  generalize H1 = H2 at hP hS ⊢
  refine W.widen (k := 11) (n := 119) (by omega) (by omega) ?_
  refine lv_astore_n (lv' := [(1, .ref (ax 0)), (0, .ref b)]) hx hb dL_law_7 rfl hl (by decide) rfl (fun ls hl => ?_)
  refine va_new (ci := 1) (fs := [.int 0, .null, .null, .null, .null, .null, .null]) (C := RX1) (T := TX1) (N := 7) hx hb hts in_X1 tyX1 tyX1_ok hown (hts _ q169) (hts _ q170) (hts _ q22) hKx hP hD hS hA rfl (fun j hj => by rcases (show j = 0 ∨ j = 1 ∨ j = 2 ∨ j = 3 ∨ j = 4 ∨ j = 5 ∨ j = 6 by omega) with rfl | rfl | rfl | rfl | rfl | rfl | rfl <;> rfl) (Nat.le_of_ble_eq_true rfl) (Nat.le_of_ble_eq_true rfl) dL_law_8 (fun qy H hP hD hS => ?_)
  have hP : va_P (dC, dI) vwCl (xW ax cB cI (sm_z, sm_z, sm_z, sm_z) 0 sm_z 0 0 0 sm_z sm_z 0 sm_z sm_z sm_z ++ [(qy, .inr (1, [.int 0, .null, .null, .null, .null, .null, .null]))]) H := hP
  have hD : va_D (fun q : Nat => s.heap.size ≤ q) (xW ax cB cI (sm_z, sm_z, sm_z, sm_z) 0 sm_z 0 0 0 sm_z sm_z 0 sm_z sm_z sm_z ++ [(qy, .inr (1, [.int 0, .null, .null, .null, .null, .null, .null]))]) := hD
  refine W.widen (k := 12) (n := 126) (by omega) (by omega) ?_
  refine lv_dup hx hb dL_law_11 rfl ?_
  have hPc := sx_P_r hP
  have hDc := sx_D_r hD
  have hKc2 := hK
  have hFc := va_free (wc := [(qy, .inr (1, [.int 0, .null, .null, .null, .null, .null, .null]))]) hDc hS hA [0] rfl
  refine va_callv (va_runI (As := []) (rest := [.ref qy]) ⟨hx, hb, hml, hown, hts⟩ (ct_X1init l dC dI qy H.size) (cwI 0 hts (lw_meth q173) rfl rfl rfl (hts _ q22) (hts _ q171) (hts _ q172) rfl (by decide +kernel) ⟨Nat.le_of_ble_eq_true rfl, Nat.le_of_ble_eq_true rfl⟩) ⟨fun a U g mk q => by obtain ⟨q0, q1, qP, qK, qD⟩ := q; exact ⟨q0, q1, qP, va_K.moved (u := U) (U := U.calling g mk a) (Vm.Alike.refl U.vm) qK, qD⟩, fun U hU hW => ⟨rfl, by rw [hU], by rw [hU]; exact hPc, va_K.moved hW.alike hKc2, hDc.weaken (fun _ _ _ _ => trivial)⟩⟩ rfl rfl hl.1 rfl (lv_room (Nat.le_of_ble_eq_true rfl)) dL_law_12 ⟨Nat.le_of_ble_eq_true rfl, Nat.le_of_ble_eq_true rfl⟩) hS (fun q _ h => hFc q h) hFc (fun u t H1 locs ht hvm hwx hB hz1 hk1 hS => ?_)
  obtain ⟨ay, cJ⟩ := u
  obtain ⟨hP1, hK1, hD1⟩ := hB
  rw [ht] at hP1
  have hKy : va_K (dC, dI) vwCl (tyY cJ) s := va_K.moved hvm.symm hK1
  have hay : ay 0 = qy := hwx
  subst hay
  obtain ⟨hP, hD⟩ := va_join (wr := xW ax cB cI (sm_z, sm_z, sm_z, sm_z) 0 sm_z 0 0 0 sm_z sm_z 0 sm_z sm_z sm_z) (w1 := yW ay cJ (sm_z, sm_z, sm_z, sm_z) 0 sm_z sm_z) hP hD [11] [0, 1, 2, 3, 4, 5, 6, 7, 8, 9, 10] rfl rfl (by decide) (by decide) hk1 hFc hP1 hD1
  refine W.widen (k := 18) (n := 200) (by omega) (by omega) ?_
  refine lv_astore_n (lv' := [(2, .ref (ay 0)), (1, .ref (ax 0)), (0, .ref b)]) hx hb dL_law_15 rfl hl (by decide) rfl (fun ls hl => ?_)
  refine lv_iconst (v := 0) hx hb dL_law_16 (by decide) ?_
  refine lv_istore_n (lv' := [(3, .int 0), (2, .ref (ay 0)), (1, .ref (ax 0)), (0, .ref b)]) hx hb dL_law_17 rfl hl (by decide) rfl (fun ls hl => ?_)
  exact law_loop hL C0 ax ay cB cI cJ hKx hKy (sm_z, 0, 0, 0, sm_z, sm_z, 0, sm_z, sm_z, sm_z) sm_z sm_z hP hD hS (lv_sub hl [0, 3, 2, 1] rfl)
end
section
set_option maxHeartbeats 4000000 in
theorem lw_walk (l : Launch) (b : Addr) (xs : List Int32) : MetFree l x (headSpec (Jvm.Cond.code x code maxLocals ret :: tables_1) room_1) (lw_P b xs) (fun _ _ _ _ _ => True) lw_Q := by
  refine MetFree.of_bodyS (code := code) (maxLocals := maxLocals) (ret := ret) (by decide) ?_ ?_
  · intro args s m h hn
    obtain ⟨meth, c, h1, h2, h3, h4, h5, h6, -, -⟩ := Cond.code_spec hn (atoms_spec (ws := Jvm.Cond.code x code maxLocals ret :: tables_1) h _ List.mem_cons_self)
    exact ⟨meth, c, h1, h2, h3, h4, h5, h6⟩
  · intro p e s m args below meth c s₁ B hml0 hP _
    obtain ⟨rfl, hx, hbd, hgv⟩ := hP
    obtain ⟨scr, harrAt, hlist, hof, hsmall⟩ := hx
    obtain ⟨hcb, hkn, -, -⟩ := State.arrayAt?_spec harrAt
    have hown : s.vm.findClass R_law = some m.cls := findClass_of_methodNamed B.named
    have hts0 : ∀ c ∈ (Jvm.Cond.code x code maxLocals ret :: tables_1), c.before #[Value.ref b] s = true := atoms_spec (ws := Jvm.Cond.code x code maxLocals ret :: tables_1) B.pre
    have hts : ∀ w ∈ lw_tbl, w.before #[Value.ref b] s = true := k2_hts_sels lw_privs (fun w hw => hts0 w (List.mem_cons_of_mem _ hw)) lw_privs_ok
    have hml : c.maxLocals = 4 := B.maxLocals_eq (hts0 _ List.mem_cons_self)
    have X₀ : Stand p l e room_1 s m #[Value.ref b] below meth c s₁ [] 0 0 := Stand.of_body B
    have hh0 : s₁.heap = s.heap := by rw [B.state]; rfl
    have hsz : scr.slots.size = xs.length := by rw [← Array.length_toList, hlist, List.length_map]
    have hval : ∀ j : Nat, j < xs.length → scr.slots[j]? = some (.int (xs.getD j 0)) := fun j hj => by
      rw [← Array.getElem?_toList, hlist]
      simp [hj]
    have hbl : b < s.heap.size := (Array.getElem?_eq_some_iff.mp hcb).1
    have hX : va_X b xs.length (fun j => xs.getD j 0) s s.heap := ⟨scr, hcb, hof, hkn, hsz, hval⟩
    have K : W p l e room_1 s m #[Value.ref b] below meth c s₁.heap [] 0 0 (lw_Z below #[Value.ref b] s) (entryFrame m ([Value.ref b] : List Value).toArray 4) := by
      rw [hh0]
      exact whole_start l hbd ⟨B.exec, B.bytes, B.returns, hml, hown, hts, hX, hbl, B.notSynchronized, hgv⟩
    obtain ⟨t, a1, o, b1, b2, b3⟩ := K s₁ rfl X₀
    exact ⟨t, o, a1, b1, b2, b3⟩
theorem lw_pre_spec {args : Array Value} {s : State} (h : (Jvm.Cond.and given_1 narrow_1).before args s = true) (hr : rest_1_c.before args s = true) : ∃ (b : Addr) (xs : List Int32), lw_P b xs args s := by
  have hs := flat_of_before _ h
  have hq := flat_of_before _ hr
  have hc : (Cond.count 1).before args s = true := hs _ (by decide +kernel)
  have harr : (Cond.arrayOf (.arg 0) .int).before args s = true := hs _ (by decide +kernel)
  have hle : (Cond.le (.length (.arg 0)) (.int 256)).before args s = true := hs _ (by decide +kernel)
  have hlen : (Cond.isInt (.length (.arg 0))).before args s = true := hq _ (by decide +kernel)
  have hall : (Cond.all (.arg 0) (.isInt (.elem (.arg 0) (.index 0)))).before args s = true := hq _ (by decide +kernel)
  obtain ⟨b, xs, hb, hx⟩ := State.ints_of_pre rfl harr hlen hall
  have hsm : xs.length < 2 ^ 31 := hx.choose_spec.2.2.2
  have hev : (Term.length (.arg 0)).eval args s none [] s = some (.int xs.length.toInt32) := hx.length_eval hb
  have hv := Cond.le_ints hev (show (Term.int 256).eval args s none [] s = some (.int 256) from rfl)
  have hd : xs.length.toInt32 ≤ 256 := by
    simpa [Cond.before, Cond.holds, hv] using hle
  have hN : xs.length ≤ 256 := (Int32.ofNat_le_ofNat hsm (by decide)).mp (show Int32.ofNat xs.length ≤ Int32.ofNat 256 from hd)
  exact ⟨b, xs, Cond.one_arg hc (show args[0]? = some (.ref b) from hb), hx, hN, h⟩
theorem lw_comes (l : Launch) : Comes l x (Jvm.Cond.code x code maxLocals ret :: tables_1) room_1 (fun tb e args s => Calls_1 tb e args s ∧ rest_1 tb e args s ∧ Pre_1 tb e args s)
    (fun _ _ args s o t => lw_Q args s o t) := by
  intro p e ha hc hk s m args below hf hfit hheap happ hpre
  obtain ⟨b, xs, hP⟩ := lw_pre_spec hpre.2.2 hpre.2.1
  obtain ⟨k, o, h1, h2, h3, hQ⟩ := lw_walk l b xs p e ha hc hk s m args below hf ((Spec.applies_iff_loose hf).mp happ).1 hP trivial
  exact ⟨k, o, h1, h2, h3, hQ⟩
theorem lw_frame {s t : State} {o : Outcome} {args : Array Value} (h : Framed s o t [] 600000 7290000) :
    Framed s o t (fieldLocs frame_1_writes args s ++ arrayLocs frame_1_arrays args s ++ staticLocs frame_1_statics s) 600000 7290000 := h
theorem lw_limb (L : Cond) (hL : ∀ (args : Array Value) (s t : State), L.after args s (.returned (some (.int 1))) t = true) :
    ArmFor flags0 classFile x code maxLocals ret World_1 tables_1 room_1 Calls_1 rest_1 Pre_1
      (fun tb e a s o t => postC L tb e a s o t ∧ Framed s o t (fieldLocs frame_1_writes a s ++ arrayLocs frame_1_arrays a s ++ staticLocs frame_1_statics s) 600000 7290000) := by
  intro l _ _ _ p e ha hc hk s m args below hf hfit hheap happ hpre
  obtain ⟨k, o, h1, h2, h3, rfl, hF⟩ := lw_comes l p e ha hc hk s m args below hf hfit hheap happ hpre
  exact ⟨k, _, h1, h2, h3, hL args s _, lw_frame hF⟩
theorem i_vc : Claimed_1_1 ∧ Claimed_1_2 := ⟨lw_limb limb_1_1 (fun args s t => by simp [limb_1_1, Cond.after, Cond.holds, Cond.value]), lw_limb limb_1_2 (fun args s t => Cond.after_iff.mpr (by
  first | (rw [show limb_1_2 = Cond.eq .result (.int 1) from rfl, Cond.eq_ints (x := 1) (y := 1) rfl rfl]; simp; done) | (simp [limb_1_2, Cond.value, Term.eval]; done)))⟩
end
