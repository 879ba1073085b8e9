section
-- ===== PART A: goes FIRST, ahead of the names: the tables' words, and 'selects' of the private methods out of them =====
/-- a private method of a class that the tables say can be made, by its rows of tables_1 -/
def lw_okq (q : MethodName × Nat) : Prop := (q.1.cls ≠ "java/lang/invoke/MethodHandle" ∧ q.1.cls ≠ "java/lang/invoke/VarHandle") ∧ Cond.instantiable q.1.cls q.2 ∈ tables_1 ∧ Cond.privateMethod q.1 ∈ tables_1 ∧ Cond.instanceMethod q.1 ∈ tables_1
set_option maxRecDepth 100000
theorem lw_t1 {w : Cond} (h : w ∈ tables_1_1) : w ∈ tables_1 := List.mem_append_left _ h
theorem lw_t2 {w : Cond} (h : w ∈ tables_1_2) : w ∈ tables_1 := List.mem_append_right _ h
theorem lw_p0 : lw_okq (⟨"UnboxPlanner", "isValue", "(I)Z"⟩, 13) := ⟨⟨by decide +kernel, by decide +kernel⟩, lw_t1 (List.mem_of_getElem? (i := 4) rfl), lw_t1 (List.mem_of_getElem? (i := 61) rfl), lw_t1 (List.mem_of_getElem? (i := 62) rfl)⟩
theorem lw_p1 : lw_okq (⟨"UnboxPlanner", "isFlow", "(I)Z"⟩, 13) := ⟨⟨by decide +kernel, by decide +kernel⟩, lw_t1 (List.mem_of_getElem? (i := 4) rfl), lw_t1 (List.mem_of_getElem? (i := 73) rfl), lw_t1 (List.mem_of_getElem? (i := 74) rfl)⟩
theorem lw_p2 : lw_okq (⟨"UnboxPlanner", "isPlan", "(I)Z"⟩, 13) := ⟨⟨by decide +kernel, by decide +kernel⟩, lw_t1 (List.mem_of_getElem? (i := 4) rfl), lw_t1 (List.mem_of_getElem? (i := 89) rfl), lw_t1 (List.mem_of_getElem? (i := 90) rfl)⟩
theorem lw_p3 : lw_okq (⟨"UnboxPlanner", "takeFixed", "()V"⟩, 13) := ⟨⟨by decide +kernel, by decide +kernel⟩, lw_t1 (List.mem_of_getElem? (i := 4) rfl), lw_t1 (List.mem_of_getElem? (i := 97) rfl), lw_t1 (List.mem_of_getElem? (i := 98) rfl)⟩
theorem lw_p4 : lw_okq (⟨"UnboxPlanner", "solve", "()I"⟩, 13) := ⟨⟨by decide +kernel, by decide +kernel⟩, lw_t1 (List.mem_of_getElem? (i := 4) rfl), lw_t1 (List.mem_of_getElem? (i := 101) rfl), lw_t1 (List.mem_of_getElem? (i := 102) rfl)⟩
theorem lw_p5 : lw_okq (⟨"UnboxPlanner", "search", "()V"⟩, 13) := ⟨⟨by decide +kernel, by decide +kernel⟩, lw_t1 (List.mem_of_getElem? (i := 4) rfl), lw_t1 (List.mem_of_getElem? (i := 106) rfl), lw_t1 (List.mem_of_getElem? (i := 107) rfl)⟩
theorem lw_p6 : lw_okq (⟨"UnboxPlanner", "push", "()I"⟩, 13) := ⟨⟨by decide +kernel, by decide +kernel⟩, lw_t1 (List.mem_of_getElem? (i := 4) rfl), lw_t1 (List.mem_of_getElem? (i := 110) rfl), lw_t1 (List.mem_of_getElem? (i := 111) rfl)⟩
theorem lw_p7 : lw_okq (⟨"UnboxPlanner", "reachingSink", "()I"⟩, 13) := ⟨⟨by decide +kernel, by decide +kernel⟩, lw_t1 (List.mem_of_getElem? (i := 4) rfl), lw_t1 (List.mem_of_getElem? (i := 118) rfl), lw_t1 (List.mem_of_getElem? (i := 119) rfl)⟩
theorem lw_p8 : lw_okq (⟨"UnboxPlanner", "notFromSource", "()I"⟩, 13) := ⟨⟨by decide +kernel, by decide +kernel⟩, lw_t1 (List.mem_of_getElem? (i := 4) rfl), lw_t1 (List.mem_of_getElem? (i := 126) rfl), lw_t1 (List.mem_of_getElem? (i := 127) rfl)⟩
theorem lw_p9 : lw_okq (⟨"UnboxPlannerModel", "bad", "(I)Z"⟩, 9) := ⟨⟨by decide +kernel, by decide +kernel⟩, lw_t1 (List.mem_of_getElem? (i := 158) rfl), lw_t1 (List.mem_of_getElem? (i := 200) rfl), lw_t1 (List.mem_of_getElem? (i := 201) rfl)⟩
theorem lw_p10 : lw_okq (⟨"UnboxPlannerModel", "badFlow", "(I)Z"⟩, 9) := ⟨⟨by decide +kernel, by decide +kernel⟩, lw_t1 (List.mem_of_getElem? (i := 158) rfl), lw_t1 (List.mem_of_getElem? (i := 212) rfl), lw_t1 (List.mem_of_getElem? (i := 213) rfl)⟩
theorem lw_p11 : lw_okq (⟨"UnboxPlannerModel", "total", "(II)I"⟩, 9) := ⟨⟨by decide +kernel, by decide +kernel⟩, lw_t1 (List.mem_of_getElem? (i := 158) rfl), lw_t1 (List.mem_of_getElem? (i := 228) rfl), lw_t1 (List.mem_of_getElem? (i := 229) rfl)⟩
theorem lw_p12 : lw_okq (⟨"UnboxPlannerModel", "form", "(II)I"⟩, 9) := ⟨⟨by decide +kernel, by decide +kernel⟩, lw_t1 (List.mem_of_getElem? (i := 158) rfl), lw_t1 (List.mem_of_getElem? (i := 232) rfl), lw_t1 (List.mem_of_getElem? (i := 233) rfl)⟩
theorem lw_p13 : lw_okq (⟨"UnboxPlannerModel", "least", "(I)I"⟩, 9) := ⟨⟨by decide +kernel, by decide +kernel⟩, lw_t1 (List.mem_of_getElem? (i := 158) rfl), lw_t2 (List.mem_of_getElem? (i := 0) rfl), lw_t2 (List.mem_of_getElem? (i := 1) rfl)⟩
theorem lw_p14 : lw_okq (⟨"UnboxPlannerModel", "allowed", "(I)Z"⟩, 9) := ⟨⟨by decide +kernel, by decide +kernel⟩, lw_t1 (List.mem_of_getElem? (i := 158) rfl), lw_t2 (List.mem_of_getElem? (i := 4) rfl), lw_t2 (List.mem_of_getElem? (i := 5) rfl)⟩
theorem lw_p15 : lw_okq (⟨"UnboxPlannerModel", "common", "()I"⟩, 9) := ⟨⟨by decide +kernel, by decide +kernel⟩, lw_t1 (List.mem_of_getElem? (i := 158) rfl), lw_t2 (List.mem_of_getElem? (i := 12) rfl), lw_t2 (List.mem_of_getElem? (i := 13) rfl)⟩
def lw_privs_1 : List (MethodName × Nat) := [(⟨"UnboxPlanner", "isValue", "(I)Z"⟩, 13), (⟨"UnboxPlanner", "isFlow", "(I)Z"⟩, 13), (⟨"UnboxPlanner", "isPlan", "(I)Z"⟩, 13), (⟨"UnboxPlanner", "takeFixed", "()V"⟩, 13), (⟨"UnboxPlanner", "solve", "()I"⟩, 13), (⟨"UnboxPlanner", "search", "()V"⟩, 13), (⟨"UnboxPlanner", "push", "()I"⟩, 13), (⟨"UnboxPlanner", "reachingSink", "()I"⟩, 13), (⟨"UnboxPlanner", "notFromSource", "()I"⟩, 13), (⟨"UnboxPlannerModel", "bad", "(I)Z"⟩, 9), (⟨"UnboxPlannerModel", "badFlow", "(I)Z"⟩, 9), (⟨"UnboxPlannerModel", "total", "(II)I"⟩, 9), (⟨"UnboxPlannerModel", "form", "(II)I"⟩, 9), (⟨"UnboxPlannerModel", "least", "(I)I"⟩, 9), (⟨"UnboxPlannerModel", "allowed", "(I)Z"⟩, 9), (⟨"UnboxPlannerModel", "common", "()I"⟩, 9)]
theorem lw_r1 : ∀ q ∈ lw_privs_1, lw_okq q := List.forall_mem_cons.mpr ⟨lw_p0, List.forall_mem_cons.mpr ⟨lw_p1, List.forall_mem_cons.mpr ⟨lw_p2, List.forall_mem_cons.mpr ⟨lw_p3, List.forall_mem_cons.mpr ⟨lw_p4, List.forall_mem_cons.mpr ⟨lw_p5, List.forall_mem_cons.mpr ⟨lw_p6, List.forall_mem_cons.mpr ⟨lw_p7, List.forall_mem_cons.mpr ⟨lw_p8, List.forall_mem_cons.mpr ⟨lw_p9, List.forall_mem_cons.mpr ⟨lw_p10, List.forall_mem_cons.mpr ⟨lw_p11, List.forall_mem_cons.mpr ⟨lw_p12, List.forall_mem_cons.mpr ⟨lw_p13, List.forall_mem_cons.mpr ⟨lw_p14, List.forall_mem_cons.mpr ⟨lw_p15, fun _ h => absurd h List.not_mem_nil⟩⟩⟩⟩⟩⟩⟩⟩⟩⟩⟩⟩⟩⟩⟩⟩
theorem lw_p16 : lw_okq (⟨"UnboxPlannerModel", "some", "()I"⟩, 9) := ⟨⟨by decide +kernel, by decide +kernel⟩, lw_t1 (List.mem_of_getElem? (i := 158) rfl), lw_t2 (List.mem_of_getElem? (i := 20) rfl), lw_t2 (List.mem_of_getElem? (i := 21) rfl)⟩
def lw_privs_2 : List (MethodName × Nat) := [(⟨"UnboxPlannerModel", "some", "()I"⟩, 9)]
theorem lw_r2 : ∀ q ∈ lw_privs_2, lw_okq q := List.forall_mem_cons.mpr ⟨lw_p16, fun _ h => absurd h List.not_mem_nil⟩
def lw_privs : List (MethodName × Nat) := lw_privs_1 ++ (lw_privs_2)
def lw_tbl : List Cond := k2_sels lw_privs ++ tables_1
theorem lw_privs_ok : ∀ q ∈ lw_privs, lw_okq q := by
  show ∀ q ∈ lw_privs_1 ++ (lw_privs_2), lw_okq q
  exact List.forall_mem_append.mpr ⟨lw_r1, lw_r2⟩
-- ===== ONE list of words for every method: the tables' words that hold all through a run =====
def lw_all : List Cond := lw_tbl.filter goodWord
/-- a word of the tables by its place: claim/WORDS.tsv -/
theorem lw_w {w : Cond} (i : Nat) (h : lw_tbl[i]? = some w) (g : goodWord w = true) : w ∈ lw_all := List.mem_filter.mpr ⟨List.mem_of_getElem? h, g⟩
theorem lw_all_tbl {w : Cond} (h : w ∈ lw_all) : w ∈ lw_tbl := (List.mem_filter.mp h).1
theorem lw_self : GoodIn lw_all lw_all := fun w h => ⟨h, good_of_word (List.mem_filter.mp h).2⟩
/-- a class's field words, by their places -/
theorem lw_in (ws : List Cond) (ps : List Nat) (hp : ws = ps.filterMap (fun i => lw_tbl[i]?)) (hg : ws.all goodWord = true) : ∀ w ∈ ws, w ∈ lw_all := by
  intro w h
  have h1 := List.all_eq_true.mp hg w h
  rw [hp] at h
  obtain ⟨i, -, hi⟩ := List.mem_filterMap.mp h
  exact lw_w i hi h1
/-- the words of a contract for the method y with code b, L locals, answer r -/
abbrev ws_ (y : MethodName) (b : ByteArray) (L : Nat) (r : Option FieldType) : List Cond := Cond.code y b L r :: lw_all
theorem lw_meth {y : MethodName} {b : ByteArray} {L : Nat} {r : Option FieldType} (h : Cond.code y b L r ∈ lw_all) : GoodIn lw_all (ws_ y b L r) := by
  intro w hw
  rcases List.mem_cons.mp hw with e | e
  · rw [e]
    exact lw_self _ h
  · exact lw_self _ e
theorem lw_app {a c : List Cond} (ha : ∀ w ∈ a, w ∈ lw_all) (hc : GoodIn lw_all c) : GoodIn lw_all (a ++ c) := by
  intro w hw
  rcases List.mem_append.mp hw with e | e
  · exact lw_self w (ha w e)
  · exact hc w e
/-- what a call through an object asks: cwV n hts (lw_V ..) -/
theorem lw_V {own : String} {idx : Nat} {C : String} {y : MethodName} {b : ByteArray} {L : Nat} {r : Option FieldType} (h1 : Cond.methodLink own idx y ∈ lw_all) (h2 : Cond.instanceMethod y ∈ lw_all) (h3 : Cond.selects C y y ∈ lw_all) (h4 : Cond.initialized C ∈ lw_all) (h5 : Cond.code y b L r ∈ lw_all) : GoodIn lw_all (wsV own idx C y (ws_ y b L r)) := by
  refine lw_app ?_ (lw_meth h5)
  intro w hw
  simp only [List.mem_cons, List.not_mem_nil, or_false] at hw
  rcases hw with e | e | e | e
  · rw [e]; exact h1
  · rw [e]; exact h2
  · rw [e]; exact h3
  · rw [e]; exact h4
/-- what a static call asks: va_cwS n hts (lw_S ..) -/
theorem lw_S {own : String} {idx : Nat} {y : MethodName} {b : ByteArray} {L : Nat} {r : Option FieldType} (h1 : Cond.methodLink own idx y ∈ lw_all) (h2 : Cond.static y ∈ lw_all) (h3 : Cond.initialized y.cls ∈ lw_all) (h4 : Cond.code y b L r ∈ lw_all) : GoodIn lw_all (va_wsS own idx y (ws_ y b L r)) := by
  refine lw_app ?_ (lw_meth h4)
  intro w hw
  simp only [List.mem_cons, List.not_mem_nil, or_false] at hw
  rcases hw with e | e | e
  · rw [e]; exact h1
  · rw [e]; exact h2
  · rw [e]; exact h3
/-- the words of a contract for a method WITH HANDLERS (hh: its table) -/
abbrev wsW_ (y : MethodName) (b : ByteArray) (L : Nat) (r : Option FieldType) (hh : List (Nat × Nat × Nat × Nat)) : List Cond := Cond.codeWith y b L r hh :: lw_all
theorem lw_methW {y : MethodName} {b : ByteArray} {L : Nat} {r : Option FieldType} {hh : List (Nat × Nat × Nat × Nat)} (h : Cond.codeWith y b L r hh ∈ lw_all) : GoodIn lw_all (wsW_ y b L r hh) := by
  intro w hw
  rcases List.mem_cons.mp hw with e | e
  · rw [e]
    exact lw_self _ h
  · exact lw_self _ e
/-- any list of words by their places (lw_in), good -/
theorem lw_good {ws : List Cond} (h : ∀ w ∈ ws, w ∈ lw_all) : GoodIn lw_all ws := fun w hw => lw_self w (h w hw)
/-- what a call of a method with handlers asks: vx_cwVW n hts (lw_VW ..), vx_cwSW n hts (lw_SW ..) -/
theorem lw_VW {own : String} {idx : Nat} {C : String} {y : MethodName} {b : ByteArray} {L : Nat} {r : Option FieldType} {hh : List (Nat × Nat × Nat × Nat)} (h1 : Cond.methodLink own idx y ∈ lw_all) (h2 : Cond.instanceMethod y ∈ lw_all) (h3 : Cond.selects C y y ∈ lw_all) (h4 : Cond.initialized C ∈ lw_all) (h5 : Cond.codeWith y b L r hh ∈ lw_all) : GoodIn lw_all (wsV own idx C y (wsW_ y b L r hh)) := by
  refine lw_app ?_ (lw_methW h5)
  intro w hw
  simp only [List.mem_cons, List.not_mem_nil, or_false] at hw
  rcases hw with e | e | e | e
  · rw [e]; exact h1
  · rw [e]; exact h2
  · rw [e]; exact h3
  · rw [e]; exact h4
theorem lw_SW {own : String} {idx : Nat} {y : MethodName} {b : ByteArray} {L : Nat} {r : Option FieldType} {hh : List (Nat × Nat × Nat × Nat)} (h1 : Cond.methodLink own idx y ∈ lw_all) (h2 : Cond.static y ∈ lw_all) (h3 : Cond.initialized y.cls ∈ lw_all) (h4 : Cond.codeWith y b L r hh ∈ lw_all) : GoodIn lw_all (va_wsS own idx y (wsW_ y b L r hh)) := by
  refine lw_app ?_ (lw_methW h4)
  intro w hw
  simp only [List.mem_cons, List.not_mem_nil, or_false] at hw
  rcases hw with e | e | e
  · rw [e]; exact h1
  · rw [e]; exact h2
  · rw [e]; exact h3
/-- a word by its place in its run of the tables -/
theorem lw_at {r : List Cond} (hr : ∀ w ∈ r, w ∈ lw_tbl) {w : Cond} (i : Nat) (h : r[i]? = some w) : w ∈ lw_tbl := hr w (List.mem_of_getElem? h)
theorem lw_g {w : Cond} (h : w ∈ lw_tbl) (g : goodWord w = true) : w ∈ lw_all := List.mem_filter.mpr ⟨h, g⟩
theorem lw_ms : ∀ w ∈ k2_sels lw_privs, w ∈ lw_tbl := fun w h => show w ∈ k2_sels lw_privs ++ tables_1 from List.mem_append_left _ h
theorem lw_m1 : ∀ w ∈ tables_1_1, w ∈ lw_tbl := fun w h => show w ∈ k2_sels lw_privs ++ tables_1 from List.mem_append_right (k2_sels lw_privs) (show w ∈ tables_1 from List.mem_append_left _ h)
theorem lw_m2 : ∀ w ∈ tables_1_2, w ∈ lw_tbl := fun w h => show w ∈ k2_sels lw_privs ++ tables_1 from List.mem_append_right (k2_sels lw_privs) (show w ∈ tables_1 from List.mem_append_right _ h)
theorem qs0 : (Cond.selects "UnboxPlanner" ⟨"UnboxPlanner", "isValue", "(I)Z"⟩ ⟨"UnboxPlanner", "isValue", "(I)Z"⟩) ∈ lw_all := lw_g (lw_at lw_ms 0 rfl) rfl
theorem qs1 : (Cond.selects "UnboxPlanner" ⟨"UnboxPlanner", "isFlow", "(I)Z"⟩ ⟨"UnboxPlanner", "isFlow", "(I)Z"⟩) ∈ lw_all := lw_g (lw_at lw_ms 1 rfl) rfl
theorem qs2 : (Cond.selects "UnboxPlanner" ⟨"UnboxPlanner", "isPlan", "(I)Z"⟩ ⟨"UnboxPlanner", "isPlan", "(I)Z"⟩) ∈ lw_all := lw_g (lw_at lw_ms 2 rfl) rfl
theorem qs3 : (Cond.selects "UnboxPlanner" ⟨"UnboxPlanner", "takeFixed", "()V"⟩ ⟨"UnboxPlanner", "takeFixed", "()V"⟩) ∈ lw_all := lw_g (lw_at lw_ms 3 rfl) rfl
theorem qs4 : (Cond.selects "UnboxPlanner" ⟨"UnboxPlanner", "solve", "()I"⟩ ⟨"UnboxPlanner", "solve", "()I"⟩) ∈ lw_all := lw_g (lw_at lw_ms 4 rfl) rfl
theorem qs5 : (Cond.selects "UnboxPlanner" ⟨"UnboxPlanner", "search", "()V"⟩ ⟨"UnboxPlanner", "search", "()V"⟩) ∈ lw_all := lw_g (lw_at lw_ms 5 rfl) rfl
theorem qs6 : (Cond.selects "UnboxPlanner" ⟨"UnboxPlanner", "push", "()I"⟩ ⟨"UnboxPlanner", "push", "()I"⟩) ∈ lw_all := lw_g (lw_at lw_ms 6 rfl) rfl
theorem qs7 : (Cond.selects "UnboxPlanner" ⟨"UnboxPlanner", "reachingSink", "()I"⟩ ⟨"UnboxPlanner", "reachingSink", "()I"⟩) ∈ lw_all := lw_g (lw_at lw_ms 7 rfl) rfl
theorem qs8 : (Cond.selects "UnboxPlanner" ⟨"UnboxPlanner", "notFromSource", "()I"⟩ ⟨"UnboxPlanner", "notFromSource", "()I"⟩) ∈ lw_all := lw_g (lw_at lw_ms 8 rfl) rfl
theorem qs9 : (Cond.selects "UnboxPlannerModel" ⟨"UnboxPlannerModel", "bad", "(I)Z"⟩ ⟨"UnboxPlannerModel", "bad", "(I)Z"⟩) ∈ lw_all := lw_g (lw_at lw_ms 9 rfl) rfl
theorem qs10 : (Cond.selects "UnboxPlannerModel" ⟨"UnboxPlannerModel", "badFlow", "(I)Z"⟩ ⟨"UnboxPlannerModel", "badFlow", "(I)Z"⟩) ∈ lw_all := lw_g (lw_at lw_ms 10 rfl) rfl
theorem qs11 : (Cond.selects "UnboxPlannerModel" ⟨"UnboxPlannerModel", "total", "(II)I"⟩ ⟨"UnboxPlannerModel", "total", "(II)I"⟩) ∈ lw_all := lw_g (lw_at lw_ms 11 rfl) rfl
theorem qs12 : (Cond.selects "UnboxPlannerModel" ⟨"UnboxPlannerModel", "form", "(II)I"⟩ ⟨"UnboxPlannerModel", "form", "(II)I"⟩) ∈ lw_all := lw_g (lw_at lw_ms 12 rfl) rfl
theorem qs13 : (Cond.selects "UnboxPlannerModel" ⟨"UnboxPlannerModel", "least", "(I)I"⟩ ⟨"UnboxPlannerModel", "least", "(I)I"⟩) ∈ lw_all := lw_g (lw_at lw_ms 13 rfl) rfl
theorem qs14 : (Cond.selects "UnboxPlannerModel" ⟨"UnboxPlannerModel", "allowed", "(I)Z"⟩ ⟨"UnboxPlannerModel", "allowed", "(I)Z"⟩) ∈ lw_all := lw_g (lw_at lw_ms 14 rfl) rfl
theorem qs15 : (Cond.selects "UnboxPlannerModel" ⟨"UnboxPlannerModel", "common", "()I"⟩ ⟨"UnboxPlannerModel", "common", "()I"⟩) ∈ lw_all := lw_g (lw_at lw_ms 15 rfl) rfl
theorem qs16 : (Cond.selects "UnboxPlannerModel" ⟨"UnboxPlannerModel", "some", "()I"⟩ ⟨"UnboxPlannerModel", "some", "()I"⟩) ∈ lw_all := lw_g (lw_at lw_ms 16 rfl) rfl
end
section
/-! java/lang/Object -/
set_option maxRecDepth 100000
def RJ0 : String := "java/lang/Object"
abbrev cJ0_init : ByteArray := object_method_1_code
def yJ0_init : MethodName := ⟨RJ0, "<init>", "()V"⟩
theorem dJ0_init_0 : decode cJ0_init 0 = .ok (.return_, 1) := by decide +kernel
theorem q26 : (Jvm.Cond.instanceMethod ({ cls := "java/lang/Object", name := "<init>", desc := "()V" } : Jvm.MethodName)) ∈ lw_all := lw_g (lw_at lw_m1 9 rfl) rfl
theorem q27 : (Jvm.Cond.code ({ cls := "java/lang/Object", name := "<init>", desc := "()V" } : Jvm.MethodName) object_method_1_code (1 : Nat) (Option.none : Option Jvm.ClassFile.FieldType)) ∈ lw_all := lw_g (lw_at lw_m1 10 rfl) rfl

theorem q68 : (Jvm.Cond.arrayClass Jvm.ClassFile.FieldType.int) ∈ lw_all := lw_g (lw_at lw_m1 51 rfl) rfl
set_option maxRecDepth 100000
end
section
/-! UnboxPlanner -/
set_option maxRecDepth 100000
def RX1 : String := "UnboxPlanner"
def TX1 : u_T := fun k => match k with
  | 0 => ("UnboxPlanner", "formCost", "[I", true)
  | 1 => ("UnboxPlanner", "from", "[I", true)
  | 2 => ("UnboxPlanner", "to", "[I", true)
  | 3 => ("UnboxPlanner", "boxingCost", "[I", true)
  | 4 => ("UnboxPlanner", "unboxingCost", "[I", true)
  | 5 => ("UnboxPlanner", "fixed", "[I", true)
  | 6 => ("UnboxPlanner", "wanted", "[I", true)
  | 7 => ("UnboxPlanner", "left", "[I", true)
  | 8 => ("UnboxPlanner", "parent", "[I", true)
  | 9 => ("UnboxPlanner", "queue", "[I", true)
  | 10 => ("UnboxPlanner", "n", "I", false)
  | 11 => ("UnboxPlanner", "count", "I", false)
  | _ => ("UnboxPlanner", "skipped", "I", false)
def tyX1 : Nat → FieldType := fun k => match k with
  | 0 => .array .int
  | 1 => .array .int
  | 2 => .array .int
  | 3 => .array .int
  | 4 => .array .int
  | 5 => .array .int
  | 6 => .array .int
  | 7 => .array .int
  | 8 => .array .int
  | 9 => .array .int
  | 10 => .int
  | 11 => .int
  | _ => .int
abbrev wsX10 : List Cond := u_ws RX1 TX1 13
set_option maxRecDepth 100000 in
theorem nmX1 : ∀ a, a < 13 → ∀ b, b < 13 → a ≠ b → (TX1 a).2.1 ≠ (TX1 b).2.1 := by decide +kernel
set_option maxRecDepth 100000 in
theorem tyX1_ok : ∀ k, k < 13 → parseFieldDescriptor (TX1 k).2.2.1 = some (tyX1 k) := by decide +kernel
abbrev cX1_init : ByteArray := prog_1_method_1_code
def yX1_init : MethodName := ⟨RX1, "<init>", "(I)V"⟩
theorem dX1_init_0 : decode cX1_init 0 = .ok (.aload_n 0, 1) := by decide +kernel
theorem dX1_init_1 : decode cX1_init 1 = .ok (.invokespecial 1, 3) := by decide +kernel
theorem dX1_init_4 : decode cX1_init 4 = .ok (.aload_n 0, 1) := by decide +kernel
theorem dX1_init_5 : decode cX1_init 5 = .ok (.bipush 20, 2) := by decide +kernel
theorem dX1_init_7 : decode cX1_init 7 = .ok (.newarray .int, 2) := by decide +kernel
theorem dX1_init_9 : decode cX1_init 9 = .ok (.putfield 7, 3) := by decide +kernel
theorem dX1_init_12 : decode cX1_init 12 = .ok (.aload_n 0, 1) := by decide +kernel
theorem dX1_init_13 : decode cX1_init 13 = .ok (.bipush 20, 2) := by decide +kernel
theorem dX1_init_15 : decode cX1_init 15 = .ok (.newarray .int, 2) := by decide +kernel
theorem dX1_init_17 : decode cX1_init 17 = .ok (.putfield 13, 3) := by decide +kernel
theorem dX1_init_20 : decode cX1_init 20 = .ok (.aload_n 0, 1) := by decide +kernel
theorem dX1_init_21 : decode cX1_init 21 = .ok (.bipush 20, 2) := by decide +kernel
theorem dX1_init_23 : decode cX1_init 23 = .ok (.newarray .int, 2) := by decide +kernel
theorem dX1_init_25 : decode cX1_init 25 = .ok (.putfield 16, 3) := by decide +kernel
theorem dX1_init_28 : decode cX1_init 28 = .ok (.aload_n 0, 1) := by decide +kernel
theorem dX1_init_29 : decode cX1_init 29 = .ok (.bipush 20, 2) := by decide +kernel
theorem dX1_init_31 : decode cX1_init 31 = .ok (.newarray .int, 2) := by decide +kernel
theorem dX1_init_33 : decode cX1_init 33 = .ok (.putfield 19, 3) := by decide +kernel
theorem dX1_init_36 : decode cX1_init 36 = .ok (.aload_n 0, 1) := by decide +kernel
theorem dX1_init_37 : decode cX1_init 37 = .ok (.bipush 20, 2) := by decide +kernel
theorem dX1_init_39 : decode cX1_init 39 = .ok (.newarray .int, 2) := by decide +kernel
theorem dX1_init_41 : decode cX1_init 41 = .ok (.putfield 22, 3) := by decide +kernel
theorem dX1_init_44 : decode cX1_init 44 = .ok (.aload_n 0, 1) := by decide +kernel
theorem dX1_init_45 : decode cX1_init 45 = .ok (.bipush 10, 2) := by decide +kernel
theorem dX1_init_47 : decode cX1_init 47 = .ok (.newarray .int, 2) := by decide +kernel
theorem dX1_init_49 : decode cX1_init 49 = .ok (.putfield 25, 3) := by decide +kernel
theorem dX1_init_52 : decode cX1_init 52 = .ok (.aload_n 0, 1) := by decide +kernel
theorem dX1_init_53 : decode cX1_init 53 = .ok (.bipush 10, 2) := by decide +kernel
theorem dX1_init_55 : decode cX1_init 55 = .ok (.newarray .int, 2) := by decide +kernel
theorem dX1_init_57 : decode cX1_init 57 = .ok (.putfield 28, 3) := by decide +kernel
theorem dX1_init_60 : decode cX1_init 60 = .ok (.aload_n 0, 1) := by decide +kernel
theorem dX1_init_61 : decode cX1_init 61 = .ok (.sipush 144, 3) := by decide +kernel
theorem dX1_init_64 : decode cX1_init 64 = .ok (.newarray .int, 2) := by decide +kernel
theorem dX1_init_66 : decode cX1_init 66 = .ok (.putfield 31, 3) := by decide +kernel
theorem dX1_init_69 : decode cX1_init 69 = .ok (.aload_n 0, 1) := by decide +kernel
theorem dX1_init_70 : decode cX1_init 70 = .ok (.bipush 12, 2) := by decide +kernel
theorem dX1_init_72 : decode cX1_init 72 = .ok (.newarray .int, 2) := by decide +kernel
theorem dX1_init_74 : decode cX1_init 74 = .ok (.putfield 34, 3) := by decide +kernel
theorem dX1_init_77 : decode cX1_init 77 = .ok (.aload_n 0, 1) := by decide +kernel
theorem dX1_init_78 : decode cX1_init 78 = .ok (.bipush 12, 2) := by decide +kernel
theorem dX1_init_80 : decode cX1_init 80 = .ok (.newarray .int, 2) := by decide +kernel
theorem dX1_init_82 : decode cX1_init 82 = .ok (.putfield 37, 3) := by decide +kernel
theorem dX1_init_85 : decode cX1_init 85 = .ok (.aload_n 0, 1) := by decide +kernel
theorem dX1_init_86 : decode cX1_init 86 = .ok (.iload_n 1, 1) := by decide +kernel
theorem dX1_init_87 : decode cX1_init 87 = .ok (.iconst 2, 1) := by decide +kernel
theorem dX1_init_88 : decode cX1_init 88 = .ok (.if_icmp .ge 7, 3) := by decide +kernel
theorem dX1_init_91 : decode cX1_init 91 = .ok (.iconst 2, 1) := by decide +kernel
theorem dX1_init_92 : decode cX1_init 92 = .ok (.goto 4, 3) := by decide +kernel
theorem dX1_init_95 : decode cX1_init 95 = .ok (.iload_n 1, 1) := by decide +kernel
theorem dX1_init_96 : decode cX1_init 96 = .ok (.putfield 40, 3) := by decide +kernel
theorem dX1_init_99 : decode cX1_init 99 = .ok (.aload_n 0, 1) := by decide +kernel
theorem dX1_init_100 : decode cX1_init 100 = .ok (.getfield 40, 3) := by decide +kernel
theorem dX1_init_103 : decode cX1_init 103 = .ok (.bipush 10, 2) := by decide +kernel
theorem dX1_init_105 : decode cX1_init 105 = .ok (.if_icmp .le 9, 3) := by decide +kernel
theorem dX1_init_108 : decode cX1_init 108 = .ok (.aload_n 0, 1) := by decide +kernel
theorem dX1_init_109 : decode cX1_init 109 = .ok (.bipush 10, 2) := by decide +kernel
theorem dX1_init_111 : decode cX1_init 111 = .ok (.putfield 40, 3) := by decide +kernel
theorem dX1_init_114 : decode cX1_init 114 = .ok (.iconst 0, 1) := by decide +kernel
theorem dX1_init_115 : decode cX1_init 115 = .ok (.istore_n 2, 1) := by decide +kernel
theorem dX1_init_116 : decode cX1_init 116 = .ok (.iload_n 2, 1) := by decide +kernel
theorem dX1_init_117 : decode cX1_init 117 = .ok (.bipush 10, 2) := by decide +kernel
theorem dX1_init_119 : decode cX1_init 119 = .ok (.if_icmp .ge 16, 3) := by decide +kernel
theorem dX1_init_122 : decode cX1_init 122 = .ok (.aload_n 0, 1) := by decide +kernel
theorem dX1_init_123 : decode cX1_init 123 = .ok (.getfield 25, 3) := by decide +kernel
theorem dX1_init_126 : decode cX1_init 126 = .ok (.iload_n 2, 1) := by decide +kernel
theorem dX1_init_127 : decode cX1_init 127 = .ok (.iconst 2, 1) := by decide +kernel
theorem dX1_init_128 : decode cX1_init 128 = .ok (.iastore, 1) := by decide +kernel
theorem dX1_init_129 : decode cX1_init 129 = .ok (.iinc 2 1, 3) := by decide +kernel
theorem dX1_init_132 : decode cX1_init 132 = .ok (.goto (-16), 3) := by decide +kernel
theorem dX1_init_135 : decode cX1_init 135 = .ok (.aload_n 0, 1) := by decide +kernel
theorem dX1_init_136 : decode cX1_init 136 = .ok (.iconst (-1), 1) := by decide +kernel
theorem dX1_init_137 : decode cX1_init 137 = .ok (.putfield 44, 3) := by decide +kernel
theorem dX1_init_140 : decode cX1_init 140 = .ok (.return_, 1) := by decide +kernel
abbrev cX1_values : ByteArray := prog_1_method_2_code
def yX1_values : MethodName := ⟨RX1, "values", "()I"⟩
theorem dX1_values_0 : decode cX1_values 0 = .ok (.aload_n 0, 1) := by decide +kernel
theorem dX1_values_1 : decode cX1_values 1 = .ok (.getfield 40, 3) := by decide +kernel
theorem dX1_values_4 : decode cX1_values 4 = .ok (.ireturn, 1) := by decide +kernel
abbrev cX1_cost : ByteArray := prog_1_method_3_code
def yX1_cost : MethodName := ⟨RX1, "cost", "(III)I"⟩
theorem dX1_cost_0 : decode cX1_cost 0 = .ok (.aload_n 0, 1) := by decide +kernel
theorem dX1_cost_1 : decode cX1_cost 1 = .ok (.iload_n 1, 1) := by decide +kernel
theorem dX1_cost_2 : decode cX1_cost 2 = .ok (.invokevirtual 47, 3) := by decide +kernel
theorem dX1_cost_5 : decode cX1_cost 5 = .ok (.ifCond .ne 5, 3) := by decide +kernel
theorem dX1_cost_8 : decode cX1_cost 8 = .ok (.iconst (-1), 1) := by decide +kernel
theorem dX1_cost_9 : decode cX1_cost 9 = .ok (.ireturn, 1) := by decide +kernel
theorem dX1_cost_10 : decode cX1_cost 10 = .ok (.iload_n 2, 1) := by decide +kernel
theorem dX1_cost_11 : decode cX1_cost 11 = .ok (.ifCond .eq 11, 3) := by decide +kernel
theorem dX1_cost_14 : decode cX1_cost 14 = .ok (.iload_n 2, 1) := by decide +kernel
theorem dX1_cost_15 : decode cX1_cost 15 = .ok (.iconst 1, 1) := by decide +kernel
theorem dX1_cost_16 : decode cX1_cost 16 = .ok (.if_icmp .eq 6, 3) := by decide +kernel
theorem dX1_cost_19 : decode cX1_cost 19 = .ok (.bipush (-2), 2) := by decide +kernel
theorem dX1_cost_21 : decode cX1_cost 21 = .ok (.ireturn, 1) := by decide +kernel
theorem dX1_cost_22 : decode cX1_cost 22 = .ok (.iload_n 3, 1) := by decide +kernel
theorem dX1_cost_23 : decode cX1_cost 23 = .ok (.ifCond .lt 9, 3) := by decide +kernel
theorem dX1_cost_26 : decode cX1_cost 26 = .ok (.iload_n 3, 1) := by decide +kernel
theorem dX1_cost_27 : decode cX1_cost 27 = .ok (.bipush 60, 2) := by decide +kernel
theorem dX1_cost_29 : decode cX1_cost 29 = .ok (.if_icmp .le 6, 3) := by decide +kernel
theorem dX1_cost_32 : decode cX1_cost 32 = .ok (.bipush (-3), 2) := by decide +kernel
theorem dX1_cost_34 : decode cX1_cost 34 = .ok (.ireturn, 1) := by decide +kernel
theorem dX1_cost_35 : decode cX1_cost 35 = .ok (.aload_n 0, 1) := by decide +kernel
theorem dX1_cost_36 : decode cX1_cost 36 = .ok (.getfield 7, 3) := by decide +kernel
theorem dX1_cost_39 : decode cX1_cost 39 = .ok (.iconst 2, 1) := by decide +kernel
theorem dX1_cost_40 : decode cX1_cost 40 = .ok (.iload_n 1, 1) := by decide +kernel
theorem dX1_cost_41 : decode cX1_cost 41 = .ok (.imul, 1) := by decide +kernel
theorem dX1_cost_42 : decode cX1_cost 42 = .ok (.iload_n 2, 1) := by decide +kernel
theorem dX1_cost_43 : decode cX1_cost 43 = .ok (.iadd, 1) := by decide +kernel
theorem dX1_cost_44 : decode cX1_cost 44 = .ok (.iaload, 1) := by decide +kernel
theorem dX1_cost_45 : decode cX1_cost 45 = .ok (.istore 4, 2) := by decide +kernel
theorem dX1_cost_47 : decode cX1_cost 47 = .ok (.aload_n 0, 1) := by decide +kernel
theorem dX1_cost_48 : decode cX1_cost 48 = .ok (.getfield 7, 3) := by decide +kernel
theorem dX1_cost_51 : decode cX1_cost 51 = .ok (.iconst 2, 1) := by decide +kernel
theorem dX1_cost_52 : decode cX1_cost 52 = .ok (.iload_n 1, 1) := by decide +kernel
theorem dX1_cost_53 : decode cX1_cost 53 = .ok (.imul, 1) := by decide +kernel
theorem dX1_cost_54 : decode cX1_cost 54 = .ok (.iload_n 2, 1) := by decide +kernel
theorem dX1_cost_55 : decode cX1_cost 55 = .ok (.iadd, 1) := by decide +kernel
theorem dX1_cost_56 : decode cX1_cost 56 = .ok (.iload_n 3, 1) := by decide +kernel
theorem dX1_cost_57 : decode cX1_cost 57 = .ok (.iastore, 1) := by decide +kernel
theorem dX1_cost_58 : decode cX1_cost 58 = .ok (.iload 4, 2) := by decide +kernel
theorem dX1_cost_60 : decode cX1_cost 60 = .ok (.ireturn, 1) := by decide +kernel
abbrev cX1_isValue : ByteArray := prog_1_method_18_code
def yX1_isValue : MethodName := ⟨RX1, "isValue", "(I)Z"⟩
theorem dX1_isValue_0 : decode cX1_isValue 0 = .ok (.iload_n 1, 1) := by decide +kernel
theorem dX1_isValue_1 : decode cX1_isValue 1 = .ok (.ifCond .lt 15, 3) := by decide +kernel
theorem dX1_isValue_4 : decode cX1_isValue 4 = .ok (.iload_n 1, 1) := by decide +kernel
theorem dX1_isValue_5 : decode cX1_isValue 5 = .ok (.aload_n 0, 1) := by decide +kernel
theorem dX1_isValue_6 : decode cX1_isValue 6 = .ok (.getfield 40, 3) := by decide +kernel
theorem dX1_isValue_9 : decode cX1_isValue 9 = .ok (.if_icmp .ge 7, 3) := by decide +kernel
theorem dX1_isValue_12 : decode cX1_isValue 12 = .ok (.iconst 1, 1) := by decide +kernel
theorem dX1_isValue_13 : decode cX1_isValue 13 = .ok (.goto 4, 3) := by decide +kernel
theorem dX1_isValue_16 : decode cX1_isValue 16 = .ok (.iconst 0, 1) := by decide +kernel
theorem dX1_isValue_17 : decode cX1_isValue 17 = .ok (.ireturn, 1) := by decide +kernel
abbrev cX1_flow : ByteArray := prog_1_method_4_code
def yX1_flow : MethodName := ⟨RX1, "flow", "(IIII)I"⟩
theorem dX1_flow_0 : decode cX1_flow 0 = .ok (.aload_n 0, 1) := by decide +kernel
theorem dX1_flow_1 : decode cX1_flow 1 = .ok (.iload_n 1, 1) := by decide +kernel
theorem dX1_flow_2 : decode cX1_flow 2 = .ok (.invokevirtual 47, 3) := by decide +kernel
theorem dX1_flow_5 : decode cX1_flow 5 = .ok (.ifCond .eq 11, 3) := by decide +kernel
theorem dX1_flow_8 : decode cX1_flow 8 = .ok (.aload_n 0, 1) := by decide +kernel
theorem dX1_flow_9 : decode cX1_flow 9 = .ok (.iload_n 2, 1) := by decide +kernel
theorem dX1_flow_10 : decode cX1_flow 10 = .ok (.invokevirtual 47, 3) := by decide +kernel
theorem dX1_flow_13 : decode cX1_flow 13 = .ok (.ifCond .ne 5, 3) := by decide +kernel
theorem dX1_flow_16 : decode cX1_flow 16 = .ok (.iconst (-1), 1) := by decide +kernel
theorem dX1_flow_17 : decode cX1_flow 17 = .ok (.ireturn, 1) := by decide +kernel
theorem dX1_flow_18 : decode cX1_flow 18 = .ok (.iload_n 1, 1) := by decide +kernel
theorem dX1_flow_19 : decode cX1_flow 19 = .ok (.iload_n 2, 1) := by decide +kernel
theorem dX1_flow_20 : decode cX1_flow 20 = .ok (.if_icmp .ne 6, 3) := by decide +kernel
theorem dX1_flow_23 : decode cX1_flow 23 = .ok (.bipush (-2), 2) := by decide +kernel
theorem dX1_flow_25 : decode cX1_flow 25 = .ok (.ireturn, 1) := by decide +kernel
theorem dX1_flow_26 : decode cX1_flow 26 = .ok (.iload_n 3, 1) := by decide +kernel
theorem dX1_flow_27 : decode cX1_flow 27 = .ok (.ifCond .lt 21, 3) := by decide +kernel
theorem dX1_flow_30 : decode cX1_flow 30 = .ok (.iload_n 3, 1) := by decide +kernel
theorem dX1_flow_31 : decode cX1_flow 31 = .ok (.bipush 30, 2) := by decide +kernel
theorem dX1_flow_33 : decode cX1_flow 33 = .ok (.if_icmp .gt 15, 3) := by decide +kernel
theorem dX1_flow_36 : decode cX1_flow 36 = .ok (.iload 4, 2) := by decide +kernel
theorem dX1_flow_38 : decode cX1_flow 38 = .ok (.ifCond .lt 10, 3) := by decide +kernel
theorem dX1_flow_41 : decode cX1_flow 41 = .ok (.iload 4, 2) := by decide +kernel
theorem dX1_flow_43 : decode cX1_flow 43 = .ok (.bipush 30, 2) := by decide +kernel
theorem dX1_flow_45 : decode cX1_flow 45 = .ok (.if_icmp .le 6, 3) := by decide +kernel
theorem dX1_flow_48 : decode cX1_flow 48 = .ok (.bipush (-3), 2) := by decide +kernel
theorem dX1_flow_50 : decode cX1_flow 50 = .ok (.ireturn, 1) := by decide +kernel
theorem dX1_flow_51 : decode cX1_flow 51 = .ok (.aload_n 0, 1) := by decide +kernel
theorem dX1_flow_52 : decode cX1_flow 52 = .ok (.getfield 51, 3) := by decide +kernel
theorem dX1_flow_55 : decode cX1_flow 55 = .ok (.bipush 20, 2) := by decide +kernel
theorem dX1_flow_57 : decode cX1_flow 57 = .ok (.if_icmp .ne 6, 3) := by decide +kernel
theorem dX1_flow_60 : decode cX1_flow 60 = .ok (.bipush (-4), 2) := by decide +kernel
theorem dX1_flow_62 : decode cX1_flow 62 = .ok (.ireturn, 1) := by decide +kernel
theorem dX1_flow_63 : decode cX1_flow 63 = .ok (.aload_n 0, 1) := by decide +kernel
theorem dX1_flow_64 : decode cX1_flow 64 = .ok (.getfield 13, 3) := by decide +kernel
theorem dX1_flow_67 : decode cX1_flow 67 = .ok (.aload_n 0, 1) := by decide +kernel
theorem dX1_flow_68 : decode cX1_flow 68 = .ok (.getfield 51, 3) := by decide +kernel
theorem dX1_flow_71 : decode cX1_flow 71 = .ok (.iload_n 1, 1) := by decide +kernel
theorem dX1_flow_72 : decode cX1_flow 72 = .ok (.iastore, 1) := by decide +kernel
theorem dX1_flow_73 : decode cX1_flow 73 = .ok (.aload_n 0, 1) := by decide +kernel
theorem dX1_flow_74 : decode cX1_flow 74 = .ok (.getfield 16, 3) := by decide +kernel
theorem dX1_flow_77 : decode cX1_flow 77 = .ok (.aload_n 0, 1) := by decide +kernel
theorem dX1_flow_78 : decode cX1_flow 78 = .ok (.getfield 51, 3) := by decide +kernel
theorem dX1_flow_81 : decode cX1_flow 81 = .ok (.iload_n 2, 1) := by decide +kernel
theorem dX1_flow_82 : decode cX1_flow 82 = .ok (.iastore, 1) := by decide +kernel
theorem dX1_flow_83 : decode cX1_flow 83 = .ok (.aload_n 0, 1) := by decide +kernel
theorem dX1_flow_84 : decode cX1_flow 84 = .ok (.getfield 19, 3) := by decide +kernel
theorem dX1_flow_87 : decode cX1_flow 87 = .ok (.aload_n 0, 1) := by decide +kernel
theorem dX1_flow_88 : decode cX1_flow 88 = .ok (.getfield 51, 3) := by decide +kernel
theorem dX1_flow_91 : decode cX1_flow 91 = .ok (.iload_n 3, 1) := by decide +kernel
theorem dX1_flow_92 : decode cX1_flow 92 = .ok (.iastore, 1) := by decide +kernel
theorem dX1_flow_93 : decode cX1_flow 93 = .ok (.aload_n 0, 1) := by decide +kernel
theorem dX1_flow_94 : decode cX1_flow 94 = .ok (.getfield 22, 3) := by decide +kernel
theorem dX1_flow_97 : decode cX1_flow 97 = .ok (.aload_n 0, 1) := by decide +kernel
theorem dX1_flow_98 : decode cX1_flow 98 = .ok (.getfield 51, 3) := by decide +kernel
theorem dX1_flow_101 : decode cX1_flow 101 = .ok (.iload 4, 2) := by decide +kernel
theorem dX1_flow_103 : decode cX1_flow 103 = .ok (.iastore, 1) := by decide +kernel
theorem dX1_flow_104 : decode cX1_flow 104 = .ok (.aload_n 0, 1) := by decide +kernel
theorem dX1_flow_105 : decode cX1_flow 105 = .ok (.dup, 1) := by decide +kernel
theorem dX1_flow_106 : decode cX1_flow 106 = .ok (.getfield 51, 3) := by decide +kernel
theorem dX1_flow_109 : decode cX1_flow 109 = .ok (.iconst 1, 1) := by decide +kernel
theorem dX1_flow_110 : decode cX1_flow 110 = .ok (.iadd, 1) := by decide +kernel
theorem dX1_flow_111 : decode cX1_flow 111 = .ok (.putfield 51, 3) := by decide +kernel
theorem dX1_flow_114 : decode cX1_flow 114 = .ok (.aload_n 0, 1) := by decide +kernel
theorem dX1_flow_115 : decode cX1_flow 115 = .ok (.getfield 51, 3) := by decide +kernel
theorem dX1_flow_118 : decode cX1_flow 118 = .ok (.iconst 1, 1) := by decide +kernel
theorem dX1_flow_119 : decode cX1_flow 119 = .ok (.isub, 1) := by decide +kernel
theorem dX1_flow_120 : decode cX1_flow 120 = .ok (.ireturn, 1) := by decide +kernel
abbrev cX1_cut : ByteArray := prog_1_method_5_code
def yX1_cut : MethodName := ⟨RX1, "cut", "(I)I"⟩
theorem dX1_cut_0 : decode cX1_cut 0 = .ok (.aload_n 0, 1) := by decide +kernel
theorem dX1_cut_1 : decode cX1_cut 1 = .ok (.iload_n 1, 1) := by decide +kernel
theorem dX1_cut_2 : decode cX1_cut 2 = .ok (.invokevirtual 54, 3) := by decide +kernel
theorem dX1_cut_5 : decode cX1_cut 5 = .ok (.ifCond .ne 5, 3) := by decide +kernel
theorem dX1_cut_8 : decode cX1_cut 8 = .ok (.iconst (-1), 1) := by decide +kernel
theorem dX1_cut_9 : decode cX1_cut 9 = .ok (.ireturn, 1) := by decide +kernel
theorem dX1_cut_10 : decode cX1_cut 10 = .ok (.iload_n 1, 1) := by decide +kernel
theorem dX1_cut_11 : decode cX1_cut 11 = .ok (.iconst 1, 1) := by decide +kernel
theorem dX1_cut_12 : decode cX1_cut 12 = .ok (.iadd, 1) := by decide +kernel
theorem dX1_cut_13 : decode cX1_cut 13 = .ok (.istore_n 2, 1) := by decide +kernel
theorem dX1_cut_14 : decode cX1_cut 14 = .ok (.iload_n 2, 1) := by decide +kernel
theorem dX1_cut_15 : decode cX1_cut 15 = .ok (.aload_n 0, 1) := by decide +kernel
theorem dX1_cut_16 : decode cX1_cut 16 = .ok (.getfield 51, 3) := by decide +kernel
theorem dX1_cut_19 : decode cX1_cut 19 = .ok (.if_icmp .ge 65, 3) := by decide +kernel
theorem dX1_cut_22 : decode cX1_cut 22 = .ok (.aload_n 0, 1) := by decide +kernel
theorem dX1_cut_23 : decode cX1_cut 23 = .ok (.getfield 13, 3) := by decide +kernel
theorem dX1_cut_26 : decode cX1_cut 26 = .ok (.iload_n 2, 1) := by decide +kernel
theorem dX1_cut_27 : decode cX1_cut 27 = .ok (.iconst 1, 1) := by decide +kernel
theorem dX1_cut_28 : decode cX1_cut 28 = .ok (.isub, 1) := by decide +kernel
theorem dX1_cut_29 : decode cX1_cut 29 = .ok (.aload_n 0, 1) := by decide +kernel
theorem dX1_cut_30 : decode cX1_cut 30 = .ok (.getfield 13, 3) := by decide +kernel
theorem dX1_cut_33 : decode cX1_cut 33 = .ok (.iload_n 2, 1) := by decide +kernel
theorem dX1_cut_34 : decode cX1_cut 34 = .ok (.iaload, 1) := by decide +kernel
theorem dX1_cut_35 : decode cX1_cut 35 = .ok (.iastore, 1) := by decide +kernel
theorem dX1_cut_36 : decode cX1_cut 36 = .ok (.aload_n 0, 1) := by decide +kernel
theorem dX1_cut_37 : decode cX1_cut 37 = .ok (.getfield 16, 3) := by decide +kernel
theorem dX1_cut_40 : decode cX1_cut 40 = .ok (.iload_n 2, 1) := by decide +kernel
theorem dX1_cut_41 : decode cX1_cut 41 = .ok (.iconst 1, 1) := by decide +kernel
theorem dX1_cut_42 : decode cX1_cut 42 = .ok (.isub, 1) := by decide +kernel
theorem dX1_cut_43 : decode cX1_cut 43 = .ok (.aload_n 0, 1) := by decide +kernel
theorem dX1_cut_44 : decode cX1_cut 44 = .ok (.getfield 16, 3) := by decide +kernel
theorem dX1_cut_47 : decode cX1_cut 47 = .ok (.iload_n 2, 1) := by decide +kernel
theorem dX1_cut_48 : decode cX1_cut 48 = .ok (.iaload, 1) := by decide +kernel
theorem dX1_cut_49 : decode cX1_cut 49 = .ok (.iastore, 1) := by decide +kernel
theorem dX1_cut_50 : decode cX1_cut 50 = .ok (.aload_n 0, 1) := by decide +kernel
theorem dX1_cut_51 : decode cX1_cut 51 = .ok (.getfield 19, 3) := by decide +kernel
theorem dX1_cut_54 : decode cX1_cut 54 = .ok (.iload_n 2, 1) := by decide +kernel
theorem dX1_cut_55 : decode cX1_cut 55 = .ok (.iconst 1, 1) := by decide +kernel
theorem dX1_cut_56 : decode cX1_cut 56 = .ok (.isub, 1) := by decide +kernel
theorem dX1_cut_57 : decode cX1_cut 57 = .ok (.aload_n 0, 1) := by decide +kernel
theorem dX1_cut_58 : decode cX1_cut 58 = .ok (.getfield 19, 3) := by decide +kernel
theorem dX1_cut_61 : decode cX1_cut 61 = .ok (.iload_n 2, 1) := by decide +kernel
theorem dX1_cut_62 : decode cX1_cut 62 = .ok (.iaload, 1) := by decide +kernel
theorem dX1_cut_63 : decode cX1_cut 63 = .ok (.iastore, 1) := by decide +kernel
theorem dX1_cut_64 : decode cX1_cut 64 = .ok (.aload_n 0, 1) := by decide +kernel
theorem dX1_cut_65 : decode cX1_cut 65 = .ok (.getfield 22, 3) := by decide +kernel
theorem dX1_cut_68 : decode cX1_cut 68 = .ok (.iload_n 2, 1) := by decide +kernel
theorem dX1_cut_69 : decode cX1_cut 69 = .ok (.iconst 1, 1) := by decide +kernel
theorem dX1_cut_70 : decode cX1_cut 70 = .ok (.isub, 1) := by decide +kernel
theorem dX1_cut_71 : decode cX1_cut 71 = .ok (.aload_n 0, 1) := by decide +kernel
theorem dX1_cut_72 : decode cX1_cut 72 = .ok (.getfield 22, 3) := by decide +kernel
theorem dX1_cut_75 : decode cX1_cut 75 = .ok (.iload_n 2, 1) := by decide +kernel
theorem dX1_cut_76 : decode cX1_cut 76 = .ok (.iaload, 1) := by decide +kernel
theorem dX1_cut_77 : decode cX1_cut 77 = .ok (.iastore, 1) := by decide +kernel
theorem dX1_cut_78 : decode cX1_cut 78 = .ok (.iinc 2 1, 3) := by decide +kernel
theorem dX1_cut_81 : decode cX1_cut 81 = .ok (.goto (-67), 3) := by decide +kernel
theorem dX1_cut_84 : decode cX1_cut 84 = .ok (.aload_n 0, 1) := by decide +kernel
theorem dX1_cut_85 : decode cX1_cut 85 = .ok (.dup, 1) := by decide +kernel
theorem dX1_cut_86 : decode cX1_cut 86 = .ok (.getfield 51, 3) := by decide +kernel
theorem dX1_cut_89 : decode cX1_cut 89 = .ok (.iconst 1, 1) := by decide +kernel
theorem dX1_cut_90 : decode cX1_cut 90 = .ok (.isub, 1) := by decide +kernel
theorem dX1_cut_91 : decode cX1_cut 91 = .ok (.putfield 51, 3) := by decide +kernel
theorem dX1_cut_94 : decode cX1_cut 94 = .ok (.aload_n 0, 1) := by decide +kernel
theorem dX1_cut_95 : decode cX1_cut 95 = .ok (.getfield 51, 3) := by decide +kernel
theorem dX1_cut_98 : decode cX1_cut 98 = .ok (.ireturn, 1) := by decide +kernel
abbrev cX1_isFlow : ByteArray := prog_1_method_19_code
def yX1_isFlow : MethodName := ⟨RX1, "isFlow", "(I)Z"⟩
theorem dX1_isFlow_0 : decode cX1_isFlow 0 = .ok (.iload_n 1, 1) := by decide +kernel
theorem dX1_isFlow_1 : decode cX1_isFlow 1 = .ok (.ifCond .lt 15, 3) := by decide +kernel
theorem dX1_isFlow_4 : decode cX1_isFlow 4 = .ok (.iload_n 1, 1) := by decide +kernel
theorem dX1_isFlow_5 : decode cX1_isFlow 5 = .ok (.aload_n 0, 1) := by decide +kernel
theorem dX1_isFlow_6 : decode cX1_isFlow 6 = .ok (.getfield 51, 3) := by decide +kernel
theorem dX1_isFlow_9 : decode cX1_isFlow 9 = .ok (.if_icmp .ge 7, 3) := by decide +kernel
theorem dX1_isFlow_12 : decode cX1_isFlow 12 = .ok (.iconst 1, 1) := by decide +kernel
theorem dX1_isFlow_13 : decode cX1_isFlow 13 = .ok (.goto 4, 3) := by decide +kernel
theorem dX1_isFlow_16 : decode cX1_isFlow 16 = .ok (.iconst 0, 1) := by decide +kernel
theorem dX1_isFlow_17 : decode cX1_isFlow 17 = .ok (.ireturn, 1) := by decide +kernel
abbrev cX1_fix : ByteArray := prog_1_method_6_code
def yX1_fix : MethodName := ⟨RX1, "fix", "(II)I"⟩
theorem dX1_fix_0 : decode cX1_fix 0 = .ok (.aload_n 0, 1) := by decide +kernel
theorem dX1_fix_1 : decode cX1_fix 1 = .ok (.iload_n 1, 1) := by decide +kernel
theorem dX1_fix_2 : decode cX1_fix 2 = .ok (.invokevirtual 47, 3) := by decide +kernel
theorem dX1_fix_5 : decode cX1_fix 5 = .ok (.ifCond .ne 5, 3) := by decide +kernel
theorem dX1_fix_8 : decode cX1_fix 8 = .ok (.iconst (-1), 1) := by decide +kernel
theorem dX1_fix_9 : decode cX1_fix 9 = .ok (.ireturn, 1) := by decide +kernel
theorem dX1_fix_10 : decode cX1_fix 10 = .ok (.iload_n 2, 1) := by decide +kernel
theorem dX1_fix_11 : decode cX1_fix 11 = .ok (.ifCond .lt 8, 3) := by decide +kernel
theorem dX1_fix_14 : decode cX1_fix 14 = .ok (.iload_n 2, 1) := by decide +kernel
theorem dX1_fix_15 : decode cX1_fix 15 = .ok (.iconst 2, 1) := by decide +kernel
theorem dX1_fix_16 : decode cX1_fix 16 = .ok (.if_icmp .le 6, 3) := by decide +kernel
theorem dX1_fix_19 : decode cX1_fix 19 = .ok (.bipush (-2), 2) := by decide +kernel
theorem dX1_fix_21 : decode cX1_fix 21 = .ok (.ireturn, 1) := by decide +kernel
theorem dX1_fix_22 : decode cX1_fix 22 = .ok (.aload_n 0, 1) := by decide +kernel
theorem dX1_fix_23 : decode cX1_fix 23 = .ok (.getfield 25, 3) := by decide +kernel
theorem dX1_fix_26 : decode cX1_fix 26 = .ok (.iload_n 1, 1) := by decide +kernel
theorem dX1_fix_27 : decode cX1_fix 27 = .ok (.iaload, 1) := by decide +kernel
theorem dX1_fix_28 : decode cX1_fix 28 = .ok (.istore_n 3, 1) := by decide +kernel
theorem dX1_fix_29 : decode cX1_fix 29 = .ok (.aload_n 0, 1) := by decide +kernel
theorem dX1_fix_30 : decode cX1_fix 30 = .ok (.getfield 25, 3) := by decide +kernel
theorem dX1_fix_33 : decode cX1_fix 33 = .ok (.iload_n 1, 1) := by decide +kernel
theorem dX1_fix_34 : decode cX1_fix 34 = .ok (.iload_n 2, 1) := by decide +kernel
theorem dX1_fix_35 : decode cX1_fix 35 = .ok (.iastore, 1) := by decide +kernel
theorem dX1_fix_36 : decode cX1_fix 36 = .ok (.iload_n 3, 1) := by decide +kernel
theorem dX1_fix_37 : decode cX1_fix 37 = .ok (.ireturn, 1) := by decide +kernel
abbrev cX1_flows : ByteArray := prog_1_method_7_code
def yX1_flows : MethodName := ⟨RX1, "flows", "()I"⟩
theorem dX1_flows_0 : decode cX1_flows 0 = .ok (.aload_n 0, 1) := by decide +kernel
theorem dX1_flows_1 : decode cX1_flows 1 = .ok (.getfield 51, 3) := by decide +kernel
theorem dX1_flows_4 : decode cX1_flows 4 = .ok (.ireturn, 1) := by decide +kernel
abbrev cX1_costOf : ByteArray := prog_1_method_8_code
def yX1_costOf : MethodName := ⟨RX1, "costOf", "(I)I"⟩
theorem dX1_costOf_0 : decode cX1_costOf 0 = .ok (.aload_n 0, 1) := by decide +kernel
theorem dX1_costOf_1 : decode cX1_costOf 1 = .ok (.iload_n 1, 1) := by decide +kernel
theorem dX1_costOf_2 : decode cX1_costOf 2 = .ok (.invokevirtual 57, 3) := by decide +kernel
theorem dX1_costOf_5 : decode cX1_costOf 5 = .ok (.ifCond .ne 5, 3) := by decide +kernel
theorem dX1_costOf_8 : decode cX1_costOf 8 = .ok (.iconst (-1), 1) := by decide +kernel
theorem dX1_costOf_9 : decode cX1_costOf 9 = .ok (.ireturn, 1) := by decide +kernel
theorem dX1_costOf_10 : decode cX1_costOf 10 = .ok (.iconst 0, 1) := by decide +kernel
theorem dX1_costOf_11 : decode cX1_costOf 11 = .ok (.istore_n 2, 1) := by decide +kernel
theorem dX1_costOf_12 : decode cX1_costOf 12 = .ok (.iconst 0, 1) := by decide +kernel
theorem dX1_costOf_13 : decode cX1_costOf 13 = .ok (.istore_n 3, 1) := by decide +kernel
theorem dX1_costOf_14 : decode cX1_costOf 14 = .ok (.iload_n 3, 1) := by decide +kernel
theorem dX1_costOf_15 : decode cX1_costOf 15 = .ok (.aload_n 0, 1) := by decide +kernel
theorem dX1_costOf_16 : decode cX1_costOf 16 = .ok (.getfield 40, 3) := by decide +kernel
theorem dX1_costOf_19 : decode cX1_costOf 19 = .ok (.if_icmp .ge 26, 3) := by decide +kernel
theorem dX1_costOf_22 : decode cX1_costOf 22 = .ok (.iload_n 2, 1) := by decide +kernel
theorem dX1_costOf_23 : decode cX1_costOf 23 = .ok (.aload_n 0, 1) := by decide +kernel
theorem dX1_costOf_24 : decode cX1_costOf 24 = .ok (.getfield 7, 3) := by decide +kernel
theorem dX1_costOf_27 : decode cX1_costOf 27 = .ok (.iconst 2, 1) := by decide +kernel
theorem dX1_costOf_28 : decode cX1_costOf 28 = .ok (.iload_n 3, 1) := by decide +kernel
theorem dX1_costOf_29 : decode cX1_costOf 29 = .ok (.imul, 1) := by decide +kernel
theorem dX1_costOf_30 : decode cX1_costOf 30 = .ok (.iload_n 1, 1) := by decide +kernel
theorem dX1_costOf_31 : decode cX1_costOf 31 = .ok (.iload_n 3, 1) := by decide +kernel
theorem dX1_costOf_32 : decode cX1_costOf 32 = .ok (.ishr, 1) := by decide +kernel
theorem dX1_costOf_33 : decode cX1_costOf 33 = .ok (.iconst 1, 1) := by decide +kernel
theorem dX1_costOf_34 : decode cX1_costOf 34 = .ok (.iand, 1) := by decide +kernel
theorem dX1_costOf_35 : decode cX1_costOf 35 = .ok (.iadd, 1) := by decide +kernel
theorem dX1_costOf_36 : decode cX1_costOf 36 = .ok (.iaload, 1) := by decide +kernel
theorem dX1_costOf_37 : decode cX1_costOf 37 = .ok (.iadd, 1) := by decide +kernel
theorem dX1_costOf_38 : decode cX1_costOf 38 = .ok (.istore_n 2, 1) := by decide +kernel
theorem dX1_costOf_39 : decode cX1_costOf 39 = .ok (.iinc 3 1, 3) := by decide +kernel
theorem dX1_costOf_42 : decode cX1_costOf 42 = .ok (.goto (-28), 3) := by decide +kernel
theorem dX1_costOf_45 : decode cX1_costOf 45 = .ok (.iconst 0, 1) := by decide +kernel
theorem dX1_costOf_46 : decode cX1_costOf 46 = .ok (.istore_n 3, 1) := by decide +kernel
theorem dX1_costOf_47 : decode cX1_costOf 47 = .ok (.iload_n 3, 1) := by decide +kernel
theorem dX1_costOf_48 : decode cX1_costOf 48 = .ok (.aload_n 0, 1) := by decide +kernel
theorem dX1_costOf_49 : decode cX1_costOf 49 = .ok (.getfield 51, 3) := by decide +kernel
theorem dX1_costOf_52 : decode cX1_costOf 52 = .ok (.if_icmp .ge 63, 3) := by decide +kernel
theorem dX1_costOf_55 : decode cX1_costOf 55 = .ok (.iload_n 1, 1) := by decide +kernel
theorem dX1_costOf_56 : decode cX1_costOf 56 = .ok (.aload_n 0, 1) := by decide +kernel
theorem dX1_costOf_57 : decode cX1_costOf 57 = .ok (.getfield 13, 3) := by decide +kernel
theorem dX1_costOf_60 : decode cX1_costOf 60 = .ok (.iload_n 3, 1) := by decide +kernel
theorem dX1_costOf_61 : decode cX1_costOf 61 = .ok (.iaload, 1) := by decide +kernel
theorem dX1_costOf_62 : decode cX1_costOf 62 = .ok (.ishr, 1) := by decide +kernel
theorem dX1_costOf_63 : decode cX1_costOf 63 = .ok (.iconst 1, 1) := by decide +kernel
theorem dX1_costOf_64 : decode cX1_costOf 64 = .ok (.iand, 1) := by decide +kernel
theorem dX1_costOf_65 : decode cX1_costOf 65 = .ok (.istore 4, 2) := by decide +kernel
theorem dX1_costOf_67 : decode cX1_costOf 67 = .ok (.iload_n 1, 1) := by decide +kernel
theorem dX1_costOf_68 : decode cX1_costOf 68 = .ok (.aload_n 0, 1) := by decide +kernel
theorem dX1_costOf_69 : decode cX1_costOf 69 = .ok (.getfield 16, 3) := by decide +kernel
theorem dX1_costOf_72 : decode cX1_costOf 72 = .ok (.iload_n 3, 1) := by decide +kernel
theorem dX1_costOf_73 : decode cX1_costOf 73 = .ok (.iaload, 1) := by decide +kernel
theorem dX1_costOf_74 : decode cX1_costOf 74 = .ok (.ishr, 1) := by decide +kernel
theorem dX1_costOf_75 : decode cX1_costOf 75 = .ok (.iconst 1, 1) := by decide +kernel
theorem dX1_costOf_76 : decode cX1_costOf 76 = .ok (.iand, 1) := by decide +kernel
theorem dX1_costOf_77 : decode cX1_costOf 77 = .ok (.istore 5, 2) := by decide +kernel
theorem dX1_costOf_79 : decode cX1_costOf 79 = .ok (.iload 4, 2) := by decide +kernel
theorem dX1_costOf_81 : decode cX1_costOf 81 = .ok (.iload 5, 2) := by decide +kernel
theorem dX1_costOf_83 : decode cX1_costOf 83 = .ok (.if_icmp .eq 26, 3) := by decide +kernel
theorem dX1_costOf_86 : decode cX1_costOf 86 = .ok (.iload_n 2, 1) := by decide +kernel
theorem dX1_costOf_87 : decode cX1_costOf 87 = .ok (.iload 4, 2) := by decide +kernel
theorem dX1_costOf_89 : decode cX1_costOf 89 = .ok (.ifCond .ne 12, 3) := by decide +kernel
theorem dX1_costOf_92 : decode cX1_costOf 92 = .ok (.aload_n 0, 1) := by decide +kernel
theorem dX1_costOf_93 : decode cX1_costOf 93 = .ok (.getfield 19, 3) := by decide +kernel
theorem dX1_costOf_96 : decode cX1_costOf 96 = .ok (.iload_n 3, 1) := by decide +kernel
theorem dX1_costOf_97 : decode cX1_costOf 97 = .ok (.iaload, 1) := by decide +kernel
theorem dX1_costOf_98 : decode cX1_costOf 98 = .ok (.goto 9, 3) := by decide +kernel
theorem dX1_costOf_101 : decode cX1_costOf 101 = .ok (.aload_n 0, 1) := by decide +kernel
theorem dX1_costOf_102 : decode cX1_costOf 102 = .ok (.getfield 22, 3) := by decide +kernel
theorem dX1_costOf_105 : decode cX1_costOf 105 = .ok (.iload_n 3, 1) := by decide +kernel
theorem dX1_costOf_106 : decode cX1_costOf 106 = .ok (.iaload, 1) := by decide +kernel
theorem dX1_costOf_107 : decode cX1_costOf 107 = .ok (.iadd, 1) := by decide +kernel
theorem dX1_costOf_108 : decode cX1_costOf 108 = .ok (.istore_n 2, 1) := by decide +kernel
theorem dX1_costOf_109 : decode cX1_costOf 109 = .ok (.iinc 3 1, 3) := by decide +kernel
theorem dX1_costOf_112 : decode cX1_costOf 112 = .ok (.goto (-65), 3) := by decide +kernel
end
section
set_option maxRecDepth 100000
theorem dX1_costOf_115 : decode cX1_costOf 115 = .ok (.iload_n 2, 1) := by decide +kernel
theorem dX1_costOf_116 : decode cX1_costOf 116 = .ok (.ireturn, 1) := by decide +kernel
abbrev cX1_isPlan : ByteArray := prog_1_method_20_code
def yX1_isPlan : MethodName := ⟨RX1, "isPlan", "(I)Z"⟩
theorem dX1_isPlan_0 : decode cX1_isPlan 0 = .ok (.iload_n 1, 1) := by decide +kernel
theorem dX1_isPlan_1 : decode cX1_isPlan 1 = .ok (.ifCond .lt 17, 3) := by decide +kernel
theorem dX1_isPlan_4 : decode cX1_isPlan 4 = .ok (.iload_n 1, 1) := by decide +kernel
theorem dX1_isPlan_5 : decode cX1_isPlan 5 = .ok (.iconst 1, 1) := by decide +kernel
theorem dX1_isPlan_6 : decode cX1_isPlan 6 = .ok (.aload_n 0, 1) := by decide +kernel
theorem dX1_isPlan_7 : decode cX1_isPlan 7 = .ok (.getfield 40, 3) := by decide +kernel
theorem dX1_isPlan_10 : decode cX1_isPlan 10 = .ok (.ishl, 1) := by decide +kernel
theorem dX1_isPlan_11 : decode cX1_isPlan 11 = .ok (.if_icmp .ge 7, 3) := by decide +kernel
theorem dX1_isPlan_14 : decode cX1_isPlan 14 = .ok (.iconst 1, 1) := by decide +kernel
theorem dX1_isPlan_15 : decode cX1_isPlan 15 = .ok (.goto 4, 3) := by decide +kernel
theorem dX1_isPlan_18 : decode cX1_isPlan 18 = .ok (.iconst 0, 1) := by decide +kernel
theorem dX1_isPlan_19 : decode cX1_isPlan 19 = .ok (.ireturn, 1) := by decide +kernel
abbrev cX1_best : ByteArray := prog_1_method_9_code
def yX1_best : MethodName := ⟨RX1, "best", "()I"⟩
theorem dX1_best_0 : decode cX1_best 0 = .ok (.aload_n 0, 1) := by decide +kernel
theorem dX1_best_1 : decode cX1_best 1 = .ok (.invokevirtual 60, 3) := by decide +kernel
theorem dX1_best_4 : decode cX1_best 4 = .ok (.aload_n 0, 1) := by decide +kernel
theorem dX1_best_5 : decode cX1_best 5 = .ok (.invokevirtual 63, 3) := by decide +kernel
theorem dX1_best_8 : decode cX1_best 8 = .ok (.ireturn, 1) := by decide +kernel
abbrev cX1_takeFixed : ByteArray := prog_1_method_21_code
def yX1_takeFixed : MethodName := ⟨RX1, "takeFixed", "()V"⟩
theorem dX1_takeFixed_0 : decode cX1_takeFixed 0 = .ok (.iconst 0, 1) := by decide +kernel
theorem dX1_takeFixed_1 : decode cX1_takeFixed 1 = .ok (.istore_n 1, 1) := by decide +kernel
theorem dX1_takeFixed_2 : decode cX1_takeFixed 2 = .ok (.iload_n 1, 1) := by decide +kernel
theorem dX1_takeFixed_3 : decode cX1_takeFixed 3 = .ok (.aload_n 0, 1) := by decide +kernel
theorem dX1_takeFixed_4 : decode cX1_takeFixed 4 = .ok (.getfield 40, 3) := by decide +kernel
theorem dX1_takeFixed_7 : decode cX1_takeFixed 7 = .ok (.if_icmp .ge 21, 3) := by decide +kernel
theorem dX1_takeFixed_10 : decode cX1_takeFixed 10 = .ok (.aload_n 0, 1) := by decide +kernel
theorem dX1_takeFixed_11 : decode cX1_takeFixed 11 = .ok (.getfield 28, 3) := by decide +kernel
theorem dX1_takeFixed_14 : decode cX1_takeFixed 14 = .ok (.iload_n 1, 1) := by decide +kernel
theorem dX1_takeFixed_15 : decode cX1_takeFixed 15 = .ok (.aload_n 0, 1) := by decide +kernel
theorem dX1_takeFixed_16 : decode cX1_takeFixed 16 = .ok (.getfield 25, 3) := by decide +kernel
theorem dX1_takeFixed_19 : decode cX1_takeFixed 19 = .ok (.iload_n 1, 1) := by decide +kernel
theorem dX1_takeFixed_20 : decode cX1_takeFixed 20 = .ok (.iaload, 1) := by decide +kernel
theorem dX1_takeFixed_21 : decode cX1_takeFixed 21 = .ok (.iastore, 1) := by decide +kernel
theorem dX1_takeFixed_22 : decode cX1_takeFixed 22 = .ok (.iinc 1 1, 3) := by decide +kernel
theorem dX1_takeFixed_25 : decode cX1_takeFixed 25 = .ok (.goto (-23), 3) := by decide +kernel
theorem dX1_takeFixed_28 : decode cX1_takeFixed 28 = .ok (.return_, 1) := by decide +kernel
abbrev cX1_solve : ByteArray := prog_1_method_22_code
def yX1_solve : MethodName := ⟨RX1, "solve", "()I"⟩
theorem dX1_solve_0 : decode cX1_solve 0 = .ok (.iconst 0, 1) := by decide +kernel
theorem dX1_solve_1 : decode cX1_solve 1 = .ok (.istore_n 1, 1) := by decide +kernel
theorem dX1_solve_2 : decode cX1_solve 2 = .ok (.iload_n 1, 1) := by decide +kernel
theorem dX1_solve_3 : decode cX1_solve 3 = .ok (.sipush 144, 3) := by decide +kernel
theorem dX1_solve_6 : decode cX1_solve 6 = .ok (.if_icmp .ge 16, 3) := by decide +kernel
theorem dX1_solve_9 : decode cX1_solve 9 = .ok (.aload_n 0, 1) := by decide +kernel
theorem dX1_solve_10 : decode cX1_solve 10 = .ok (.getfield 31, 3) := by decide +kernel
theorem dX1_solve_13 : decode cX1_solve 13 = .ok (.iload_n 1, 1) := by decide +kernel
theorem dX1_solve_14 : decode cX1_solve 14 = .ok (.iconst 0, 1) := by decide +kernel
theorem dX1_solve_15 : decode cX1_solve 15 = .ok (.iastore, 1) := by decide +kernel
theorem dX1_solve_16 : decode cX1_solve 16 = .ok (.iinc 1 1, 3) := by decide +kernel
theorem dX1_solve_19 : decode cX1_solve 19 = .ok (.goto (-17), 3) := by decide +kernel
theorem dX1_solve_22 : decode cX1_solve 22 = .ok (.iconst 0, 1) := by decide +kernel
theorem dX1_solve_23 : decode cX1_solve 23 = .ok (.istore_n 1, 1) := by decide +kernel
theorem dX1_solve_24 : decode cX1_solve 24 = .ok (.iload_n 1, 1) := by decide +kernel
theorem dX1_solve_25 : decode cX1_solve 25 = .ok (.aload_n 0, 1) := by decide +kernel
theorem dX1_solve_26 : decode cX1_solve 26 = .ok (.getfield 40, 3) := by decide +kernel
theorem dX1_solve_29 : decode cX1_solve 29 = .ok (.if_icmp .ge 79, 3) := by decide +kernel
theorem dX1_solve_32 : decode cX1_solve 32 = .ok (.aload_n 0, 1) := by decide +kernel
theorem dX1_solve_33 : decode cX1_solve 33 = .ok (.getfield 31, 3) := by decide +kernel
theorem dX1_solve_36 : decode cX1_solve 36 = .ok (.bipush 120, 2) := by decide +kernel
theorem dX1_solve_38 : decode cX1_solve 38 = .ok (.iload_n 1, 1) := by decide +kernel
theorem dX1_solve_39 : decode cX1_solve 39 = .ok (.iadd, 1) := by decide +kernel
theorem dX1_solve_40 : decode cX1_solve 40 = .ok (.aload_n 0, 1) := by decide +kernel
theorem dX1_solve_41 : decode cX1_solve 41 = .ok (.getfield 28, 3) := by decide +kernel
theorem dX1_solve_44 : decode cX1_solve 44 = .ok (.iload_n 1, 1) := by decide +kernel
theorem dX1_solve_45 : decode cX1_solve 45 = .ok (.iaload, 1) := by decide +kernel
theorem dX1_solve_46 : decode cX1_solve 46 = .ok (.ifCond .ne 8, 3) := by decide +kernel
theorem dX1_solve_49 : decode cX1_solve 49 = .ok (.ldc 77, 2) := by decide +kernel
theorem dX1_solve_51 : decode cX1_solve 51 = .ok (.goto 13, 3) := by decide +kernel
theorem dX1_solve_54 : decode cX1_solve 54 = .ok (.aload_n 0, 1) := by decide +kernel
theorem dX1_solve_55 : decode cX1_solve 55 = .ok (.getfield 7, 3) := by decide +kernel
theorem dX1_solve_58 : decode cX1_solve 58 = .ok (.iconst 2, 1) := by decide +kernel
theorem dX1_solve_59 : decode cX1_solve 59 = .ok (.iload_n 1, 1) := by decide +kernel
theorem dX1_solve_60 : decode cX1_solve 60 = .ok (.imul, 1) := by decide +kernel
theorem dX1_solve_61 : decode cX1_solve 61 = .ok (.iconst 1, 1) := by decide +kernel
theorem dX1_solve_62 : decode cX1_solve 62 = .ok (.iadd, 1) := by decide +kernel
theorem dX1_solve_63 : decode cX1_solve 63 = .ok (.iaload, 1) := by decide +kernel
theorem dX1_solve_64 : decode cX1_solve 64 = .ok (.iastore, 1) := by decide +kernel
theorem dX1_solve_65 : decode cX1_solve 65 = .ok (.aload_n 0, 1) := by decide +kernel
theorem dX1_solve_66 : decode cX1_solve 66 = .ok (.getfield 31, 3) := by decide +kernel
theorem dX1_solve_69 : decode cX1_solve 69 = .ok (.bipush 12, 2) := by decide +kernel
theorem dX1_solve_71 : decode cX1_solve 71 = .ok (.iload_n 1, 1) := by decide +kernel
theorem dX1_solve_72 : decode cX1_solve 72 = .ok (.imul, 1) := by decide +kernel
theorem dX1_solve_73 : decode cX1_solve 73 = .ok (.bipush 11, 2) := by decide +kernel
theorem dX1_solve_75 : decode cX1_solve 75 = .ok (.iadd, 1) := by decide +kernel
theorem dX1_solve_76 : decode cX1_solve 76 = .ok (.aload_n 0, 1) := by decide +kernel
theorem dX1_solve_77 : decode cX1_solve 77 = .ok (.getfield 28, 3) := by decide +kernel
theorem dX1_solve_80 : decode cX1_solve 80 = .ok (.iload_n 1, 1) := by decide +kernel
theorem dX1_solve_81 : decode cX1_solve 81 = .ok (.iaload, 1) := by decide +kernel
theorem dX1_solve_82 : decode cX1_solve 82 = .ok (.iconst 1, 1) := by decide +kernel
theorem dX1_solve_83 : decode cX1_solve 83 = .ok (.if_icmp .ne 8, 3) := by decide +kernel
theorem dX1_solve_86 : decode cX1_solve 86 = .ok (.ldc 77, 2) := by decide +kernel
theorem dX1_solve_88 : decode cX1_solve 88 = .ok (.goto 13, 3) := by decide +kernel
theorem dX1_solve_91 : decode cX1_solve 91 = .ok (.aload_n 0, 1) := by decide +kernel
theorem dX1_solve_92 : decode cX1_solve 92 = .ok (.getfield 7, 3) := by decide +kernel
theorem dX1_solve_95 : decode cX1_solve 95 = .ok (.iconst 2, 1) := by decide +kernel
theorem dX1_solve_96 : decode cX1_solve 96 = .ok (.iload_n 1, 1) := by decide +kernel
theorem dX1_solve_97 : decode cX1_solve 97 = .ok (.imul, 1) := by decide +kernel
theorem dX1_solve_98 : decode cX1_solve 98 = .ok (.iconst 0, 1) := by decide +kernel
theorem dX1_solve_99 : decode cX1_solve 99 = .ok (.iadd, 1) := by decide +kernel
theorem dX1_solve_100 : decode cX1_solve 100 = .ok (.iaload, 1) := by decide +kernel
theorem dX1_solve_101 : decode cX1_solve 101 = .ok (.iastore, 1) := by decide +kernel
theorem dX1_solve_102 : decode cX1_solve 102 = .ok (.iinc 1 1, 3) := by decide +kernel
theorem dX1_solve_105 : decode cX1_solve 105 = .ok (.goto (-81), 3) := by decide +kernel
theorem dX1_solve_108 : decode cX1_solve 108 = .ok (.iconst 0, 1) := by decide +kernel
theorem dX1_solve_109 : decode cX1_solve 109 = .ok (.istore_n 1, 1) := by decide +kernel
theorem dX1_solve_110 : decode cX1_solve 110 = .ok (.iload_n 1, 1) := by decide +kernel
theorem dX1_solve_111 : decode cX1_solve 111 = .ok (.aload_n 0, 1) := by decide +kernel
theorem dX1_solve_112 : decode cX1_solve 112 = .ok (.getfield 51, 3) := by decide +kernel
theorem dX1_solve_115 : decode cX1_solve 115 = .ok (.if_icmp .ge 77, 3) := by decide +kernel
theorem dX1_solve_118 : decode cX1_solve 118 = .ok (.iload_n 1, 1) := by decide +kernel
theorem dX1_solve_119 : decode cX1_solve 119 = .ok (.aload_n 0, 1) := by decide +kernel
theorem dX1_solve_120 : decode cX1_solve 120 = .ok (.getfield 44, 3) := by decide +kernel
theorem dX1_solve_123 : decode cX1_solve 123 = .ok (.if_icmp .eq 63, 3) := by decide +kernel
theorem dX1_solve_126 : decode cX1_solve 126 = .ok (.aload_n 0, 1) := by decide +kernel
theorem dX1_solve_127 : decode cX1_solve 127 = .ok (.getfield 31, 3) := by decide +kernel
theorem dX1_solve_130 : decode cX1_solve 130 = .ok (.bipush 12, 2) := by decide +kernel
theorem dX1_solve_132 : decode cX1_solve 132 = .ok (.aload_n 0, 1) := by decide +kernel
theorem dX1_solve_133 : decode cX1_solve 133 = .ok (.getfield 13, 3) := by decide +kernel
theorem dX1_solve_136 : decode cX1_solve 136 = .ok (.iload_n 1, 1) := by decide +kernel
theorem dX1_solve_137 : decode cX1_solve 137 = .ok (.iaload, 1) := by decide +kernel
theorem dX1_solve_138 : decode cX1_solve 138 = .ok (.imul, 1) := by decide +kernel
theorem dX1_solve_139 : decode cX1_solve 139 = .ok (.aload_n 0, 1) := by decide +kernel
theorem dX1_solve_140 : decode cX1_solve 140 = .ok (.getfield 16, 3) := by decide +kernel
theorem dX1_solve_143 : decode cX1_solve 143 = .ok (.iload_n 1, 1) := by decide +kernel
theorem dX1_solve_144 : decode cX1_solve 144 = .ok (.iaload, 1) := by decide +kernel
theorem dX1_solve_145 : decode cX1_solve 145 = .ok (.iadd, 1) := by decide +kernel
theorem dX1_solve_146 : decode cX1_solve 146 = .ok (.dup2, 1) := by decide +kernel
theorem dX1_solve_147 : decode cX1_solve 147 = .ok (.iaload, 1) := by decide +kernel
theorem dX1_solve_148 : decode cX1_solve 148 = .ok (.aload_n 0, 1) := by decide +kernel
theorem dX1_solve_149 : decode cX1_solve 149 = .ok (.getfield 19, 3) := by decide +kernel
theorem dX1_solve_152 : decode cX1_solve 152 = .ok (.iload_n 1, 1) := by decide +kernel
theorem dX1_solve_153 : decode cX1_solve 153 = .ok (.iaload, 1) := by decide +kernel
theorem dX1_solve_154 : decode cX1_solve 154 = .ok (.iadd, 1) := by decide +kernel
theorem dX1_solve_155 : decode cX1_solve 155 = .ok (.iastore, 1) := by decide +kernel
theorem dX1_solve_156 : decode cX1_solve 156 = .ok (.aload_n 0, 1) := by decide +kernel
theorem dX1_solve_157 : decode cX1_solve 157 = .ok (.getfield 31, 3) := by decide +kernel
theorem dX1_solve_160 : decode cX1_solve 160 = .ok (.bipush 12, 2) := by decide +kernel
theorem dX1_solve_162 : decode cX1_solve 162 = .ok (.aload_n 0, 1) := by decide +kernel
theorem dX1_solve_163 : decode cX1_solve 163 = .ok (.getfield 16, 3) := by decide +kernel
theorem dX1_solve_166 : decode cX1_solve 166 = .ok (.iload_n 1, 1) := by decide +kernel
theorem dX1_solve_167 : decode cX1_solve 167 = .ok (.iaload, 1) := by decide +kernel
theorem dX1_solve_168 : decode cX1_solve 168 = .ok (.imul, 1) := by decide +kernel
theorem dX1_solve_169 : decode cX1_solve 169 = .ok (.aload_n 0, 1) := by decide +kernel
theorem dX1_solve_170 : decode cX1_solve 170 = .ok (.getfield 13, 3) := by decide +kernel
theorem dX1_solve_173 : decode cX1_solve 173 = .ok (.iload_n 1, 1) := by decide +kernel
theorem dX1_solve_174 : decode cX1_solve 174 = .ok (.iaload, 1) := by decide +kernel
theorem dX1_solve_175 : decode cX1_solve 175 = .ok (.iadd, 1) := by decide +kernel
theorem dX1_solve_176 : decode cX1_solve 176 = .ok (.dup2, 1) := by decide +kernel
theorem dX1_solve_177 : decode cX1_solve 177 = .ok (.iaload, 1) := by decide +kernel
theorem dX1_solve_178 : decode cX1_solve 178 = .ok (.aload_n 0, 1) := by decide +kernel
theorem dX1_solve_179 : decode cX1_solve 179 = .ok (.getfield 22, 3) := by decide +kernel
theorem dX1_solve_182 : decode cX1_solve 182 = .ok (.iload_n 1, 1) := by decide +kernel
theorem dX1_solve_183 : decode cX1_solve 183 = .ok (.iaload, 1) := by decide +kernel
theorem dX1_solve_184 : decode cX1_solve 184 = .ok (.iadd, 1) := by decide +kernel
theorem dX1_solve_185 : decode cX1_solve 185 = .ok (.iastore, 1) := by decide +kernel
theorem dX1_solve_186 : decode cX1_solve 186 = .ok (.iinc 1 1, 3) := by decide +kernel
theorem dX1_solve_189 : decode cX1_solve 189 = .ok (.goto (-79), 3) := by decide +kernel
theorem dX1_solve_192 : decode cX1_solve 192 = .ok (.iconst 0, 1) := by decide +kernel
theorem dX1_solve_193 : decode cX1_solve 193 = .ok (.istore_n 1, 1) := by decide +kernel
theorem dX1_solve_194 : decode cX1_solve 194 = .ok (.iconst 0, 1) := by decide +kernel
theorem dX1_solve_195 : decode cX1_solve 195 = .ok (.istore_n 2, 1) := by decide +kernel
theorem dX1_solve_196 : decode cX1_solve 196 = .ok (.iload_n 2, 1) := by decide +kernel
theorem dX1_solve_197 : decode cX1_solve 197 = .ok (.sipush 2000, 3) := by decide +kernel
theorem dX1_solve_200 : decode cX1_solve 200 = .ok (.if_icmp .ge 34, 3) := by decide +kernel
theorem dX1_solve_203 : decode cX1_solve 203 = .ok (.aload_n 0, 1) := by decide +kernel
theorem dX1_solve_204 : decode cX1_solve 204 = .ok (.invokevirtual 78, 3) := by decide +kernel
theorem dX1_solve_207 : decode cX1_solve 207 = .ok (.aload_n 0, 1) := by decide +kernel
theorem dX1_solve_208 : decode cX1_solve 208 = .ok (.getfield 34, 3) := by decide +kernel
theorem dX1_solve_211 : decode cX1_solve 211 = .ok (.bipush 11, 2) := by decide +kernel
theorem dX1_solve_213 : decode cX1_solve 213 = .ok (.iaload, 1) := by decide +kernel
theorem dX1_solve_214 : decode cX1_solve 214 = .ok (.iconst (-1), 1) := by decide +kernel
theorem dX1_solve_215 : decode cX1_solve 215 = .ok (.if_icmp .ne 6, 3) := by decide +kernel
theorem dX1_solve_218 : decode cX1_solve 218 = .ok (.goto 16, 3) := by decide +kernel
theorem dX1_solve_221 : decode cX1_solve 221 = .ok (.iload_n 1, 1) := by decide +kernel
theorem dX1_solve_222 : decode cX1_solve 222 = .ok (.aload_n 0, 1) := by decide +kernel
theorem dX1_solve_223 : decode cX1_solve 223 = .ok (.invokevirtual 81, 3) := by decide +kernel
theorem dX1_solve_226 : decode cX1_solve 226 = .ok (.iadd, 1) := by decide +kernel
theorem dX1_solve_227 : decode cX1_solve 227 = .ok (.istore_n 1, 1) := by decide +kernel
theorem dX1_solve_228 : decode cX1_solve 228 = .ok (.iinc 2 1, 3) := by decide +kernel
theorem dX1_solve_231 : decode cX1_solve 231 = .ok (.goto (-35), 3) := by decide +kernel
theorem dX1_solve_234 : decode cX1_solve 234 = .ok (.iload_n 1, 1) := by decide +kernel
theorem dX1_solve_235 : decode cX1_solve 235 = .ok (.ireturn, 1) := by decide +kernel
abbrev cX1_search : ByteArray := prog_1_method_23_code
def yX1_search : MethodName := ⟨RX1, "search", "()V"⟩
theorem dX1_search_0 : decode cX1_search 0 = .ok (.iconst 0, 1) := by decide +kernel
theorem dX1_search_1 : decode cX1_search 1 = .ok (.istore_n 1, 1) := by decide +kernel
theorem dX1_search_2 : decode cX1_search 2 = .ok (.iload_n 1, 1) := by decide +kernel
theorem dX1_search_3 : decode cX1_search 3 = .ok (.bipush 12, 2) := by decide +kernel
theorem dX1_search_5 : decode cX1_search 5 = .ok (.if_icmp .ge 16, 3) := by decide +kernel
theorem dX1_search_8 : decode cX1_search 8 = .ok (.aload_n 0, 1) := by decide +kernel
theorem dX1_search_9 : decode cX1_search 9 = .ok (.getfield 34, 3) := by decide +kernel
theorem dX1_search_12 : decode cX1_search 12 = .ok (.iload_n 1, 1) := by decide +kernel
theorem dX1_search_13 : decode cX1_search 13 = .ok (.iconst (-1), 1) := by decide +kernel
theorem dX1_search_14 : decode cX1_search 14 = .ok (.iastore, 1) := by decide +kernel
theorem dX1_search_15 : decode cX1_search 15 = .ok (.iinc 1 1, 3) := by decide +kernel
theorem dX1_search_18 : decode cX1_search 18 = .ok (.goto (-16), 3) := by decide +kernel
theorem dX1_search_21 : decode cX1_search 21 = .ok (.aload_n 0, 1) := by decide +kernel
theorem dX1_search_22 : decode cX1_search 22 = .ok (.getfield 34, 3) := by decide +kernel
theorem dX1_search_25 : decode cX1_search 25 = .ok (.bipush 10, 2) := by decide +kernel
theorem dX1_search_27 : decode cX1_search 27 = .ok (.bipush 10, 2) := by decide +kernel
theorem dX1_search_29 : decode cX1_search 29 = .ok (.iastore, 1) := by decide +kernel
theorem dX1_search_30 : decode cX1_search 30 = .ok (.aload_n 0, 1) := by decide +kernel
theorem dX1_search_31 : decode cX1_search 31 = .ok (.getfield 37, 3) := by decide +kernel
theorem dX1_search_34 : decode cX1_search 34 = .ok (.iconst 0, 1) := by decide +kernel
theorem dX1_search_35 : decode cX1_search 35 = .ok (.bipush 10, 2) := by decide +kernel
theorem dX1_search_37 : decode cX1_search 37 = .ok (.iastore, 1) := by decide +kernel
theorem dX1_search_38 : decode cX1_search 38 = .ok (.iconst 1, 1) := by decide +kernel
theorem dX1_search_39 : decode cX1_search 39 = .ok (.istore_n 1, 1) := by decide +kernel
theorem dX1_search_40 : decode cX1_search 40 = .ok (.iconst 0, 1) := by decide +kernel
theorem dX1_search_41 : decode cX1_search 41 = .ok (.istore_n 2, 1) := by decide +kernel
theorem dX1_search_42 : decode cX1_search 42 = .ok (.iload_n 2, 1) := by decide +kernel
theorem dX1_search_43 : decode cX1_search 43 = .ok (.bipush 12, 2) := by decide +kernel
theorem dX1_search_45 : decode cX1_search 45 = .ok (.if_icmp .ge 79, 3) := by decide +kernel
theorem dX1_search_48 : decode cX1_search 48 = .ok (.iload_n 2, 1) := by decide +kernel
theorem dX1_search_49 : decode cX1_search 49 = .ok (.iload_n 1, 1) := by decide +kernel
theorem dX1_search_50 : decode cX1_search 50 = .ok (.if_icmp .ge 74, 3) := by decide +kernel
theorem dX1_search_53 : decode cX1_search 53 = .ok (.iconst 0, 1) := by decide +kernel
theorem dX1_search_54 : decode cX1_search 54 = .ok (.istore_n 3, 1) := by decide +kernel
theorem dX1_search_55 : decode cX1_search 55 = .ok (.iload_n 3, 1) := by decide +kernel
theorem dX1_search_56 : decode cX1_search 56 = .ok (.bipush 12, 2) := by decide +kernel
theorem dX1_search_58 : decode cX1_search 58 = .ok (.if_icmp .ge 60, 3) := by decide +kernel
theorem dX1_search_61 : decode cX1_search 61 = .ok (.aload_n 0, 1) := by decide +kernel
theorem dX1_search_62 : decode cX1_search 62 = .ok (.getfield 34, 3) := by decide +kernel
theorem dX1_search_65 : decode cX1_search 65 = .ok (.iload_n 3, 1) := by decide +kernel
theorem dX1_search_66 : decode cX1_search 66 = .ok (.iaload, 1) := by decide +kernel
theorem dX1_search_67 : decode cX1_search 67 = .ok (.iconst (-1), 1) := by decide +kernel
theorem dX1_search_68 : decode cX1_search 68 = .ok (.if_icmp .ne 44, 3) := by decide +kernel
theorem dX1_search_71 : decode cX1_search 71 = .ok (.aload_n 0, 1) := by decide +kernel
theorem dX1_search_72 : decode cX1_search 72 = .ok (.getfield 31, 3) := by decide +kernel
theorem dX1_search_75 : decode cX1_search 75 = .ok (.bipush 12, 2) := by decide +kernel
theorem dX1_search_77 : decode cX1_search 77 = .ok (.aload_n 0, 1) := by decide +kernel
theorem dX1_search_78 : decode cX1_search 78 = .ok (.getfield 37, 3) := by decide +kernel
theorem dX1_search_81 : decode cX1_search 81 = .ok (.iload_n 2, 1) := by decide +kernel
theorem dX1_search_82 : decode cX1_search 82 = .ok (.iaload, 1) := by decide +kernel
theorem dX1_search_83 : decode cX1_search 83 = .ok (.imul, 1) := by decide +kernel
theorem dX1_search_84 : decode cX1_search 84 = .ok (.iload_n 3, 1) := by decide +kernel
theorem dX1_search_85 : decode cX1_search 85 = .ok (.iadd, 1) := by decide +kernel
theorem dX1_search_86 : decode cX1_search 86 = .ok (.iaload, 1) := by decide +kernel
theorem dX1_search_87 : decode cX1_search 87 = .ok (.ifCond .le 25, 3) := by decide +kernel
theorem dX1_search_90 : decode cX1_search 90 = .ok (.aload_n 0, 1) := by decide +kernel
theorem dX1_search_91 : decode cX1_search 91 = .ok (.getfield 34, 3) := by decide +kernel
theorem dX1_search_94 : decode cX1_search 94 = .ok (.iload_n 3, 1) := by decide +kernel
theorem dX1_search_95 : decode cX1_search 95 = .ok (.aload_n 0, 1) := by decide +kernel
theorem dX1_search_96 : decode cX1_search 96 = .ok (.getfield 37, 3) := by decide +kernel
theorem dX1_search_99 : decode cX1_search 99 = .ok (.iload_n 2, 1) := by decide +kernel
theorem dX1_search_100 : decode cX1_search 100 = .ok (.iaload, 1) := by decide +kernel
theorem dX1_search_101 : decode cX1_search 101 = .ok (.iastore, 1) := by decide +kernel
theorem dX1_search_102 : decode cX1_search 102 = .ok (.aload_n 0, 1) := by decide +kernel
theorem dX1_search_103 : decode cX1_search 103 = .ok (.getfield 37, 3) := by decide +kernel
theorem dX1_search_106 : decode cX1_search 106 = .ok (.iload_n 1, 1) := by decide +kernel
theorem dX1_search_107 : decode cX1_search 107 = .ok (.iload_n 3, 1) := by decide +kernel
theorem dX1_search_108 : decode cX1_search 108 = .ok (.iastore, 1) := by decide +kernel
theorem dX1_search_109 : decode cX1_search 109 = .ok (.iinc 1 1, 3) := by decide +kernel
theorem dX1_search_112 : decode cX1_search 112 = .ok (.iinc 3 1, 3) := by decide +kernel
theorem dX1_search_115 : decode cX1_search 115 = .ok (.goto (-60), 3) := by decide +kernel
theorem dX1_search_118 : decode cX1_search 118 = .ok (.iinc 2 1, 3) := by decide +kernel
theorem dX1_search_121 : decode cX1_search 121 = .ok (.goto (-79), 3) := by decide +kernel
theorem dX1_search_124 : decode cX1_search 124 = .ok (.return_, 1) := by decide +kernel
abbrev cX1_push : ByteArray := prog_1_method_24_code
def yX1_push : MethodName := ⟨RX1, "push", "()I"⟩
theorem dX1_push_0 : decode cX1_push 0 = .ok (.ldc 77, 2) := by decide +kernel
theorem dX1_push_2 : decode cX1_push 2 = .ok (.istore_n 1, 1) := by decide +kernel
theorem dX1_push_3 : decode cX1_push 3 = .ok (.bipush 11, 2) := by decide +kernel
theorem dX1_push_5 : decode cX1_push 5 = .ok (.istore_n 2, 1) := by decide +kernel
theorem dX1_push_6 : decode cX1_push 6 = .ok (.iconst 0, 1) := by decide +kernel
theorem dX1_push_7 : decode cX1_push 7 = .ok (.istore_n 3, 1) := by decide +kernel
theorem dX1_push_8 : decode cX1_push 8 = .ok (.iload_n 3, 1) := by decide +kernel
theorem dX1_push_9 : decode cX1_push 9 = .ok (.bipush 12, 2) := by decide +kernel
theorem dX1_push_11 : decode cX1_push 11 = .ok (.if_icmp .ge 53, 3) := by decide +kernel
theorem dX1_push_14 : decode cX1_push 14 = .ok (.iload_n 2, 1) := by decide +kernel
theorem dX1_push_15 : decode cX1_push 15 = .ok (.bipush 10, 2) := by decide +kernel
theorem dX1_push_17 : decode cX1_push 17 = .ok (.if_icmp .eq 47, 3) := by decide +kernel
theorem dX1_push_20 : decode cX1_push 20 = .ok (.aload_n 0, 1) := by decide +kernel
theorem dX1_push_21 : decode cX1_push 21 = .ok (.getfield 31, 3) := by decide +kernel
theorem dX1_push_24 : decode cX1_push 24 = .ok (.bipush 12, 2) := by decide +kernel
theorem dX1_push_26 : decode cX1_push 26 = .ok (.aload_n 0, 1) := by decide +kernel
theorem dX1_push_27 : decode cX1_push 27 = .ok (.getfield 34, 3) := by decide +kernel
theorem dX1_push_30 : decode cX1_push 30 = .ok (.iload_n 2, 1) := by decide +kernel
theorem dX1_push_31 : decode cX1_push 31 = .ok (.iaload, 1) := by decide +kernel
theorem dX1_push_32 : decode cX1_push 32 = .ok (.imul, 1) := by decide +kernel
theorem dX1_push_33 : decode cX1_push 33 = .ok (.iload_n 2, 1) := by decide +kernel
theorem dX1_push_34 : decode cX1_push 34 = .ok (.iadd, 1) := by decide +kernel
theorem dX1_push_35 : decode cX1_push 35 = .ok (.iaload, 1) := by decide +kernel
theorem dX1_push_36 : decode cX1_push 36 = .ok (.istore 4, 2) := by decide +kernel
theorem dX1_push_38 : decode cX1_push 38 = .ok (.iload 4, 2) := by decide +kernel
theorem dX1_push_40 : decode cX1_push 40 = .ok (.iload_n 1, 1) := by decide +kernel
theorem dX1_push_41 : decode cX1_push 41 = .ok (.if_icmp .ge 8, 3) := by decide +kernel
theorem dX1_push_44 : decode cX1_push 44 = .ok (.iload 4, 2) := by decide +kernel
theorem dX1_push_46 : decode cX1_push 46 = .ok (.goto 4, 3) := by decide +kernel
theorem dX1_push_49 : decode cX1_push 49 = .ok (.iload_n 1, 1) := by decide +kernel
theorem dX1_push_50 : decode cX1_push 50 = .ok (.istore_n 1, 1) := by decide +kernel
theorem dX1_push_51 : decode cX1_push 51 = .ok (.aload_n 0, 1) := by decide +kernel
theorem dX1_push_52 : decode cX1_push 52 = .ok (.getfield 34, 3) := by decide +kernel
theorem dX1_push_55 : decode cX1_push 55 = .ok (.iload_n 2, 1) := by decide +kernel
theorem dX1_push_56 : decode cX1_push 56 = .ok (.iaload, 1) := by decide +kernel
theorem dX1_push_57 : decode cX1_push 57 = .ok (.istore_n 2, 1) := by decide +kernel
theorem dX1_push_58 : decode cX1_push 58 = .ok (.iinc 3 1, 3) := by decide +kernel
theorem dX1_push_61 : decode cX1_push 61 = .ok (.goto (-53), 3) := by decide +kernel
theorem dX1_push_64 : decode cX1_push 64 = .ok (.bipush 11, 2) := by decide +kernel
theorem dX1_push_66 : decode cX1_push 66 = .ok (.istore_n 2, 1) := by decide +kernel
theorem dX1_push_67 : decode cX1_push 67 = .ok (.iconst 0, 1) := by decide +kernel
theorem dX1_push_68 : decode cX1_push 68 = .ok (.istore_n 3, 1) := by decide +kernel
theorem dX1_push_69 : decode cX1_push 69 = .ok (.iload_n 3, 1) := by decide +kernel
theorem dX1_push_70 : decode cX1_push 70 = .ok (.bipush 12, 2) := by decide +kernel
theorem dX1_push_72 : decode cX1_push 72 = .ok (.if_icmp .ge 62, 3) := by decide +kernel
theorem dX1_push_75 : decode cX1_push 75 = .ok (.iload_n 2, 1) := by decide +kernel
theorem dX1_push_76 : decode cX1_push 76 = .ok (.bipush 10, 2) := by decide +kernel
theorem dX1_push_78 : decode cX1_push 78 = .ok (.if_icmp .eq 56, 3) := by decide +kernel
theorem dX1_push_81 : decode cX1_push 81 = .ok (.aload_n 0, 1) := by decide +kernel
theorem dX1_push_82 : decode cX1_push 82 = .ok (.getfield 31, 3) := by decide +kernel
theorem dX1_push_85 : decode cX1_push 85 = .ok (.bipush 12, 2) := by decide +kernel
theorem dX1_push_87 : decode cX1_push 87 = .ok (.aload_n 0, 1) := by decide +kernel
theorem dX1_push_88 : decode cX1_push 88 = .ok (.getfield 34, 3) := by decide +kernel
theorem dX1_push_91 : decode cX1_push 91 = .ok (.iload_n 2, 1) := by decide +kernel
theorem dX1_push_92 : decode cX1_push 92 = .ok (.iaload, 1) := by decide +kernel
theorem dX1_push_93 : decode cX1_push 93 = .ok (.imul, 1) := by decide +kernel
theorem dX1_push_94 : decode cX1_push 94 = .ok (.iload_n 2, 1) := by decide +kernel
theorem dX1_push_95 : decode cX1_push 95 = .ok (.iadd, 1) := by decide +kernel
theorem dX1_push_96 : decode cX1_push 96 = .ok (.dup2, 1) := by decide +kernel
theorem dX1_push_97 : decode cX1_push 97 = .ok (.iaload, 1) := by decide +kernel
theorem dX1_push_98 : decode cX1_push 98 = .ok (.iload_n 1, 1) := by decide +kernel
theorem dX1_push_99 : decode cX1_push 99 = .ok (.isub, 1) := by decide +kernel
theorem dX1_push_100 : decode cX1_push 100 = .ok (.iastore, 1) := by decide +kernel
theorem dX1_push_101 : decode cX1_push 101 = .ok (.aload_n 0, 1) := by decide +kernel
theorem dX1_push_102 : decode cX1_push 102 = .ok (.getfield 31, 3) := by decide +kernel
theorem dX1_push_105 : decode cX1_push 105 = .ok (.bipush 12, 2) := by decide +kernel
theorem dX1_push_107 : decode cX1_push 107 = .ok (.iload_n 2, 1) := by decide +kernel
theorem dX1_push_108 : decode cX1_push 108 = .ok (.imul, 1) := by decide +kernel
theorem dX1_push_109 : decode cX1_push 109 = .ok (.aload_n 0, 1) := by decide +kernel
theorem dX1_push_110 : decode cX1_push 110 = .ok (.getfield 34, 3) := by decide +kernel
theorem dX1_push_113 : decode cX1_push 113 = .ok (.iload_n 2, 1) := by decide +kernel
theorem dX1_push_114 : decode cX1_push 114 = .ok (.iaload, 1) := by decide +kernel
theorem dX1_push_115 : decode cX1_push 115 = .ok (.iadd, 1) := by decide +kernel
theorem dX1_push_116 : decode cX1_push 116 = .ok (.dup2, 1) := by decide +kernel
theorem dX1_push_117 : decode cX1_push 117 = .ok (.iaload, 1) := by decide +kernel
theorem dX1_push_118 : decode cX1_push 118 = .ok (.iload_n 1, 1) := by decide +kernel
theorem dX1_push_119 : decode cX1_push 119 = .ok (.iadd, 1) := by decide +kernel
theorem dX1_push_120 : decode cX1_push 120 = .ok (.iastore, 1) := by decide +kernel
theorem dX1_push_121 : decode cX1_push 121 = .ok (.aload_n 0, 1) := by decide +kernel
theorem dX1_push_122 : decode cX1_push 122 = .ok (.getfield 34, 3) := by decide +kernel
theorem dX1_push_125 : decode cX1_push 125 = .ok (.iload_n 2, 1) := by decide +kernel
theorem dX1_push_126 : decode cX1_push 126 = .ok (.iaload, 1) := by decide +kernel
theorem dX1_push_127 : decode cX1_push 127 = .ok (.istore_n 2, 1) := by decide +kernel
theorem dX1_push_128 : decode cX1_push 128 = .ok (.iinc 3 1, 3) := by decide +kernel
theorem dX1_push_131 : decode cX1_push 131 = .ok (.goto (-62), 3) := by decide +kernel
theorem dX1_push_134 : decode cX1_push 134 = .ok (.iload_n 1, 1) := by decide +kernel
theorem dX1_push_135 : decode cX1_push 135 = .ok (.ireturn, 1) := by decide +kernel
abbrev cX1_fewestBoxed : ByteArray := prog_1_method_10_code
def yX1_fewestBoxed : MethodName := ⟨RX1, "fewestBoxed", "()I"⟩
theorem dX1_fewestBoxed_0 : decode cX1_fewestBoxed 0 = .ok (.aload_n 0, 1) := by decide +kernel
theorem dX1_fewestBoxed_1 : decode cX1_fewestBoxed 1 = .ok (.invokevirtual 60, 3) := by decide +kernel
theorem dX1_fewestBoxed_4 : decode cX1_fewestBoxed 4 = .ok (.aload_n 0, 1) := by decide +kernel
theorem dX1_fewestBoxed_5 : decode cX1_fewestBoxed 5 = .ok (.invokevirtual 63, 3) := by decide +kernel
theorem dX1_fewestBoxed_8 : decode cX1_fewestBoxed 8 = .ok (.pop, 1) := by decide +kernel
theorem dX1_fewestBoxed_9 : decode cX1_fewestBoxed 9 = .ok (.aload_n 0, 1) := by decide +kernel
theorem dX1_fewestBoxed_10 : decode cX1_fewestBoxed 10 = .ok (.invokevirtual 67, 3) := by decide +kernel
theorem dX1_fewestBoxed_13 : decode cX1_fewestBoxed 13 = .ok (.ireturn, 1) := by decide +kernel
abbrev cX1_reachingSink : ByteArray := prog_1_method_26_code
def yX1_reachingSink : MethodName := ⟨RX1, "reachingSink", "()I"⟩
theorem dX1_reachingSink_0 : decode cX1_reachingSink 0 = .ok (.sipush 2048, 3) := by decide +kernel
theorem dX1_reachingSink_3 : decode cX1_reachingSink 3 = .ok (.istore_n 1, 1) := by decide +kernel
theorem dX1_reachingSink_4 : decode cX1_reachingSink 4 = .ok (.iconst 0, 1) := by decide +kernel
theorem dX1_reachingSink_5 : decode cX1_reachingSink 5 = .ok (.istore_n 2, 1) := by decide +kernel
theorem dX1_reachingSink_6 : decode cX1_reachingSink 6 = .ok (.iload_n 2, 1) := by decide +kernel
theorem dX1_reachingSink_7 : decode cX1_reachingSink 7 = .ok (.bipush 12, 2) := by decide +kernel
theorem dX1_reachingSink_9 : decode cX1_reachingSink 9 = .ok (.if_icmp .ge 54, 3) := by decide +kernel
theorem dX1_reachingSink_12 : decode cX1_reachingSink 12 = .ok (.iconst 0, 1) := by decide +kernel
theorem dX1_reachingSink_13 : decode cX1_reachingSink 13 = .ok (.istore_n 3, 1) := by decide +kernel
theorem dX1_reachingSink_14 : decode cX1_reachingSink 14 = .ok (.iload_n 3, 1) := by decide +kernel
theorem dX1_reachingSink_15 : decode cX1_reachingSink 15 = .ok (.sipush 144, 3) := by decide +kernel
theorem dX1_reachingSink_18 : decode cX1_reachingSink 18 = .ok (.if_icmp .ge 39, 3) := by decide +kernel
theorem dX1_reachingSink_21 : decode cX1_reachingSink 21 = .ok (.aload_n 0, 1) := by decide +kernel
theorem dX1_reachingSink_22 : decode cX1_reachingSink 22 = .ok (.getfield 31, 3) := by decide +kernel
theorem dX1_reachingSink_25 : decode cX1_reachingSink 25 = .ok (.iload_n 3, 1) := by decide +kernel
theorem dX1_reachingSink_26 : decode cX1_reachingSink 26 = .ok (.iaload, 1) := by decide +kernel
theorem dX1_reachingSink_27 : decode cX1_reachingSink 27 = .ok (.ifCond .le 24, 3) := by decide +kernel
theorem dX1_reachingSink_30 : decode cX1_reachingSink 30 = .ok (.iload_n 1, 1) := by decide +kernel
theorem dX1_reachingSink_31 : decode cX1_reachingSink 31 = .ok (.iload_n 3, 1) := by decide +kernel
theorem dX1_reachingSink_32 : decode cX1_reachingSink 32 = .ok (.bipush 12, 2) := by decide +kernel
theorem dX1_reachingSink_34 : decode cX1_reachingSink 34 = .ok (.irem, 1) := by decide +kernel
theorem dX1_reachingSink_35 : decode cX1_reachingSink 35 = .ok (.ishr, 1) := by decide +kernel
theorem dX1_reachingSink_36 : decode cX1_reachingSink 36 = .ok (.iconst 1, 1) := by decide +kernel
theorem dX1_reachingSink_37 : decode cX1_reachingSink 37 = .ok (.iand, 1) := by decide +kernel
theorem dX1_reachingSink_38 : decode cX1_reachingSink 38 = .ok (.iconst 1, 1) := by decide +kernel
theorem dX1_reachingSink_39 : decode cX1_reachingSink 39 = .ok (.if_icmp .ne 12, 3) := by decide +kernel
theorem dX1_reachingSink_42 : decode cX1_reachingSink 42 = .ok (.iload_n 1, 1) := by decide +kernel
theorem dX1_reachingSink_43 : decode cX1_reachingSink 43 = .ok (.iconst 1, 1) := by decide +kernel
theorem dX1_reachingSink_44 : decode cX1_reachingSink 44 = .ok (.iload_n 3, 1) := by decide +kernel
theorem dX1_reachingSink_45 : decode cX1_reachingSink 45 = .ok (.bipush 12, 2) := by decide +kernel
theorem dX1_reachingSink_47 : decode cX1_reachingSink 47 = .ok (.idiv, 1) := by decide +kernel
theorem dX1_reachingSink_48 : decode cX1_reachingSink 48 = .ok (.ishl, 1) := by decide +kernel
theorem dX1_reachingSink_49 : decode cX1_reachingSink 49 = .ok (.ior, 1) := by decide +kernel
theorem dX1_reachingSink_50 : decode cX1_reachingSink 50 = .ok (.istore_n 1, 1) := by decide +kernel
theorem dX1_reachingSink_51 : decode cX1_reachingSink 51 = .ok (.iinc 3 1, 3) := by decide +kernel
theorem dX1_reachingSink_54 : decode cX1_reachingSink 54 = .ok (.goto (-40), 3) := by decide +kernel
theorem dX1_reachingSink_57 : decode cX1_reachingSink 57 = .ok (.iinc 2 1, 3) := by decide +kernel
theorem dX1_reachingSink_60 : decode cX1_reachingSink 60 = .ok (.goto (-54), 3) := by decide +kernel
theorem dX1_reachingSink_63 : decode cX1_reachingSink 63 = .ok (.iload_n 1, 1) := by decide +kernel
theorem dX1_reachingSink_64 : decode cX1_reachingSink 64 = .ok (.iconst 1, 1) := by decide +kernel
theorem dX1_reachingSink_65 : decode cX1_reachingSink 65 = .ok (.aload_n 0, 1) := by decide +kernel
theorem dX1_reachingSink_66 : decode cX1_reachingSink 66 = .ok (.getfield 40, 3) := by decide +kernel
theorem dX1_reachingSink_69 : decode cX1_reachingSink 69 = .ok (.ishl, 1) := by decide +kernel
theorem dX1_reachingSink_70 : decode cX1_reachingSink 70 = .ok (.iconst 1, 1) := by decide +kernel
theorem dX1_reachingSink_71 : decode cX1_reachingSink 71 = .ok (.isub, 1) := by decide +kernel
theorem dX1_reachingSink_72 : decode cX1_reachingSink 72 = .ok (.iand, 1) := by decide +kernel
theorem dX1_reachingSink_73 : decode cX1_reachingSink 73 = .ok (.ireturn, 1) := by decide +kernel
abbrev cX1_mostBoxed : ByteArray := prog_1_method_11_code
def yX1_mostBoxed : MethodName := ⟨RX1, "mostBoxed", "()I"⟩
theorem dX1_mostBoxed_0 : decode cX1_mostBoxed 0 = .ok (.aload_n 0, 1) := by decide +kernel
theorem dX1_mostBoxed_1 : decode cX1_mostBoxed 1 = .ok (.invokevirtual 60, 3) := by decide +kernel
theorem dX1_mostBoxed_4 : decode cX1_mostBoxed 4 = .ok (.aload_n 0, 1) := by decide +kernel
theorem dX1_mostBoxed_5 : decode cX1_mostBoxed 5 = .ok (.invokevirtual 63, 3) := by decide +kernel
theorem dX1_mostBoxed_8 : decode cX1_mostBoxed 8 = .ok (.pop, 1) := by decide +kernel
theorem dX1_mostBoxed_9 : decode cX1_mostBoxed 9 = .ok (.aload_n 0, 1) := by decide +kernel
theorem dX1_mostBoxed_10 : decode cX1_mostBoxed 10 = .ok (.invokevirtual 70, 3) := by decide +kernel
theorem dX1_mostBoxed_13 : decode cX1_mostBoxed 13 = .ok (.ireturn, 1) := by decide +kernel
abbrev cX1_notFromSource : ByteArray := prog_1_method_25_code
def yX1_notFromSource : MethodName := ⟨RX1, "notFromSource", "()I"⟩
theorem dX1_notFromSource_0 : decode cX1_notFromSource 0 = .ok (.aload_n 0, 1) := by decide +kernel
theorem dX1_notFromSource_1 : decode cX1_notFromSource 1 = .ok (.invokevirtual 78, 3) := by decide +kernel
theorem dX1_notFromSource_4 : decode cX1_notFromSource 4 = .ok (.iconst 0, 1) := by decide +kernel
theorem dX1_notFromSource_5 : decode cX1_notFromSource 5 = .ok (.istore_n 1, 1) := by decide +kernel
end
section
set_option maxRecDepth 100000
theorem dX1_notFromSource_6 : decode cX1_notFromSource 6 = .ok (.iconst 0, 1) := by decide +kernel
theorem dX1_notFromSource_7 : decode cX1_notFromSource 7 = .ok (.istore_n 2, 1) := by decide +kernel
theorem dX1_notFromSource_8 : decode cX1_notFromSource 8 = .ok (.iload_n 2, 1) := by decide +kernel
theorem dX1_notFromSource_9 : decode cX1_notFromSource 9 = .ok (.aload_n 0, 1) := by decide +kernel
theorem dX1_notFromSource_10 : decode cX1_notFromSource 10 = .ok (.getfield 40, 3) := by decide +kernel
theorem dX1_notFromSource_13 : decode cX1_notFromSource 13 = .ok (.if_icmp .ge 25, 3) := by decide +kernel
theorem dX1_notFromSource_16 : decode cX1_notFromSource 16 = .ok (.aload_n 0, 1) := by decide +kernel
theorem dX1_notFromSource_17 : decode cX1_notFromSource 17 = .ok (.getfield 34, 3) := by decide +kernel
theorem dX1_notFromSource_20 : decode cX1_notFromSource 20 = .ok (.iload_n 2, 1) := by decide +kernel
theorem dX1_notFromSource_21 : decode cX1_notFromSource 21 = .ok (.iaload, 1) := by decide +kernel
theorem dX1_notFromSource_22 : decode cX1_notFromSource 22 = .ok (.iconst (-1), 1) := by decide +kernel
theorem dX1_notFromSource_23 : decode cX1_notFromSource 23 = .ok (.if_icmp .ne 9, 3) := by decide +kernel
theorem dX1_notFromSource_26 : decode cX1_notFromSource 26 = .ok (.iload_n 1, 1) := by decide +kernel
theorem dX1_notFromSource_27 : decode cX1_notFromSource 27 = .ok (.iconst 1, 1) := by decide +kernel
theorem dX1_notFromSource_28 : decode cX1_notFromSource 28 = .ok (.iload_n 2, 1) := by decide +kernel
theorem dX1_notFromSource_29 : decode cX1_notFromSource 29 = .ok (.ishl, 1) := by decide +kernel
theorem dX1_notFromSource_30 : decode cX1_notFromSource 30 = .ok (.ior, 1) := by decide +kernel
theorem dX1_notFromSource_31 : decode cX1_notFromSource 31 = .ok (.istore_n 1, 1) := by decide +kernel
theorem dX1_notFromSource_32 : decode cX1_notFromSource 32 = .ok (.iinc 2 1, 3) := by decide +kernel
theorem dX1_notFromSource_35 : decode cX1_notFromSource 35 = .ok (.goto (-27), 3) := by decide +kernel
theorem dX1_notFromSource_38 : decode cX1_notFromSource 38 = .ok (.iload_n 1, 1) := by decide +kernel
theorem dX1_notFromSource_39 : decode cX1_notFromSource 39 = .ok (.ireturn, 1) := by decide +kernel
abbrev cX1_settled : ByteArray := prog_1_method_12_code
def yX1_settled : MethodName := ⟨RX1, "settled", "(I)I"⟩
theorem dX1_settled_0 : decode cX1_settled 0 = .ok (.aload_n 0, 1) := by decide +kernel
theorem dX1_settled_1 : decode cX1_settled 1 = .ok (.iload_n 1, 1) := by decide +kernel
theorem dX1_settled_2 : decode cX1_settled 2 = .ok (.invokevirtual 47, 3) := by decide +kernel
theorem dX1_settled_5 : decode cX1_settled 5 = .ok (.ifCond .ne 5, 3) := by decide +kernel
theorem dX1_settled_8 : decode cX1_settled 8 = .ok (.iconst (-1), 1) := by decide +kernel
theorem dX1_settled_9 : decode cX1_settled 9 = .ok (.ireturn, 1) := by decide +kernel
theorem dX1_settled_10 : decode cX1_settled 10 = .ok (.aload_n 0, 1) := by decide +kernel
theorem dX1_settled_11 : decode cX1_settled 11 = .ok (.invokevirtual 60, 3) := by decide +kernel
theorem dX1_settled_14 : decode cX1_settled 14 = .ok (.aload_n 0, 1) := by decide +kernel
theorem dX1_settled_15 : decode cX1_settled 15 = .ok (.invokevirtual 63, 3) := by decide +kernel
theorem dX1_settled_18 : decode cX1_settled 18 = .ok (.pop, 1) := by decide +kernel
theorem dX1_settled_19 : decode cX1_settled 19 = .ok (.aload_n 0, 1) := by decide +kernel
theorem dX1_settled_20 : decode cX1_settled 20 = .ok (.invokevirtual 67, 3) := by decide +kernel
theorem dX1_settled_23 : decode cX1_settled 23 = .ok (.iload_n 1, 1) := by decide +kernel
theorem dX1_settled_24 : decode cX1_settled 24 = .ok (.ishr, 1) := by decide +kernel
theorem dX1_settled_25 : decode cX1_settled 25 = .ok (.iconst 1, 1) := by decide +kernel
theorem dX1_settled_26 : decode cX1_settled 26 = .ok (.iand, 1) := by decide +kernel
theorem dX1_settled_27 : decode cX1_settled 27 = .ok (.iconst 1, 1) := by decide +kernel
theorem dX1_settled_28 : decode cX1_settled 28 = .ok (.if_icmp .ne 5, 3) := by decide +kernel
theorem dX1_settled_31 : decode cX1_settled 31 = .ok (.iconst 1, 1) := by decide +kernel
theorem dX1_settled_32 : decode cX1_settled 32 = .ok (.ireturn, 1) := by decide +kernel
theorem dX1_settled_33 : decode cX1_settled 33 = .ok (.aload_n 0, 1) := by decide +kernel
theorem dX1_settled_34 : decode cX1_settled 34 = .ok (.invokevirtual 70, 3) := by decide +kernel
theorem dX1_settled_37 : decode cX1_settled 37 = .ok (.iload_n 1, 1) := by decide +kernel
theorem dX1_settled_38 : decode cX1_settled 38 = .ok (.ishr, 1) := by decide +kernel
theorem dX1_settled_39 : decode cX1_settled 39 = .ok (.iconst 1, 1) := by decide +kernel
theorem dX1_settled_40 : decode cX1_settled 40 = .ok (.iand, 1) := by decide +kernel
theorem dX1_settled_41 : decode cX1_settled 41 = .ok (.iconst 1, 1) := by decide +kernel
theorem dX1_settled_42 : decode cX1_settled 42 = .ok (.if_icmp .ne 7, 3) := by decide +kernel
theorem dX1_settled_45 : decode cX1_settled 45 = .ok (.iconst 2, 1) := by decide +kernel
theorem dX1_settled_46 : decode cX1_settled 46 = .ok (.goto 4, 3) := by decide +kernel
theorem dX1_settled_49 : decode cX1_settled 49 = .ok (.iconst 0, 1) := by decide +kernel
theorem dX1_settled_50 : decode cX1_settled 50 = .ok (.ireturn, 1) := by decide +kernel
abbrev cX1_bestWith : ByteArray := prog_1_method_13_code
def yX1_bestWith : MethodName := ⟨RX1, "bestWith", "(II)I"⟩
theorem dX1_bestWith_0 : decode cX1_bestWith 0 = .ok (.aload_n 0, 1) := by decide +kernel
theorem dX1_bestWith_1 : decode cX1_bestWith 1 = .ok (.iload_n 1, 1) := by decide +kernel
theorem dX1_bestWith_2 : decode cX1_bestWith 2 = .ok (.invokevirtual 47, 3) := by decide +kernel
theorem dX1_bestWith_5 : decode cX1_bestWith 5 = .ok (.ifCond .ne 5, 3) := by decide +kernel
theorem dX1_bestWith_8 : decode cX1_bestWith 8 = .ok (.iconst (-1), 1) := by decide +kernel
theorem dX1_bestWith_9 : decode cX1_bestWith 9 = .ok (.ireturn, 1) := by decide +kernel
theorem dX1_bestWith_10 : decode cX1_bestWith 10 = .ok (.iload_n 2, 1) := by decide +kernel
theorem dX1_bestWith_11 : decode cX1_bestWith 11 = .ok (.ifCond .eq 11, 3) := by decide +kernel
theorem dX1_bestWith_14 : decode cX1_bestWith 14 = .ok (.iload_n 2, 1) := by decide +kernel
theorem dX1_bestWith_15 : decode cX1_bestWith 15 = .ok (.iconst 1, 1) := by decide +kernel
theorem dX1_bestWith_16 : decode cX1_bestWith 16 = .ok (.if_icmp .eq 6, 3) := by decide +kernel
theorem dX1_bestWith_19 : decode cX1_bestWith 19 = .ok (.bipush (-2), 2) := by decide +kernel
theorem dX1_bestWith_21 : decode cX1_bestWith 21 = .ok (.ireturn, 1) := by decide +kernel
theorem dX1_bestWith_22 : decode cX1_bestWith 22 = .ok (.aload_n 0, 1) := by decide +kernel
theorem dX1_bestWith_23 : decode cX1_bestWith 23 = .ok (.getfield 25, 3) := by decide +kernel
theorem dX1_bestWith_26 : decode cX1_bestWith 26 = .ok (.iload_n 1, 1) := by decide +kernel
theorem dX1_bestWith_27 : decode cX1_bestWith 27 = .ok (.iaload, 1) := by decide +kernel
theorem dX1_bestWith_28 : decode cX1_bestWith 28 = .ok (.iconst 2, 1) := by decide +kernel
theorem dX1_bestWith_29 : decode cX1_bestWith 29 = .ok (.if_icmp .eq 16, 3) := by decide +kernel
theorem dX1_bestWith_32 : decode cX1_bestWith 32 = .ok (.aload_n 0, 1) := by decide +kernel
theorem dX1_bestWith_33 : decode cX1_bestWith 33 = .ok (.getfield 25, 3) := by decide +kernel
theorem dX1_bestWith_36 : decode cX1_bestWith 36 = .ok (.iload_n 1, 1) := by decide +kernel
theorem dX1_bestWith_37 : decode cX1_bestWith 37 = .ok (.iaload, 1) := by decide +kernel
theorem dX1_bestWith_38 : decode cX1_bestWith 38 = .ok (.iload_n 2, 1) := by decide +kernel
theorem dX1_bestWith_39 : decode cX1_bestWith 39 = .ok (.if_icmp .eq 6, 3) := by decide +kernel
theorem dX1_bestWith_42 : decode cX1_bestWith 42 = .ok (.bipush (-3), 2) := by decide +kernel
theorem dX1_bestWith_44 : decode cX1_bestWith 44 = .ok (.ireturn, 1) := by decide +kernel
theorem dX1_bestWith_45 : decode cX1_bestWith 45 = .ok (.aload_n 0, 1) := by decide +kernel
theorem dX1_bestWith_46 : decode cX1_bestWith 46 = .ok (.invokevirtual 60, 3) := by decide +kernel
theorem dX1_bestWith_49 : decode cX1_bestWith 49 = .ok (.aload_n 0, 1) := by decide +kernel
theorem dX1_bestWith_50 : decode cX1_bestWith 50 = .ok (.getfield 28, 3) := by decide +kernel
theorem dX1_bestWith_53 : decode cX1_bestWith 53 = .ok (.iload_n 1, 1) := by decide +kernel
theorem dX1_bestWith_54 : decode cX1_bestWith 54 = .ok (.iload_n 2, 1) := by decide +kernel
theorem dX1_bestWith_55 : decode cX1_bestWith 55 = .ok (.iastore, 1) := by decide +kernel
theorem dX1_bestWith_56 : decode cX1_bestWith 56 = .ok (.aload_n 0, 1) := by decide +kernel
theorem dX1_bestWith_57 : decode cX1_bestWith 57 = .ok (.invokevirtual 63, 3) := by decide +kernel
theorem dX1_bestWith_60 : decode cX1_bestWith 60 = .ok (.ireturn, 1) := by decide +kernel
abbrev cX1_bestTied : ByteArray := prog_1_method_14_code
def yX1_bestTied : MethodName := ⟨RX1, "bestTied", "(III)I"⟩
theorem dX1_bestTied_0 : decode cX1_bestTied 0 = .ok (.aload_n 0, 1) := by decide +kernel
theorem dX1_bestTied_1 : decode cX1_bestTied 1 = .ok (.iload_n 1, 1) := by decide +kernel
theorem dX1_bestTied_2 : decode cX1_bestTied 2 = .ok (.invokevirtual 47, 3) := by decide +kernel
theorem dX1_bestTied_5 : decode cX1_bestTied 5 = .ok (.ifCond .eq 11, 3) := by decide +kernel
theorem dX1_bestTied_8 : decode cX1_bestTied 8 = .ok (.aload_n 0, 1) := by decide +kernel
theorem dX1_bestTied_9 : decode cX1_bestTied 9 = .ok (.iload_n 2, 1) := by decide +kernel
theorem dX1_bestTied_10 : decode cX1_bestTied 10 = .ok (.invokevirtual 47, 3) := by decide +kernel
theorem dX1_bestTied_13 : decode cX1_bestTied 13 = .ok (.ifCond .ne 5, 3) := by decide +kernel
theorem dX1_bestTied_16 : decode cX1_bestTied 16 = .ok (.iconst (-1), 1) := by decide +kernel
theorem dX1_bestTied_17 : decode cX1_bestTied 17 = .ok (.ireturn, 1) := by decide +kernel
theorem dX1_bestTied_18 : decode cX1_bestTied 18 = .ok (.bipush (-2), 2) := by decide +kernel
theorem dX1_bestTied_20 : decode cX1_bestTied 20 = .ok (.istore 4, 2) := by decide +kernel
theorem dX1_bestTied_22 : decode cX1_bestTied 22 = .ok (.iconst 0, 1) := by decide +kernel
theorem dX1_bestTied_23 : decode cX1_bestTied 23 = .ok (.istore 5, 2) := by decide +kernel
theorem dX1_bestTied_25 : decode cX1_bestTied 25 = .ok (.iload 5, 2) := by decide +kernel
theorem dX1_bestTied_27 : decode cX1_bestTied 27 = .ok (.iconst 1, 1) := by decide +kernel
theorem dX1_bestTied_28 : decode cX1_bestTied 28 = .ok (.if_icmp .gt 132, 3) := by decide +kernel
theorem dX1_bestTied_31 : decode cX1_bestTied 31 = .ok (.iload_n 3, 1) := by decide +kernel
theorem dX1_bestTied_32 : decode cX1_bestTied 32 = .ok (.ifCond .eq 8, 3) := by decide +kernel
theorem dX1_bestTied_35 : decode cX1_bestTied 35 = .ok (.iload 5, 2) := by decide +kernel
theorem dX1_bestTied_37 : decode cX1_bestTied 37 = .ok (.goto 7, 3) := by decide +kernel
theorem dX1_bestTied_40 : decode cX1_bestTied 40 = .ok (.iconst 1, 1) := by decide +kernel
theorem dX1_bestTied_41 : decode cX1_bestTied 41 = .ok (.iload 5, 2) := by decide +kernel
theorem dX1_bestTied_43 : decode cX1_bestTied 43 = .ok (.isub, 1) := by decide +kernel
theorem dX1_bestTied_44 : decode cX1_bestTied 44 = .ok (.istore 6, 2) := by decide +kernel
theorem dX1_bestTied_46 : decode cX1_bestTied 46 = .ok (.aload_n 0, 1) := by decide +kernel
theorem dX1_bestTied_47 : decode cX1_bestTied 47 = .ok (.getfield 25, 3) := by decide +kernel
theorem dX1_bestTied_50 : decode cX1_bestTied 50 = .ok (.iload_n 1, 1) := by decide +kernel
theorem dX1_bestTied_51 : decode cX1_bestTied 51 = .ok (.iaload, 1) := by decide +kernel
theorem dX1_bestTied_52 : decode cX1_bestTied 52 = .ok (.iconst 2, 1) := by decide +kernel
theorem dX1_bestTied_53 : decode cX1_bestTied 53 = .ok (.if_icmp .eq 14, 3) := by decide +kernel
theorem dX1_bestTied_56 : decode cX1_bestTied 56 = .ok (.aload_n 0, 1) := by decide +kernel
theorem dX1_bestTied_57 : decode cX1_bestTied 57 = .ok (.getfield 25, 3) := by decide +kernel
theorem dX1_bestTied_60 : decode cX1_bestTied 60 = .ok (.iload_n 1, 1) := by decide +kernel
theorem dX1_bestTied_61 : decode cX1_bestTied 61 = .ok (.iaload, 1) := by decide +kernel
theorem dX1_bestTied_62 : decode cX1_bestTied 62 = .ok (.iload 5, 2) := by decide +kernel
theorem dX1_bestTied_64 : decode cX1_bestTied 64 = .ok (.if_icmp .ne 28, 3) := by decide +kernel
theorem dX1_bestTied_67 : decode cX1_bestTied 67 = .ok (.aload_n 0, 1) := by decide +kernel
theorem dX1_bestTied_68 : decode cX1_bestTied 68 = .ok (.getfield 25, 3) := by decide +kernel
theorem dX1_bestTied_71 : decode cX1_bestTied 71 = .ok (.iload_n 2, 1) := by decide +kernel
theorem dX1_bestTied_72 : decode cX1_bestTied 72 = .ok (.iaload, 1) := by decide +kernel
theorem dX1_bestTied_73 : decode cX1_bestTied 73 = .ok (.iconst 2, 1) := by decide +kernel
theorem dX1_bestTied_74 : decode cX1_bestTied 74 = .ok (.if_icmp .eq 14, 3) := by decide +kernel
theorem dX1_bestTied_77 : decode cX1_bestTied 77 = .ok (.aload_n 0, 1) := by decide +kernel
theorem dX1_bestTied_78 : decode cX1_bestTied 78 = .ok (.getfield 25, 3) := by decide +kernel
theorem dX1_bestTied_81 : decode cX1_bestTied 81 = .ok (.iload_n 2, 1) := by decide +kernel
theorem dX1_bestTied_82 : decode cX1_bestTied 82 = .ok (.iaload, 1) := by decide +kernel
theorem dX1_bestTied_83 : decode cX1_bestTied 83 = .ok (.iload 6, 2) := by decide +kernel
theorem dX1_bestTied_85 : decode cX1_bestTied 85 = .ok (.if_icmp .ne 7, 3) := by decide +kernel
theorem dX1_bestTied_88 : decode cX1_bestTied 88 = .ok (.iconst 1, 1) := by decide +kernel
theorem dX1_bestTied_89 : decode cX1_bestTied 89 = .ok (.goto 4, 3) := by decide +kernel
theorem dX1_bestTied_92 : decode cX1_bestTied 92 = .ok (.iconst 0, 1) := by decide +kernel
theorem dX1_bestTied_93 : decode cX1_bestTied 93 = .ok (.istore 7, 2) := by decide +kernel
theorem dX1_bestTied_95 : decode cX1_bestTied 95 = .ok (.iload 7, 2) := by decide +kernel
theorem dX1_bestTied_97 : decode cX1_bestTied 97 = .ok (.ifCond .eq 57, 3) := by decide +kernel
theorem dX1_bestTied_100 : decode cX1_bestTied 100 = .ok (.iload_n 1, 1) := by decide +kernel
theorem dX1_bestTied_101 : decode cX1_bestTied 101 = .ok (.iload_n 2, 1) := by decide +kernel
theorem dX1_bestTied_102 : decode cX1_bestTied 102 = .ok (.if_icmp .ne 10, 3) := by decide +kernel
theorem dX1_bestTied_105 : decode cX1_bestTied 105 = .ok (.iload 5, 2) := by decide +kernel
theorem dX1_bestTied_107 : decode cX1_bestTied 107 = .ok (.iload 6, 2) := by decide +kernel
theorem dX1_bestTied_109 : decode cX1_bestTied 109 = .ok (.if_icmp .ne 45, 3) := by decide +kernel
theorem dX1_bestTied_112 : decode cX1_bestTied 112 = .ok (.aload_n 0, 1) := by decide +kernel
theorem dX1_bestTied_113 : decode cX1_bestTied 113 = .ok (.invokevirtual 60, 3) := by decide +kernel
theorem dX1_bestTied_116 : decode cX1_bestTied 116 = .ok (.aload_n 0, 1) := by decide +kernel
theorem dX1_bestTied_117 : decode cX1_bestTied 117 = .ok (.getfield 28, 3) := by decide +kernel
theorem dX1_bestTied_120 : decode cX1_bestTied 120 = .ok (.iload_n 1, 1) := by decide +kernel
theorem dX1_bestTied_121 : decode cX1_bestTied 121 = .ok (.iload 5, 2) := by decide +kernel
theorem dX1_bestTied_123 : decode cX1_bestTied 123 = .ok (.iastore, 1) := by decide +kernel
theorem dX1_bestTied_124 : decode cX1_bestTied 124 = .ok (.aload_n 0, 1) := by decide +kernel
theorem dX1_bestTied_125 : decode cX1_bestTied 125 = .ok (.getfield 28, 3) := by decide +kernel
theorem dX1_bestTied_128 : decode cX1_bestTied 128 = .ok (.iload_n 2, 1) := by decide +kernel
theorem dX1_bestTied_129 : decode cX1_bestTied 129 = .ok (.iload 6, 2) := by decide +kernel
theorem dX1_bestTied_131 : decode cX1_bestTied 131 = .ok (.iastore, 1) := by decide +kernel
theorem dX1_bestTied_132 : decode cX1_bestTied 132 = .ok (.aload_n 0, 1) := by decide +kernel
theorem dX1_bestTied_133 : decode cX1_bestTied 133 = .ok (.invokevirtual 63, 3) := by decide +kernel
theorem dX1_bestTied_136 : decode cX1_bestTied 136 = .ok (.istore 8, 2) := by decide +kernel
theorem dX1_bestTied_138 : decode cX1_bestTied 138 = .ok (.iload 4, 2) := by decide +kernel
theorem dX1_bestTied_140 : decode cX1_bestTied 140 = .ok (.ifCond .lt 10, 3) := by decide +kernel
theorem dX1_bestTied_143 : decode cX1_bestTied 143 = .ok (.iload 8, 2) := by decide +kernel
theorem dX1_bestTied_145 : decode cX1_bestTied 145 = .ok (.iload 4, 2) := by decide +kernel
theorem dX1_bestTied_147 : decode cX1_bestTied 147 = .ok (.if_icmp .ge 7, 3) := by decide +kernel
theorem dX1_bestTied_150 : decode cX1_bestTied 150 = .ok (.iload 8, 2) := by decide +kernel
theorem dX1_bestTied_152 : decode cX1_bestTied 152 = .ok (.istore 4, 2) := by decide +kernel
theorem dX1_bestTied_154 : decode cX1_bestTied 154 = .ok (.iinc 5 1, 3) := by decide +kernel
theorem dX1_bestTied_157 : decode cX1_bestTied 157 = .ok (.goto (-132), 3) := by decide +kernel
theorem dX1_bestTied_160 : decode cX1_bestTied 160 = .ok (.iload 4, 2) := by decide +kernel
theorem dX1_bestTied_162 : decode cX1_bestTied 162 = .ok (.ireturn, 1) := by decide +kernel
abbrev cX1_saving : ByteArray := prog_1_method_15_code
def yX1_saving : MethodName := ⟨RX1, "saving", "(I)I"⟩
theorem dX1_saving_0 : decode cX1_saving 0 = .ok (.aload_n 0, 1) := by decide +kernel
theorem dX1_saving_1 : decode cX1_saving 1 = .ok (.iload_n 1, 1) := by decide +kernel
theorem dX1_saving_2 : decode cX1_saving 2 = .ok (.invokevirtual 54, 3) := by decide +kernel
theorem dX1_saving_5 : decode cX1_saving 5 = .ok (.ifCond .ne 5, 3) := by decide +kernel
theorem dX1_saving_8 : decode cX1_saving 8 = .ok (.iconst (-1), 1) := by decide +kernel
theorem dX1_saving_9 : decode cX1_saving 9 = .ok (.ireturn, 1) := by decide +kernel
theorem dX1_saving_10 : decode cX1_saving 10 = .ok (.aload_n 0, 1) := by decide +kernel
theorem dX1_saving_11 : decode cX1_saving 11 = .ok (.invokevirtual 60, 3) := by decide +kernel
theorem dX1_saving_14 : decode cX1_saving 14 = .ok (.aload_n 0, 1) := by decide +kernel
theorem dX1_saving_15 : decode cX1_saving 15 = .ok (.invokevirtual 63, 3) := by decide +kernel
theorem dX1_saving_18 : decode cX1_saving 18 = .ok (.istore_n 2, 1) := by decide +kernel
theorem dX1_saving_19 : decode cX1_saving 19 = .ok (.aload_n 0, 1) := by decide +kernel
theorem dX1_saving_20 : decode cX1_saving 20 = .ok (.iload_n 1, 1) := by decide +kernel
theorem dX1_saving_21 : decode cX1_saving 21 = .ok (.putfield 44, 3) := by decide +kernel
theorem dX1_saving_24 : decode cX1_saving 24 = .ok (.aload_n 0, 1) := by decide +kernel
theorem dX1_saving_25 : decode cX1_saving 25 = .ok (.invokevirtual 63, 3) := by decide +kernel
theorem dX1_saving_28 : decode cX1_saving 28 = .ok (.istore_n 3, 1) := by decide +kernel
theorem dX1_saving_29 : decode cX1_saving 29 = .ok (.aload_n 0, 1) := by decide +kernel
theorem dX1_saving_30 : decode cX1_saving 30 = .ok (.iconst (-1), 1) := by decide +kernel
theorem dX1_saving_31 : decode cX1_saving 31 = .ok (.putfield 44, 3) := by decide +kernel
theorem dX1_saving_34 : decode cX1_saving 34 = .ok (.iload_n 2, 1) := by decide +kernel
theorem dX1_saving_35 : decode cX1_saving 35 = .ok (.iload_n 3, 1) := by decide +kernel
theorem dX1_saving_36 : decode cX1_saving 36 = .ok (.isub, 1) := by decide +kernel
theorem dX1_saving_37 : decode cX1_saving 37 = .ok (.ireturn, 1) := by decide +kernel
abbrev cX1_isBest : ByteArray := prog_1_method_16_code
def yX1_isBest : MethodName := ⟨RX1, "isBest", "(I)I"⟩
theorem dX1_isBest_0 : decode cX1_isBest 0 = .ok (.aload_n 0, 1) := by decide +kernel
theorem dX1_isBest_1 : decode cX1_isBest 1 = .ok (.iload_n 1, 1) := by decide +kernel
theorem dX1_isBest_2 : decode cX1_isBest 2 = .ok (.invokevirtual 57, 3) := by decide +kernel
theorem dX1_isBest_5 : decode cX1_isBest 5 = .ok (.ifCond .ne 5, 3) := by decide +kernel
theorem dX1_isBest_8 : decode cX1_isBest 8 = .ok (.iconst (-1), 1) := by decide +kernel
theorem dX1_isBest_9 : decode cX1_isBest 9 = .ok (.ireturn, 1) := by decide +kernel
theorem dX1_isBest_10 : decode cX1_isBest 10 = .ok (.iconst 0, 1) := by decide +kernel
theorem dX1_isBest_11 : decode cX1_isBest 11 = .ok (.istore_n 2, 1) := by decide +kernel
theorem dX1_isBest_12 : decode cX1_isBest 12 = .ok (.iload_n 2, 1) := by decide +kernel
theorem dX1_isBest_13 : decode cX1_isBest 13 = .ok (.aload_n 0, 1) := by decide +kernel
theorem dX1_isBest_14 : decode cX1_isBest 14 = .ok (.getfield 40, 3) := by decide +kernel
theorem dX1_isBest_17 : decode cX1_isBest 17 = .ok (.if_icmp .ge 35, 3) := by decide +kernel
theorem dX1_isBest_20 : decode cX1_isBest 20 = .ok (.aload_n 0, 1) := by decide +kernel
theorem dX1_isBest_21 : decode cX1_isBest 21 = .ok (.getfield 25, 3) := by decide +kernel
theorem dX1_isBest_24 : decode cX1_isBest 24 = .ok (.iload_n 2, 1) := by decide +kernel
theorem dX1_isBest_25 : decode cX1_isBest 25 = .ok (.iaload, 1) := by decide +kernel
theorem dX1_isBest_26 : decode cX1_isBest 26 = .ok (.iconst 2, 1) := by decide +kernel
theorem dX1_isBest_27 : decode cX1_isBest 27 = .ok (.if_icmp .eq 19, 3) := by decide +kernel
theorem dX1_isBest_30 : decode cX1_isBest 30 = .ok (.aload_n 0, 1) := by decide +kernel
theorem dX1_isBest_31 : decode cX1_isBest 31 = .ok (.getfield 25, 3) := by decide +kernel
theorem dX1_isBest_34 : decode cX1_isBest 34 = .ok (.iload_n 2, 1) := by decide +kernel
theorem dX1_isBest_35 : decode cX1_isBest 35 = .ok (.iaload, 1) := by decide +kernel
theorem dX1_isBest_36 : decode cX1_isBest 36 = .ok (.iload_n 1, 1) := by decide +kernel
theorem dX1_isBest_37 : decode cX1_isBest 37 = .ok (.iload_n 2, 1) := by decide +kernel
theorem dX1_isBest_38 : decode cX1_isBest 38 = .ok (.ishr, 1) := by decide +kernel
theorem dX1_isBest_39 : decode cX1_isBest 39 = .ok (.iconst 1, 1) := by decide +kernel
theorem dX1_isBest_40 : decode cX1_isBest 40 = .ok (.iand, 1) := by decide +kernel
theorem dX1_isBest_41 : decode cX1_isBest 41 = .ok (.if_icmp .eq 5, 3) := by decide +kernel
theorem dX1_isBest_44 : decode cX1_isBest 44 = .ok (.iconst 0, 1) := by decide +kernel
theorem dX1_isBest_45 : decode cX1_isBest 45 = .ok (.ireturn, 1) := by decide +kernel
theorem dX1_isBest_46 : decode cX1_isBest 46 = .ok (.iinc 2 1, 3) := by decide +kernel
theorem dX1_isBest_49 : decode cX1_isBest 49 = .ok (.goto (-37), 3) := by decide +kernel
theorem dX1_isBest_52 : decode cX1_isBest 52 = .ok (.aload_n 0, 1) := by decide +kernel
theorem dX1_isBest_53 : decode cX1_isBest 53 = .ok (.invokevirtual 60, 3) := by decide +kernel
theorem dX1_isBest_56 : decode cX1_isBest 56 = .ok (.aload_n 0, 1) := by decide +kernel
theorem dX1_isBest_57 : decode cX1_isBest 57 = .ok (.invokevirtual 63, 3) := by decide +kernel
theorem dX1_isBest_60 : decode cX1_isBest 60 = .ok (.istore_n 2, 1) := by decide +kernel
theorem dX1_isBest_61 : decode cX1_isBest 61 = .ok (.aload_n 0, 1) := by decide +kernel
theorem dX1_isBest_62 : decode cX1_isBest 62 = .ok (.iload_n 1, 1) := by decide +kernel
theorem dX1_isBest_63 : decode cX1_isBest 63 = .ok (.invokevirtual 73, 3) := by decide +kernel
theorem dX1_isBest_66 : decode cX1_isBest 66 = .ok (.iload_n 2, 1) := by decide +kernel
theorem dX1_isBest_67 : decode cX1_isBest 67 = .ok (.if_icmp .ne 7, 3) := by decide +kernel
theorem dX1_isBest_70 : decode cX1_isBest 70 = .ok (.iconst 1, 1) := by decide +kernel
theorem dX1_isBest_71 : decode cX1_isBest 71 = .ok (.goto 4, 3) := by decide +kernel
theorem dX1_isBest_74 : decode cX1_isBest 74 = .ok (.iconst 0, 1) := by decide +kernel
theorem dX1_isBest_75 : decode cX1_isBest 75 = .ok (.ireturn, 1) := by decide +kernel
abbrev cX1_settledCount : ByteArray := prog_1_method_17_code
def yX1_settledCount : MethodName := ⟨RX1, "settledCount", "()I"⟩
theorem dX1_settledCount_0 : decode cX1_settledCount 0 = .ok (.aload_n 0, 1) := by decide +kernel
theorem dX1_settledCount_1 : decode cX1_settledCount 1 = .ok (.invokevirtual 60, 3) := by decide +kernel
theorem dX1_settledCount_4 : decode cX1_settledCount 4 = .ok (.aload_n 0, 1) := by decide +kernel
theorem dX1_settledCount_5 : decode cX1_settledCount 5 = .ok (.invokevirtual 63, 3) := by decide +kernel
theorem dX1_settledCount_8 : decode cX1_settledCount 8 = .ok (.pop, 1) := by decide +kernel
theorem dX1_settledCount_9 : decode cX1_settledCount 9 = .ok (.aload_n 0, 1) := by decide +kernel
theorem dX1_settledCount_10 : decode cX1_settledCount 10 = .ok (.invokevirtual 70, 3) := by decide +kernel
theorem dX1_settledCount_13 : decode cX1_settledCount 13 = .ok (.aload_n 0, 1) := by decide +kernel
theorem dX1_settledCount_14 : decode cX1_settledCount 14 = .ok (.invokevirtual 67, 3) := by decide +kernel
theorem dX1_settledCount_17 : decode cX1_settledCount 17 = .ok (.iconst (-1), 1) := by decide +kernel
theorem dX1_settledCount_18 : decode cX1_settledCount 18 = .ok (.ixor, 1) := by decide +kernel
theorem dX1_settledCount_19 : decode cX1_settledCount 19 = .ok (.iand, 1) := by decide +kernel
theorem dX1_settledCount_20 : decode cX1_settledCount 20 = .ok (.istore_n 1, 1) := by decide +kernel
theorem dX1_settledCount_21 : decode cX1_settledCount 21 = .ok (.aload_n 0, 1) := by decide +kernel
theorem dX1_settledCount_22 : decode cX1_settledCount 22 = .ok (.getfield 40, 3) := by decide +kernel
theorem dX1_settledCount_25 : decode cX1_settledCount 25 = .ok (.istore_n 2, 1) := by decide +kernel
theorem dX1_settledCount_26 : decode cX1_settledCount 26 = .ok (.iconst 0, 1) := by decide +kernel
theorem dX1_settledCount_27 : decode cX1_settledCount 27 = .ok (.istore_n 3, 1) := by decide +kernel
theorem dX1_settledCount_28 : decode cX1_settledCount 28 = .ok (.iload_n 3, 1) := by decide +kernel
theorem dX1_settledCount_29 : decode cX1_settledCount 29 = .ok (.aload_n 0, 1) := by decide +kernel
theorem dX1_settledCount_30 : decode cX1_settledCount 30 = .ok (.getfield 40, 3) := by decide +kernel
theorem dX1_settledCount_33 : decode cX1_settledCount 33 = .ok (.if_icmp .ge 17, 3) := by decide +kernel
theorem dX1_settledCount_36 : decode cX1_settledCount 36 = .ok (.iload_n 2, 1) := by decide +kernel
theorem dX1_settledCount_37 : decode cX1_settledCount 37 = .ok (.iload_n 1, 1) := by decide +kernel
theorem dX1_settledCount_38 : decode cX1_settledCount 38 = .ok (.iload_n 3, 1) := by decide +kernel
theorem dX1_settledCount_39 : decode cX1_settledCount 39 = .ok (.ishr, 1) := by decide +kernel
theorem dX1_settledCount_40 : decode cX1_settledCount 40 = .ok (.iconst 1, 1) := by decide +kernel
theorem dX1_settledCount_41 : decode cX1_settledCount 41 = .ok (.iand, 1) := by decide +kernel
theorem dX1_settledCount_42 : decode cX1_settledCount 42 = .ok (.isub, 1) := by decide +kernel
theorem dX1_settledCount_43 : decode cX1_settledCount 43 = .ok (.istore_n 2, 1) := by decide +kernel
theorem dX1_settledCount_44 : decode cX1_settledCount 44 = .ok (.iinc 3 1, 3) := by decide +kernel
theorem dX1_settledCount_47 : decode cX1_settledCount 47 = .ok (.goto (-19), 3) := by decide +kernel
theorem dX1_settledCount_50 : decode cX1_settledCount 50 = .ok (.iload_n 2, 1) := by decide +kernel
theorem dX1_settledCount_51 : decode cX1_settledCount 51 = .ok (.ireturn, 1) := by decide +kernel
theorem q18 : (Jvm.Cond.initialized "UnboxPlanner") ∈ lw_all := lw_g (lw_at lw_m1 1 rfl) rfl
theorem q21 : (Jvm.Cond.instantiable "UnboxPlanner" (13 : Nat)) ∈ lw_all := lw_g (lw_at lw_m1 4 rfl) rfl
theorem q23 : (Jvm.Cond.instanceMethod ({ cls := "UnboxPlanner", name := "<init>", desc := "(I)V" } : Jvm.MethodName)) ∈ lw_all := lw_g (lw_at lw_m1 6 rfl) rfl
theorem q24 : (Jvm.Cond.code ({ cls := "UnboxPlanner", name := "<init>", desc := "(I)V" } : Jvm.MethodName) prog_1_method_1_code (3 : Nat) (Option.none : Option Jvm.ClassFile.FieldType)) ∈ lw_all := lw_g (lw_at lw_m1 7 rfl) rfl
theorem q25 : (Jvm.Cond.methodLink "UnboxPlanner" (1 : Nat) ({ cls := "java/lang/Object", name := "<init>", desc := "()V" } : Jvm.MethodName)) ∈ lw_all := lw_g (lw_at lw_m1 8 rfl) rfl
theorem q28 : (Jvm.Cond.fieldLink "UnboxPlanner" (7 : Nat) "UnboxPlanner" "formCost" "[I") ∈ lw_all := lw_g (lw_at lw_m1 11 rfl) rfl
theorem q29 : (Jvm.Cond.fieldLink "UnboxPlanner" (13 : Nat) "UnboxPlanner" "from" "[I") ∈ lw_all := lw_g (lw_at lw_m1 12 rfl) rfl
theorem q30 : (Jvm.Cond.fieldLink "UnboxPlanner" (16 : Nat) "UnboxPlanner" "to" "[I") ∈ lw_all := lw_g (lw_at lw_m1 13 rfl) rfl
theorem q31 : (Jvm.Cond.fieldLink "UnboxPlanner" (19 : Nat) "UnboxPlanner" "boxingCost" "[I") ∈ lw_all := lw_g (lw_at lw_m1 14 rfl) rfl
theorem q32 : (Jvm.Cond.fieldLink "UnboxPlanner" (22 : Nat) "UnboxPlanner" "unboxingCost" "[I") ∈ lw_all := lw_g (lw_at lw_m1 15 rfl) rfl
theorem q33 : (Jvm.Cond.fieldLink "UnboxPlanner" (25 : Nat) "UnboxPlanner" "fixed" "[I") ∈ lw_all := lw_g (lw_at lw_m1 16 rfl) rfl
theorem q34 : (Jvm.Cond.fieldLink "UnboxPlanner" (28 : Nat) "UnboxPlanner" "wanted" "[I") ∈ lw_all := lw_g (lw_at lw_m1 17 rfl) rfl
theorem q35 : (Jvm.Cond.fieldLink "UnboxPlanner" (31 : Nat) "UnboxPlanner" "left" "[I") ∈ lw_all := lw_g (lw_at lw_m1 18 rfl) rfl
theorem q36 : (Jvm.Cond.fieldLink "UnboxPlanner" (34 : Nat) "UnboxPlanner" "parent" "[I") ∈ lw_all := lw_g (lw_at lw_m1 19 rfl) rfl
theorem q37 : (Jvm.Cond.fieldLink "UnboxPlanner" (37 : Nat) "UnboxPlanner" "queue" "[I") ∈ lw_all := lw_g (lw_at lw_m1 20 rfl) rfl
theorem q38 : (Jvm.Cond.fieldLink "UnboxPlanner" (40 : Nat) "UnboxPlanner" "n" "I") ∈ lw_all := lw_g (lw_at lw_m1 21 rfl) rfl
theorem q39 : (Jvm.Cond.fieldLink "UnboxPlanner" (51 : Nat) "UnboxPlanner" "count" "I") ∈ lw_all := lw_g (lw_at lw_m1 22 rfl) rfl
theorem q40 : (Jvm.Cond.fieldLink "UnboxPlanner" (44 : Nat) "UnboxPlanner" "skipped" "I") ∈ lw_all := lw_g (lw_at lw_m1 23 rfl) rfl
theorem q41 : (Jvm.Cond.laysFinal "UnboxPlanner" "UnboxPlanner" "formCost" "[I") ∈ lw_all := lw_g (lw_at lw_m1 24 rfl) rfl
theorem q42 : (Jvm.Cond.soleField "UnboxPlanner" "formCost") ∈ lw_all := lw_g (lw_at lw_m1 25 rfl) rfl
theorem q43 : (Jvm.Cond.laysFinal "UnboxPlanner" "UnboxPlanner" "from" "[I") ∈ lw_all := lw_g (lw_at lw_m1 26 rfl) rfl
theorem q44 : (Jvm.Cond.soleField "UnboxPlanner" "from") ∈ lw_all := lw_g (lw_at lw_m1 27 rfl) rfl
theorem q45 : (Jvm.Cond.laysFinal "UnboxPlanner" "UnboxPlanner" "to" "[I") ∈ lw_all := lw_g (lw_at lw_m1 28 rfl) rfl
theorem q46 : (Jvm.Cond.soleField "UnboxPlanner" "to") ∈ lw_all := lw_g (lw_at lw_m1 29 rfl) rfl
theorem q47 : (Jvm.Cond.laysFinal "UnboxPlanner" "UnboxPlanner" "boxingCost" "[I") ∈ lw_all := lw_g (lw_at lw_m1 30 rfl) rfl
theorem q48 : (Jvm.Cond.soleField "UnboxPlanner" "boxingCost") ∈ lw_all := lw_g (lw_at lw_m1 31 rfl) rfl
theorem q49 : (Jvm.Cond.laysFinal "UnboxPlanner" "UnboxPlanner" "unboxingCost" "[I") ∈ lw_all := lw_g (lw_at lw_m1 32 rfl) rfl
theorem q50 : (Jvm.Cond.soleField "UnboxPlanner" "unboxingCost") ∈ lw_all := lw_g (lw_at lw_m1 33 rfl) rfl
theorem q51 : (Jvm.Cond.laysFinal "UnboxPlanner" "UnboxPlanner" "fixed" "[I") ∈ lw_all := lw_g (lw_at lw_m1 34 rfl) rfl
theorem q52 : (Jvm.Cond.soleField "UnboxPlanner" "fixed") ∈ lw_all := lw_g (lw_at lw_m1 35 rfl) rfl
theorem q53 : (Jvm.Cond.laysFinal "UnboxPlanner" "UnboxPlanner" "wanted" "[I") ∈ lw_all := lw_g (lw_at lw_m1 36 rfl) rfl
theorem q54 : (Jvm.Cond.soleField "UnboxPlanner" "wanted") ∈ lw_all := lw_g (lw_at lw_m1 37 rfl) rfl
theorem q55 : (Jvm.Cond.laysFinal "UnboxPlanner" "UnboxPlanner" "left" "[I") ∈ lw_all := lw_g (lw_at lw_m1 38 rfl) rfl
theorem q56 : (Jvm.Cond.soleField "UnboxPlanner" "left") ∈ lw_all := lw_g (lw_at lw_m1 39 rfl) rfl
theorem q57 : (Jvm.Cond.laysFinal "UnboxPlanner" "UnboxPlanner" "parent" "[I") ∈ lw_all := lw_g (lw_at lw_m1 40 rfl) rfl
theorem q58 : (Jvm.Cond.soleField "UnboxPlanner" "parent") ∈ lw_all := lw_g (lw_at lw_m1 41 rfl) rfl
theorem q59 : (Jvm.Cond.laysFinal "UnboxPlanner" "UnboxPlanner" "queue" "[I") ∈ lw_all := lw_g (lw_at lw_m1 42 rfl) rfl
theorem q60 : (Jvm.Cond.soleField "UnboxPlanner" "queue") ∈ lw_all := lw_g (lw_at lw_m1 43 rfl) rfl
theorem q61 : (Jvm.Cond.lays "UnboxPlanner" "UnboxPlanner" "n" "I") ∈ lw_all := lw_g (lw_at lw_m1 44 rfl) rfl
theorem q62 : (Jvm.Cond.soleField "UnboxPlanner" "n") ∈ lw_all := lw_g (lw_at lw_m1 45 rfl) rfl
theorem q63 : (Jvm.Cond.lays "UnboxPlanner" "UnboxPlanner" "count" "I") ∈ lw_all := lw_g (lw_at lw_m1 46 rfl) rfl
theorem q64 : (Jvm.Cond.soleField "UnboxPlanner" "count") ∈ lw_all := lw_g (lw_at lw_m1 47 rfl) rfl
theorem q65 : (Jvm.Cond.lays "UnboxPlanner" "UnboxPlanner" "skipped" "I") ∈ lw_all := lw_g (lw_at lw_m1 48 rfl) rfl
theorem q66 : (Jvm.Cond.soleField "UnboxPlanner" "skipped") ∈ lw_all := lw_g (lw_at lw_m1 49 rfl) rfl
theorem q67 : (Jvm.Cond.superclass "UnboxPlanner" "java/lang/Object") ∈ lw_all := lw_g (lw_at lw_m1 50 rfl) rfl
theorem q70 : (Jvm.Cond.instanceMethod ({ cls := "UnboxPlanner", name := "values", desc := "()I" } : Jvm.MethodName)) ∈ lw_all := lw_g (lw_at lw_m1 53 rfl) rfl
theorem q71 : (Jvm.Cond.selects "UnboxPlanner" ({ cls := "UnboxPlanner", name := "values", desc := "()I" } : Jvm.MethodName) ({ cls := "UnboxPlanner", name := "values", desc := "()I" } : Jvm.MethodName)) ∈ lw_all := lw_g (lw_at lw_m1 54 rfl) rfl
theorem q72 : (Jvm.Cond.code ({ cls := "UnboxPlanner", name := "values", desc := "()I" } : Jvm.MethodName) prog_1_method_2_code (1 : Nat) (Option.some Jvm.ClassFile.FieldType.int)) ∈ lw_all := lw_g (lw_at lw_m1 55 rfl) rfl
theorem q74 : (Jvm.Cond.instanceMethod ({ cls := "UnboxPlanner", name := "cost", desc := "(III)I" } : Jvm.MethodName)) ∈ lw_all := lw_g (lw_at lw_m1 57 rfl) rfl
theorem q75 : (Jvm.Cond.selects "UnboxPlanner" ({ cls := "UnboxPlanner", name := "cost", desc := "(III)I" } : Jvm.MethodName) ({ cls := "UnboxPlanner", name := "cost", desc := "(III)I" } : Jvm.MethodName)) ∈ lw_all := lw_g (lw_at lw_m1 58 rfl) rfl
theorem q76 : (Jvm.Cond.code ({ cls := "UnboxPlanner", name := "cost", desc := "(III)I" } : Jvm.MethodName) prog_1_method_3_code (5 : Nat) (Option.some Jvm.ClassFile.FieldType.int)) ∈ lw_all := lw_g (lw_at lw_m1 59 rfl) rfl
theorem q77 : (Jvm.Cond.methodLink "UnboxPlanner" (47 : Nat) ({ cls := "UnboxPlanner", name := "isValue", desc := "(I)Z" } : Jvm.MethodName)) ∈ lw_all := lw_g (lw_at lw_m1 60 rfl) rfl
theorem q78 : (Jvm.Cond.privateMethod ({ cls := "UnboxPlanner", name := "isValue", desc := "(I)Z" } : Jvm.MethodName)) ∈ lw_tbl := lw_at lw_m1 61 rfl
theorem q79 : (Jvm.Cond.instanceMethod ({ cls := "UnboxPlanner", name := "isValue", desc := "(I)Z" } : Jvm.MethodName)) ∈ lw_all := lw_g (lw_at lw_m1 62 rfl) rfl
theorem q80 : (Jvm.Cond.code ({ cls := "UnboxPlanner", name := "isValue", desc := "(I)Z" } : Jvm.MethodName) prog_1_method_18_code (2 : Nat) (Option.some Jvm.ClassFile.FieldType.boolean)) ∈ lw_all := lw_g (lw_at lw_m1 63 rfl) rfl
theorem q82 : (Jvm.Cond.instanceMethod ({ cls := "UnboxPlanner", name := "flow", desc := "(IIII)I" } : Jvm.MethodName)) ∈ lw_all := lw_g (lw_at lw_m1 65 rfl) rfl
theorem q83 : (Jvm.Cond.selects "UnboxPlanner" ({ cls := "UnboxPlanner", name := "flow", desc := "(IIII)I" } : Jvm.MethodName) ({ cls := "UnboxPlanner", name := "flow", desc := "(IIII)I" } : Jvm.MethodName)) ∈ lw_all := lw_g (lw_at lw_m1 66 rfl) rfl
theorem q84 : (Jvm.Cond.code ({ cls := "UnboxPlanner", name := "flow", desc := "(IIII)I" } : Jvm.MethodName) prog_1_method_4_code (5 : Nat) (Option.some Jvm.ClassFile.FieldType.int)) ∈ lw_all := lw_g (lw_at lw_m1 67 rfl) rfl
theorem q86 : (Jvm.Cond.instanceMethod ({ cls := "UnboxPlanner", name := "cut", desc := "(I)I" } : Jvm.MethodName)) ∈ lw_all := lw_g (lw_at lw_m1 69 rfl) rfl
theorem q87 : (Jvm.Cond.selects "UnboxPlanner" ({ cls := "UnboxPlanner", name := "cut", desc := "(I)I" } : Jvm.MethodName) ({ cls := "UnboxPlanner", name := "cut", desc := "(I)I" } : Jvm.MethodName)) ∈ lw_all := lw_g (lw_at lw_m1 70 rfl) rfl
theorem q88 : (Jvm.Cond.code ({ cls := "UnboxPlanner", name := "cut", desc := "(I)I" } : Jvm.MethodName) prog_1_method_5_code (3 : Nat) (Option.some Jvm.ClassFile.FieldType.int)) ∈ lw_all := lw_g (lw_at lw_m1 71 rfl) rfl
theorem q89 : (Jvm.Cond.methodLink "UnboxPlanner" (54 : Nat) ({ cls := "UnboxPlanner", name := "isFlow", desc := "(I)Z" } : Jvm.MethodName)) ∈ lw_all := lw_g (lw_at lw_m1 72 rfl) rfl
theorem q90 : (Jvm.Cond.privateMethod ({ cls := "UnboxPlanner", name := "isFlow", desc := "(I)Z" } : Jvm.MethodName)) ∈ lw_tbl := lw_at lw_m1 73 rfl
theorem q91 : (Jvm.Cond.instanceMethod ({ cls := "UnboxPlanner", name := "isFlow", desc := "(I)Z" } : Jvm.MethodName)) ∈ lw_all := lw_g (lw_at lw_m1 74 rfl) rfl
theorem q92 : (Jvm.Cond.code ({ cls := "UnboxPlanner", name := "isFlow", desc := "(I)Z" } : Jvm.MethodName) prog_1_method_19_code (2 : Nat) (Option.some Jvm.ClassFile.FieldType.boolean)) ∈ lw_all := lw_g (lw_at lw_m1 75 rfl) rfl
theorem q94 : (Jvm.Cond.instanceMethod ({ cls := "UnboxPlanner", name := "fix", desc := "(II)I" } : Jvm.MethodName)) ∈ lw_all := lw_g (lw_at lw_m1 77 rfl) rfl
theorem q95 : (Jvm.Cond.selects "UnboxPlanner" ({ cls := "UnboxPlanner", name := "fix", desc := "(II)I" } : Jvm.MethodName) ({ cls := "UnboxPlanner", name := "fix", desc := "(II)I" } : Jvm.MethodName)) ∈ lw_all := lw_g (lw_at lw_m1 78 rfl) rfl
theorem q96 : (Jvm.Cond.code ({ cls := "UnboxPlanner", name := "fix", desc := "(II)I" } : Jvm.MethodName) prog_1_method_6_code (4 : Nat) (Option.some Jvm.ClassFile.FieldType.int)) ∈ lw_all := lw_g (lw_at lw_m1 79 rfl) rfl
theorem q98 : (Jvm.Cond.instanceMethod ({ cls := "UnboxPlanner", name := "flows", desc := "()I" } : Jvm.MethodName)) ∈ lw_all := lw_g (lw_at lw_m1 81 rfl) rfl
theorem q99 : (Jvm.Cond.selects "UnboxPlanner" ({ cls := "UnboxPlanner", name := "flows", desc := "()I" } : Jvm.MethodName) ({ cls := "UnboxPlanner", name := "flows", desc := "()I" } : Jvm.MethodName)) ∈ lw_all := lw_g (lw_at lw_m1 82 rfl) rfl
theorem q100 : (Jvm.Cond.code ({ cls := "UnboxPlanner", name := "flows", desc := "()I" } : Jvm.MethodName) prog_1_method_7_code (1 : Nat) (Option.some Jvm.ClassFile.FieldType.int)) ∈ lw_all := lw_g (lw_at lw_m1 83 rfl) rfl
theorem q102 : (Jvm.Cond.instanceMethod ({ cls := "UnboxPlanner", name := "costOf", desc := "(I)I" } : Jvm.MethodName)) ∈ lw_all := lw_g (lw_at lw_m1 85 rfl) rfl
theorem q103 : (Jvm.Cond.selects "UnboxPlanner" ({ cls := "UnboxPlanner", name := "costOf", desc := "(I)I" } : Jvm.MethodName) ({ cls := "UnboxPlanner", name := "costOf", desc := "(I)I" } : Jvm.MethodName)) ∈ lw_all := lw_g (lw_at lw_m1 86 rfl) rfl
theorem q104 : (Jvm.Cond.code ({ cls := "UnboxPlanner", name := "costOf", desc := "(I)I" } : Jvm.MethodName) prog_1_method_8_code (6 : Nat) (Option.some Jvm.ClassFile.FieldType.int)) ∈ lw_all := lw_g (lw_at lw_m1 87 rfl) rfl
theorem q105 : (Jvm.Cond.methodLink "UnboxPlanner" (57 : Nat) ({ cls := "UnboxPlanner", name := "isPlan", desc := "(I)Z" } : Jvm.MethodName)) ∈ lw_all := lw_g (lw_at lw_m1 88 rfl) rfl
theorem q106 : (Jvm.Cond.privateMethod ({ cls := "UnboxPlanner", name := "isPlan", desc := "(I)Z" } : Jvm.MethodName)) ∈ lw_tbl := lw_at lw_m1 89 rfl
theorem q107 : (Jvm.Cond.instanceMethod ({ cls := "UnboxPlanner", name := "isPlan", desc := "(I)Z" } : Jvm.MethodName)) ∈ lw_all := lw_g (lw_at lw_m1 90 rfl) rfl
theorem q108 : (Jvm.Cond.code ({ cls := "UnboxPlanner", name := "isPlan", desc := "(I)Z" } : Jvm.MethodName) prog_1_method_20_code (2 : Nat) (Option.some Jvm.ClassFile.FieldType.boolean)) ∈ lw_all := lw_g (lw_at lw_m1 91 rfl) rfl
theorem q110 : (Jvm.Cond.instanceMethod ({ cls := "UnboxPlanner", name := "best", desc := "()I" } : Jvm.MethodName)) ∈ lw_all := lw_g (lw_at lw_m1 93 rfl) rfl
theorem q111 : (Jvm.Cond.selects "UnboxPlanner" ({ cls := "UnboxPlanner", name := "best", desc := "()I" } : Jvm.MethodName) ({ cls := "UnboxPlanner", name := "best", desc := "()I" } : Jvm.MethodName)) ∈ lw_all := lw_g (lw_at lw_m1 94 rfl) rfl
theorem q112 : (Jvm.Cond.code ({ cls := "UnboxPlanner", name := "best", desc := "()I" } : Jvm.MethodName) prog_1_method_9_code (1 : Nat) (Option.some Jvm.ClassFile.FieldType.int)) ∈ lw_all := lw_g (lw_at lw_m1 95 rfl) rfl
theorem q113 : (Jvm.Cond.methodLink "UnboxPlanner" (60 : Nat) ({ cls := "UnboxPlanner", name := "takeFixed", desc := "()V" } : Jvm.MethodName)) ∈ lw_all := lw_g (lw_at lw_m1 96 rfl) rfl
theorem q114 : (Jvm.Cond.privateMethod ({ cls := "UnboxPlanner", name := "takeFixed", desc := "()V" } : Jvm.MethodName)) ∈ lw_tbl := lw_at lw_m1 97 rfl
theorem q115 : (Jvm.Cond.instanceMethod ({ cls := "UnboxPlanner", name := "takeFixed", desc := "()V" } : Jvm.MethodName)) ∈ lw_all := lw_g (lw_at lw_m1 98 rfl) rfl
theorem q116 : (Jvm.Cond.code ({ cls := "UnboxPlanner", name := "takeFixed", desc := "()V" } : Jvm.MethodName) prog_1_method_21_code (2 : Nat) (Option.none : Option Jvm.ClassFile.FieldType)) ∈ lw_all := lw_g (lw_at lw_m1 99 rfl) rfl
theorem q117 : (Jvm.Cond.methodLink "UnboxPlanner" (63 : Nat) ({ cls := "UnboxPlanner", name := "solve", desc := "()I" } : Jvm.MethodName)) ∈ lw_all := lw_g (lw_at lw_m1 100 rfl) rfl
theorem q118 : (Jvm.Cond.privateMethod ({ cls := "UnboxPlanner", name := "solve", desc := "()I" } : Jvm.MethodName)) ∈ lw_tbl := lw_at lw_m1 101 rfl
theorem q119 : (Jvm.Cond.instanceMethod ({ cls := "UnboxPlanner", name := "solve", desc := "()I" } : Jvm.MethodName)) ∈ lw_all := lw_g (lw_at lw_m1 102 rfl) rfl
theorem q120 : (Jvm.Cond.code ({ cls := "UnboxPlanner", name := "solve", desc := "()I" } : Jvm.MethodName) prog_1_method_22_code (3 : Nat) (Option.some Jvm.ClassFile.FieldType.int)) ∈ lw_all := lw_g (lw_at lw_m1 103 rfl) rfl
theorem q121 : (Jvm.Cond.constant "UnboxPlanner" (77 : Nat) (100000 : Int32)) ∈ lw_all := lw_g (lw_at lw_m1 104 rfl) rfl
theorem q122 : (Jvm.Cond.methodLink "UnboxPlanner" (78 : Nat) ({ cls := "UnboxPlanner", name := "search", desc := "()V" } : Jvm.MethodName)) ∈ lw_all := lw_g (lw_at lw_m1 105 rfl) rfl
theorem q123 : (Jvm.Cond.privateMethod ({ cls := "UnboxPlanner", name := "search", desc := "()V" } : Jvm.MethodName)) ∈ lw_tbl := lw_at lw_m1 106 rfl
theorem q124 : (Jvm.Cond.instanceMethod ({ cls := "UnboxPlanner", name := "search", desc := "()V" } : Jvm.MethodName)) ∈ lw_all := lw_g (lw_at lw_m1 107 rfl) rfl
theorem q125 : (Jvm.Cond.code ({ cls := "UnboxPlanner", name := "search", desc := "()V" } : Jvm.MethodName) prog_1_method_23_code (4 : Nat) (Option.none : Option Jvm.ClassFile.FieldType)) ∈ lw_all := lw_g (lw_at lw_m1 108 rfl) rfl
theorem q126 : (Jvm.Cond.methodLink "UnboxPlanner" (81 : Nat) ({ cls := "UnboxPlanner", name := "push", desc := "()I" } : Jvm.MethodName)) ∈ lw_all := lw_g (lw_at lw_m1 109 rfl) rfl
theorem q127 : (Jvm.Cond.privateMethod ({ cls := "UnboxPlanner", name := "push", desc := "()I" } : Jvm.MethodName)) ∈ lw_tbl := lw_at lw_m1 110 rfl
theorem q128 : (Jvm.Cond.instanceMethod ({ cls := "UnboxPlanner", name := "push", desc := "()I" } : Jvm.MethodName)) ∈ lw_all := lw_g (lw_at lw_m1 111 rfl) rfl
theorem q129 : (Jvm.Cond.code ({ cls := "UnboxPlanner", name := "push", desc := "()I" } : Jvm.MethodName) prog_1_method_24_code (5 : Nat) (Option.some Jvm.ClassFile.FieldType.int)) ∈ lw_all := lw_g (lw_at lw_m1 112 rfl) rfl
theorem q131 : (Jvm.Cond.instanceMethod ({ cls := "UnboxPlanner", name := "fewestBoxed", desc := "()I" } : Jvm.MethodName)) ∈ lw_all := lw_g (lw_at lw_m1 114 rfl) rfl
theorem q132 : (Jvm.Cond.selects "UnboxPlanner" ({ cls := "UnboxPlanner", name := "fewestBoxed", desc := "()I" } : Jvm.MethodName) ({ cls := "UnboxPlanner", name := "fewestBoxed", desc := "()I" } : Jvm.MethodName)) ∈ lw_all := lw_g (lw_at lw_m1 115 rfl) rfl
theorem q133 : (Jvm.Cond.code ({ cls := "UnboxPlanner", name := "fewestBoxed", desc := "()I" } : Jvm.MethodName) prog_1_method_10_code (1 : Nat) (Option.some Jvm.ClassFile.FieldType.int)) ∈ lw_all := lw_g (lw_at lw_m1 116 rfl) rfl
theorem q134 : (Jvm.Cond.methodLink "UnboxPlanner" (67 : Nat) ({ cls := "UnboxPlanner", name := "reachingSink", desc := "()I" } : Jvm.MethodName)) ∈ lw_all := lw_g (lw_at lw_m1 117 rfl) rfl
theorem q135 : (Jvm.Cond.privateMethod ({ cls := "UnboxPlanner", name := "reachingSink", desc := "()I" } : Jvm.MethodName)) ∈ lw_tbl := lw_at lw_m1 118 rfl
theorem q136 : (Jvm.Cond.instanceMethod ({ cls := "UnboxPlanner", name := "reachingSink", desc := "()I" } : Jvm.MethodName)) ∈ lw_all := lw_g (lw_at lw_m1 119 rfl) rfl
theorem q137 : (Jvm.Cond.code ({ cls := "UnboxPlanner", name := "reachingSink", desc := "()I" } : Jvm.MethodName) prog_1_method_26_code (4 : Nat) (Option.some Jvm.ClassFile.FieldType.int)) ∈ lw_all := lw_g (lw_at lw_m1 120 rfl) rfl
theorem q139 : (Jvm.Cond.instanceMethod ({ cls := "UnboxPlanner", name := "mostBoxed", desc := "()I" } : Jvm.MethodName)) ∈ lw_all := lw_g (lw_at lw_m1 122 rfl) rfl
theorem q140 : (Jvm.Cond.selects "UnboxPlanner" ({ cls := "UnboxPlanner", name := "mostBoxed", desc := "()I" } : Jvm.MethodName) ({ cls := "UnboxPlanner", name := "mostBoxed", desc := "()I" } : Jvm.MethodName)) ∈ lw_all := lw_g (lw_at lw_m1 123 rfl) rfl
theorem q141 : (Jvm.Cond.code ({ cls := "UnboxPlanner", name := "mostBoxed", desc := "()I" } : Jvm.MethodName) prog_1_method_11_code (1 : Nat) (Option.some Jvm.ClassFile.FieldType.int)) ∈ lw_all := lw_g (lw_at lw_m1 124 rfl) rfl
theorem q142 : (Jvm.Cond.methodLink "UnboxPlanner" (70 : Nat) ({ cls := "UnboxPlanner", name := "notFromSource", desc := "()I" } : Jvm.MethodName)) ∈ lw_all := lw_g (lw_at lw_m1 125 rfl) rfl
theorem q143 : (Jvm.Cond.privateMethod ({ cls := "UnboxPlanner", name := "notFromSource", desc := "()I" } : Jvm.MethodName)) ∈ lw_tbl := lw_at lw_m1 126 rfl
theorem q144 : (Jvm.Cond.instanceMethod ({ cls := "UnboxPlanner", name := "notFromSource", desc := "()I" } : Jvm.MethodName)) ∈ lw_all := lw_g (lw_at lw_m1 127 rfl) rfl
theorem q145 : (Jvm.Cond.code ({ cls := "UnboxPlanner", name := "notFromSource", desc := "()I" } : Jvm.MethodName) prog_1_method_25_code (3 : Nat) (Option.some Jvm.ClassFile.FieldType.int)) ∈ lw_all := lw_g (lw_at lw_m1 128 rfl) rfl
theorem q147 : (Jvm.Cond.instanceMethod ({ cls := "UnboxPlanner", name := "settled", desc := "(I)I" } : Jvm.MethodName)) ∈ lw_all := lw_g (lw_at lw_m1 130 rfl) rfl
theorem q148 : (Jvm.Cond.selects "UnboxPlanner" ({ cls := "UnboxPlanner", name := "settled", desc := "(I)I" } : Jvm.MethodName) ({ cls := "UnboxPlanner", name := "settled", desc := "(I)I" } : Jvm.MethodName)) ∈ lw_all := lw_g (lw_at lw_m1 131 rfl) rfl
theorem q149 : (Jvm.Cond.code ({ cls := "UnboxPlanner", name := "settled", desc := "(I)I" } : Jvm.MethodName) prog_1_method_12_code (2 : Nat) (Option.some Jvm.ClassFile.FieldType.int)) ∈ lw_all := lw_g (lw_at lw_m1 132 rfl) rfl
theorem q151 : (Jvm.Cond.instanceMethod ({ cls := "UnboxPlanner", name := "bestWith", desc := "(II)I" } : Jvm.MethodName)) ∈ lw_all := lw_g (lw_at lw_m1 134 rfl) rfl
theorem q152 : (Jvm.Cond.selects "UnboxPlanner" ({ cls := "UnboxPlanner", name := "bestWith", desc := "(II)I" } : Jvm.MethodName) ({ cls := "UnboxPlanner", name := "bestWith", desc := "(II)I" } : Jvm.MethodName)) ∈ lw_all := lw_g (lw_at lw_m1 135 rfl) rfl
theorem q153 : (Jvm.Cond.code ({ cls := "UnboxPlanner", name := "bestWith", desc := "(II)I" } : Jvm.MethodName) prog_1_method_13_code (3 : Nat) (Option.some Jvm.ClassFile.FieldType.int)) ∈ lw_all := lw_g (lw_at lw_m1 136 rfl) rfl
theorem q155 : (Jvm.Cond.instanceMethod ({ cls := "UnboxPlanner", name := "bestTied", desc := "(III)I" } : Jvm.MethodName)) ∈ lw_all := lw_g (lw_at lw_m1 138 rfl) rfl
theorem q156 : (Jvm.Cond.selects "UnboxPlanner" ({ cls := "UnboxPlanner", name := "bestTied", desc := "(III)I" } : Jvm.MethodName) ({ cls := "UnboxPlanner", name := "bestTied", desc := "(III)I" } : Jvm.MethodName)) ∈ lw_all := lw_g (lw_at lw_m1 139 rfl) rfl
theorem q157 : (Jvm.Cond.code ({ cls := "UnboxPlanner", name := "bestTied", desc := "(III)I" } : Jvm.MethodName) prog_1_method_14_code (9 : Nat) (Option.some Jvm.ClassFile.FieldType.int)) ∈ lw_all := lw_g (lw_at lw_m1 140 rfl) rfl
theorem q159 : (Jvm.Cond.instanceMethod ({ cls := "UnboxPlanner", name := "saving", desc := "(I)I" } : Jvm.MethodName)) ∈ lw_all := lw_g (lw_at lw_m1 142 rfl) rfl
theorem q160 : (Jvm.Cond.selects "UnboxPlanner" ({ cls := "UnboxPlanner", name := "saving", desc := "(I)I" } : Jvm.MethodName) ({ cls := "UnboxPlanner", name := "saving", desc := "(I)I" } : Jvm.MethodName)) ∈ lw_all := lw_g (lw_at lw_m1 143 rfl) rfl
theorem q161 : (Jvm.Cond.code ({ cls := "UnboxPlanner", name := "saving", desc := "(I)I" } : Jvm.MethodName) prog_1_method_15_code (4 : Nat) (Option.some Jvm.ClassFile.FieldType.int)) ∈ lw_all := lw_g (lw_at lw_m1 144 rfl) rfl
theorem q163 : (Jvm.Cond.instanceMethod ({ cls := "UnboxPlanner", name := "isBest", desc := "(I)I" } : Jvm.MethodName)) ∈ lw_all := lw_g (lw_at lw_m1 146 rfl) rfl
theorem q164 : (Jvm.Cond.selects "UnboxPlanner" ({ cls := "UnboxPlanner", name := "isBest", desc := "(I)I" } : Jvm.MethodName) ({ cls := "UnboxPlanner", name := "isBest", desc := "(I)I" } : Jvm.MethodName)) ∈ lw_all := lw_g (lw_at lw_m1 147 rfl) rfl
theorem q165 : (Jvm.Cond.code ({ cls := "UnboxPlanner", name := "isBest", desc := "(I)I" } : Jvm.MethodName) prog_1_method_16_code (3 : Nat) (Option.some Jvm.ClassFile.FieldType.int)) ∈ lw_all := lw_g (lw_at lw_m1 148 rfl) rfl
theorem q166 : (Jvm.Cond.methodLink "UnboxPlanner" (73 : Nat) ({ cls := "UnboxPlanner", name := "costOf", desc := "(I)I" } : Jvm.MethodName)) ∈ lw_all := lw_g (lw_at lw_m1 149 rfl) rfl
theorem q168 : (Jvm.Cond.instanceMethod ({ cls := "UnboxPlanner", name := "settledCount", desc := "()I" } : Jvm.MethodName)) ∈ lw_all := lw_g (lw_at lw_m1 151 rfl) rfl
theorem q169 : (Jvm.Cond.selects "UnboxPlanner" ({ cls := "UnboxPlanner", name := "settledCount", desc := "()I" } : Jvm.MethodName) ({ cls := "UnboxPlanner", name := "settledCount", desc := "()I" } : Jvm.MethodName)) ∈ lw_all := lw_g (lw_at lw_m1 152 rfl) rfl
theorem q170 : (Jvm.Cond.code ({ cls := "UnboxPlanner", name := "settledCount", desc := "()I" } : Jvm.MethodName) prog_1_method_17_code (4 : Nat) (Option.some Jvm.ClassFile.FieldType.int)) ∈ lw_all := lw_g (lw_at lw_m1 153 rfl) rfl
theorem in_X1 : ∀ w ∈ wsX10, w ∈ lw_all := lw_in wsX10 [41, 43, 45, 47, 49, 51, 53, 55, 57, 59, 61, 63, 65] (by decide +kernel) (by decide +kernel)
end
section
/-! UnboxPlannerModel -/
set_option maxRecDepth 100000
def RX2 : String := "UnboxPlannerModel"
def TX2 : u_T := fun k => match k with
  | 0 => ("UnboxPlannerModel", "n", "I", false)
  | 1 => ("UnboxPlannerModel", "plans", "I", false)
  | 2 => ("UnboxPlannerModel", "price", "[I", false)
  | 3 => ("UnboxPlannerModel", "fixed", "[I", false)
  | 4 => ("UnboxPlannerModel", "count", "I", false)
  | 5 => ("UnboxPlannerModel", "from", "[I", false)
  | 6 => ("UnboxPlannerModel", "to", "[I", false)
  | 7 => ("UnboxPlannerModel", "boxing", "[I", false)
  | _ => ("UnboxPlannerModel", "unboxing", "[I", false)
def tyX2 : Nat → FieldType := fun k => match k with
  | 0 => .int
  | 1 => .int
  | 2 => .array .int
  | 3 => .array .int
  | 4 => .int
  | 5 => .array .int
  | 6 => .array .int
  | 7 => .array .int
  | _ => .array .int
abbrev wsX20 : List Cond := u_ws RX2 TX2 9
theorem nmX2 : ∀ a, a < 9 → ∀ b, b < 9 → a ≠ b → (TX2 a).2.1 ≠ (TX2 b).2.1 := by decide +kernel
theorem tyX2_ok : ∀ k, k < 9 → parseFieldDescriptor (TX2 k).2.2.1 = some (tyX2 k) := by decide +kernel
abbrev cX2_init : ByteArray := prog_3_method_1_code
def yX2_init : MethodName := ⟨RX2, "<init>", "(I)V"⟩
theorem dX2_init_0 : decode cX2_init 0 = .ok (.aload_n 0, 1) := by decide +kernel
theorem dX2_init_1 : decode cX2_init 1 = .ok (.invokespecial 1, 3) := by decide +kernel
theorem dX2_init_4 : decode cX2_init 4 = .ok (.aload_n 0, 1) := by decide +kernel
theorem dX2_init_5 : decode cX2_init 5 = .ok (.bipush 20, 2) := by decide +kernel
theorem dX2_init_7 : decode cX2_init 7 = .ok (.newarray .int, 2) := by decide +kernel
theorem dX2_init_9 : decode cX2_init 9 = .ok (.putfield 7, 3) := by decide +kernel
theorem dX2_init_12 : decode cX2_init 12 = .ok (.aload_n 0, 1) := by decide +kernel
theorem dX2_init_13 : decode cX2_init 13 = .ok (.bipush 10, 2) := by decide +kernel
theorem dX2_init_15 : decode cX2_init 15 = .ok (.newarray .int, 2) := by decide +kernel
theorem dX2_init_17 : decode cX2_init 17 = .ok (.putfield 13, 3) := by decide +kernel
theorem dX2_init_20 : decode cX2_init 20 = .ok (.aload_n 0, 1) := by decide +kernel
theorem dX2_init_21 : decode cX2_init 21 = .ok (.bipush 20, 2) := by decide +kernel
theorem dX2_init_23 : decode cX2_init 23 = .ok (.newarray .int, 2) := by decide +kernel
theorem dX2_init_25 : decode cX2_init 25 = .ok (.putfield 16, 3) := by decide +kernel
theorem dX2_init_28 : decode cX2_init 28 = .ok (.aload_n 0, 1) := by decide +kernel
theorem dX2_init_29 : decode cX2_init 29 = .ok (.bipush 20, 2) := by decide +kernel
theorem dX2_init_31 : decode cX2_init 31 = .ok (.newarray .int, 2) := by decide +kernel
theorem dX2_init_33 : decode cX2_init 33 = .ok (.putfield 19, 3) := by decide +kernel
theorem dX2_init_36 : decode cX2_init 36 = .ok (.aload_n 0, 1) := by decide +kernel
theorem dX2_init_37 : decode cX2_init 37 = .ok (.bipush 20, 2) := by decide +kernel
theorem dX2_init_39 : decode cX2_init 39 = .ok (.newarray .int, 2) := by decide +kernel
theorem dX2_init_41 : decode cX2_init 41 = .ok (.putfield 22, 3) := by decide +kernel
theorem dX2_init_44 : decode cX2_init 44 = .ok (.aload_n 0, 1) := by decide +kernel
theorem dX2_init_45 : decode cX2_init 45 = .ok (.bipush 20, 2) := by decide +kernel
theorem dX2_init_47 : decode cX2_init 47 = .ok (.newarray .int, 2) := by decide +kernel
theorem dX2_init_49 : decode cX2_init 49 = .ok (.putfield 25, 3) := by decide +kernel
theorem dX2_init_52 : decode cX2_init 52 = .ok (.aload_n 0, 1) := by decide +kernel
theorem dX2_init_53 : decode cX2_init 53 = .ok (.iload_n 1, 1) := by decide +kernel
theorem dX2_init_54 : decode cX2_init 54 = .ok (.iconst 2, 1) := by decide +kernel
theorem dX2_init_55 : decode cX2_init 55 = .ok (.if_icmp .ge 7, 3) := by decide +kernel
theorem dX2_init_58 : decode cX2_init 58 = .ok (.iconst 2, 1) := by decide +kernel
theorem dX2_init_59 : decode cX2_init 59 = .ok (.goto 15, 3) := by decide +kernel
theorem dX2_init_62 : decode cX2_init 62 = .ok (.iload_n 1, 1) := by decide +kernel
theorem dX2_init_63 : decode cX2_init 63 = .ok (.bipush 10, 2) := by decide +kernel
theorem dX2_init_65 : decode cX2_init 65 = .ok (.if_icmp .le 8, 3) := by decide +kernel
theorem dX2_init_68 : decode cX2_init 68 = .ok (.bipush 10, 2) := by decide +kernel
theorem dX2_init_70 : decode cX2_init 70 = .ok (.goto 4, 3) := by decide +kernel
theorem dX2_init_73 : decode cX2_init 73 = .ok (.iload_n 1, 1) := by decide +kernel
theorem dX2_init_74 : decode cX2_init 74 = .ok (.putfield 28, 3) := by decide +kernel
theorem dX2_init_77 : decode cX2_init 77 = .ok (.aload_n 0, 1) := by decide +kernel
theorem dX2_init_78 : decode cX2_init 78 = .ok (.iconst 1, 1) := by decide +kernel
theorem dX2_init_79 : decode cX2_init 79 = .ok (.aload_n 0, 1) := by decide +kernel
theorem dX2_init_80 : decode cX2_init 80 = .ok (.getfield 28, 3) := by decide +kernel
theorem dX2_init_83 : decode cX2_init 83 = .ok (.ishl, 1) := by decide +kernel
theorem dX2_init_84 : decode cX2_init 84 = .ok (.putfield 32, 3) := by decide +kernel
theorem dX2_init_87 : decode cX2_init 87 = .ok (.iconst 0, 1) := by decide +kernel
theorem dX2_init_88 : decode cX2_init 88 = .ok (.istore_n 2, 1) := by decide +kernel
theorem dX2_init_89 : decode cX2_init 89 = .ok (.iload_n 2, 1) := by decide +kernel
theorem dX2_init_90 : decode cX2_init 90 = .ok (.bipush 10, 2) := by decide +kernel
theorem dX2_init_92 : decode cX2_init 92 = .ok (.if_icmp .ge 16, 3) := by decide +kernel
theorem dX2_init_95 : decode cX2_init 95 = .ok (.aload_n 0, 1) := by decide +kernel
theorem dX2_init_96 : decode cX2_init 96 = .ok (.getfield 13, 3) := by decide +kernel
theorem dX2_init_99 : decode cX2_init 99 = .ok (.iload_n 2, 1) := by decide +kernel
theorem dX2_init_100 : decode cX2_init 100 = .ok (.iconst 2, 1) := by decide +kernel
theorem dX2_init_101 : decode cX2_init 101 = .ok (.iastore, 1) := by decide +kernel
theorem dX2_init_102 : decode cX2_init 102 = .ok (.iinc 2 1, 3) := by decide +kernel
theorem dX2_init_105 : decode cX2_init 105 = .ok (.goto (-16), 3) := by decide +kernel
theorem dX2_init_108 : decode cX2_init 108 = .ok (.return_, 1) := by decide +kernel
abbrev cX2_values : ByteArray := prog_3_method_2_code
def yX2_values : MethodName := ⟨RX2, "values", "()I"⟩
theorem dX2_values_0 : decode cX2_values 0 = .ok (.aload_n 0, 1) := by decide +kernel
theorem dX2_values_1 : decode cX2_values 1 = .ok (.getfield 28, 3) := by decide +kernel
theorem dX2_values_4 : decode cX2_values 4 = .ok (.ireturn, 1) := by decide +kernel
abbrev cX2_cost : ByteArray := prog_3_method_6_code
def yX2_cost : MethodName := ⟨RX2, "cost", "(III)I"⟩
theorem dX2_cost_0 : decode cX2_cost 0 = .ok (.aload_n 0, 1) := by decide +kernel
theorem dX2_cost_1 : decode cX2_cost 1 = .ok (.iload_n 1, 1) := by decide +kernel
theorem dX2_cost_2 : decode cX2_cost 2 = .ok (.invokevirtual 38, 3) := by decide +kernel
theorem dX2_cost_5 : decode cX2_cost 5 = .ok (.ifCond .eq 5, 3) := by decide +kernel
theorem dX2_cost_8 : decode cX2_cost 8 = .ok (.iconst (-1), 1) := by decide +kernel
theorem dX2_cost_9 : decode cX2_cost 9 = .ok (.ireturn, 1) := by decide +kernel
theorem dX2_cost_10 : decode cX2_cost 10 = .ok (.iload_n 2, 1) := by decide +kernel
theorem dX2_cost_11 : decode cX2_cost 11 = .ok (.ifCond .eq 11, 3) := by decide +kernel
theorem dX2_cost_14 : decode cX2_cost 14 = .ok (.iload_n 2, 1) := by decide +kernel
theorem dX2_cost_15 : decode cX2_cost 15 = .ok (.iconst 1, 1) := by decide +kernel
theorem dX2_cost_16 : decode cX2_cost 16 = .ok (.if_icmp .eq 6, 3) := by decide +kernel
theorem dX2_cost_19 : decode cX2_cost 19 = .ok (.bipush (-2), 2) := by decide +kernel
theorem dX2_cost_21 : decode cX2_cost 21 = .ok (.ireturn, 1) := by decide +kernel
theorem dX2_cost_22 : decode cX2_cost 22 = .ok (.iload_n 3, 1) := by decide +kernel
theorem dX2_cost_23 : decode cX2_cost 23 = .ok (.ifCond .lt 9, 3) := by decide +kernel
theorem dX2_cost_26 : decode cX2_cost 26 = .ok (.iload_n 3, 1) := by decide +kernel
theorem dX2_cost_27 : decode cX2_cost 27 = .ok (.bipush 60, 2) := by decide +kernel
theorem dX2_cost_29 : decode cX2_cost 29 = .ok (.if_icmp .le 6, 3) := by decide +kernel
theorem dX2_cost_32 : decode cX2_cost 32 = .ok (.bipush (-3), 2) := by decide +kernel
theorem dX2_cost_34 : decode cX2_cost 34 = .ok (.ireturn, 1) := by decide +kernel
theorem dX2_cost_35 : decode cX2_cost 35 = .ok (.aload_n 0, 1) := by decide +kernel
theorem dX2_cost_36 : decode cX2_cost 36 = .ok (.getfield 7, 3) := by decide +kernel
theorem dX2_cost_39 : decode cX2_cost 39 = .ok (.iconst 2, 1) := by decide +kernel
theorem dX2_cost_40 : decode cX2_cost 40 = .ok (.iload_n 1, 1) := by decide +kernel
theorem dX2_cost_41 : decode cX2_cost 41 = .ok (.imul, 1) := by decide +kernel
theorem dX2_cost_42 : decode cX2_cost 42 = .ok (.iload_n 2, 1) := by decide +kernel
theorem dX2_cost_43 : decode cX2_cost 43 = .ok (.iadd, 1) := by decide +kernel
theorem dX2_cost_44 : decode cX2_cost 44 = .ok (.iaload, 1) := by decide +kernel
theorem dX2_cost_45 : decode cX2_cost 45 = .ok (.istore 4, 2) := by decide +kernel
theorem dX2_cost_47 : decode cX2_cost 47 = .ok (.aload_n 0, 1) := by decide +kernel
theorem dX2_cost_48 : decode cX2_cost 48 = .ok (.getfield 7, 3) := by decide +kernel
theorem dX2_cost_51 : decode cX2_cost 51 = .ok (.iconst 2, 1) := by decide +kernel
theorem dX2_cost_52 : decode cX2_cost 52 = .ok (.iload_n 1, 1) := by decide +kernel
theorem dX2_cost_53 : decode cX2_cost 53 = .ok (.imul, 1) := by decide +kernel
theorem dX2_cost_54 : decode cX2_cost 54 = .ok (.iload_n 2, 1) := by decide +kernel
theorem dX2_cost_55 : decode cX2_cost 55 = .ok (.iadd, 1) := by decide +kernel
theorem dX2_cost_56 : decode cX2_cost 56 = .ok (.iload_n 3, 1) := by decide +kernel
theorem dX2_cost_57 : decode cX2_cost 57 = .ok (.iastore, 1) := by decide +kernel
theorem dX2_cost_58 : decode cX2_cost 58 = .ok (.iload 4, 2) := by decide +kernel
theorem dX2_cost_60 : decode cX2_cost 60 = .ok (.ireturn, 1) := by decide +kernel
abbrev cX2_bad : ByteArray := prog_3_method_3_code
def yX2_bad : MethodName := ⟨RX2, "bad", "(I)Z"⟩
theorem dX2_bad_0 : decode cX2_bad 0 = .ok (.iload_n 1, 1) := by decide +kernel
theorem dX2_bad_1 : decode cX2_bad 1 = .ok (.ifCond .lt 17, 3) := by decide +kernel
theorem dX2_bad_4 : decode cX2_bad 4 = .ok (.iload_n 1, 1) := by decide +kernel
theorem dX2_bad_5 : decode cX2_bad 5 = .ok (.aload_n 0, 1) := by decide +kernel
theorem dX2_bad_6 : decode cX2_bad 6 = .ok (.getfield 28, 3) := by decide +kernel
theorem dX2_bad_9 : decode cX2_bad 9 = .ok (.if_icmp .ge 9, 3) := by decide +kernel
theorem dX2_bad_12 : decode cX2_bad 12 = .ok (.iload_n 1, 1) := by decide +kernel
theorem dX2_bad_13 : decode cX2_bad 13 = .ok (.bipush 10, 2) := by decide +kernel
theorem dX2_bad_15 : decode cX2_bad 15 = .ok (.if_icmp .lt 7, 3) := by decide +kernel
theorem dX2_bad_18 : decode cX2_bad 18 = .ok (.iconst 1, 1) := by decide +kernel
theorem dX2_bad_19 : decode cX2_bad 19 = .ok (.goto 4, 3) := by decide +kernel
theorem dX2_bad_22 : decode cX2_bad 22 = .ok (.iconst 0, 1) := by decide +kernel
theorem dX2_bad_23 : decode cX2_bad 23 = .ok (.ireturn, 1) := by decide +kernel
abbrev cX2_flow : ByteArray := prog_3_method_7_code
def yX2_flow : MethodName := ⟨RX2, "flow", "(IIII)I"⟩
theorem dX2_flow_0 : decode cX2_flow 0 = .ok (.aload_n 0, 1) := by decide +kernel
theorem dX2_flow_1 : decode cX2_flow 1 = .ok (.iload_n 1, 1) := by decide +kernel
theorem dX2_flow_2 : decode cX2_flow 2 = .ok (.invokevirtual 38, 3) := by decide +kernel
theorem dX2_flow_5 : decode cX2_flow 5 = .ok (.ifCond .ne 11, 3) := by decide +kernel
theorem dX2_flow_8 : decode cX2_flow 8 = .ok (.aload_n 0, 1) := by decide +kernel
theorem dX2_flow_9 : decode cX2_flow 9 = .ok (.iload_n 2, 1) := by decide +kernel
theorem dX2_flow_10 : decode cX2_flow 10 = .ok (.invokevirtual 38, 3) := by decide +kernel
theorem dX2_flow_13 : decode cX2_flow 13 = .ok (.ifCond .eq 5, 3) := by decide +kernel
theorem dX2_flow_16 : decode cX2_flow 16 = .ok (.iconst (-1), 1) := by decide +kernel
theorem dX2_flow_17 : decode cX2_flow 17 = .ok (.ireturn, 1) := by decide +kernel
theorem dX2_flow_18 : decode cX2_flow 18 = .ok (.iload_n 1, 1) := by decide +kernel
theorem dX2_flow_19 : decode cX2_flow 19 = .ok (.iload_n 2, 1) := by decide +kernel
theorem dX2_flow_20 : decode cX2_flow 20 = .ok (.if_icmp .ne 6, 3) := by decide +kernel
theorem dX2_flow_23 : decode cX2_flow 23 = .ok (.bipush (-2), 2) := by decide +kernel
theorem dX2_flow_25 : decode cX2_flow 25 = .ok (.ireturn, 1) := by decide +kernel
theorem dX2_flow_26 : decode cX2_flow 26 = .ok (.iload_n 3, 1) := by decide +kernel
theorem dX2_flow_27 : decode cX2_flow 27 = .ok (.ifCond .lt 21, 3) := by decide +kernel
theorem dX2_flow_30 : decode cX2_flow 30 = .ok (.iload_n 3, 1) := by decide +kernel
theorem dX2_flow_31 : decode cX2_flow 31 = .ok (.bipush 30, 2) := by decide +kernel
theorem dX2_flow_33 : decode cX2_flow 33 = .ok (.if_icmp .gt 15, 3) := by decide +kernel
theorem dX2_flow_36 : decode cX2_flow 36 = .ok (.iload 4, 2) := by decide +kernel
theorem dX2_flow_38 : decode cX2_flow 38 = .ok (.ifCond .lt 10, 3) := by decide +kernel
theorem dX2_flow_41 : decode cX2_flow 41 = .ok (.iload 4, 2) := by decide +kernel
theorem dX2_flow_43 : decode cX2_flow 43 = .ok (.bipush 30, 2) := by decide +kernel
theorem dX2_flow_45 : decode cX2_flow 45 = .ok (.if_icmp .le 6, 3) := by decide +kernel
theorem dX2_flow_48 : decode cX2_flow 48 = .ok (.bipush (-3), 2) := by decide +kernel
theorem dX2_flow_50 : decode cX2_flow 50 = .ok (.ireturn, 1) := by decide +kernel
theorem dX2_flow_51 : decode cX2_flow 51 = .ok (.aload_n 0, 1) := by decide +kernel
theorem dX2_flow_52 : decode cX2_flow 52 = .ok (.getfield 35, 3) := by decide +kernel
theorem dX2_flow_55 : decode cX2_flow 55 = .ok (.istore 5, 2) := by decide +kernel
theorem dX2_flow_57 : decode cX2_flow 57 = .ok (.iload 5, 2) := by decide +kernel
theorem dX2_flow_59 : decode cX2_flow 59 = .ok (.bipush 20, 2) := by decide +kernel
theorem dX2_flow_61 : decode cX2_flow 61 = .ok (.if_icmp .lt 6, 3) := by decide +kernel
theorem dX2_flow_64 : decode cX2_flow 64 = .ok (.bipush (-4), 2) := by decide +kernel
theorem dX2_flow_66 : decode cX2_flow 66 = .ok (.ireturn, 1) := by decide +kernel
theorem dX2_flow_67 : decode cX2_flow 67 = .ok (.aload_n 0, 1) := by decide +kernel
theorem dX2_flow_68 : decode cX2_flow 68 = .ok (.getfield 16, 3) := by decide +kernel
theorem dX2_flow_71 : decode cX2_flow 71 = .ok (.iload 5, 2) := by decide +kernel
theorem dX2_flow_73 : decode cX2_flow 73 = .ok (.iload_n 1, 1) := by decide +kernel
theorem dX2_flow_74 : decode cX2_flow 74 = .ok (.iastore, 1) := by decide +kernel
theorem dX2_flow_75 : decode cX2_flow 75 = .ok (.aload_n 0, 1) := by decide +kernel
theorem dX2_flow_76 : decode cX2_flow 76 = .ok (.getfield 19, 3) := by decide +kernel
theorem dX2_flow_79 : decode cX2_flow 79 = .ok (.iload 5, 2) := by decide +kernel
theorem dX2_flow_81 : decode cX2_flow 81 = .ok (.iload_n 2, 1) := by decide +kernel
theorem dX2_flow_82 : decode cX2_flow 82 = .ok (.iastore, 1) := by decide +kernel
theorem dX2_flow_83 : decode cX2_flow 83 = .ok (.aload_n 0, 1) := by decide +kernel
theorem dX2_flow_84 : decode cX2_flow 84 = .ok (.getfield 22, 3) := by decide +kernel
theorem dX2_flow_87 : decode cX2_flow 87 = .ok (.iload 5, 2) := by decide +kernel
theorem dX2_flow_89 : decode cX2_flow 89 = .ok (.iload_n 3, 1) := by decide +kernel
theorem dX2_flow_90 : decode cX2_flow 90 = .ok (.iastore, 1) := by decide +kernel
theorem dX2_flow_91 : decode cX2_flow 91 = .ok (.aload_n 0, 1) := by decide +kernel
theorem dX2_flow_92 : decode cX2_flow 92 = .ok (.getfield 25, 3) := by decide +kernel
theorem dX2_flow_95 : decode cX2_flow 95 = .ok (.iload 5, 2) := by decide +kernel
theorem dX2_flow_97 : decode cX2_flow 97 = .ok (.iload 4, 2) := by decide +kernel
theorem dX2_flow_99 : decode cX2_flow 99 = .ok (.iastore, 1) := by decide +kernel
theorem dX2_flow_100 : decode cX2_flow 100 = .ok (.aload_n 0, 1) := by decide +kernel
theorem dX2_flow_101 : decode cX2_flow 101 = .ok (.iload 5, 2) := by decide +kernel
theorem dX2_flow_103 : decode cX2_flow 103 = .ok (.iconst 1, 1) := by decide +kernel
theorem dX2_flow_104 : decode cX2_flow 104 = .ok (.iadd, 1) := by decide +kernel
theorem dX2_flow_105 : decode cX2_flow 105 = .ok (.putfield 35, 3) := by decide +kernel
theorem dX2_flow_108 : decode cX2_flow 108 = .ok (.iload 5, 2) := by decide +kernel
theorem dX2_flow_110 : decode cX2_flow 110 = .ok (.ireturn, 1) := by decide +kernel
abbrev cX2_cut : ByteArray := prog_3_method_8_code
def yX2_cut : MethodName := ⟨RX2, "cut", "(I)I"⟩
theorem dX2_cut_0 : decode cX2_cut 0 = .ok (.aload_n 0, 1) := by decide +kernel
theorem dX2_cut_1 : decode cX2_cut 1 = .ok (.iload_n 1, 1) := by decide +kernel
theorem dX2_cut_2 : decode cX2_cut 2 = .ok (.invokevirtual 42, 3) := by decide +kernel
theorem dX2_cut_5 : decode cX2_cut 5 = .ok (.ifCond .eq 5, 3) := by decide +kernel
theorem dX2_cut_8 : decode cX2_cut 8 = .ok (.iconst (-1), 1) := by decide +kernel
theorem dX2_cut_9 : decode cX2_cut 9 = .ok (.ireturn, 1) := by decide +kernel
theorem dX2_cut_10 : decode cX2_cut 10 = .ok (.iload_n 1, 1) := by decide +kernel
theorem dX2_cut_11 : decode cX2_cut 11 = .ok (.istore_n 2, 1) := by decide +kernel
theorem dX2_cut_12 : decode cX2_cut 12 = .ok (.iload_n 2, 1) := by decide +kernel
theorem dX2_cut_13 : decode cX2_cut 13 = .ok (.aload_n 0, 1) := by decide +kernel
theorem dX2_cut_14 : decode cX2_cut 14 = .ok (.getfield 35, 3) := by decide +kernel
theorem dX2_cut_17 : decode cX2_cut 17 = .ok (.iconst 1, 1) := by decide +kernel
theorem dX2_cut_18 : decode cX2_cut 18 = .ok (.isub, 1) := by decide +kernel
theorem dX2_cut_19 : decode cX2_cut 19 = .ok (.if_icmp .ge 71, 3) := by decide +kernel
theorem dX2_cut_22 : decode cX2_cut 22 = .ok (.iload_n 2, 1) := by decide +kernel
theorem dX2_cut_23 : decode cX2_cut 23 = .ok (.bipush 19, 2) := by decide +kernel
theorem dX2_cut_25 : decode cX2_cut 25 = .ok (.if_icmp .ge 65, 3) := by decide +kernel
theorem dX2_cut_28 : decode cX2_cut 28 = .ok (.aload_n 0, 1) := by decide +kernel
theorem dX2_cut_29 : decode cX2_cut 29 = .ok (.getfield 16, 3) := by decide +kernel
theorem dX2_cut_32 : decode cX2_cut 32 = .ok (.iload_n 2, 1) := by decide +kernel
theorem dX2_cut_33 : decode cX2_cut 33 = .ok (.aload_n 0, 1) := by decide +kernel
theorem dX2_cut_34 : decode cX2_cut 34 = .ok (.getfield 16, 3) := by decide +kernel
theorem dX2_cut_37 : decode cX2_cut 37 = .ok (.iload_n 2, 1) := by decide +kernel
theorem dX2_cut_38 : decode cX2_cut 38 = .ok (.iconst 1, 1) := by decide +kernel
theorem dX2_cut_39 : decode cX2_cut 39 = .ok (.iadd, 1) := by decide +kernel
theorem dX2_cut_40 : decode cX2_cut 40 = .ok (.iaload, 1) := by decide +kernel
theorem dX2_cut_41 : decode cX2_cut 41 = .ok (.iastore, 1) := by decide +kernel
theorem dX2_cut_42 : decode cX2_cut 42 = .ok (.aload_n 0, 1) := by decide +kernel
theorem dX2_cut_43 : decode cX2_cut 43 = .ok (.getfield 19, 3) := by decide +kernel
theorem dX2_cut_46 : decode cX2_cut 46 = .ok (.iload_n 2, 1) := by decide +kernel
theorem dX2_cut_47 : decode cX2_cut 47 = .ok (.aload_n 0, 1) := by decide +kernel
theorem dX2_cut_48 : decode cX2_cut 48 = .ok (.getfield 19, 3) := by decide +kernel
theorem dX2_cut_51 : decode cX2_cut 51 = .ok (.iload_n 2, 1) := by decide +kernel
theorem dX2_cut_52 : decode cX2_cut 52 = .ok (.iconst 1, 1) := by decide +kernel
theorem dX2_cut_53 : decode cX2_cut 53 = .ok (.iadd, 1) := by decide +kernel
theorem dX2_cut_54 : decode cX2_cut 54 = .ok (.iaload, 1) := by decide +kernel
theorem dX2_cut_55 : decode cX2_cut 55 = .ok (.iastore, 1) := by decide +kernel
theorem dX2_cut_56 : decode cX2_cut 56 = .ok (.aload_n 0, 1) := by decide +kernel
theorem dX2_cut_57 : decode cX2_cut 57 = .ok (.getfield 22, 3) := by decide +kernel
theorem dX2_cut_60 : decode cX2_cut 60 = .ok (.iload_n 2, 1) := by decide +kernel
theorem dX2_cut_61 : decode cX2_cut 61 = .ok (.aload_n 0, 1) := by decide +kernel
theorem dX2_cut_62 : decode cX2_cut 62 = .ok (.getfield 22, 3) := by decide +kernel
theorem dX2_cut_65 : decode cX2_cut 65 = .ok (.iload_n 2, 1) := by decide +kernel
theorem dX2_cut_66 : decode cX2_cut 66 = .ok (.iconst 1, 1) := by decide +kernel
theorem dX2_cut_67 : decode cX2_cut 67 = .ok (.iadd, 1) := by decide +kernel
theorem dX2_cut_68 : decode cX2_cut 68 = .ok (.iaload, 1) := by decide +kernel
theorem dX2_cut_69 : decode cX2_cut 69 = .ok (.iastore, 1) := by decide +kernel
theorem dX2_cut_70 : decode cX2_cut 70 = .ok (.aload_n 0, 1) := by decide +kernel
theorem dX2_cut_71 : decode cX2_cut 71 = .ok (.getfield 25, 3) := by decide +kernel
theorem dX2_cut_74 : decode cX2_cut 74 = .ok (.iload_n 2, 1) := by decide +kernel
theorem dX2_cut_75 : decode cX2_cut 75 = .ok (.aload_n 0, 1) := by decide +kernel
theorem dX2_cut_76 : decode cX2_cut 76 = .ok (.getfield 25, 3) := by decide +kernel
theorem dX2_cut_79 : decode cX2_cut 79 = .ok (.iload_n 2, 1) := by decide +kernel
theorem dX2_cut_80 : decode cX2_cut 80 = .ok (.iconst 1, 1) := by decide +kernel
theorem dX2_cut_81 : decode cX2_cut 81 = .ok (.iadd, 1) := by decide +kernel
theorem dX2_cut_82 : decode cX2_cut 82 = .ok (.iaload, 1) := by decide +kernel
theorem dX2_cut_83 : decode cX2_cut 83 = .ok (.iastore, 1) := by decide +kernel
theorem dX2_cut_84 : decode cX2_cut 84 = .ok (.iinc 2 1, 3) := by decide +kernel
theorem dX2_cut_87 : decode cX2_cut 87 = .ok (.goto (-75), 3) := by decide +kernel
theorem dX2_cut_90 : decode cX2_cut 90 = .ok (.aload_n 0, 1) := by decide +kernel
theorem dX2_cut_91 : decode cX2_cut 91 = .ok (.dup, 1) := by decide +kernel
theorem dX2_cut_92 : decode cX2_cut 92 = .ok (.getfield 35, 3) := by decide +kernel
theorem dX2_cut_95 : decode cX2_cut 95 = .ok (.iconst 1, 1) := by decide +kernel
theorem dX2_cut_96 : decode cX2_cut 96 = .ok (.isub, 1) := by decide +kernel
theorem dX2_cut_97 : decode cX2_cut 97 = .ok (.putfield 35, 3) := by decide +kernel
theorem dX2_cut_100 : decode cX2_cut 100 = .ok (.aload_n 0, 1) := by decide +kernel
theorem dX2_cut_101 : decode cX2_cut 101 = .ok (.getfield 35, 3) := by decide +kernel
theorem dX2_cut_104 : decode cX2_cut 104 = .ok (.ireturn, 1) := by decide +kernel
abbrev cX2_badFlow : ByteArray := prog_3_method_4_code
def yX2_badFlow : MethodName := ⟨RX2, "badFlow", "(I)Z"⟩
theorem dX2_badFlow_0 : decode cX2_badFlow 0 = .ok (.iload_n 1, 1) := by decide +kernel
theorem dX2_badFlow_1 : decode cX2_badFlow 1 = .ok (.ifCond .lt 17, 3) := by decide +kernel
theorem dX2_badFlow_4 : decode cX2_badFlow 4 = .ok (.iload_n 1, 1) := by decide +kernel
theorem dX2_badFlow_5 : decode cX2_badFlow 5 = .ok (.aload_n 0, 1) := by decide +kernel
theorem dX2_badFlow_6 : decode cX2_badFlow 6 = .ok (.getfield 35, 3) := by decide +kernel
theorem dX2_badFlow_9 : decode cX2_badFlow 9 = .ok (.if_icmp .ge 9, 3) := by decide +kernel
theorem dX2_badFlow_12 : decode cX2_badFlow 12 = .ok (.iload_n 1, 1) := by decide +kernel
theorem dX2_badFlow_13 : decode cX2_badFlow 13 = .ok (.bipush 20, 2) := by decide +kernel
theorem dX2_badFlow_15 : decode cX2_badFlow 15 = .ok (.if_icmp .lt 7, 3) := by decide +kernel
theorem dX2_badFlow_18 : decode cX2_badFlow 18 = .ok (.iconst 1, 1) := by decide +kernel
theorem dX2_badFlow_19 : decode cX2_badFlow 19 = .ok (.goto 4, 3) := by decide +kernel
theorem dX2_badFlow_22 : decode cX2_badFlow 22 = .ok (.iconst 0, 1) := by decide +kernel
theorem dX2_badFlow_23 : decode cX2_badFlow 23 = .ok (.ireturn, 1) := by decide +kernel
abbrev cX2_fix : ByteArray := prog_3_method_9_code
def yX2_fix : MethodName := ⟨RX2, "fix", "(II)I"⟩
theorem dX2_fix_0 : decode cX2_fix 0 = .ok (.aload_n 0, 1) := by decide +kernel
theorem dX2_fix_1 : decode cX2_fix 1 = .ok (.iload_n 1, 1) := by decide +kernel
theorem dX2_fix_2 : decode cX2_fix 2 = .ok (.invokevirtual 38, 3) := by decide +kernel
theorem dX2_fix_5 : decode cX2_fix 5 = .ok (.ifCond .eq 5, 3) := by decide +kernel
theorem dX2_fix_8 : decode cX2_fix 8 = .ok (.iconst (-1), 1) := by decide +kernel
theorem dX2_fix_9 : decode cX2_fix 9 = .ok (.ireturn, 1) := by decide +kernel
theorem dX2_fix_10 : decode cX2_fix 10 = .ok (.iload_n 2, 1) := by decide +kernel
theorem dX2_fix_11 : decode cX2_fix 11 = .ok (.ifCond .lt 8, 3) := by decide +kernel
theorem dX2_fix_14 : decode cX2_fix 14 = .ok (.iload_n 2, 1) := by decide +kernel
theorem dX2_fix_15 : decode cX2_fix 15 = .ok (.iconst 2, 1) := by decide +kernel
theorem dX2_fix_16 : decode cX2_fix 16 = .ok (.if_icmp .le 6, 3) := by decide +kernel
theorem dX2_fix_19 : decode cX2_fix 19 = .ok (.bipush (-2), 2) := by decide +kernel
theorem dX2_fix_21 : decode cX2_fix 21 = .ok (.ireturn, 1) := by decide +kernel
theorem dX2_fix_22 : decode cX2_fix 22 = .ok (.aload_n 0, 1) := by decide +kernel
theorem dX2_fix_23 : decode cX2_fix 23 = .ok (.getfield 13, 3) := by decide +kernel
theorem dX2_fix_26 : decode cX2_fix 26 = .ok (.iload_n 1, 1) := by decide +kernel
theorem dX2_fix_27 : decode cX2_fix 27 = .ok (.iaload, 1) := by decide +kernel
theorem dX2_fix_28 : decode cX2_fix 28 = .ok (.istore_n 3, 1) := by decide +kernel
theorem dX2_fix_29 : decode cX2_fix 29 = .ok (.aload_n 0, 1) := by decide +kernel
theorem dX2_fix_30 : decode cX2_fix 30 = .ok (.getfield 13, 3) := by decide +kernel
theorem dX2_fix_33 : decode cX2_fix 33 = .ok (.iload_n 1, 1) := by decide +kernel
theorem dX2_fix_34 : decode cX2_fix 34 = .ok (.iload_n 2, 1) := by decide +kernel
theorem dX2_fix_35 : decode cX2_fix 35 = .ok (.iastore, 1) := by decide +kernel
theorem dX2_fix_36 : decode cX2_fix 36 = .ok (.iload_n 3, 1) := by decide +kernel
theorem dX2_fix_37 : decode cX2_fix 37 = .ok (.ireturn, 1) := by decide +kernel
abbrev cX2_flows : ByteArray := prog_3_method_10_code
def yX2_flows : MethodName := ⟨RX2, "flows", "()I"⟩
theorem dX2_flows_0 : decode cX2_flows 0 = .ok (.aload_n 0, 1) := by decide +kernel
theorem dX2_flows_1 : decode cX2_flows 1 = .ok (.getfield 35, 3) := by decide +kernel
theorem dX2_flows_4 : decode cX2_flows 4 = .ok (.ireturn, 1) := by decide +kernel
abbrev cX2_costOf : ByteArray := prog_3_method_13_code
def yX2_costOf : MethodName := ⟨RX2, "costOf", "(I)I"⟩
theorem dX2_costOf_0 : decode cX2_costOf 0 = .ok (.iload_n 1, 1) := by decide +kernel
theorem dX2_costOf_1 : decode cX2_costOf 1 = .ok (.ifCond .lt 11, 3) := by decide +kernel
theorem dX2_costOf_4 : decode cX2_costOf 4 = .ok (.iload_n 1, 1) := by decide +kernel
theorem dX2_costOf_5 : decode cX2_costOf 5 = .ok (.aload_n 0, 1) := by decide +kernel
theorem dX2_costOf_6 : decode cX2_costOf 6 = .ok (.getfield 32, 3) := by decide +kernel
theorem dX2_costOf_9 : decode cX2_costOf 9 = .ok (.if_icmp .lt 7, 3) := by decide +kernel
theorem dX2_costOf_12 : decode cX2_costOf 12 = .ok (.iconst (-1), 1) := by decide +kernel
theorem dX2_costOf_13 : decode cX2_costOf 13 = .ok (.goto 9, 3) := by decide +kernel
theorem dX2_costOf_16 : decode cX2_costOf 16 = .ok (.aload_n 0, 1) := by decide +kernel
theorem dX2_costOf_17 : decode cX2_costOf 17 = .ok (.iload_n 1, 1) := by decide +kernel
theorem dX2_costOf_18 : decode cX2_costOf 18 = .ok (.iconst (-1), 1) := by decide +kernel
theorem dX2_costOf_19 : decode cX2_costOf 19 = .ok (.invokevirtual 49, 3) := by decide +kernel
theorem dX2_costOf_22 : decode cX2_costOf 22 = .ok (.ireturn, 1) := by decide +kernel
abbrev cX2_total : ByteArray := prog_3_method_11_code
def yX2_total : MethodName := ⟨RX2, "total", "(II)I"⟩
theorem dX2_total_0 : decode cX2_total 0 = .ok (.iconst 0, 1) := by decide +kernel
theorem dX2_total_1 : decode cX2_total 1 = .ok (.istore_n 3, 1) := by decide +kernel
theorem dX2_total_2 : decode cX2_total 2 = .ok (.iconst 0, 1) := by decide +kernel
theorem dX2_total_3 : decode cX2_total 3 = .ok (.istore 4, 2) := by decide +kernel
theorem dX2_total_5 : decode cX2_total 5 = .ok (.iload 4, 2) := by decide +kernel
theorem dX2_total_7 : decode cX2_total 7 = .ok (.aload_n 0, 1) := by decide +kernel
theorem dX2_total_8 : decode cX2_total 8 = .ok (.getfield 28, 3) := by decide +kernel
theorem dX2_total_11 : decode cX2_total 11 = .ok (.if_icmp .ge 36, 3) := by decide +kernel
theorem dX2_total_14 : decode cX2_total 14 = .ok (.iload 4, 2) := by decide +kernel
theorem dX2_total_16 : decode cX2_total 16 = .ok (.bipush 10, 2) := by decide +kernel
theorem dX2_total_18 : decode cX2_total 18 = .ok (.if_icmp .ge 29, 3) := by decide +kernel
theorem dX2_total_21 : decode cX2_total 21 = .ok (.iload_n 3, 1) := by decide +kernel
theorem dX2_total_22 : decode cX2_total 22 = .ok (.aload_n 0, 1) := by decide +kernel
theorem dX2_total_23 : decode cX2_total 23 = .ok (.getfield 7, 3) := by decide +kernel
theorem dX2_total_26 : decode cX2_total 26 = .ok (.iconst 2, 1) := by decide +kernel
theorem dX2_total_27 : decode cX2_total 27 = .ok (.iload 4, 2) := by decide +kernel
theorem dX2_total_29 : decode cX2_total 29 = .ok (.imul, 1) := by decide +kernel
theorem dX2_total_30 : decode cX2_total 30 = .ok (.aload_n 0, 1) := by decide +kernel
theorem dX2_total_31 : decode cX2_total 31 = .ok (.iload_n 1, 1) := by decide +kernel
theorem dX2_total_32 : decode cX2_total 32 = .ok (.iload 4, 2) := by decide +kernel
theorem dX2_total_34 : decode cX2_total 34 = .ok (.invokevirtual 45, 3) := by decide +kernel
theorem dX2_total_37 : decode cX2_total 37 = .ok (.iadd, 1) := by decide +kernel
theorem dX2_total_38 : decode cX2_total 38 = .ok (.iaload, 1) := by decide +kernel
theorem dX2_total_39 : decode cX2_total 39 = .ok (.iadd, 1) := by decide +kernel
theorem dX2_total_40 : decode cX2_total 40 = .ok (.istore_n 3, 1) := by decide +kernel
theorem dX2_total_41 : decode cX2_total 41 = .ok (.iinc 4 1, 3) := by decide +kernel
theorem dX2_total_44 : decode cX2_total 44 = .ok (.goto (-39), 3) := by decide +kernel
theorem dX2_total_47 : decode cX2_total 47 = .ok (.iconst 0, 1) := by decide +kernel
theorem dX2_total_48 : decode cX2_total 48 = .ok (.istore 4, 2) := by decide +kernel
theorem dX2_total_50 : decode cX2_total 50 = .ok (.iload 4, 2) := by decide +kernel
theorem dX2_total_52 : decode cX2_total 52 = .ok (.aload_n 0, 1) := by decide +kernel
theorem dX2_total_53 : decode cX2_total 53 = .ok (.getfield 35, 3) := by decide +kernel
theorem dX2_total_56 : decode cX2_total 56 = .ok (.if_icmp .ge 98, 3) := by decide +kernel
theorem dX2_total_59 : decode cX2_total 59 = .ok (.iload 4, 2) := by decide +kernel
theorem dX2_total_61 : decode cX2_total 61 = .ok (.bipush 20, 2) := by decide +kernel
theorem dX2_total_63 : decode cX2_total 63 = .ok (.if_icmp .ge 91, 3) := by decide +kernel
theorem dX2_total_66 : decode cX2_total 66 = .ok (.aload_n 0, 1) := by decide +kernel
theorem dX2_total_67 : decode cX2_total 67 = .ok (.iload_n 1, 1) := by decide +kernel
theorem dX2_total_68 : decode cX2_total 68 = .ok (.aload_n 0, 1) := by decide +kernel
theorem dX2_total_69 : decode cX2_total 69 = .ok (.getfield 16, 3) := by decide +kernel
theorem dX2_total_72 : decode cX2_total 72 = .ok (.iload 4, 2) := by decide +kernel
theorem dX2_total_74 : decode cX2_total 74 = .ok (.iaload, 1) := by decide +kernel
theorem dX2_total_75 : decode cX2_total 75 = .ok (.invokevirtual 45, 3) := by decide +kernel
theorem dX2_total_78 : decode cX2_total 78 = .ok (.istore 5, 2) := by decide +kernel
theorem dX2_total_80 : decode cX2_total 80 = .ok (.aload_n 0, 1) := by decide +kernel
theorem dX2_total_81 : decode cX2_total 81 = .ok (.iload_n 1, 1) := by decide +kernel
theorem dX2_total_82 : decode cX2_total 82 = .ok (.aload_n 0, 1) := by decide +kernel
theorem dX2_total_83 : decode cX2_total 83 = .ok (.getfield 19, 3) := by decide +kernel
theorem dX2_total_86 : decode cX2_total 86 = .ok (.iload 4, 2) := by decide +kernel
theorem dX2_total_88 : decode cX2_total 88 = .ok (.iaload, 1) := by decide +kernel
theorem dX2_total_89 : decode cX2_total 89 = .ok (.invokevirtual 45, 3) := by decide +kernel
theorem dX2_total_92 : decode cX2_total 92 = .ok (.istore 6, 2) := by decide +kernel
theorem dX2_total_94 : decode cX2_total 94 = .ok (.iload 4, 2) := by decide +kernel
theorem dX2_total_96 : decode cX2_total 96 = .ok (.iload_n 2, 1) := by decide +kernel
theorem dX2_total_97 : decode cX2_total 97 = .ok (.if_icmp .eq 24, 3) := by decide +kernel
theorem dX2_total_100 : decode cX2_total 100 = .ok (.iload 5, 2) := by decide +kernel
theorem dX2_total_102 : decode cX2_total 102 = .ok (.ifCond .ne 19, 3) := by decide +kernel
theorem dX2_total_105 : decode cX2_total 105 = .ok (.iload 6, 2) := by decide +kernel
theorem dX2_total_107 : decode cX2_total 107 = .ok (.iconst 1, 1) := by decide +kernel
theorem dX2_total_108 : decode cX2_total 108 = .ok (.if_icmp .ne 13, 3) := by decide +kernel
theorem dX2_total_111 : decode cX2_total 111 = .ok (.iload_n 3, 1) := by decide +kernel
theorem dX2_total_112 : decode cX2_total 112 = .ok (.aload_n 0, 1) := by decide +kernel
theorem dX2_total_113 : decode cX2_total 113 = .ok (.getfield 22, 3) := by decide +kernel
theorem dX2_total_116 : decode cX2_total 116 = .ok (.iload 4, 2) := by decide +kernel
theorem dX2_total_118 : decode cX2_total 118 = .ok (.iaload, 1) := by decide +kernel
theorem dX2_total_119 : decode cX2_total 119 = .ok (.iadd, 1) := by decide +kernel
theorem dX2_total_120 : decode cX2_total 120 = .ok (.istore_n 3, 1) := by decide +kernel
theorem dX2_total_121 : decode cX2_total 121 = .ok (.iload 4, 2) := by decide +kernel
theorem dX2_total_123 : decode cX2_total 123 = .ok (.iload_n 2, 1) := by decide +kernel
theorem dX2_total_124 : decode cX2_total 124 = .ok (.if_icmp .eq 24, 3) := by decide +kernel
theorem dX2_total_127 : decode cX2_total 127 = .ok (.iload 5, 2) := by decide +kernel
theorem dX2_total_129 : decode cX2_total 129 = .ok (.iconst 1, 1) := by decide +kernel
theorem dX2_total_130 : decode cX2_total 130 = .ok (.if_icmp .ne 18, 3) := by decide +kernel
theorem dX2_total_133 : decode cX2_total 133 = .ok (.iload 6, 2) := by decide +kernel
theorem dX2_total_135 : decode cX2_total 135 = .ok (.ifCond .ne 13, 3) := by decide +kernel
theorem dX2_total_138 : decode cX2_total 138 = .ok (.iload_n 3, 1) := by decide +kernel
theorem dX2_total_139 : decode cX2_total 139 = .ok (.aload_n 0, 1) := by decide +kernel
theorem dX2_total_140 : decode cX2_total 140 = .ok (.getfield 25, 3) := by decide +kernel
theorem dX2_total_143 : decode cX2_total 143 = .ok (.iload 4, 2) := by decide +kernel
theorem dX2_total_145 : decode cX2_total 145 = .ok (.iaload, 1) := by decide +kernel
theorem dX2_total_146 : decode cX2_total 146 = .ok (.iadd, 1) := by decide +kernel
theorem dX2_total_147 : decode cX2_total 147 = .ok (.istore_n 3, 1) := by decide +kernel
theorem dX2_total_148 : decode cX2_total 148 = .ok (.iinc 4 1, 3) := by decide +kernel
theorem dX2_total_151 : decode cX2_total 151 = .ok (.goto (-101), 3) := by decide +kernel
theorem dX2_total_154 : decode cX2_total 154 = .ok (.iload_n 3, 1) := by decide +kernel
theorem dX2_total_155 : decode cX2_total 155 = .ok (.ireturn, 1) := by decide +kernel
abbrev cX2_form : ByteArray := prog_3_method_5_code
def yX2_form : MethodName := ⟨RX2, "form", "(II)I"⟩
theorem dX2_form_0 : decode cX2_form 0 = .ok (.iload_n 1, 1) := by decide +kernel
theorem dX2_form_1 : decode cX2_form 1 = .ok (.iload_n 2, 1) := by decide +kernel
theorem dX2_form_2 : decode cX2_form 2 = .ok (.ishr, 1) := by decide +kernel
theorem dX2_form_3 : decode cX2_form 3 = .ok (.iconst 1, 1) := by decide +kernel
theorem dX2_form_4 : decode cX2_form 4 = .ok (.iand, 1) := by decide +kernel
theorem dX2_form_5 : decode cX2_form 5 = .ok (.ireturn, 1) := by decide +kernel
abbrev cX2_best : ByteArray := prog_3_method_15_code
def yX2_best : MethodName := ⟨RX2, "best", "()I"⟩
theorem dX2_best_0 : decode cX2_best 0 = .ok (.aload_n 0, 1) := by decide +kernel
theorem dX2_best_1 : decode cX2_best 1 = .ok (.iconst (-1), 1) := by decide +kernel
theorem dX2_best_2 : decode cX2_best 2 = .ok (.invokevirtual 55, 3) := by decide +kernel
theorem dX2_best_5 : decode cX2_best 5 = .ok (.ireturn, 1) := by decide +kernel
abbrev cX2_least : ByteArray := prog_3_method_14_code
def yX2_least : MethodName := ⟨RX2, "least", "(I)I"⟩
theorem dX2_least_0 : decode cX2_least 0 = .ok (.iconst (-1), 1) := by decide +kernel
theorem dX2_least_1 : decode cX2_least 1 = .ok (.istore_n 2, 1) := by decide +kernel
theorem dX2_least_2 : decode cX2_least 2 = .ok (.iconst 0, 1) := by decide +kernel
theorem dX2_least_3 : decode cX2_least 3 = .ok (.istore_n 3, 1) := by decide +kernel
theorem dX2_least_4 : decode cX2_least 4 = .ok (.iload_n 3, 1) := by decide +kernel
theorem dX2_least_5 : decode cX2_least 5 = .ok (.aload_n 0, 1) := by decide +kernel
theorem dX2_least_6 : decode cX2_least 6 = .ok (.getfield 32, 3) := by decide +kernel
theorem dX2_least_9 : decode cX2_least 9 = .ok (.if_icmp .ge 38, 3) := by decide +kernel
theorem dX2_least_12 : decode cX2_least 12 = .ok (.aload_n 0, 1) := by decide +kernel
theorem dX2_least_13 : decode cX2_least 13 = .ok (.iload_n 3, 1) := by decide +kernel
theorem dX2_least_14 : decode cX2_least 14 = .ok (.invokevirtual 52, 3) := by decide +kernel
end
section
set_option maxRecDepth 100000
theorem dX2_least_17 : decode cX2_least 17 = .ok (.ifCond .eq 24, 3) := by decide +kernel
theorem dX2_least_20 : decode cX2_least 20 = .ok (.aload_n 0, 1) := by decide +kernel
theorem dX2_least_21 : decode cX2_least 21 = .ok (.iload_n 3, 1) := by decide +kernel
theorem dX2_least_22 : decode cX2_least 22 = .ok (.iload_n 1, 1) := by decide +kernel
theorem dX2_least_23 : decode cX2_least 23 = .ok (.invokevirtual 49, 3) := by decide +kernel
theorem dX2_least_26 : decode cX2_least 26 = .ok (.istore 4, 2) := by decide +kernel
theorem dX2_least_28 : decode cX2_least 28 = .ok (.iload_n 2, 1) := by decide +kernel
theorem dX2_least_29 : decode cX2_least 29 = .ok (.ifCond .lt 9, 3) := by decide +kernel
theorem dX2_least_32 : decode cX2_least 32 = .ok (.iload 4, 2) := by decide +kernel
theorem dX2_least_34 : decode cX2_least 34 = .ok (.iload_n 2, 1) := by decide +kernel
theorem dX2_least_35 : decode cX2_least 35 = .ok (.if_icmp .ge 6, 3) := by decide +kernel
theorem dX2_least_38 : decode cX2_least 38 = .ok (.iload 4, 2) := by decide +kernel
theorem dX2_least_40 : decode cX2_least 40 = .ok (.istore_n 2, 1) := by decide +kernel
theorem dX2_least_41 : decode cX2_least 41 = .ok (.iinc 3 1, 3) := by decide +kernel
theorem dX2_least_44 : decode cX2_least 44 = .ok (.goto (-40), 3) := by decide +kernel
theorem dX2_least_47 : decode cX2_least 47 = .ok (.iload_n 2, 1) := by decide +kernel
theorem dX2_least_48 : decode cX2_least 48 = .ok (.ireturn, 1) := by decide +kernel
abbrev cX2_allowed : ByteArray := prog_3_method_12_code
def yX2_allowed : MethodName := ⟨RX2, "allowed", "(I)Z"⟩
theorem dX2_allowed_0 : decode cX2_allowed 0 = .ok (.iconst 0, 1) := by decide +kernel
theorem dX2_allowed_1 : decode cX2_allowed 1 = .ok (.istore_n 2, 1) := by decide +kernel
theorem dX2_allowed_2 : decode cX2_allowed 2 = .ok (.iload_n 2, 1) := by decide +kernel
theorem dX2_allowed_3 : decode cX2_allowed 3 = .ok (.aload_n 0, 1) := by decide +kernel
theorem dX2_allowed_4 : decode cX2_allowed 4 = .ok (.getfield 28, 3) := by decide +kernel
theorem dX2_allowed_7 : decode cX2_allowed 7 = .ok (.if_icmp .ge 42, 3) := by decide +kernel
theorem dX2_allowed_10 : decode cX2_allowed 10 = .ok (.iload_n 2, 1) := by decide +kernel
theorem dX2_allowed_11 : decode cX2_allowed 11 = .ok (.bipush 10, 2) := by decide +kernel
theorem dX2_allowed_13 : decode cX2_allowed 13 = .ok (.if_icmp .ge 36, 3) := by decide +kernel
theorem dX2_allowed_16 : decode cX2_allowed 16 = .ok (.aload_n 0, 1) := by decide +kernel
theorem dX2_allowed_17 : decode cX2_allowed 17 = .ok (.getfield 13, 3) := by decide +kernel
theorem dX2_allowed_20 : decode cX2_allowed 20 = .ok (.iload_n 2, 1) := by decide +kernel
theorem dX2_allowed_21 : decode cX2_allowed 21 = .ok (.iaload, 1) := by decide +kernel
theorem dX2_allowed_22 : decode cX2_allowed 22 = .ok (.iconst 2, 1) := by decide +kernel
theorem dX2_allowed_23 : decode cX2_allowed 23 = .ok (.if_icmp .eq 20, 3) := by decide +kernel
theorem dX2_allowed_26 : decode cX2_allowed 26 = .ok (.aload_n 0, 1) := by decide +kernel
theorem dX2_allowed_27 : decode cX2_allowed 27 = .ok (.getfield 13, 3) := by decide +kernel
theorem dX2_allowed_30 : decode cX2_allowed 30 = .ok (.iload_n 2, 1) := by decide +kernel
theorem dX2_allowed_31 : decode cX2_allowed 31 = .ok (.iaload, 1) := by decide +kernel
theorem dX2_allowed_32 : decode cX2_allowed 32 = .ok (.aload_n 0, 1) := by decide +kernel
theorem dX2_allowed_33 : decode cX2_allowed 33 = .ok (.iload_n 1, 1) := by decide +kernel
theorem dX2_allowed_34 : decode cX2_allowed 34 = .ok (.iload_n 2, 1) := by decide +kernel
theorem dX2_allowed_35 : decode cX2_allowed 35 = .ok (.invokevirtual 45, 3) := by decide +kernel
theorem dX2_allowed_38 : decode cX2_allowed 38 = .ok (.if_icmp .eq 5, 3) := by decide +kernel
theorem dX2_allowed_41 : decode cX2_allowed 41 = .ok (.iconst 0, 1) := by decide +kernel
theorem dX2_allowed_42 : decode cX2_allowed 42 = .ok (.ireturn, 1) := by decide +kernel
theorem dX2_allowed_43 : decode cX2_allowed 43 = .ok (.iinc 2 1, 3) := by decide +kernel
theorem dX2_allowed_46 : decode cX2_allowed 46 = .ok (.goto (-44), 3) := by decide +kernel
theorem dX2_allowed_49 : decode cX2_allowed 49 = .ok (.iconst 1, 1) := by decide +kernel
theorem dX2_allowed_50 : decode cX2_allowed 50 = .ok (.ireturn, 1) := by decide +kernel
abbrev cX2_fewestBoxed : ByteArray := prog_3_method_18_code
def yX2_fewestBoxed : MethodName := ⟨RX2, "fewestBoxed", "()I"⟩
theorem dX2_fewestBoxed_0 : decode cX2_fewestBoxed 0 = .ok (.aload_n 0, 1) := by decide +kernel
theorem dX2_fewestBoxed_1 : decode cX2_fewestBoxed 1 = .ok (.invokevirtual 59, 3) := by decide +kernel
theorem dX2_fewestBoxed_4 : decode cX2_fewestBoxed 4 = .ok (.ireturn, 1) := by decide +kernel
abbrev cX2_common : ByteArray := prog_3_method_16_code
def yX2_common : MethodName := ⟨RX2, "common", "()I"⟩
theorem dX2_common_0 : decode cX2_common 0 = .ok (.aload_n 0, 1) := by decide +kernel
theorem dX2_common_1 : decode cX2_common 1 = .ok (.iconst (-1), 1) := by decide +kernel
theorem dX2_common_2 : decode cX2_common 2 = .ok (.invokevirtual 55, 3) := by decide +kernel
theorem dX2_common_5 : decode cX2_common 5 = .ok (.istore_n 1, 1) := by decide +kernel
theorem dX2_common_6 : decode cX2_common 6 = .ok (.aload_n 0, 1) := by decide +kernel
theorem dX2_common_7 : decode cX2_common 7 = .ok (.getfield 32, 3) := by decide +kernel
theorem dX2_common_10 : decode cX2_common 10 = .ok (.iconst 1, 1) := by decide +kernel
theorem dX2_common_11 : decode cX2_common 11 = .ok (.isub, 1) := by decide +kernel
theorem dX2_common_12 : decode cX2_common 12 = .ok (.istore_n 2, 1) := by decide +kernel
theorem dX2_common_13 : decode cX2_common 13 = .ok (.iconst 0, 1) := by decide +kernel
theorem dX2_common_14 : decode cX2_common 14 = .ok (.istore_n 3, 1) := by decide +kernel
theorem dX2_common_15 : decode cX2_common 15 = .ok (.iload_n 3, 1) := by decide +kernel
theorem dX2_common_16 : decode cX2_common 16 = .ok (.aload_n 0, 1) := by decide +kernel
theorem dX2_common_17 : decode cX2_common 17 = .ok (.getfield 32, 3) := by decide +kernel
theorem dX2_common_20 : decode cX2_common 20 = .ok (.if_icmp .ge 31, 3) := by decide +kernel
theorem dX2_common_23 : decode cX2_common 23 = .ok (.aload_n 0, 1) := by decide +kernel
theorem dX2_common_24 : decode cX2_common 24 = .ok (.iload_n 3, 1) := by decide +kernel
theorem dX2_common_25 : decode cX2_common 25 = .ok (.invokevirtual 52, 3) := by decide +kernel
theorem dX2_common_28 : decode cX2_common 28 = .ok (.ifCond .eq 17, 3) := by decide +kernel
theorem dX2_common_31 : decode cX2_common 31 = .ok (.aload_n 0, 1) := by decide +kernel
theorem dX2_common_32 : decode cX2_common 32 = .ok (.iload_n 3, 1) := by decide +kernel
theorem dX2_common_33 : decode cX2_common 33 = .ok (.iconst (-1), 1) := by decide +kernel
theorem dX2_common_34 : decode cX2_common 34 = .ok (.invokevirtual 49, 3) := by decide +kernel
theorem dX2_common_37 : decode cX2_common 37 = .ok (.iload_n 1, 1) := by decide +kernel
theorem dX2_common_38 : decode cX2_common 38 = .ok (.if_icmp .ne 7, 3) := by decide +kernel
theorem dX2_common_41 : decode cX2_common 41 = .ok (.iload_n 2, 1) := by decide +kernel
theorem dX2_common_42 : decode cX2_common 42 = .ok (.iload_n 3, 1) := by decide +kernel
theorem dX2_common_43 : decode cX2_common 43 = .ok (.iand, 1) := by decide +kernel
theorem dX2_common_44 : decode cX2_common 44 = .ok (.istore_n 2, 1) := by decide +kernel
theorem dX2_common_45 : decode cX2_common 45 = .ok (.iinc 3 1, 3) := by decide +kernel
theorem dX2_common_48 : decode cX2_common 48 = .ok (.goto (-33), 3) := by decide +kernel
theorem dX2_common_51 : decode cX2_common 51 = .ok (.iload_n 2, 1) := by decide +kernel
theorem dX2_common_52 : decode cX2_common 52 = .ok (.ireturn, 1) := by decide +kernel
abbrev cX2_mostBoxed : ByteArray := prog_3_method_19_code
def yX2_mostBoxed : MethodName := ⟨RX2, "mostBoxed", "()I"⟩
theorem dX2_mostBoxed_0 : decode cX2_mostBoxed 0 = .ok (.aload_n 0, 1) := by decide +kernel
theorem dX2_mostBoxed_1 : decode cX2_mostBoxed 1 = .ok (.invokevirtual 63, 3) := by decide +kernel
theorem dX2_mostBoxed_4 : decode cX2_mostBoxed 4 = .ok (.ireturn, 1) := by decide +kernel
abbrev cX2_some : ByteArray := prog_3_method_17_code
def yX2_some : MethodName := ⟨RX2, "some", "()I"⟩
theorem dX2_some_0 : decode cX2_some 0 = .ok (.aload_n 0, 1) := by decide +kernel
theorem dX2_some_1 : decode cX2_some 1 = .ok (.iconst (-1), 1) := by decide +kernel
theorem dX2_some_2 : decode cX2_some 2 = .ok (.invokevirtual 55, 3) := by decide +kernel
theorem dX2_some_5 : decode cX2_some 5 = .ok (.istore_n 1, 1) := by decide +kernel
theorem dX2_some_6 : decode cX2_some 6 = .ok (.iconst 0, 1) := by decide +kernel
theorem dX2_some_7 : decode cX2_some 7 = .ok (.istore_n 2, 1) := by decide +kernel
theorem dX2_some_8 : decode cX2_some 8 = .ok (.iconst 0, 1) := by decide +kernel
theorem dX2_some_9 : decode cX2_some 9 = .ok (.istore_n 3, 1) := by decide +kernel
theorem dX2_some_10 : decode cX2_some 10 = .ok (.iload_n 3, 1) := by decide +kernel
theorem dX2_some_11 : decode cX2_some 11 = .ok (.aload_n 0, 1) := by decide +kernel
theorem dX2_some_12 : decode cX2_some 12 = .ok (.getfield 32, 3) := by decide +kernel
theorem dX2_some_15 : decode cX2_some 15 = .ok (.if_icmp .ge 31, 3) := by decide +kernel
theorem dX2_some_18 : decode cX2_some 18 = .ok (.aload_n 0, 1) := by decide +kernel
theorem dX2_some_19 : decode cX2_some 19 = .ok (.iload_n 3, 1) := by decide +kernel
theorem dX2_some_20 : decode cX2_some 20 = .ok (.invokevirtual 52, 3) := by decide +kernel
theorem dX2_some_23 : decode cX2_some 23 = .ok (.ifCond .eq 17, 3) := by decide +kernel
theorem dX2_some_26 : decode cX2_some 26 = .ok (.aload_n 0, 1) := by decide +kernel
theorem dX2_some_27 : decode cX2_some 27 = .ok (.iload_n 3, 1) := by decide +kernel
theorem dX2_some_28 : decode cX2_some 28 = .ok (.iconst (-1), 1) := by decide +kernel
theorem dX2_some_29 : decode cX2_some 29 = .ok (.invokevirtual 49, 3) := by decide +kernel
theorem dX2_some_32 : decode cX2_some 32 = .ok (.iload_n 1, 1) := by decide +kernel
theorem dX2_some_33 : decode cX2_some 33 = .ok (.if_icmp .ne 7, 3) := by decide +kernel
theorem dX2_some_36 : decode cX2_some 36 = .ok (.iload_n 2, 1) := by decide +kernel
theorem dX2_some_37 : decode cX2_some 37 = .ok (.iload_n 3, 1) := by decide +kernel
theorem dX2_some_38 : decode cX2_some 38 = .ok (.ior, 1) := by decide +kernel
theorem dX2_some_39 : decode cX2_some 39 = .ok (.istore_n 2, 1) := by decide +kernel
theorem dX2_some_40 : decode cX2_some 40 = .ok (.iinc 3 1, 3) := by decide +kernel
theorem dX2_some_43 : decode cX2_some 43 = .ok (.goto (-33), 3) := by decide +kernel
theorem dX2_some_46 : decode cX2_some 46 = .ok (.iload_n 2, 1) := by decide +kernel
theorem dX2_some_47 : decode cX2_some 47 = .ok (.ireturn, 1) := by decide +kernel
abbrev cX2_settled : ByteArray := prog_3_method_20_code
def yX2_settled : MethodName := ⟨RX2, "settled", "(I)I"⟩
theorem dX2_settled_0 : decode cX2_settled 0 = .ok (.aload_n 0, 1) := by decide +kernel
theorem dX2_settled_1 : decode cX2_settled 1 = .ok (.iload_n 1, 1) := by decide +kernel
theorem dX2_settled_2 : decode cX2_settled 2 = .ok (.invokevirtual 38, 3) := by decide +kernel
theorem dX2_settled_5 : decode cX2_settled 5 = .ok (.ifCond .eq 5, 3) := by decide +kernel
theorem dX2_settled_8 : decode cX2_settled 8 = .ok (.iconst (-1), 1) := by decide +kernel
theorem dX2_settled_9 : decode cX2_settled 9 = .ok (.ireturn, 1) := by decide +kernel
theorem dX2_settled_10 : decode cX2_settled 10 = .ok (.aload_n 0, 1) := by decide +kernel
theorem dX2_settled_11 : decode cX2_settled 11 = .ok (.invokevirtual 59, 3) := by decide +kernel
theorem dX2_settled_14 : decode cX2_settled 14 = .ok (.istore_n 2, 1) := by decide +kernel
theorem dX2_settled_15 : decode cX2_settled 15 = .ok (.aload_n 0, 1) := by decide +kernel
theorem dX2_settled_16 : decode cX2_settled 16 = .ok (.invokevirtual 63, 3) := by decide +kernel
theorem dX2_settled_19 : decode cX2_settled 19 = .ok (.istore_n 3, 1) := by decide +kernel
theorem dX2_settled_20 : decode cX2_settled 20 = .ok (.aload_n 0, 1) := by decide +kernel
theorem dX2_settled_21 : decode cX2_settled 21 = .ok (.iload_n 2, 1) := by decide +kernel
theorem dX2_settled_22 : decode cX2_settled 22 = .ok (.iload_n 1, 1) := by decide +kernel
theorem dX2_settled_23 : decode cX2_settled 23 = .ok (.invokevirtual 45, 3) := by decide +kernel
theorem dX2_settled_26 : decode cX2_settled 26 = .ok (.iconst 1, 1) := by decide +kernel
theorem dX2_settled_27 : decode cX2_settled 27 = .ok (.if_icmp .ne 5, 3) := by decide +kernel
theorem dX2_settled_30 : decode cX2_settled 30 = .ok (.iconst 1, 1) := by decide +kernel
theorem dX2_settled_31 : decode cX2_settled 31 = .ok (.ireturn, 1) := by decide +kernel
theorem dX2_settled_32 : decode cX2_settled 32 = .ok (.aload_n 0, 1) := by decide +kernel
theorem dX2_settled_33 : decode cX2_settled 33 = .ok (.iload_n 3, 1) := by decide +kernel
theorem dX2_settled_34 : decode cX2_settled 34 = .ok (.iload_n 1, 1) := by decide +kernel
theorem dX2_settled_35 : decode cX2_settled 35 = .ok (.invokevirtual 45, 3) := by decide +kernel
theorem dX2_settled_38 : decode cX2_settled 38 = .ok (.ifCond .ne 7, 3) := by decide +kernel
theorem dX2_settled_41 : decode cX2_settled 41 = .ok (.iconst 0, 1) := by decide +kernel
theorem dX2_settled_42 : decode cX2_settled 42 = .ok (.goto 4, 3) := by decide +kernel
theorem dX2_settled_45 : decode cX2_settled 45 = .ok (.iconst 2, 1) := by decide +kernel
theorem dX2_settled_46 : decode cX2_settled 46 = .ok (.ireturn, 1) := by decide +kernel
abbrev cX2_bestWith : ByteArray := prog_3_method_21_code
def yX2_bestWith : MethodName := ⟨RX2, "bestWith", "(II)I"⟩
theorem dX2_bestWith_0 : decode cX2_bestWith 0 = .ok (.aload_n 0, 1) := by decide +kernel
theorem dX2_bestWith_1 : decode cX2_bestWith 1 = .ok (.iload_n 1, 1) := by decide +kernel
theorem dX2_bestWith_2 : decode cX2_bestWith 2 = .ok (.invokevirtual 38, 3) := by decide +kernel
theorem dX2_bestWith_5 : decode cX2_bestWith 5 = .ok (.ifCond .eq 5, 3) := by decide +kernel
theorem dX2_bestWith_8 : decode cX2_bestWith 8 = .ok (.iconst (-1), 1) := by decide +kernel
theorem dX2_bestWith_9 : decode cX2_bestWith 9 = .ok (.ireturn, 1) := by decide +kernel
theorem dX2_bestWith_10 : decode cX2_bestWith 10 = .ok (.iload_n 2, 1) := by decide +kernel
theorem dX2_bestWith_11 : decode cX2_bestWith 11 = .ok (.ifCond .eq 11, 3) := by decide +kernel
theorem dX2_bestWith_14 : decode cX2_bestWith 14 = .ok (.iload_n 2, 1) := by decide +kernel
theorem dX2_bestWith_15 : decode cX2_bestWith 15 = .ok (.iconst 1, 1) := by decide +kernel
theorem dX2_bestWith_16 : decode cX2_bestWith 16 = .ok (.if_icmp .eq 6, 3) := by decide +kernel
theorem dX2_bestWith_19 : decode cX2_bestWith 19 = .ok (.bipush (-2), 2) := by decide +kernel
theorem dX2_bestWith_21 : decode cX2_bestWith 21 = .ok (.ireturn, 1) := by decide +kernel
theorem dX2_bestWith_22 : decode cX2_bestWith 22 = .ok (.bipush (-3), 2) := by decide +kernel
theorem dX2_bestWith_24 : decode cX2_bestWith 24 = .ok (.istore_n 3, 1) := by decide +kernel
theorem dX2_bestWith_25 : decode cX2_bestWith 25 = .ok (.iconst 0, 1) := by decide +kernel
theorem dX2_bestWith_26 : decode cX2_bestWith 26 = .ok (.istore 4, 2) := by decide +kernel
theorem dX2_bestWith_28 : decode cX2_bestWith 28 = .ok (.iload 4, 2) := by decide +kernel
theorem dX2_bestWith_30 : decode cX2_bestWith 30 = .ok (.aload_n 0, 1) := by decide +kernel
theorem dX2_bestWith_31 : decode cX2_bestWith 31 = .ok (.getfield 32, 3) := by decide +kernel
theorem dX2_bestWith_34 : decode cX2_bestWith 34 = .ok (.if_icmp .ge 51, 3) := by decide +kernel
theorem dX2_bestWith_37 : decode cX2_bestWith 37 = .ok (.aload_n 0, 1) := by decide +kernel
theorem dX2_bestWith_38 : decode cX2_bestWith 38 = .ok (.iload 4, 2) := by decide +kernel
theorem dX2_bestWith_40 : decode cX2_bestWith 40 = .ok (.invokevirtual 52, 3) := by decide +kernel
theorem dX2_bestWith_43 : decode cX2_bestWith 43 = .ok (.ifCond .eq 36, 3) := by decide +kernel
theorem dX2_bestWith_46 : decode cX2_bestWith 46 = .ok (.aload_n 0, 1) := by decide +kernel
theorem dX2_bestWith_47 : decode cX2_bestWith 47 = .ok (.iload 4, 2) := by decide +kernel
theorem dX2_bestWith_49 : decode cX2_bestWith 49 = .ok (.iload_n 1, 1) := by decide +kernel
theorem dX2_bestWith_50 : decode cX2_bestWith 50 = .ok (.invokevirtual 45, 3) := by decide +kernel
theorem dX2_bestWith_53 : decode cX2_bestWith 53 = .ok (.iload_n 2, 1) := by decide +kernel
theorem dX2_bestWith_54 : decode cX2_bestWith 54 = .ok (.if_icmp .ne 25, 3) := by decide +kernel
theorem dX2_bestWith_57 : decode cX2_bestWith 57 = .ok (.aload_n 0, 1) := by decide +kernel
theorem dX2_bestWith_58 : decode cX2_bestWith 58 = .ok (.iload 4, 2) := by decide +kernel
theorem dX2_bestWith_60 : decode cX2_bestWith 60 = .ok (.iconst (-1), 1) := by decide +kernel
theorem dX2_bestWith_61 : decode cX2_bestWith 61 = .ok (.invokevirtual 49, 3) := by decide +kernel
theorem dX2_bestWith_64 : decode cX2_bestWith 64 = .ok (.istore 5, 2) := by decide +kernel
theorem dX2_bestWith_66 : decode cX2_bestWith 66 = .ok (.iload_n 3, 1) := by decide +kernel
theorem dX2_bestWith_67 : decode cX2_bestWith 67 = .ok (.ifCond .lt 9, 3) := by decide +kernel
theorem dX2_bestWith_70 : decode cX2_bestWith 70 = .ok (.iload 5, 2) := by decide +kernel
theorem dX2_bestWith_72 : decode cX2_bestWith 72 = .ok (.iload_n 3, 1) := by decide +kernel
theorem dX2_bestWith_73 : decode cX2_bestWith 73 = .ok (.if_icmp .ge 6, 3) := by decide +kernel
theorem dX2_bestWith_76 : decode cX2_bestWith 76 = .ok (.iload 5, 2) := by decide +kernel
theorem dX2_bestWith_78 : decode cX2_bestWith 78 = .ok (.istore_n 3, 1) := by decide +kernel
theorem dX2_bestWith_79 : decode cX2_bestWith 79 = .ok (.iinc 4 1, 3) := by decide +kernel
theorem dX2_bestWith_82 : decode cX2_bestWith 82 = .ok (.goto (-54), 3) := by decide +kernel
theorem dX2_bestWith_85 : decode cX2_bestWith 85 = .ok (.iload_n 3, 1) := by decide +kernel
theorem dX2_bestWith_86 : decode cX2_bestWith 86 = .ok (.ireturn, 1) := by decide +kernel
abbrev cX2_bestTied : ByteArray := prog_3_method_22_code
def yX2_bestTied : MethodName := ⟨RX2, "bestTied", "(III)I"⟩
theorem dX2_bestTied_0 : decode cX2_bestTied 0 = .ok (.aload_n 0, 1) := by decide +kernel
theorem dX2_bestTied_1 : decode cX2_bestTied 1 = .ok (.iload_n 1, 1) := by decide +kernel
theorem dX2_bestTied_2 : decode cX2_bestTied 2 = .ok (.invokevirtual 38, 3) := by decide +kernel
theorem dX2_bestTied_5 : decode cX2_bestTied 5 = .ok (.ifCond .ne 11, 3) := by decide +kernel
theorem dX2_bestTied_8 : decode cX2_bestTied 8 = .ok (.aload_n 0, 1) := by decide +kernel
theorem dX2_bestTied_9 : decode cX2_bestTied 9 = .ok (.iload_n 2, 1) := by decide +kernel
theorem dX2_bestTied_10 : decode cX2_bestTied 10 = .ok (.invokevirtual 38, 3) := by decide +kernel
theorem dX2_bestTied_13 : decode cX2_bestTied 13 = .ok (.ifCond .eq 5, 3) := by decide +kernel
theorem dX2_bestTied_16 : decode cX2_bestTied 16 = .ok (.iconst (-1), 1) := by decide +kernel
theorem dX2_bestTied_17 : decode cX2_bestTied 17 = .ok (.ireturn, 1) := by decide +kernel
theorem dX2_bestTied_18 : decode cX2_bestTied 18 = .ok (.bipush (-2), 2) := by decide +kernel
theorem dX2_bestTied_20 : decode cX2_bestTied 20 = .ok (.istore 4, 2) := by decide +kernel
theorem dX2_bestTied_22 : decode cX2_bestTied 22 = .ok (.iconst 0, 1) := by decide +kernel
theorem dX2_bestTied_23 : decode cX2_bestTied 23 = .ok (.istore 5, 2) := by decide +kernel
theorem dX2_bestTied_25 : decode cX2_bestTied 25 = .ok (.iload 5, 2) := by decide +kernel
theorem dX2_bestTied_27 : decode cX2_bestTied 27 = .ok (.aload_n 0, 1) := by decide +kernel
theorem dX2_bestTied_28 : decode cX2_bestTied 28 = .ok (.getfield 32, 3) := by decide +kernel
theorem dX2_bestTied_31 : decode cX2_bestTied 31 = .ok (.if_icmp .ge 81, 3) := by decide +kernel
theorem dX2_bestTied_34 : decode cX2_bestTied 34 = .ok (.aload_n 0, 1) := by decide +kernel
theorem dX2_bestTied_35 : decode cX2_bestTied 35 = .ok (.iload 5, 2) := by decide +kernel
theorem dX2_bestTied_37 : decode cX2_bestTied 37 = .ok (.iload_n 1, 1) := by decide +kernel
theorem dX2_bestTied_38 : decode cX2_bestTied 38 = .ok (.invokevirtual 45, 3) := by decide +kernel
theorem dX2_bestTied_41 : decode cX2_bestTied 41 = .ok (.aload_n 0, 1) := by decide +kernel
theorem dX2_bestTied_42 : decode cX2_bestTied 42 = .ok (.iload 5, 2) := by decide +kernel
theorem dX2_bestTied_44 : decode cX2_bestTied 44 = .ok (.iload_n 2, 1) := by decide +kernel
theorem dX2_bestTied_45 : decode cX2_bestTied 45 = .ok (.invokevirtual 45, 3) := by decide +kernel
theorem dX2_bestTied_48 : decode cX2_bestTied 48 = .ok (.if_icmp .ne 7, 3) := by decide +kernel
theorem dX2_bestTied_51 : decode cX2_bestTied 51 = .ok (.iconst 1, 1) := by decide +kernel
theorem dX2_bestTied_52 : decode cX2_bestTied 52 = .ok (.goto 4, 3) := by decide +kernel
theorem dX2_bestTied_55 : decode cX2_bestTied 55 = .ok (.iconst 0, 1) := by decide +kernel
theorem dX2_bestTied_56 : decode cX2_bestTied 56 = .ok (.istore 6, 2) := by decide +kernel
theorem dX2_bestTied_58 : decode cX2_bestTied 58 = .ok (.aload_n 0, 1) := by decide +kernel
theorem dX2_bestTied_59 : decode cX2_bestTied 59 = .ok (.iload 5, 2) := by decide +kernel
theorem dX2_bestTied_61 : decode cX2_bestTied 61 = .ok (.invokevirtual 52, 3) := by decide +kernel
theorem dX2_bestTied_64 : decode cX2_bestTied 64 = .ok (.ifCond .eq 42, 3) := by decide +kernel
theorem dX2_bestTied_67 : decode cX2_bestTied 67 = .ok (.iload 6, 2) := by decide +kernel
theorem dX2_bestTied_69 : decode cX2_bestTied 69 = .ok (.iload_n 3, 1) := by decide +kernel
theorem dX2_bestTied_70 : decode cX2_bestTied 70 = .ok (.ifCond .eq 7, 3) := by decide +kernel
theorem dX2_bestTied_73 : decode cX2_bestTied 73 = .ok (.iconst 1, 1) := by decide +kernel
theorem dX2_bestTied_74 : decode cX2_bestTied 74 = .ok (.goto 4, 3) := by decide +kernel
theorem dX2_bestTied_77 : decode cX2_bestTied 77 = .ok (.iconst 0, 1) := by decide +kernel
theorem dX2_bestTied_78 : decode cX2_bestTied 78 = .ok (.if_icmp .ne 28, 3) := by decide +kernel
theorem dX2_bestTied_81 : decode cX2_bestTied 81 = .ok (.aload_n 0, 1) := by decide +kernel
theorem dX2_bestTied_82 : decode cX2_bestTied 82 = .ok (.iload 5, 2) := by decide +kernel
theorem dX2_bestTied_84 : decode cX2_bestTied 84 = .ok (.iconst (-1), 1) := by decide +kernel
theorem dX2_bestTied_85 : decode cX2_bestTied 85 = .ok (.invokevirtual 49, 3) := by decide +kernel
theorem dX2_bestTied_88 : decode cX2_bestTied 88 = .ok (.istore 7, 2) := by decide +kernel
theorem dX2_bestTied_90 : decode cX2_bestTied 90 = .ok (.iload 4, 2) := by decide +kernel
theorem dX2_bestTied_92 : decode cX2_bestTied 92 = .ok (.ifCond .lt 10, 3) := by decide +kernel
theorem dX2_bestTied_95 : decode cX2_bestTied 95 = .ok (.iload 7, 2) := by decide +kernel
theorem dX2_bestTied_97 : decode cX2_bestTied 97 = .ok (.iload 4, 2) := by decide +kernel
theorem dX2_bestTied_99 : decode cX2_bestTied 99 = .ok (.if_icmp .ge 7, 3) := by decide +kernel
theorem dX2_bestTied_102 : decode cX2_bestTied 102 = .ok (.iload 7, 2) := by decide +kernel
theorem dX2_bestTied_104 : decode cX2_bestTied 104 = .ok (.istore 4, 2) := by decide +kernel
theorem dX2_bestTied_106 : decode cX2_bestTied 106 = .ok (.iinc 5 1, 3) := by decide +kernel
theorem dX2_bestTied_109 : decode cX2_bestTied 109 = .ok (.goto (-84), 3) := by decide +kernel
theorem dX2_bestTied_112 : decode cX2_bestTied 112 = .ok (.iload 4, 2) := by decide +kernel
theorem dX2_bestTied_114 : decode cX2_bestTied 114 = .ok (.ireturn, 1) := by decide +kernel
abbrev cX2_saving : ByteArray := prog_3_method_23_code
def yX2_saving : MethodName := ⟨RX2, "saving", "(I)I"⟩
theorem dX2_saving_0 : decode cX2_saving 0 = .ok (.aload_n 0, 1) := by decide +kernel
theorem dX2_saving_1 : decode cX2_saving 1 = .ok (.iload_n 1, 1) := by decide +kernel
theorem dX2_saving_2 : decode cX2_saving 2 = .ok (.invokevirtual 42, 3) := by decide +kernel
theorem dX2_saving_5 : decode cX2_saving 5 = .ok (.ifCond .eq 5, 3) := by decide +kernel
theorem dX2_saving_8 : decode cX2_saving 8 = .ok (.iconst (-1), 1) := by decide +kernel
theorem dX2_saving_9 : decode cX2_saving 9 = .ok (.ireturn, 1) := by decide +kernel
theorem dX2_saving_10 : decode cX2_saving 10 = .ok (.aload_n 0, 1) := by decide +kernel
theorem dX2_saving_11 : decode cX2_saving 11 = .ok (.iconst (-1), 1) := by decide +kernel
theorem dX2_saving_12 : decode cX2_saving 12 = .ok (.invokevirtual 55, 3) := by decide +kernel
theorem dX2_saving_15 : decode cX2_saving 15 = .ok (.istore_n 2, 1) := by decide +kernel
theorem dX2_saving_16 : decode cX2_saving 16 = .ok (.aload_n 0, 1) := by decide +kernel
theorem dX2_saving_17 : decode cX2_saving 17 = .ok (.iload_n 1, 1) := by decide +kernel
theorem dX2_saving_18 : decode cX2_saving 18 = .ok (.invokevirtual 55, 3) := by decide +kernel
theorem dX2_saving_21 : decode cX2_saving 21 = .ok (.istore_n 3, 1) := by decide +kernel
theorem dX2_saving_22 : decode cX2_saving 22 = .ok (.iload_n 2, 1) := by decide +kernel
theorem dX2_saving_23 : decode cX2_saving 23 = .ok (.iload_n 3, 1) := by decide +kernel
theorem dX2_saving_24 : decode cX2_saving 24 = .ok (.isub, 1) := by decide +kernel
theorem dX2_saving_25 : decode cX2_saving 25 = .ok (.ireturn, 1) := by decide +kernel
abbrev cX2_isBest : ByteArray := prog_3_method_24_code
def yX2_isBest : MethodName := ⟨RX2, "isBest", "(I)I"⟩
theorem dX2_isBest_0 : decode cX2_isBest 0 = .ok (.iload_n 1, 1) := by decide +kernel
theorem dX2_isBest_1 : decode cX2_isBest 1 = .ok (.ifCond .lt 11, 3) := by decide +kernel
theorem dX2_isBest_4 : decode cX2_isBest 4 = .ok (.iload_n 1, 1) := by decide +kernel
theorem dX2_isBest_5 : decode cX2_isBest 5 = .ok (.aload_n 0, 1) := by decide +kernel
theorem dX2_isBest_6 : decode cX2_isBest 6 = .ok (.getfield 32, 3) := by decide +kernel
theorem dX2_isBest_9 : decode cX2_isBest 9 = .ok (.if_icmp .lt 5, 3) := by decide +kernel
theorem dX2_isBest_12 : decode cX2_isBest 12 = .ok (.iconst (-1), 1) := by decide +kernel
theorem dX2_isBest_13 : decode cX2_isBest 13 = .ok (.ireturn, 1) := by decide +kernel
theorem dX2_isBest_14 : decode cX2_isBest 14 = .ok (.aload_n 0, 1) := by decide +kernel
theorem dX2_isBest_15 : decode cX2_isBest 15 = .ok (.iconst (-1), 1) := by decide +kernel
theorem dX2_isBest_16 : decode cX2_isBest 16 = .ok (.invokevirtual 55, 3) := by decide +kernel
theorem dX2_isBest_19 : decode cX2_isBest 19 = .ok (.istore_n 2, 1) := by decide +kernel
theorem dX2_isBest_20 : decode cX2_isBest 20 = .ok (.aload_n 0, 1) := by decide +kernel
theorem dX2_isBest_21 : decode cX2_isBest 21 = .ok (.iload_n 1, 1) := by decide +kernel
theorem dX2_isBest_22 : decode cX2_isBest 22 = .ok (.invokevirtual 52, 3) := by decide +kernel
theorem dX2_isBest_25 : decode cX2_isBest 25 = .ok (.ifCond .eq 17, 3) := by decide +kernel
theorem dX2_isBest_28 : decode cX2_isBest 28 = .ok (.aload_n 0, 1) := by decide +kernel
theorem dX2_isBest_29 : decode cX2_isBest 29 = .ok (.iload_n 1, 1) := by decide +kernel
theorem dX2_isBest_30 : decode cX2_isBest 30 = .ok (.iconst (-1), 1) := by decide +kernel
theorem dX2_isBest_31 : decode cX2_isBest 31 = .ok (.invokevirtual 49, 3) := by decide +kernel
theorem dX2_isBest_34 : decode cX2_isBest 34 = .ok (.iload_n 2, 1) := by decide +kernel
theorem dX2_isBest_35 : decode cX2_isBest 35 = .ok (.if_icmp .ne 7, 3) := by decide +kernel
theorem dX2_isBest_38 : decode cX2_isBest 38 = .ok (.iconst 1, 1) := by decide +kernel
theorem dX2_isBest_39 : decode cX2_isBest 39 = .ok (.goto 4, 3) := by decide +kernel
theorem dX2_isBest_42 : decode cX2_isBest 42 = .ok (.iconst 0, 1) := by decide +kernel
theorem dX2_isBest_43 : decode cX2_isBest 43 = .ok (.ireturn, 1) := by decide +kernel
abbrev cX2_settledCount : ByteArray := prog_3_method_25_code
def yX2_settledCount : MethodName := ⟨RX2, "settledCount", "()I"⟩
theorem dX2_settledCount_0 : decode cX2_settledCount 0 = .ok (.aload_n 0, 1) := by decide +kernel
theorem dX2_settledCount_1 : decode cX2_settledCount 1 = .ok (.invokevirtual 59, 3) := by decide +kernel
theorem dX2_settledCount_4 : decode cX2_settledCount 4 = .ok (.istore_n 1, 1) := by decide +kernel
theorem dX2_settledCount_5 : decode cX2_settledCount 5 = .ok (.aload_n 0, 1) := by decide +kernel
theorem dX2_settledCount_6 : decode cX2_settledCount 6 = .ok (.invokevirtual 63, 3) := by decide +kernel
theorem dX2_settledCount_9 : decode cX2_settledCount 9 = .ok (.istore_n 2, 1) := by decide +kernel
theorem dX2_settledCount_10 : decode cX2_settledCount 10 = .ok (.iconst 0, 1) := by decide +kernel
theorem dX2_settledCount_11 : decode cX2_settledCount 11 = .ok (.istore_n 3, 1) := by decide +kernel
theorem dX2_settledCount_12 : decode cX2_settledCount 12 = .ok (.iconst 0, 1) := by decide +kernel
theorem dX2_settledCount_13 : decode cX2_settledCount 13 = .ok (.istore 4, 2) := by decide +kernel
theorem dX2_settledCount_15 : decode cX2_settledCount 15 = .ok (.iload 4, 2) := by decide +kernel
theorem dX2_settledCount_17 : decode cX2_settledCount 17 = .ok (.aload_n 0, 1) := by decide +kernel
theorem dX2_settledCount_18 : decode cX2_settledCount 18 = .ok (.getfield 28, 3) := by decide +kernel
theorem dX2_settledCount_21 : decode cX2_settledCount 21 = .ok (.if_icmp .ge 29, 3) := by decide +kernel
theorem dX2_settledCount_24 : decode cX2_settledCount 24 = .ok (.aload_n 0, 1) := by decide +kernel
theorem dX2_settledCount_25 : decode cX2_settledCount 25 = .ok (.iload_n 1, 1) := by decide +kernel
theorem dX2_settledCount_26 : decode cX2_settledCount 26 = .ok (.iload 4, 2) := by decide +kernel
theorem dX2_settledCount_28 : decode cX2_settledCount 28 = .ok (.invokevirtual 45, 3) := by decide +kernel
theorem dX2_settledCount_31 : decode cX2_settledCount 31 = .ok (.aload_n 0, 1) := by decide +kernel
theorem dX2_settledCount_32 : decode cX2_settledCount 32 = .ok (.iload_n 2, 1) := by decide +kernel
theorem dX2_settledCount_33 : decode cX2_settledCount 33 = .ok (.iload 4, 2) := by decide +kernel
theorem dX2_settledCount_35 : decode cX2_settledCount 35 = .ok (.invokevirtual 45, 3) := by decide +kernel
theorem dX2_settledCount_38 : decode cX2_settledCount 38 = .ok (.if_icmp .ne 6, 3) := by decide +kernel
theorem dX2_settledCount_41 : decode cX2_settledCount 41 = .ok (.iinc 3 1, 3) := by decide +kernel
theorem dX2_settledCount_44 : decode cX2_settledCount 44 = .ok (.iinc 4 1, 3) := by decide +kernel
theorem dX2_settledCount_47 : decode cX2_settledCount 47 = .ok (.goto (-32), 3) := by decide +kernel
theorem dX2_settledCount_50 : decode cX2_settledCount 50 = .ok (.iload_n 3, 1) := by decide +kernel
theorem dX2_settledCount_51 : decode cX2_settledCount 51 = .ok (.ireturn, 1) := by decide +kernel
theorem q19 : (Jvm.Cond.initialized "UnboxPlannerModel") ∈ lw_all := lw_g (lw_at lw_m1 2 rfl) rfl
theorem q175 : (Jvm.Cond.instantiable "UnboxPlannerModel" (9 : Nat)) ∈ lw_all := lw_g (lw_at lw_m1 158 rfl) rfl
theorem q177 : (Jvm.Cond.instanceMethod ({ cls := "UnboxPlannerModel", name := "<init>", desc := "(I)V" } : Jvm.MethodName)) ∈ lw_all := lw_g (lw_at lw_m1 160 rfl) rfl
theorem q178 : (Jvm.Cond.code ({ cls := "UnboxPlannerModel", name := "<init>", desc := "(I)V" } : Jvm.MethodName) prog_3_method_1_code (3 : Nat) (Option.none : Option Jvm.ClassFile.FieldType)) ∈ lw_all := lw_g (lw_at lw_m1 161 rfl) rfl
theorem q179 : (Jvm.Cond.methodLink "UnboxPlannerModel" (1 : Nat) ({ cls := "java/lang/Object", name := "<init>", desc := "()V" } : Jvm.MethodName)) ∈ lw_all := lw_g (lw_at lw_m1 162 rfl) rfl
theorem q180 : (Jvm.Cond.fieldLink "UnboxPlannerModel" (28 : Nat) "UnboxPlannerModel" "n" "I") ∈ lw_all := lw_g (lw_at lw_m1 163 rfl) rfl
theorem q181 : (Jvm.Cond.fieldLink "UnboxPlannerModel" (32 : Nat) "UnboxPlannerModel" "plans" "I") ∈ lw_all := lw_g (lw_at lw_m1 164 rfl) rfl
theorem q182 : (Jvm.Cond.fieldLink "UnboxPlannerModel" (7 : Nat) "UnboxPlannerModel" "price" "[I") ∈ lw_all := lw_g (lw_at lw_m1 165 rfl) rfl
theorem q183 : (Jvm.Cond.fieldLink "UnboxPlannerModel" (13 : Nat) "UnboxPlannerModel" "fixed" "[I") ∈ lw_all := lw_g (lw_at lw_m1 166 rfl) rfl
theorem q184 : (Jvm.Cond.fieldLink "UnboxPlannerModel" (35 : Nat) "UnboxPlannerModel" "count" "I") ∈ lw_all := lw_g (lw_at lw_m1 167 rfl) rfl
theorem q185 : (Jvm.Cond.fieldLink "UnboxPlannerModel" (16 : Nat) "UnboxPlannerModel" "from" "[I") ∈ lw_all := lw_g (lw_at lw_m1 168 rfl) rfl
theorem q186 : (Jvm.Cond.fieldLink "UnboxPlannerModel" (19 : Nat) "UnboxPlannerModel" "to" "[I") ∈ lw_all := lw_g (lw_at lw_m1 169 rfl) rfl
theorem q187 : (Jvm.Cond.fieldLink "UnboxPlannerModel" (22 : Nat) "UnboxPlannerModel" "boxing" "[I") ∈ lw_all := lw_g (lw_at lw_m1 170 rfl) rfl
theorem q188 : (Jvm.Cond.fieldLink "UnboxPlannerModel" (25 : Nat) "UnboxPlannerModel" "unboxing" "[I") ∈ lw_all := lw_g (lw_at lw_m1 171 rfl) rfl
theorem q189 : (Jvm.Cond.lays "UnboxPlannerModel" "UnboxPlannerModel" "n" "I") ∈ lw_all := lw_g (lw_at lw_m1 172 rfl) rfl
theorem q190 : (Jvm.Cond.soleField "UnboxPlannerModel" "n") ∈ lw_all := lw_g (lw_at lw_m1 173 rfl) rfl
theorem q191 : (Jvm.Cond.lays "UnboxPlannerModel" "UnboxPlannerModel" "plans" "I") ∈ lw_all := lw_g (lw_at lw_m1 174 rfl) rfl
theorem q192 : (Jvm.Cond.soleField "UnboxPlannerModel" "plans") ∈ lw_all := lw_g (lw_at lw_m1 175 rfl) rfl
theorem q193 : (Jvm.Cond.lays "UnboxPlannerModel" "UnboxPlannerModel" "price" "[I") ∈ lw_all := lw_g (lw_at lw_m1 176 rfl) rfl
theorem q194 : (Jvm.Cond.soleField "UnboxPlannerModel" "price") ∈ lw_all := lw_g (lw_at lw_m1 177 rfl) rfl
theorem q195 : (Jvm.Cond.lays "UnboxPlannerModel" "UnboxPlannerModel" "fixed" "[I") ∈ lw_all := lw_g (lw_at lw_m1 178 rfl) rfl
theorem q196 : (Jvm.Cond.soleField "UnboxPlannerModel" "fixed") ∈ lw_all := lw_g (lw_at lw_m1 179 rfl) rfl
theorem q197 : (Jvm.Cond.lays "UnboxPlannerModel" "UnboxPlannerModel" "count" "I") ∈ lw_all := lw_g (lw_at lw_m1 180 rfl) rfl
theorem q198 : (Jvm.Cond.soleField "UnboxPlannerModel" "count") ∈ lw_all := lw_g (lw_at lw_m1 181 rfl) rfl
theorem q199 : (Jvm.Cond.lays "UnboxPlannerModel" "UnboxPlannerModel" "from" "[I") ∈ lw_all := lw_g (lw_at lw_m1 182 rfl) rfl
theorem q200 : (Jvm.Cond.soleField "UnboxPlannerModel" "from") ∈ lw_all := lw_g (lw_at lw_m1 183 rfl) rfl
theorem q201 : (Jvm.Cond.lays "UnboxPlannerModel" "UnboxPlannerModel" "to" "[I") ∈ lw_all := lw_g (lw_at lw_m1 184 rfl) rfl
theorem q202 : (Jvm.Cond.soleField "UnboxPlannerModel" "to") ∈ lw_all := lw_g (lw_at lw_m1 185 rfl) rfl
theorem q203 : (Jvm.Cond.lays "UnboxPlannerModel" "UnboxPlannerModel" "boxing" "[I") ∈ lw_all := lw_g (lw_at lw_m1 186 rfl) rfl
theorem q204 : (Jvm.Cond.soleField "UnboxPlannerModel" "boxing") ∈ lw_all := lw_g (lw_at lw_m1 187 rfl) rfl
theorem q205 : (Jvm.Cond.lays "UnboxPlannerModel" "UnboxPlannerModel" "unboxing" "[I") ∈ lw_all := lw_g (lw_at lw_m1 188 rfl) rfl
theorem q206 : (Jvm.Cond.soleField "UnboxPlannerModel" "unboxing") ∈ lw_all := lw_g (lw_at lw_m1 189 rfl) rfl
theorem q207 : (Jvm.Cond.superclass "UnboxPlannerModel" "java/lang/Object") ∈ lw_all := lw_g (lw_at lw_m1 190 rfl) rfl
theorem q209 : (Jvm.Cond.instanceMethod ({ cls := "UnboxPlannerModel", name := "values", desc := "()I" } : Jvm.MethodName)) ∈ lw_all := lw_g (lw_at lw_m1 192 rfl) rfl
theorem q210 : (Jvm.Cond.selects "UnboxPlannerModel" ({ cls := "UnboxPlannerModel", name := "values", desc := "()I" } : Jvm.MethodName) ({ cls := "UnboxPlannerModel", name := "values", desc := "()I" } : Jvm.MethodName)) ∈ lw_all := lw_g (lw_at lw_m1 193 rfl) rfl
theorem q211 : (Jvm.Cond.code ({ cls := "UnboxPlannerModel", name := "values", desc := "()I" } : Jvm.MethodName) prog_3_method_2_code (1 : Nat) (Option.some Jvm.ClassFile.FieldType.int)) ∈ lw_all := lw_g (lw_at lw_m1 194 rfl) rfl
theorem q213 : (Jvm.Cond.instanceMethod ({ cls := "UnboxPlannerModel", name := "cost", desc := "(III)I" } : Jvm.MethodName)) ∈ lw_all := lw_g (lw_at lw_m1 196 rfl) rfl
theorem q214 : (Jvm.Cond.selects "UnboxPlannerModel" ({ cls := "UnboxPlannerModel", name := "cost", desc := "(III)I" } : Jvm.MethodName) ({ cls := "UnboxPlannerModel", name := "cost", desc := "(III)I" } : Jvm.MethodName)) ∈ lw_all := lw_g (lw_at lw_m1 197 rfl) rfl
theorem q215 : (Jvm.Cond.code ({ cls := "UnboxPlannerModel", name := "cost", desc := "(III)I" } : Jvm.MethodName) prog_3_method_6_code (5 : Nat) (Option.some Jvm.ClassFile.FieldType.int)) ∈ lw_all := lw_g (lw_at lw_m1 198 rfl) rfl
theorem q216 : (Jvm.Cond.methodLink "UnboxPlannerModel" (38 : Nat) ({ cls := "UnboxPlannerModel", name := "bad", desc := "(I)Z" } : Jvm.MethodName)) ∈ lw_all := lw_g (lw_at lw_m1 199 rfl) rfl
theorem q217 : (Jvm.Cond.privateMethod ({ cls := "UnboxPlannerModel", name := "bad", desc := "(I)Z" } : Jvm.MethodName)) ∈ lw_tbl := lw_at lw_m1 200 rfl
theorem q218 : (Jvm.Cond.instanceMethod ({ cls := "UnboxPlannerModel", name := "bad", desc := "(I)Z" } : Jvm.MethodName)) ∈ lw_all := lw_g (lw_at lw_m1 201 rfl) rfl
theorem q219 : (Jvm.Cond.code ({ cls := "UnboxPlannerModel", name := "bad", desc := "(I)Z" } : Jvm.MethodName) prog_3_method_3_code (2 : Nat) (Option.some Jvm.ClassFile.FieldType.boolean)) ∈ lw_all := lw_g (lw_at lw_m1 202 rfl) rfl
theorem q221 : (Jvm.Cond.instanceMethod ({ cls := "UnboxPlannerModel", name := "flow", desc := "(IIII)I" } : Jvm.MethodName)) ∈ lw_all := lw_g (lw_at lw_m1 204 rfl) rfl
theorem q222 : (Jvm.Cond.selects "UnboxPlannerModel" ({ cls := "UnboxPlannerModel", name := "flow", desc := "(IIII)I" } : Jvm.MethodName) ({ cls := "UnboxPlannerModel", name := "flow", desc := "(IIII)I" } : Jvm.MethodName)) ∈ lw_all := lw_g (lw_at lw_m1 205 rfl) rfl
theorem q223 : (Jvm.Cond.code ({ cls := "UnboxPlannerModel", name := "flow", desc := "(IIII)I" } : Jvm.MethodName) prog_3_method_7_code (6 : Nat) (Option.some Jvm.ClassFile.FieldType.int)) ∈ lw_all := lw_g (lw_at lw_m1 206 rfl) rfl
theorem q225 : (Jvm.Cond.instanceMethod ({ cls := "UnboxPlannerModel", name := "cut", desc := "(I)I" } : Jvm.MethodName)) ∈ lw_all := lw_g (lw_at lw_m1 208 rfl) rfl
theorem q226 : (Jvm.Cond.selects "UnboxPlannerModel" ({ cls := "UnboxPlannerModel", name := "cut", desc := "(I)I" } : Jvm.MethodName) ({ cls := "UnboxPlannerModel", name := "cut", desc := "(I)I" } : Jvm.MethodName)) ∈ lw_all := lw_g (lw_at lw_m1 209 rfl) rfl
theorem q227 : (Jvm.Cond.code ({ cls := "UnboxPlannerModel", name := "cut", desc := "(I)I" } : Jvm.MethodName) prog_3_method_8_code (3 : Nat) (Option.some Jvm.ClassFile.FieldType.int)) ∈ lw_all := lw_g (lw_at lw_m1 210 rfl) rfl
theorem q228 : (Jvm.Cond.methodLink "UnboxPlannerModel" (42 : Nat) ({ cls := "UnboxPlannerModel", name := "badFlow", desc := "(I)Z" } : Jvm.MethodName)) ∈ lw_all := lw_g (lw_at lw_m1 211 rfl) rfl
theorem q229 : (Jvm.Cond.privateMethod ({ cls := "UnboxPlannerModel", name := "badFlow", desc := "(I)Z" } : Jvm.MethodName)) ∈ lw_tbl := lw_at lw_m1 212 rfl
theorem q230 : (Jvm.Cond.instanceMethod ({ cls := "UnboxPlannerModel", name := "badFlow", desc := "(I)Z" } : Jvm.MethodName)) ∈ lw_all := lw_g (lw_at lw_m1 213 rfl) rfl
theorem q231 : (Jvm.Cond.code ({ cls := "UnboxPlannerModel", name := "badFlow", desc := "(I)Z" } : Jvm.MethodName) prog_3_method_4_code (2 : Nat) (Option.some Jvm.ClassFile.FieldType.boolean)) ∈ lw_all := lw_g (lw_at lw_m1 214 rfl) rfl
theorem q233 : (Jvm.Cond.instanceMethod ({ cls := "UnboxPlannerModel", name := "fix", desc := "(II)I" } : Jvm.MethodName)) ∈ lw_all := lw_g (lw_at lw_m1 216 rfl) rfl
theorem q234 : (Jvm.Cond.selects "UnboxPlannerModel" ({ cls := "UnboxPlannerModel", name := "fix", desc := "(II)I" } : Jvm.MethodName) ({ cls := "UnboxPlannerModel", name := "fix", desc := "(II)I" } : Jvm.MethodName)) ∈ lw_all := lw_g (lw_at lw_m1 217 rfl) rfl
theorem q235 : (Jvm.Cond.code ({ cls := "UnboxPlannerModel", name := "fix", desc := "(II)I" } : Jvm.MethodName) prog_3_method_9_code (4 : Nat) (Option.some Jvm.ClassFile.FieldType.int)) ∈ lw_all := lw_g (lw_at lw_m1 218 rfl) rfl
theorem q237 : (Jvm.Cond.instanceMethod ({ cls := "UnboxPlannerModel", name := "flows", desc := "()I" } : Jvm.MethodName)) ∈ lw_all := lw_g (lw_at lw_m1 220 rfl) rfl
theorem q238 : (Jvm.Cond.selects "UnboxPlannerModel" ({ cls := "UnboxPlannerModel", name := "flows", desc := "()I" } : Jvm.MethodName) ({ cls := "UnboxPlannerModel", name := "flows", desc := "()I" } : Jvm.MethodName)) ∈ lw_all := lw_g (lw_at lw_m1 221 rfl) rfl
theorem q239 : (Jvm.Cond.code ({ cls := "UnboxPlannerModel", name := "flows", desc := "()I" } : Jvm.MethodName) prog_3_method_10_code (1 : Nat) (Option.some Jvm.ClassFile.FieldType.int)) ∈ lw_all := lw_g (lw_at lw_m1 222 rfl) rfl
theorem q241 : (Jvm.Cond.instanceMethod ({ cls := "UnboxPlannerModel", name := "costOf", desc := "(I)I" } : Jvm.MethodName)) ∈ lw_all := lw_g (lw_at lw_m1 224 rfl) rfl
theorem q242 : (Jvm.Cond.selects "UnboxPlannerModel" ({ cls := "UnboxPlannerModel", name := "costOf", desc := "(I)I" } : Jvm.MethodName) ({ cls := "UnboxPlannerModel", name := "costOf", desc := "(I)I" } : Jvm.MethodName)) ∈ lw_all := lw_g (lw_at lw_m1 225 rfl) rfl
theorem q243 : (Jvm.Cond.code ({ cls := "UnboxPlannerModel", name := "costOf", desc := "(I)I" } : Jvm.MethodName) prog_3_method_13_code (2 : Nat) (Option.some Jvm.ClassFile.FieldType.int)) ∈ lw_all := lw_g (lw_at lw_m1 226 rfl) rfl
theorem q244 : (Jvm.Cond.methodLink "UnboxPlannerModel" (49 : Nat) ({ cls := "UnboxPlannerModel", name := "total", desc := "(II)I" } : Jvm.MethodName)) ∈ lw_all := lw_g (lw_at lw_m1 227 rfl) rfl
theorem q245 : (Jvm.Cond.privateMethod ({ cls := "UnboxPlannerModel", name := "total", desc := "(II)I" } : Jvm.MethodName)) ∈ lw_tbl := lw_at lw_m1 228 rfl
theorem q246 : (Jvm.Cond.instanceMethod ({ cls := "UnboxPlannerModel", name := "total", desc := "(II)I" } : Jvm.MethodName)) ∈ lw_all := lw_g (lw_at lw_m1 229 rfl) rfl
theorem q247 : (Jvm.Cond.code ({ cls := "UnboxPlannerModel", name := "total", desc := "(II)I" } : Jvm.MethodName) prog_3_method_11_code (7 : Nat) (Option.some Jvm.ClassFile.FieldType.int)) ∈ lw_all := lw_g (lw_at lw_m1 230 rfl) rfl
theorem q248 : (Jvm.Cond.methodLink "UnboxPlannerModel" (45 : Nat) ({ cls := "UnboxPlannerModel", name := "form", desc := "(II)I" } : Jvm.MethodName)) ∈ lw_all := lw_g (lw_at lw_m1 231 rfl) rfl
theorem q249 : (Jvm.Cond.privateMethod ({ cls := "UnboxPlannerModel", name := "form", desc := "(II)I" } : Jvm.MethodName)) ∈ lw_tbl := lw_at lw_m1 232 rfl
theorem q250 : (Jvm.Cond.instanceMethod ({ cls := "UnboxPlannerModel", name := "form", desc := "(II)I" } : Jvm.MethodName)) ∈ lw_all := lw_g (lw_at lw_m1 233 rfl) rfl
theorem q251 : (Jvm.Cond.code ({ cls := "UnboxPlannerModel", name := "form", desc := "(II)I" } : Jvm.MethodName) prog_3_method_5_code (3 : Nat) (Option.some Jvm.ClassFile.FieldType.int)) ∈ lw_all := lw_g (lw_at lw_m1 234 rfl) rfl
theorem q253 : (Jvm.Cond.instanceMethod ({ cls := "UnboxPlannerModel", name := "best", desc := "()I" } : Jvm.MethodName)) ∈ lw_all := lw_g (lw_at lw_m1 236 rfl) rfl
theorem q254 : (Jvm.Cond.selects "UnboxPlannerModel" ({ cls := "UnboxPlannerModel", name := "best", desc := "()I" } : Jvm.MethodName) ({ cls := "UnboxPlannerModel", name := "best", desc := "()I" } : Jvm.MethodName)) ∈ lw_all := lw_g (lw_at lw_m1 237 rfl) rfl
theorem q255 : (Jvm.Cond.code ({ cls := "UnboxPlannerModel", name := "best", desc := "()I" } : Jvm.MethodName) prog_3_method_15_code (1 : Nat) (Option.some Jvm.ClassFile.FieldType.int)) ∈ lw_all := lw_g (lw_at lw_m1 238 rfl) rfl
theorem q256 : (Jvm.Cond.methodLink "UnboxPlannerModel" (55 : Nat) ({ cls := "UnboxPlannerModel", name := "least", desc := "(I)I" } : Jvm.MethodName)) ∈ lw_all := lw_g (lw_at lw_m1 239 rfl) rfl
theorem q257 : (Jvm.Cond.privateMethod ({ cls := "UnboxPlannerModel", name := "least", desc := "(I)I" } : Jvm.MethodName)) ∈ lw_tbl := lw_at lw_m2 0 rfl
theorem q258 : (Jvm.Cond.instanceMethod ({ cls := "UnboxPlannerModel", name := "least", desc := "(I)I" } : Jvm.MethodName)) ∈ lw_all := lw_g (lw_at lw_m2 1 rfl) rfl
theorem q259 : (Jvm.Cond.code ({ cls := "UnboxPlannerModel", name := "least", desc := "(I)I" } : Jvm.MethodName) prog_3_method_14_code (5 : Nat) (Option.some Jvm.ClassFile.FieldType.int)) ∈ lw_all := lw_g (lw_at lw_m2 2 rfl) rfl
theorem q260 : (Jvm.Cond.methodLink "UnboxPlannerModel" (52 : Nat) ({ cls := "UnboxPlannerModel", name := "allowed", desc := "(I)Z" } : Jvm.MethodName)) ∈ lw_all := lw_g (lw_at lw_m2 3 rfl) rfl
theorem q261 : (Jvm.Cond.privateMethod ({ cls := "UnboxPlannerModel", name := "allowed", desc := "(I)Z" } : Jvm.MethodName)) ∈ lw_tbl := lw_at lw_m2 4 rfl
theorem q262 : (Jvm.Cond.instanceMethod ({ cls := "UnboxPlannerModel", name := "allowed", desc := "(I)Z" } : Jvm.MethodName)) ∈ lw_all := lw_g (lw_at lw_m2 5 rfl) rfl
theorem q263 : (Jvm.Cond.code ({ cls := "UnboxPlannerModel", name := "allowed", desc := "(I)Z" } : Jvm.MethodName) prog_3_method_12_code (3 : Nat) (Option.some Jvm.ClassFile.FieldType.boolean)) ∈ lw_all := lw_g (lw_at lw_m2 6 rfl) rfl
theorem q265 : (Jvm.Cond.instanceMethod ({ cls := "UnboxPlannerModel", name := "fewestBoxed", desc := "()I" } : Jvm.MethodName)) ∈ lw_all := lw_g (lw_at lw_m2 8 rfl) rfl
theorem q266 : (Jvm.Cond.selects "UnboxPlannerModel" ({ cls := "UnboxPlannerModel", name := "fewestBoxed", desc := "()I" } : Jvm.MethodName) ({ cls := "UnboxPlannerModel", name := "fewestBoxed", desc := "()I" } : Jvm.MethodName)) ∈ lw_all := lw_g (lw_at lw_m2 9 rfl) rfl
theorem q267 : (Jvm.Cond.code ({ cls := "UnboxPlannerModel", name := "fewestBoxed", desc := "()I" } : Jvm.MethodName) prog_3_method_18_code (1 : Nat) (Option.some Jvm.ClassFile.FieldType.int)) ∈ lw_all := lw_g (lw_at lw_m2 10 rfl) rfl
theorem q268 : (Jvm.Cond.methodLink "UnboxPlannerModel" (59 : Nat) ({ cls := "UnboxPlannerModel", name := "common", desc := "()I" } : Jvm.MethodName)) ∈ lw_all := lw_g (lw_at lw_m2 11 rfl) rfl
theorem q269 : (Jvm.Cond.privateMethod ({ cls := "UnboxPlannerModel", name := "common", desc := "()I" } : Jvm.MethodName)) ∈ lw_tbl := lw_at lw_m2 12 rfl
theorem q270 : (Jvm.Cond.instanceMethod ({ cls := "UnboxPlannerModel", name := "common", desc := "()I" } : Jvm.MethodName)) ∈ lw_all := lw_g (lw_at lw_m2 13 rfl) rfl
theorem q271 : (Jvm.Cond.code ({ cls := "UnboxPlannerModel", name := "common", desc := "()I" } : Jvm.MethodName) prog_3_method_16_code (4 : Nat) (Option.some Jvm.ClassFile.FieldType.int)) ∈ lw_all := lw_g (lw_at lw_m2 14 rfl) rfl
theorem q273 : (Jvm.Cond.instanceMethod ({ cls := "UnboxPlannerModel", name := "mostBoxed", desc := "()I" } : Jvm.MethodName)) ∈ lw_all := lw_g (lw_at lw_m2 16 rfl) rfl
theorem q274 : (Jvm.Cond.selects "UnboxPlannerModel" ({ cls := "UnboxPlannerModel", name := "mostBoxed", desc := "()I" } : Jvm.MethodName) ({ cls := "UnboxPlannerModel", name := "mostBoxed", desc := "()I" } : Jvm.MethodName)) ∈ lw_all := lw_g (lw_at lw_m2 17 rfl) rfl
theorem q275 : (Jvm.Cond.code ({ cls := "UnboxPlannerModel", name := "mostBoxed", desc := "()I" } : Jvm.MethodName) prog_3_method_19_code (1 : Nat) (Option.some Jvm.ClassFile.FieldType.int)) ∈ lw_all := lw_g (lw_at lw_m2 18 rfl) rfl
theorem q276 : (Jvm.Cond.methodLink "UnboxPlannerModel" (63 : Nat) ({ cls := "UnboxPlannerModel", name := "some", desc := "()I" } : Jvm.MethodName)) ∈ lw_all := lw_g (lw_at lw_m2 19 rfl) rfl
theorem q277 : (Jvm.Cond.privateMethod ({ cls := "UnboxPlannerModel", name := "some", desc := "()I" } : Jvm.MethodName)) ∈ lw_tbl := lw_at lw_m2 20 rfl
theorem q278 : (Jvm.Cond.instanceMethod ({ cls := "UnboxPlannerModel", name := "some", desc := "()I" } : Jvm.MethodName)) ∈ lw_all := lw_g (lw_at lw_m2 21 rfl) rfl
theorem q279 : (Jvm.Cond.code ({ cls := "UnboxPlannerModel", name := "some", desc := "()I" } : Jvm.MethodName) prog_3_method_17_code (4 : Nat) (Option.some Jvm.ClassFile.FieldType.int)) ∈ lw_all := lw_g (lw_at lw_m2 22 rfl) rfl
theorem q281 : (Jvm.Cond.instanceMethod ({ cls := "UnboxPlannerModel", name := "settled", desc := "(I)I" } : Jvm.MethodName)) ∈ lw_all := lw_g (lw_at lw_m2 24 rfl) rfl
theorem q282 : (Jvm.Cond.selects "UnboxPlannerModel" ({ cls := "UnboxPlannerModel", name := "settled", desc := "(I)I" } : Jvm.MethodName) ({ cls := "UnboxPlannerModel", name := "settled", desc := "(I)I" } : Jvm.MethodName)) ∈ lw_all := lw_g (lw_at lw_m2 25 rfl) rfl
theorem q283 : (Jvm.Cond.code ({ cls := "UnboxPlannerModel", name := "settled", desc := "(I)I" } : Jvm.MethodName) prog_3_method_20_code (4 : Nat) (Option.some Jvm.ClassFile.FieldType.int)) ∈ lw_all := lw_g (lw_at lw_m2 26 rfl) rfl
theorem q285 : (Jvm.Cond.instanceMethod ({ cls := "UnboxPlannerModel", name := "bestWith", desc := "(II)I" } : Jvm.MethodName)) ∈ lw_all := lw_g (lw_at lw_m2 28 rfl) rfl
theorem q286 : (Jvm.Cond.selects "UnboxPlannerModel" ({ cls := "UnboxPlannerModel", name := "bestWith", desc := "(II)I" } : Jvm.MethodName) ({ cls := "UnboxPlannerModel", name := "bestWith", desc := "(II)I" } : Jvm.MethodName)) ∈ lw_all := lw_g (lw_at lw_m2 29 rfl) rfl
theorem q287 : (Jvm.Cond.code ({ cls := "UnboxPlannerModel", name := "bestWith", desc := "(II)I" } : Jvm.MethodName) prog_3_method_21_code (6 : Nat) (Option.some Jvm.ClassFile.FieldType.int)) ∈ lw_all := lw_g (lw_at lw_m2 30 rfl) rfl
theorem q289 : (Jvm.Cond.instanceMethod ({ cls := "UnboxPlannerModel", name := "bestTied", desc := "(III)I" } : Jvm.MethodName)) ∈ lw_all := lw_g (lw_at lw_m2 32 rfl) rfl
theorem q290 : (Jvm.Cond.selects "UnboxPlannerModel" ({ cls := "UnboxPlannerModel", name := "bestTied", desc := "(III)I" } : Jvm.MethodName) ({ cls := "UnboxPlannerModel", name := "bestTied", desc := "(III)I" } : Jvm.MethodName)) ∈ lw_all := lw_g (lw_at lw_m2 33 rfl) rfl
theorem q291 : (Jvm.Cond.code ({ cls := "UnboxPlannerModel", name := "bestTied", desc := "(III)I" } : Jvm.MethodName) prog_3_method_22_code (8 : Nat) (Option.some Jvm.ClassFile.FieldType.int)) ∈ lw_all := lw_g (lw_at lw_m2 34 rfl) rfl
theorem q293 : (Jvm.Cond.instanceMethod ({ cls := "UnboxPlannerModel", name := "saving", desc := "(I)I" } : Jvm.MethodName)) ∈ lw_all := lw_g (lw_at lw_m2 36 rfl) rfl
theorem q294 : (Jvm.Cond.selects "UnboxPlannerModel" ({ cls := "UnboxPlannerModel", name := "saving", desc := "(I)I" } : Jvm.MethodName) ({ cls := "UnboxPlannerModel", name := "saving", desc := "(I)I" } : Jvm.MethodName)) ∈ lw_all := lw_g (lw_at lw_m2 37 rfl) rfl
theorem q295 : (Jvm.Cond.code ({ cls := "UnboxPlannerModel", name := "saving", desc := "(I)I" } : Jvm.MethodName) prog_3_method_23_code (4 : Nat) (Option.some Jvm.ClassFile.FieldType.int)) ∈ lw_all := lw_g (lw_at lw_m2 38 rfl) rfl
theorem q297 : (Jvm.Cond.instanceMethod ({ cls := "UnboxPlannerModel", name := "isBest", desc := "(I)I" } : Jvm.MethodName)) ∈ lw_all := lw_g (lw_at lw_m2 40 rfl) rfl
theorem q298 : (Jvm.Cond.selects "UnboxPlannerModel" ({ cls := "UnboxPlannerModel", name := "isBest", desc := "(I)I" } : Jvm.MethodName) ({ cls := "UnboxPlannerModel", name := "isBest", desc := "(I)I" } : Jvm.MethodName)) ∈ lw_all := lw_g (lw_at lw_m2 41 rfl) rfl
theorem q299 : (Jvm.Cond.code ({ cls := "UnboxPlannerModel", name := "isBest", desc := "(I)I" } : Jvm.MethodName) prog_3_method_24_code (3 : Nat) (Option.some Jvm.ClassFile.FieldType.int)) ∈ lw_all := lw_g (lw_at lw_m2 42 rfl) rfl
theorem q301 : (Jvm.Cond.instanceMethod ({ cls := "UnboxPlannerModel", name := "settledCount", desc := "()I" } : Jvm.MethodName)) ∈ lw_all := lw_g (lw_at lw_m2 44 rfl) rfl
theorem q302 : (Jvm.Cond.selects "UnboxPlannerModel" ({ cls := "UnboxPlannerModel", name := "settledCount", desc := "()I" } : Jvm.MethodName) ({ cls := "UnboxPlannerModel", name := "settledCount", desc := "()I" } : Jvm.MethodName)) ∈ lw_all := lw_g (lw_at lw_m2 45 rfl) rfl
theorem q303 : (Jvm.Cond.code ({ cls := "UnboxPlannerModel", name := "settledCount", desc := "()I" } : Jvm.MethodName) prog_3_method_25_code (5 : Nat) (Option.some Jvm.ClassFile.FieldType.int)) ∈ lw_all := lw_g (lw_at lw_m2 46 rfl) rfl
theorem in_X2 : ∀ w ∈ wsX20, w ∈ lw_all := lw_in wsX20 [189, 191, 193, 195, 197, 199, 201, 203, 205] (by decide +kernel) (by decide +kernel)
end
section
/-! UnboxPlannerLaw -/
set_option maxRecDepth 100000
def RX0 : String := "UnboxPlannerLaw"
abbrev cX0_cell : ByteArray := method_2_code
def yX0_cell : MethodName := ⟨RX0, "cell", "([II)I"⟩
theorem dX0_cell_0 : decode cX0_cell 0 = .ok (.iload_n 1, 1) := by decide +kernel
theorem dX0_cell_1 : decode cX0_cell 1 = .ok (.aload_n 0, 1) := by decide +kernel
theorem dX0_cell_2 : decode cX0_cell 2 = .ok (.arraylength, 1) := by decide +kernel
theorem dX0_cell_3 : decode cX0_cell 3 = .ok (.if_icmp .ge 9, 3) := by decide +kernel
theorem dX0_cell_6 : decode cX0_cell 6 = .ok (.aload_n 0, 1) := by decide +kernel
theorem dX0_cell_7 : decode cX0_cell 7 = .ok (.iload_n 1, 1) := by decide +kernel
theorem dX0_cell_8 : decode cX0_cell 8 = .ok (.iaload, 1) := by decide +kernel
theorem dX0_cell_9 : decode cX0_cell 9 = .ok (.goto 4, 3) := by decide +kernel
theorem dX0_cell_12 : decode cX0_cell 12 = .ok (.iconst 0, 1) := by decide +kernel
theorem dX0_cell_13 : decode cX0_cell 13 = .ok (.ireturn, 1) := by decide +kernel
theorem q17 : (Jvm.Cond.initialized "UnboxPlannerLaw") ∈ lw_all := lw_g (lw_at lw_m1 0 rfl) rfl
theorem q20 : (Jvm.Cond.classLink "UnboxPlannerLaw" (7 : Nat) "UnboxPlanner") ∈ lw_all := lw_g (lw_at lw_m1 3 rfl) rfl
theorem q22 : (Jvm.Cond.methodLink "UnboxPlannerLaw" (15 : Nat) ({ cls := "UnboxPlanner", name := "<init>", desc := "(I)V" } : Jvm.MethodName)) ∈ lw_all := lw_g (lw_at lw_m1 5 rfl) rfl
theorem q69 : (Jvm.Cond.methodLink "UnboxPlannerLaw" (21 : Nat) ({ cls := "UnboxPlanner", name := "values", desc := "()I" } : Jvm.MethodName)) ∈ lw_all := lw_g (lw_at lw_m1 52 rfl) rfl
theorem q73 : (Jvm.Cond.methodLink "UnboxPlannerLaw" (26 : Nat) ({ cls := "UnboxPlanner", name := "cost", desc := "(III)I" } : Jvm.MethodName)) ∈ lw_all := lw_g (lw_at lw_m1 56 rfl) rfl
theorem q81 : (Jvm.Cond.methodLink "UnboxPlannerLaw" (31 : Nat) ({ cls := "UnboxPlanner", name := "flow", desc := "(IIII)I" } : Jvm.MethodName)) ∈ lw_all := lw_g (lw_at lw_m1 64 rfl) rfl
theorem q85 : (Jvm.Cond.methodLink "UnboxPlannerLaw" (36 : Nat) ({ cls := "UnboxPlanner", name := "cut", desc := "(I)I" } : Jvm.MethodName)) ∈ lw_all := lw_g (lw_at lw_m1 68 rfl) rfl
theorem q93 : (Jvm.Cond.methodLink "UnboxPlannerLaw" (41 : Nat) ({ cls := "UnboxPlanner", name := "fix", desc := "(II)I" } : Jvm.MethodName)) ∈ lw_all := lw_g (lw_at lw_m1 76 rfl) rfl
theorem q97 : (Jvm.Cond.methodLink "UnboxPlannerLaw" (46 : Nat) ({ cls := "UnboxPlanner", name := "flows", desc := "()I" } : Jvm.MethodName)) ∈ lw_all := lw_g (lw_at lw_m1 80 rfl) rfl
theorem q101 : (Jvm.Cond.methodLink "UnboxPlannerLaw" (50 : Nat) ({ cls := "UnboxPlanner", name := "costOf", desc := "(I)I" } : Jvm.MethodName)) ∈ lw_all := lw_g (lw_at lw_m1 84 rfl) rfl
theorem q109 : (Jvm.Cond.methodLink "UnboxPlannerLaw" (54 : Nat) ({ cls := "UnboxPlanner", name := "best", desc := "()I" } : Jvm.MethodName)) ∈ lw_all := lw_g (lw_at lw_m1 92 rfl) rfl
theorem q130 : (Jvm.Cond.methodLink "UnboxPlannerLaw" (58 : Nat) ({ cls := "UnboxPlanner", name := "fewestBoxed", desc := "()I" } : Jvm.MethodName)) ∈ lw_all := lw_g (lw_at lw_m1 113 rfl) rfl
theorem q138 : (Jvm.Cond.methodLink "UnboxPlannerLaw" (62 : Nat) ({ cls := "UnboxPlanner", name := "mostBoxed", desc := "()I" } : Jvm.MethodName)) ∈ lw_all := lw_g (lw_at lw_m1 121 rfl) rfl
theorem q146 : (Jvm.Cond.methodLink "UnboxPlannerLaw" (66 : Nat) ({ cls := "UnboxPlanner", name := "settled", desc := "(I)I" } : Jvm.MethodName)) ∈ lw_all := lw_g (lw_at lw_m1 129 rfl) rfl
theorem q150 : (Jvm.Cond.methodLink "UnboxPlannerLaw" (70 : Nat) ({ cls := "UnboxPlanner", name := "bestWith", desc := "(II)I" } : Jvm.MethodName)) ∈ lw_all := lw_g (lw_at lw_m1 133 rfl) rfl
theorem q154 : (Jvm.Cond.methodLink "UnboxPlannerLaw" (74 : Nat) ({ cls := "UnboxPlanner", name := "bestTied", desc := "(III)I" } : Jvm.MethodName)) ∈ lw_all := lw_g (lw_at lw_m1 137 rfl) rfl
theorem q158 : (Jvm.Cond.methodLink "UnboxPlannerLaw" (78 : Nat) ({ cls := "UnboxPlanner", name := "saving", desc := "(I)I" } : Jvm.MethodName)) ∈ lw_all := lw_g (lw_at lw_m1 141 rfl) rfl
theorem q162 : (Jvm.Cond.methodLink "UnboxPlannerLaw" (82 : Nat) ({ cls := "UnboxPlanner", name := "isBest", desc := "(I)I" } : Jvm.MethodName)) ∈ lw_all := lw_g (lw_at lw_m1 145 rfl) rfl
theorem q167 : (Jvm.Cond.methodLink "UnboxPlannerLaw" (86 : Nat) ({ cls := "UnboxPlanner", name := "settledCount", desc := "()I" } : Jvm.MethodName)) ∈ lw_all := lw_g (lw_at lw_m1 150 rfl) rfl
theorem q171 : (Jvm.Cond.methodLink "UnboxPlannerLaw" (9 : Nat) ({ cls := "UnboxPlannerLaw", name := "cell", desc := "([II)I" } : Jvm.MethodName)) ∈ lw_all := lw_g (lw_at lw_m1 154 rfl) rfl
theorem q172 : (Jvm.Cond.static ({ cls := "UnboxPlannerLaw", name := "cell", desc := "([II)I" } : Jvm.MethodName)) ∈ lw_all := lw_g (lw_at lw_m1 155 rfl) rfl
theorem q173 : (Jvm.Cond.code ({ cls := "UnboxPlannerLaw", name := "cell", desc := "([II)I" } : Jvm.MethodName) method_2_code (2 : Nat) (Option.some Jvm.ClassFile.FieldType.int)) ∈ lw_all := lw_g (lw_at lw_m1 156 rfl) rfl
theorem q174 : (Jvm.Cond.classLink "UnboxPlannerLaw" (18 : Nat) "UnboxPlannerModel") ∈ lw_all := lw_g (lw_at lw_m1 157 rfl) rfl
theorem q176 : (Jvm.Cond.methodLink "UnboxPlannerLaw" (20 : Nat) ({ cls := "UnboxPlannerModel", name := "<init>", desc := "(I)V" } : Jvm.MethodName)) ∈ lw_all := lw_g (lw_at lw_m1 159 rfl) rfl
theorem q208 : (Jvm.Cond.methodLink "UnboxPlannerLaw" (25 : Nat) ({ cls := "UnboxPlannerModel", name := "values", desc := "()I" } : Jvm.MethodName)) ∈ lw_all := lw_g (lw_at lw_m1 191 rfl) rfl
theorem q212 : (Jvm.Cond.methodLink "UnboxPlannerLaw" (30 : Nat) ({ cls := "UnboxPlannerModel", name := "cost", desc := "(III)I" } : Jvm.MethodName)) ∈ lw_all := lw_g (lw_at lw_m1 195 rfl) rfl
theorem q220 : (Jvm.Cond.methodLink "UnboxPlannerLaw" (35 : Nat) ({ cls := "UnboxPlannerModel", name := "flow", desc := "(IIII)I" } : Jvm.MethodName)) ∈ lw_all := lw_g (lw_at lw_m1 203 rfl) rfl
theorem q224 : (Jvm.Cond.methodLink "UnboxPlannerLaw" (40 : Nat) ({ cls := "UnboxPlannerModel", name := "cut", desc := "(I)I" } : Jvm.MethodName)) ∈ lw_all := lw_g (lw_at lw_m1 207 rfl) rfl
theorem q232 : (Jvm.Cond.methodLink "UnboxPlannerLaw" (45 : Nat) ({ cls := "UnboxPlannerModel", name := "fix", desc := "(II)I" } : Jvm.MethodName)) ∈ lw_all := lw_g (lw_at lw_m1 215 rfl) rfl
theorem q236 : (Jvm.Cond.methodLink "UnboxPlannerLaw" (49 : Nat) ({ cls := "UnboxPlannerModel", name := "flows", desc := "()I" } : Jvm.MethodName)) ∈ lw_all := lw_g (lw_at lw_m1 219 rfl) rfl
theorem q240 : (Jvm.Cond.methodLink "UnboxPlannerLaw" (53 : Nat) ({ cls := "UnboxPlannerModel", name := "costOf", desc := "(I)I" } : Jvm.MethodName)) ∈ lw_all := lw_g (lw_at lw_m1 223 rfl) rfl
theorem q252 : (Jvm.Cond.methodLink "UnboxPlannerLaw" (57 : Nat) ({ cls := "UnboxPlannerModel", name := "best", desc := "()I" } : Jvm.MethodName)) ∈ lw_all := lw_g (lw_at lw_m1 235 rfl) rfl
theorem q264 : (Jvm.Cond.methodLink "UnboxPlannerLaw" (61 : Nat) ({ cls := "UnboxPlannerModel", name := "fewestBoxed", desc := "()I" } : Jvm.MethodName)) ∈ lw_all := lw_g (lw_at lw_m2 7 rfl) rfl
theorem q272 : (Jvm.Cond.methodLink "UnboxPlannerLaw" (65 : Nat) ({ cls := "UnboxPlannerModel", name := "mostBoxed", desc := "()I" } : Jvm.MethodName)) ∈ lw_all := lw_g (lw_at lw_m2 15 rfl) rfl
theorem q280 : (Jvm.Cond.methodLink "UnboxPlannerLaw" (69 : Nat) ({ cls := "UnboxPlannerModel", name := "settled", desc := "(I)I" } : Jvm.MethodName)) ∈ lw_all := lw_g (lw_at lw_m2 23 rfl) rfl
theorem q284 : (Jvm.Cond.methodLink "UnboxPlannerLaw" (73 : Nat) ({ cls := "UnboxPlannerModel", name := "bestWith", desc := "(II)I" } : Jvm.MethodName)) ∈ lw_all := lw_g (lw_at lw_m2 27 rfl) rfl
theorem q288 : (Jvm.Cond.methodLink "UnboxPlannerLaw" (77 : Nat) ({ cls := "UnboxPlannerModel", name := "bestTied", desc := "(III)I" } : Jvm.MethodName)) ∈ lw_all := lw_g (lw_at lw_m2 31 rfl) rfl
theorem q292 : (Jvm.Cond.methodLink "UnboxPlannerLaw" (81 : Nat) ({ cls := "UnboxPlannerModel", name := "saving", desc := "(I)I" } : Jvm.MethodName)) ∈ lw_all := lw_g (lw_at lw_m2 35 rfl) rfl
theorem q296 : (Jvm.Cond.methodLink "UnboxPlannerLaw" (85 : Nat) ({ cls := "UnboxPlannerModel", name := "isBest", desc := "(I)I" } : Jvm.MethodName)) ∈ lw_all := lw_g (lw_at lw_m2 39 rfl) rfl
theorem q300 : (Jvm.Cond.methodLink "UnboxPlannerLaw" (89 : Nat) ({ cls := "UnboxPlannerModel", name := "settledCount", desc := "()I" } : Jvm.MethodName)) ∈ lw_all := lw_g (lw_at lw_m2 43 rfl) rfl

/-! the law's own entry -/
set_option maxRecDepth 100000
abbrev cL_law : ByteArray := code
theorem dL_law_0 : decode cL_law 0 = .ok (.new 7, 3) := by decide +kernel
theorem dL_law_3 : decode cL_law 3 = .ok (.dup, 1) := by decide +kernel
theorem dL_law_4 : decode cL_law 4 = .ok (.aload_n 0, 1) := by decide +kernel
theorem dL_law_5 : decode cL_law 5 = .ok (.iconst 0, 1) := by decide +kernel
theorem dL_law_6 : decode cL_law 6 = .ok (.invokestatic 9, 3) := by decide +kernel
theorem dL_law_9 : decode cL_law 9 = .ok (.invokespecial 15, 3) := by decide +kernel
theorem dL_law_12 : decode cL_law 12 = .ok (.astore_n 1, 1) := by decide +kernel
theorem dL_law_13 : decode cL_law 13 = .ok (.new 18, 3) := by decide +kernel
theorem dL_law_16 : decode cL_law 16 = .ok (.dup, 1) := by decide +kernel
theorem dL_law_17 : decode cL_law 17 = .ok (.aload_n 0, 1) := by decide +kernel
theorem dL_law_18 : decode cL_law 18 = .ok (.iconst 0, 1) := by decide +kernel
theorem dL_law_19 : decode cL_law 19 = .ok (.invokestatic 9, 3) := by decide +kernel
theorem dL_law_22 : decode cL_law 22 = .ok (.invokespecial 20, 3) := by decide +kernel
theorem dL_law_25 : decode cL_law 25 = .ok (.astore_n 2, 1) := by decide +kernel
theorem dL_law_26 : decode cL_law 26 = .ok (.iconst 1, 1) := by decide +kernel
theorem dL_law_27 : decode cL_law 27 = .ok (.istore_n 3, 1) := by decide +kernel
theorem dL_law_28 : decode cL_law 28 = .ok (.iload_n 3, 1) := by decide +kernel
theorem dL_law_29 : decode cL_law 29 = .ok (.aload_n 0, 1) := by decide +kernel
theorem dL_law_30 : decode cL_law 30 = .ok (.arraylength, 1) := by decide +kernel
theorem dL_law_31 : decode cL_law 31 = .ok (.iconst 5, 1) := by decide +kernel
theorem dL_law_32 : decode cL_law 32 = .ok (.isub, 1) := by decide +kernel
theorem dL_law_33 : decode cL_law 33 = .ok (.if_icmp .gt 491, 3) := by decide +kernel
theorem dL_law_36 : decode cL_law 36 = .ok (.aload_n 0, 1) := by decide +kernel
theorem dL_law_37 : decode cL_law 37 = .ok (.iload_n 3, 1) := by decide +kernel
theorem dL_law_38 : decode cL_law 38 = .ok (.iaload, 1) := by decide +kernel
theorem dL_law_39 : decode cL_law 39 = .ok (.bipush 15, 2) := by decide +kernel
theorem dL_law_41 : decode cL_law 41 = .ok (.iand, 1) := by decide +kernel
theorem dL_law_42 : decode cL_law 42 = .ok (.tableswitch 476 0 15 #[78, 91, 134, 187, 210, 243, 256, 279, 292, 305, 318, 341, 374, 417, 440, 463], 78) := by decide +kernel
theorem dL_law_120 : decode cL_law 120 = .ok (.aload_n 1, 1) := by decide +kernel
theorem dL_law_121 : decode cL_law 121 = .ok (.invokevirtual 21, 3) := by decide +kernel
theorem dL_law_124 : decode cL_law 124 = .ok (.aload_n 2, 1) := by decide +kernel
theorem dL_law_125 : decode cL_law 125 = .ok (.invokevirtual 25, 3) := by decide +kernel
theorem dL_law_128 : decode cL_law 128 = .ok (.if_icmp .eq 390, 3) := by decide +kernel
theorem dL_law_131 : decode cL_law 131 = .ok (.iconst 0, 1) := by decide +kernel
theorem dL_law_132 : decode cL_law 132 = .ok (.ireturn, 1) := by decide +kernel
theorem dL_law_133 : decode cL_law 133 = .ok (.aload_n 1, 1) := by decide +kernel
theorem dL_law_134 : decode cL_law 134 = .ok (.aload_n 0, 1) := by decide +kernel
theorem dL_law_135 : decode cL_law 135 = .ok (.iload_n 3, 1) := by decide +kernel
theorem dL_law_136 : decode cL_law 136 = .ok (.iconst 1, 1) := by decide +kernel
theorem dL_law_137 : decode cL_law 137 = .ok (.iadd, 1) := by decide +kernel
theorem dL_law_138 : decode cL_law 138 = .ok (.iaload, 1) := by decide +kernel
theorem dL_law_139 : decode cL_law 139 = .ok (.aload_n 0, 1) := by decide +kernel
theorem dL_law_140 : decode cL_law 140 = .ok (.iload_n 3, 1) := by decide +kernel
theorem dL_law_141 : decode cL_law 141 = .ok (.iconst 2, 1) := by decide +kernel
theorem dL_law_142 : decode cL_law 142 = .ok (.iadd, 1) := by decide +kernel
theorem dL_law_143 : decode cL_law 143 = .ok (.iaload, 1) := by decide +kernel
theorem dL_law_144 : decode cL_law 144 = .ok (.aload_n 0, 1) := by decide +kernel
theorem dL_law_145 : decode cL_law 145 = .ok (.iload_n 3, 1) := by decide +kernel
theorem dL_law_146 : decode cL_law 146 = .ok (.iconst 3, 1) := by decide +kernel
theorem dL_law_147 : decode cL_law 147 = .ok (.iadd, 1) := by decide +kernel
theorem dL_law_148 : decode cL_law 148 = .ok (.iaload, 1) := by decide +kernel
theorem dL_law_149 : decode cL_law 149 = .ok (.invokevirtual 26, 3) := by decide +kernel
theorem dL_law_152 : decode cL_law 152 = .ok (.aload_n 2, 1) := by decide +kernel
theorem dL_law_153 : decode cL_law 153 = .ok (.aload_n 0, 1) := by decide +kernel
theorem dL_law_154 : decode cL_law 154 = .ok (.iload_n 3, 1) := by decide +kernel
theorem dL_law_155 : decode cL_law 155 = .ok (.iconst 1, 1) := by decide +kernel
theorem dL_law_156 : decode cL_law 156 = .ok (.iadd, 1) := by decide +kernel
theorem dL_law_157 : decode cL_law 157 = .ok (.iaload, 1) := by decide +kernel
theorem dL_law_158 : decode cL_law 158 = .ok (.aload_n 0, 1) := by decide +kernel
theorem dL_law_159 : decode cL_law 159 = .ok (.iload_n 3, 1) := by decide +kernel
theorem dL_law_160 : decode cL_law 160 = .ok (.iconst 2, 1) := by decide +kernel
theorem dL_law_161 : decode cL_law 161 = .ok (.iadd, 1) := by decide +kernel
theorem dL_law_162 : decode cL_law 162 = .ok (.iaload, 1) := by decide +kernel
theorem dL_law_163 : decode cL_law 163 = .ok (.aload_n 0, 1) := by decide +kernel
theorem dL_law_164 : decode cL_law 164 = .ok (.iload_n 3, 1) := by decide +kernel
theorem dL_law_165 : decode cL_law 165 = .ok (.iconst 3, 1) := by decide +kernel
theorem dL_law_166 : decode cL_law 166 = .ok (.iadd, 1) := by decide +kernel
theorem dL_law_167 : decode cL_law 167 = .ok (.iaload, 1) := by decide +kernel
theorem dL_law_168 : decode cL_law 168 = .ok (.invokevirtual 30, 3) := by decide +kernel
theorem dL_law_171 : decode cL_law 171 = .ok (.if_icmp .eq 347, 3) := by decide +kernel
theorem dL_law_174 : decode cL_law 174 = .ok (.iconst 0, 1) := by decide +kernel
theorem dL_law_175 : decode cL_law 175 = .ok (.ireturn, 1) := by decide +kernel
theorem dL_law_176 : decode cL_law 176 = .ok (.aload_n 1, 1) := by decide +kernel
theorem dL_law_177 : decode cL_law 177 = .ok (.aload_n 0, 1) := by decide +kernel
theorem dL_law_178 : decode cL_law 178 = .ok (.iload_n 3, 1) := by decide +kernel
theorem dL_law_179 : decode cL_law 179 = .ok (.iconst 1, 1) := by decide +kernel
theorem dL_law_180 : decode cL_law 180 = .ok (.iadd, 1) := by decide +kernel
theorem dL_law_181 : decode cL_law 181 = .ok (.iaload, 1) := by decide +kernel
theorem dL_law_182 : decode cL_law 182 = .ok (.aload_n 0, 1) := by decide +kernel
theorem dL_law_183 : decode cL_law 183 = .ok (.iload_n 3, 1) := by decide +kernel
theorem dL_law_184 : decode cL_law 184 = .ok (.iconst 2, 1) := by decide +kernel
theorem dL_law_185 : decode cL_law 185 = .ok (.iadd, 1) := by decide +kernel
theorem dL_law_186 : decode cL_law 186 = .ok (.iaload, 1) := by decide +kernel
theorem dL_law_187 : decode cL_law 187 = .ok (.aload_n 0, 1) := by decide +kernel
theorem dL_law_188 : decode cL_law 188 = .ok (.iload_n 3, 1) := by decide +kernel
theorem dL_law_189 : decode cL_law 189 = .ok (.iconst 3, 1) := by decide +kernel
theorem dL_law_190 : decode cL_law 190 = .ok (.iadd, 1) := by decide +kernel
theorem dL_law_191 : decode cL_law 191 = .ok (.iaload, 1) := by decide +kernel
theorem dL_law_192 : decode cL_law 192 = .ok (.aload_n 0, 1) := by decide +kernel
theorem dL_law_193 : decode cL_law 193 = .ok (.iload_n 3, 1) := by decide +kernel
theorem dL_law_194 : decode cL_law 194 = .ok (.iconst 4, 1) := by decide +kernel
theorem dL_law_195 : decode cL_law 195 = .ok (.iadd, 1) := by decide +kernel
theorem dL_law_196 : decode cL_law 196 = .ok (.iaload, 1) := by decide +kernel
theorem dL_law_197 : decode cL_law 197 = .ok (.invokevirtual 31, 3) := by decide +kernel
theorem dL_law_200 : decode cL_law 200 = .ok (.aload_n 2, 1) := by decide +kernel
theorem dL_law_201 : decode cL_law 201 = .ok (.aload_n 0, 1) := by decide +kernel
theorem dL_law_202 : decode cL_law 202 = .ok (.iload_n 3, 1) := by decide +kernel
theorem dL_law_203 : decode cL_law 203 = .ok (.iconst 1, 1) := by decide +kernel
theorem dL_law_204 : decode cL_law 204 = .ok (.iadd, 1) := by decide +kernel
theorem dL_law_205 : decode cL_law 205 = .ok (.iaload, 1) := by decide +kernel
theorem dL_law_206 : decode cL_law 206 = .ok (.aload_n 0, 1) := by decide +kernel
theorem dL_law_207 : decode cL_law 207 = .ok (.iload_n 3, 1) := by decide +kernel
theorem dL_law_208 : decode cL_law 208 = .ok (.iconst 2, 1) := by decide +kernel
theorem dL_law_209 : decode cL_law 209 = .ok (.iadd, 1) := by decide +kernel
theorem dL_law_210 : decode cL_law 210 = .ok (.iaload, 1) := by decide +kernel
theorem dL_law_211 : decode cL_law 211 = .ok (.aload_n 0, 1) := by decide +kernel
theorem dL_law_212 : decode cL_law 212 = .ok (.iload_n 3, 1) := by decide +kernel
theorem dL_law_213 : decode cL_law 213 = .ok (.iconst 3, 1) := by decide +kernel
theorem dL_law_214 : decode cL_law 214 = .ok (.iadd, 1) := by decide +kernel
theorem dL_law_215 : decode cL_law 215 = .ok (.iaload, 1) := by decide +kernel
theorem dL_law_216 : decode cL_law 216 = .ok (.aload_n 0, 1) := by decide +kernel
theorem dL_law_217 : decode cL_law 217 = .ok (.iload_n 3, 1) := by decide +kernel
theorem dL_law_218 : decode cL_law 218 = .ok (.iconst 4, 1) := by decide +kernel
theorem dL_law_219 : decode cL_law 219 = .ok (.iadd, 1) := by decide +kernel
theorem dL_law_220 : decode cL_law 220 = .ok (.iaload, 1) := by decide +kernel
theorem dL_law_221 : decode cL_law 221 = .ok (.invokevirtual 35, 3) := by decide +kernel
theorem dL_law_224 : decode cL_law 224 = .ok (.if_icmp .eq 294, 3) := by decide +kernel
theorem dL_law_227 : decode cL_law 227 = .ok (.iconst 0, 1) := by decide +kernel
theorem dL_law_228 : decode cL_law 228 = .ok (.ireturn, 1) := by decide +kernel
theorem dL_law_229 : decode cL_law 229 = .ok (.aload_n 1, 1) := by decide +kernel
theorem dL_law_230 : decode cL_law 230 = .ok (.aload_n 0, 1) := by decide +kernel
theorem dL_law_231 : decode cL_law 231 = .ok (.iload_n 3, 1) := by decide +kernel
theorem dL_law_232 : decode cL_law 232 = .ok (.iconst 1, 1) := by decide +kernel
theorem dL_law_233 : decode cL_law 233 = .ok (.iadd, 1) := by decide +kernel
theorem dL_law_234 : decode cL_law 234 = .ok (.iaload, 1) := by decide +kernel
theorem dL_law_235 : decode cL_law 235 = .ok (.invokevirtual 36, 3) := by decide +kernel
theorem dL_law_238 : decode cL_law 238 = .ok (.aload_n 2, 1) := by decide +kernel
theorem dL_law_239 : decode cL_law 239 = .ok (.aload_n 0, 1) := by decide +kernel
theorem dL_law_240 : decode cL_law 240 = .ok (.iload_n 3, 1) := by decide +kernel
theorem dL_law_241 : decode cL_law 241 = .ok (.iconst 1, 1) := by decide +kernel
theorem dL_law_242 : decode cL_law 242 = .ok (.iadd, 1) := by decide +kernel
theorem dL_law_243 : decode cL_law 243 = .ok (.iaload, 1) := by decide +kernel
theorem dL_law_244 : decode cL_law 244 = .ok (.invokevirtual 40, 3) := by decide +kernel
theorem dL_law_247 : decode cL_law 247 = .ok (.if_icmp .eq 271, 3) := by decide +kernel
theorem dL_law_250 : decode cL_law 250 = .ok (.iconst 0, 1) := by decide +kernel
theorem dL_law_251 : decode cL_law 251 = .ok (.ireturn, 1) := by decide +kernel
theorem dL_law_252 : decode cL_law 252 = .ok (.aload_n 1, 1) := by decide +kernel
theorem dL_law_253 : decode cL_law 253 = .ok (.aload_n 0, 1) := by decide +kernel
theorem dL_law_254 : decode cL_law 254 = .ok (.iload_n 3, 1) := by decide +kernel
theorem dL_law_255 : decode cL_law 255 = .ok (.iconst 1, 1) := by decide +kernel
theorem dL_law_256 : decode cL_law 256 = .ok (.iadd, 1) := by decide +kernel
theorem dL_law_257 : decode cL_law 257 = .ok (.iaload, 1) := by decide +kernel
theorem dL_law_258 : decode cL_law 258 = .ok (.aload_n 0, 1) := by decide +kernel
theorem dL_law_259 : decode cL_law 259 = .ok (.iload_n 3, 1) := by decide +kernel
theorem dL_law_260 : decode cL_law 260 = .ok (.iconst 2, 1) := by decide +kernel
theorem dL_law_261 : decode cL_law 261 = .ok (.iadd, 1) := by decide +kernel
theorem dL_law_262 : decode cL_law 262 = .ok (.iaload, 1) := by decide +kernel
theorem dL_law_263 : decode cL_law 263 = .ok (.invokevirtual 41, 3) := by decide +kernel
theorem dL_law_266 : decode cL_law 266 = .ok (.aload_n 2, 1) := by decide +kernel
theorem dL_law_267 : decode cL_law 267 = .ok (.aload_n 0, 1) := by decide +kernel
theorem dL_law_268 : decode cL_law 268 = .ok (.iload_n 3, 1) := by decide +kernel
theorem dL_law_269 : decode cL_law 269 = .ok (.iconst 1, 1) := by decide +kernel
theorem dL_law_270 : decode cL_law 270 = .ok (.iadd, 1) := by decide +kernel
theorem dL_law_271 : decode cL_law 271 = .ok (.iaload, 1) := by decide +kernel
theorem dL_law_272 : decode cL_law 272 = .ok (.aload_n 0, 1) := by decide +kernel
theorem dL_law_273 : decode cL_law 273 = .ok (.iload_n 3, 1) := by decide +kernel
theorem dL_law_274 : decode cL_law 274 = .ok (.iconst 2, 1) := by decide +kernel
theorem dL_law_275 : decode cL_law 275 = .ok (.iadd, 1) := by decide +kernel
theorem dL_law_276 : decode cL_law 276 = .ok (.iaload, 1) := by decide +kernel
theorem dL_law_277 : decode cL_law 277 = .ok (.invokevirtual 45, 3) := by decide +kernel
theorem dL_law_280 : decode cL_law 280 = .ok (.if_icmp .eq 238, 3) := by decide +kernel
theorem dL_law_283 : decode cL_law 283 = .ok (.iconst 0, 1) := by decide +kernel
theorem dL_law_284 : decode cL_law 284 = .ok (.ireturn, 1) := by decide +kernel
theorem dL_law_285 : decode cL_law 285 = .ok (.aload_n 1, 1) := by decide +kernel
theorem dL_law_286 : decode cL_law 286 = .ok (.invokevirtual 46, 3) := by decide +kernel
theorem dL_law_289 : decode cL_law 289 = .ok (.aload_n 2, 1) := by decide +kernel
theorem dL_law_290 : decode cL_law 290 = .ok (.invokevirtual 49, 3) := by decide +kernel
theorem dL_law_293 : decode cL_law 293 = .ok (.if_icmp .eq 225, 3) := by decide +kernel
theorem dL_law_296 : decode cL_law 296 = .ok (.iconst 0, 1) := by decide +kernel
theorem dL_law_297 : decode cL_law 297 = .ok (.ireturn, 1) := by decide +kernel
theorem dL_law_298 : decode cL_law 298 = .ok (.aload_n 1, 1) := by decide +kernel
theorem dL_law_299 : decode cL_law 299 = .ok (.aload_n 0, 1) := by decide +kernel
theorem dL_law_300 : decode cL_law 300 = .ok (.iload_n 3, 1) := by decide +kernel
theorem dL_law_301 : decode cL_law 301 = .ok (.iconst 1, 1) := by decide +kernel
theorem dL_law_302 : decode cL_law 302 = .ok (.iadd, 1) := by decide +kernel
theorem dL_law_303 : decode cL_law 303 = .ok (.iaload, 1) := by decide +kernel
theorem dL_law_304 : decode cL_law 304 = .ok (.invokevirtual 50, 3) := by decide +kernel
theorem dL_law_307 : decode cL_law 307 = .ok (.aload_n 2, 1) := by decide +kernel
theorem dL_law_308 : decode cL_law 308 = .ok (.aload_n 0, 1) := by decide +kernel
theorem dL_law_309 : decode cL_law 309 = .ok (.iload_n 3, 1) := by decide +kernel
theorem dL_law_310 : decode cL_law 310 = .ok (.iconst 1, 1) := by decide +kernel
theorem dL_law_311 : decode cL_law 311 = .ok (.iadd, 1) := by decide +kernel
theorem dL_law_312 : decode cL_law 312 = .ok (.iaload, 1) := by decide +kernel
theorem dL_law_313 : decode cL_law 313 = .ok (.invokevirtual 53, 3) := by decide +kernel
theorem dL_law_316 : decode cL_law 316 = .ok (.if_icmp .eq 202, 3) := by decide +kernel
theorem dL_law_319 : decode cL_law 319 = .ok (.iconst 0, 1) := by decide +kernel
theorem dL_law_320 : decode cL_law 320 = .ok (.ireturn, 1) := by decide +kernel
theorem dL_law_321 : decode cL_law 321 = .ok (.aload_n 1, 1) := by decide +kernel
theorem dL_law_322 : decode cL_law 322 = .ok (.invokevirtual 54, 3) := by decide +kernel
theorem dL_law_325 : decode cL_law 325 = .ok (.aload_n 2, 1) := by decide +kernel
theorem dL_law_326 : decode cL_law 326 = .ok (.invokevirtual 57, 3) := by decide +kernel
theorem dL_law_329 : decode cL_law 329 = .ok (.if_icmp .eq 189, 3) := by decide +kernel
theorem dL_law_332 : decode cL_law 332 = .ok (.iconst 0, 1) := by decide +kernel
theorem dL_law_333 : decode cL_law 333 = .ok (.ireturn, 1) := by decide +kernel
theorem dL_law_334 : decode cL_law 334 = .ok (.aload_n 1, 1) := by decide +kernel
theorem dL_law_335 : decode cL_law 335 = .ok (.invokevirtual 58, 3) := by decide +kernel
theorem dL_law_338 : decode cL_law 338 = .ok (.aload_n 2, 1) := by decide +kernel
theorem dL_law_339 : decode cL_law 339 = .ok (.invokevirtual 61, 3) := by decide +kernel
theorem dL_law_342 : decode cL_law 342 = .ok (.if_icmp .eq 176, 3) := by decide +kernel
theorem dL_law_345 : decode cL_law 345 = .ok (.iconst 0, 1) := by decide +kernel
theorem dL_law_346 : decode cL_law 346 = .ok (.ireturn, 1) := by decide +kernel
theorem dL_law_347 : decode cL_law 347 = .ok (.aload_n 1, 1) := by decide +kernel
theorem dL_law_348 : decode cL_law 348 = .ok (.invokevirtual 62, 3) := by decide +kernel
theorem dL_law_351 : decode cL_law 351 = .ok (.aload_n 2, 1) := by decide +kernel
theorem dL_law_352 : decode cL_law 352 = .ok (.invokevirtual 65, 3) := by decide +kernel
theorem dL_law_355 : decode cL_law 355 = .ok (.if_icmp .eq 163, 3) := by decide +kernel
theorem dL_law_358 : decode cL_law 358 = .ok (.iconst 0, 1) := by decide +kernel
theorem dL_law_359 : decode cL_law 359 = .ok (.ireturn, 1) := by decide +kernel
theorem dL_law_360 : decode cL_law 360 = .ok (.aload_n 1, 1) := by decide +kernel
theorem dL_law_361 : decode cL_law 361 = .ok (.aload_n 0, 1) := by decide +kernel
theorem dL_law_362 : decode cL_law 362 = .ok (.iload_n 3, 1) := by decide +kernel
theorem dL_law_363 : decode cL_law 363 = .ok (.iconst 1, 1) := by decide +kernel
theorem dL_law_364 : decode cL_law 364 = .ok (.iadd, 1) := by decide +kernel
theorem dL_law_365 : decode cL_law 365 = .ok (.iaload, 1) := by decide +kernel
theorem dL_law_366 : decode cL_law 366 = .ok (.invokevirtual 66, 3) := by decide +kernel
theorem dL_law_369 : decode cL_law 369 = .ok (.aload_n 2, 1) := by decide +kernel
theorem dL_law_370 : decode cL_law 370 = .ok (.aload_n 0, 1) := by decide +kernel
theorem dL_law_371 : decode cL_law 371 = .ok (.iload_n 3, 1) := by decide +kernel
theorem dL_law_372 : decode cL_law 372 = .ok (.iconst 1, 1) := by decide +kernel
theorem dL_law_373 : decode cL_law 373 = .ok (.iadd, 1) := by decide +kernel
theorem dL_law_374 : decode cL_law 374 = .ok (.iaload, 1) := by decide +kernel
theorem dL_law_375 : decode cL_law 375 = .ok (.invokevirtual 69, 3) := by decide +kernel
theorem dL_law_378 : decode cL_law 378 = .ok (.if_icmp .eq 140, 3) := by decide +kernel
theorem dL_law_381 : decode cL_law 381 = .ok (.iconst 0, 1) := by decide +kernel
theorem dL_law_382 : decode cL_law 382 = .ok (.ireturn, 1) := by decide +kernel
theorem dL_law_383 : decode cL_law 383 = .ok (.aload_n 1, 1) := by decide +kernel
theorem dL_law_384 : decode cL_law 384 = .ok (.aload_n 0, 1) := by decide +kernel
theorem dL_law_385 : decode cL_law 385 = .ok (.iload_n 3, 1) := by decide +kernel
theorem dL_law_386 : decode cL_law 386 = .ok (.iconst 1, 1) := by decide +kernel
theorem dL_law_387 : decode cL_law 387 = .ok (.iadd, 1) := by decide +kernel
theorem dL_law_388 : decode cL_law 388 = .ok (.iaload, 1) := by decide +kernel
theorem dL_law_389 : decode cL_law 389 = .ok (.aload_n 0, 1) := by decide +kernel
theorem dL_law_390 : decode cL_law 390 = .ok (.iload_n 3, 1) := by decide +kernel
theorem dL_law_391 : decode cL_law 391 = .ok (.iconst 2, 1) := by decide +kernel
theorem dL_law_392 : decode cL_law 392 = .ok (.iadd, 1) := by decide +kernel
theorem dL_law_393 : decode cL_law 393 = .ok (.iaload, 1) := by decide +kernel
theorem dL_law_394 : decode cL_law 394 = .ok (.invokevirtual 70, 3) := by decide +kernel
theorem dL_law_397 : decode cL_law 397 = .ok (.aload_n 2, 1) := by decide +kernel
theorem dL_law_398 : decode cL_law 398 = .ok (.aload_n 0, 1) := by decide +kernel
theorem dL_law_399 : decode cL_law 399 = .ok (.iload_n 3, 1) := by decide +kernel
theorem dL_law_400 : decode cL_law 400 = .ok (.iconst 1, 1) := by decide +kernel
theorem dL_law_401 : decode cL_law 401 = .ok (.iadd, 1) := by decide +kernel
theorem dL_law_402 : decode cL_law 402 = .ok (.iaload, 1) := by decide +kernel
theorem dL_law_403 : decode cL_law 403 = .ok (.aload_n 0, 1) := by decide +kernel
theorem dL_law_404 : decode cL_law 404 = .ok (.iload_n 3, 1) := by decide +kernel
theorem dL_law_405 : decode cL_law 405 = .ok (.iconst 2, 1) := by decide +kernel
theorem dL_law_406 : decode cL_law 406 = .ok (.iadd, 1) := by decide +kernel
theorem dL_law_407 : decode cL_law 407 = .ok (.iaload, 1) := by decide +kernel
theorem dL_law_408 : decode cL_law 408 = .ok (.invokevirtual 73, 3) := by decide +kernel
theorem dL_law_411 : decode cL_law 411 = .ok (.if_icmp .eq 107, 3) := by decide +kernel
theorem dL_law_414 : decode cL_law 414 = .ok (.iconst 0, 1) := by decide +kernel
theorem dL_law_415 : decode cL_law 415 = .ok (.ireturn, 1) := by decide +kernel
theorem dL_law_416 : decode cL_law 416 = .ok (.aload_n 1, 1) := by decide +kernel
theorem dL_law_417 : decode cL_law 417 = .ok (.aload_n 0, 1) := by decide +kernel
theorem dL_law_418 : decode cL_law 418 = .ok (.iload_n 3, 1) := by decide +kernel
theorem dL_law_419 : decode cL_law 419 = .ok (.iconst 1, 1) := by decide +kernel
theorem dL_law_420 : decode cL_law 420 = .ok (.iadd, 1) := by decide +kernel
theorem dL_law_421 : decode cL_law 421 = .ok (.iaload, 1) := by decide +kernel
theorem dL_law_422 : decode cL_law 422 = .ok (.aload_n 0, 1) := by decide +kernel
theorem dL_law_423 : decode cL_law 423 = .ok (.iload_n 3, 1) := by decide +kernel
theorem dL_law_424 : decode cL_law 424 = .ok (.iconst 2, 1) := by decide +kernel
theorem dL_law_425 : decode cL_law 425 = .ok (.iadd, 1) := by decide +kernel
theorem dL_law_426 : decode cL_law 426 = .ok (.iaload, 1) := by decide +kernel
theorem dL_law_427 : decode cL_law 427 = .ok (.aload_n 0, 1) := by decide +kernel
theorem dL_law_428 : decode cL_law 428 = .ok (.iload_n 3, 1) := by decide +kernel
theorem dL_law_429 : decode cL_law 429 = .ok (.iconst 3, 1) := by decide +kernel
theorem dL_law_430 : decode cL_law 430 = .ok (.iadd, 1) := by decide +kernel
theorem dL_law_431 : decode cL_law 431 = .ok (.iaload, 1) := by decide +kernel
theorem dL_law_432 : decode cL_law 432 = .ok (.invokevirtual 74, 3) := by decide +kernel
theorem dL_law_435 : decode cL_law 435 = .ok (.aload_n 2, 1) := by decide +kernel
theorem dL_law_436 : decode cL_law 436 = .ok (.aload_n 0, 1) := by decide +kernel
theorem dL_law_437 : decode cL_law 437 = .ok (.iload_n 3, 1) := by decide +kernel
theorem dL_law_438 : decode cL_law 438 = .ok (.iconst 1, 1) := by decide +kernel
theorem dL_law_439 : decode cL_law 439 = .ok (.iadd, 1) := by decide +kernel
theorem dL_law_440 : decode cL_law 440 = .ok (.iaload, 1) := by decide +kernel
theorem dL_law_441 : decode cL_law 441 = .ok (.aload_n 0, 1) := by decide +kernel
theorem dL_law_442 : decode cL_law 442 = .ok (.iload_n 3, 1) := by decide +kernel
theorem dL_law_443 : decode cL_law 443 = .ok (.iconst 2, 1) := by decide +kernel
theorem dL_law_444 : decode cL_law 444 = .ok (.iadd, 1) := by decide +kernel
theorem dL_law_445 : decode cL_law 445 = .ok (.iaload, 1) := by decide +kernel
theorem dL_law_446 : decode cL_law 446 = .ok (.aload_n 0, 1) := by decide +kernel
theorem dL_law_447 : decode cL_law 447 = .ok (.iload_n 3, 1) := by decide +kernel
theorem dL_law_448 : decode cL_law 448 = .ok (.iconst 3, 1) := by decide +kernel
theorem dL_law_449 : decode cL_law 449 = .ok (.iadd, 1) := by decide +kernel
theorem dL_law_450 : decode cL_law 450 = .ok (.iaload, 1) := by decide +kernel
theorem dL_law_451 : decode cL_law 451 = .ok (.invokevirtual 77, 3) := by decide +kernel
theorem dL_law_454 : decode cL_law 454 = .ok (.if_icmp .eq 64, 3) := by decide +kernel
theorem dL_law_457 : decode cL_law 457 = .ok (.iconst 0, 1) := by decide +kernel
theorem dL_law_458 : decode cL_law 458 = .ok (.ireturn, 1) := by decide +kernel
theorem dL_law_459 : decode cL_law 459 = .ok (.aload_n 1, 1) := by decide +kernel
theorem dL_law_460 : decode cL_law 460 = .ok (.aload_n 0, 1) := by decide +kernel
theorem dL_law_461 : decode cL_law 461 = .ok (.iload_n 3, 1) := by decide +kernel
theorem dL_law_462 : decode cL_law 462 = .ok (.iconst 1, 1) := by decide +kernel
theorem dL_law_463 : decode cL_law 463 = .ok (.iadd, 1) := by decide +kernel
theorem dL_law_464 : decode cL_law 464 = .ok (.iaload, 1) := by decide +kernel
theorem dL_law_465 : decode cL_law 465 = .ok (.invokevirtual 78, 3) := by decide +kernel
theorem dL_law_468 : decode cL_law 468 = .ok (.aload_n 2, 1) := by decide +kernel
theorem dL_law_469 : decode cL_law 469 = .ok (.aload_n 0, 1) := by decide +kernel
theorem dL_law_470 : decode cL_law 470 = .ok (.iload_n 3, 1) := by decide +kernel
theorem dL_law_471 : decode cL_law 471 = .ok (.iconst 1, 1) := by decide +kernel
theorem dL_law_472 : decode cL_law 472 = .ok (.iadd, 1) := by decide +kernel
theorem dL_law_473 : decode cL_law 473 = .ok (.iaload, 1) := by decide +kernel
theorem dL_law_474 : decode cL_law 474 = .ok (.invokevirtual 81, 3) := by decide +kernel
theorem dL_law_477 : decode cL_law 477 = .ok (.if_icmp .eq 41, 3) := by decide +kernel
theorem dL_law_480 : decode cL_law 480 = .ok (.iconst 0, 1) := by decide +kernel
theorem dL_law_481 : decode cL_law 481 = .ok (.ireturn, 1) := by decide +kernel
theorem dL_law_482 : decode cL_law 482 = .ok (.aload_n 1, 1) := by decide +kernel
theorem dL_law_483 : decode cL_law 483 = .ok (.aload_n 0, 1) := by decide +kernel
theorem dL_law_484 : decode cL_law 484 = .ok (.iload_n 3, 1) := by decide +kernel
theorem dL_law_485 : decode cL_law 485 = .ok (.iconst 1, 1) := by decide +kernel
theorem dL_law_486 : decode cL_law 486 = .ok (.iadd, 1) := by decide +kernel
theorem dL_law_487 : decode cL_law 487 = .ok (.iaload, 1) := by decide +kernel
theorem dL_law_488 : decode cL_law 488 = .ok (.invokevirtual 82, 3) := by decide +kernel
theorem dL_law_491 : decode cL_law 491 = .ok (.aload_n 2, 1) := by decide +kernel
theorem dL_law_492 : decode cL_law 492 = .ok (.aload_n 0, 1) := by decide +kernel
theorem dL_law_493 : decode cL_law 493 = .ok (.iload_n 3, 1) := by decide +kernel
theorem dL_law_494 : decode cL_law 494 = .ok (.iconst 1, 1) := by decide +kernel
theorem dL_law_495 : decode cL_law 495 = .ok (.iadd, 1) := by decide +kernel
theorem dL_law_496 : decode cL_law 496 = .ok (.iaload, 1) := by decide +kernel
theorem dL_law_497 : decode cL_law 497 = .ok (.invokevirtual 85, 3) := by decide +kernel
theorem dL_law_500 : decode cL_law 500 = .ok (.if_icmp .eq 18, 3) := by decide +kernel
theorem dL_law_503 : decode cL_law 503 = .ok (.iconst 0, 1) := by decide +kernel
theorem dL_law_504 : decode cL_law 504 = .ok (.ireturn, 1) := by decide +kernel
theorem dL_law_505 : decode cL_law 505 = .ok (.aload_n 1, 1) := by decide +kernel
theorem dL_law_506 : decode cL_law 506 = .ok (.invokevirtual 86, 3) := by decide +kernel
theorem dL_law_509 : decode cL_law 509 = .ok (.aload_n 2, 1) := by decide +kernel
theorem dL_law_510 : decode cL_law 510 = .ok (.invokevirtual 89, 3) := by decide +kernel
theorem dL_law_513 : decode cL_law 513 = .ok (.if_icmp .eq 5, 3) := by decide +kernel
theorem dL_law_516 : decode cL_law 516 = .ok (.iconst 0, 1) := by decide +kernel
theorem dL_law_517 : decode cL_law 517 = .ok (.ireturn, 1) := by decide +kernel
theorem dL_law_518 : decode cL_law 518 = .ok (.iinc 3 5, 3) := by decide +kernel
theorem dL_law_521 : decode cL_law 521 = .ok (.goto (-493), 3) := by decide +kernel
theorem dL_law_524 : decode cL_law 524 = .ok (.iconst 1, 1) := by decide +kernel
theorem dL_law_525 : decode cL_law 525 = .ok (.ireturn, 1) := by decide +kernel
end
section
def fb_ct (p : Nat → Bool) : Nat → Nat
  | 0 => 0
  | n + 1 => fb_ct p n + (if p n then 1 else 0)
theorem fb_ct_succ (p : Nat → Bool) (n : Nat) : fb_ct p (n + 1) = fb_ct p n + (if p n then 1 else 0) := rfl
theorem fb_ct_le (p : Nat → Bool) : ∀ n, fb_ct p n ≤ n
  | 0 => Nat.le_refl _
  | n + 1 => by
    have h := fb_ct_le p n
    rw [fb_ct_succ]
    split <;> omega
theorem fb_ct_step (p : Nat → Bool) (m : Nat) : ∀ n, fb_ct p m ≤ fb_ct p (m + n)
  | 0 => Nat.le_refl _
  | n + 1 => by
    have h := fb_ct_step p m n
    show fb_ct p m ≤ fb_ct p (m + n + 1)
    rw [fb_ct_succ]
    omega
theorem fb_ct_mono (p : Nat → Bool) {m n : Nat} (h : m ≤ n) : fb_ct p m ≤ fb_ct p n := by
  have := fb_ct_step p m (n - m)
  rwa [Nat.add_sub_cancel' h] at this
theorem fb_ct_cong {p q : Nat → Bool} : ∀ {n : Nat}, (∀ k, k < n → p k = q k) → fb_ct p n = fb_ct q n
  | 0, _ => rfl
  | n + 1, h => by
    rw [fb_ct_succ, fb_ct_succ, fb_ct_cong (fun k hk => h k (by omega)), h n (by omega)]
/-- one place changed -/
theorem fb_ct_out (p : Nat → Bool) (b : Bool) {i n : Nat} (h : n ≤ i) : fb_ct (fun k => if k = i then b else p k) n = fb_ct p n :=
  fb_ct_cong fun k hk => if_neg (by omega)
theorem fb_ct_upd (p : Nat → Bool) (b : Bool) {i : Nat} : ∀ {n : Nat}, i < n → fb_ct (fun k => if k = i then b else p k) n + (if p i then 1 else 0) = fb_ct p n + (if b then 1 else 0)
  | 0, h => absurd h (Nat.not_lt_zero i)
  | n + 1, h => by
    rw [fb_ct_succ, fb_ct_succ]
    rcases Nat.lt_or_ge i n with q | q
    · have := fb_ct_upd p b q
      have e : (if n = i then b else p n) = p n := if_neg (by omega)
      rw [e]
      omega
    · have e : i = n := by omega
      subst e
      rw [fb_ct_out p b (Nat.le_refl _)]
      simp only [if_true]
      omega
theorem fb_ct_sub {p q : Nat → Bool} : ∀ {n : Nat}, (∀ k, k < n → p k = true → q k = true) → fb_ct p n ≤ fb_ct q n
  | 0, _ => Nat.le_refl _
  | n + 1, h => by
    have h1 := fb_ct_sub (n := n) (p := p) (q := q) (fun k hk => h k (by omega))
    have h2 := h n (by omega)
    rw [fb_ct_succ, fb_ct_succ]
    cases hp : p n <;> cases hq : q n <;> simp_all <;> omega
theorem fb_ct_or {p q : Nat → Bool} : ∀ {n : Nat}, (∀ k, k < n → ¬ (p k = true ∧ q k = true)) → fb_ct (fun k => p k || q k) n = fb_ct p n + fb_ct q n
  | 0, _ => rfl
  | n + 1, h => by
    have h1 := fb_ct_or (n := n) (p := p) (q := q) (fun k hk => h k (by omega))
    have h2 := h n (by omega)
    rw [fb_ct_succ, fb_ct_succ, fb_ct_succ, h1]
    cases hp : p n <;> cases hq : q n <;> simp_all <;> omega
theorem fb_ct_not (p : Nat → Bool) : ∀ n, fb_ct p n + fb_ct (fun k => !p k) n = n
  | 0 => rfl
  | n + 1 => by
    have h := fb_ct_not p n
    rw [fb_ct_succ, fb_ct_succ]
    cases p n <;> simp <;> omega
theorem fb_ct_split (p : Nat → Bool) (m : Nat) : ∀ n, fb_ct p (m + n) = fb_ct p m + fb_ct (fun k => p (m + k)) n
  | 0 => rfl
  | n + 1 => by
    have h := fb_ct_split p m n
    show fb_ct p (m + n + 1) = _
    rw [fb_ct_succ, fb_ct_succ, h, Nat.add_assoc]
theorem fb_ct_zero {p : Nat → Bool} : ∀ {n : Nat}, fb_ct p n = 0 ↔ ∀ k, k < n → p k = false
  | 0 => ⟨fun _ k hk => absurd hk (Nat.not_lt_zero k), fun _ => rfl⟩
  | n + 1 => by
    have h := fb_ct_zero (p := p) (n := n)
    rw [fb_ct_succ]
    constructor
    · intro e k hk
      have e1 : fb_ct p n = 0 := by omega
      rcases Nat.lt_or_ge k n with q | q
      · exact h.mp e1 k q
      · have ek : k = n := by omega
        subst ek
        cases hp : p k
        · rfl
        · simp [hp] at e
    · intro a
      rw [h.mpr (fun k hk => a k (by omega)), a n (by omega)]
      rfl
theorem fb_ct_pos {p : Nat → Bool} {n : Nat} : 0 < fb_ct p n ↔ ∃ k, k < n ∧ p k = true := by
  constructor
  · intro h
    refine Classical.byContradiction fun hx => ?_
    have := fb_ct_zero.mpr (fun k hk => by
      cases hp : p k
      · rfl
      · exact absurd ⟨k, hk, hp⟩ hx : ∀ k, k < n → p k = false)
    omega
  · rintro ⟨k, hk, hp⟩
    rcases Nat.eq_zero_or_pos (fb_ct p n) with e | e
    · have := fb_ct_zero.mp e k hk
      rw [this] at hp
      cases hp
    · exact e
theorem fb_ct_all {p : Nat → Bool} {n : Nat} : fb_ct p n = n ↔ ∀ k, k < n → p k = true := by
  have h := fb_ct_not p n
  constructor
  · intro e k hk
    have z : fb_ct (fun k => !p k) n = 0 := by omega
    have := fb_ct_zero.mp z k hk
    cases hp : p k
    · simp [hp] at this
    · rfl
  · intro a
    have z : fb_ct (fun k => !p k) n = 0 := fb_ct_zero.mpr (fun k hk => by simp [a k hk])
    omega
def fb_sm (f : Nat → Nat) : Nat → Nat
  | 0 => 0
  | n + 1 => fb_sm f n + f n
theorem fb_sm_succ (f : Nat → Nat) (n : Nat) : fb_sm f (n + 1) = fb_sm f n + f n := rfl
theorem fb_sm_cong {f g : Nat → Nat} : ∀ {n : Nat}, (∀ k, k < n → f k = g k) → fb_sm f n = fb_sm g n
  | 0, _ => rfl
  | n + 1, h => by rw [fb_sm_succ, fb_sm_succ, fb_sm_cong (fun k hk => h k (by omega)), h n (by omega)]
theorem fb_sm_out (f : Nat → Nat) (v : Nat) {i n : Nat} (h : n ≤ i) : fb_sm (fun k => if k = i then v else f k) n = fb_sm f n :=
  fb_sm_cong fun k hk => if_neg (by omega)
theorem fb_sm_upd (f : Nat → Nat) (v : Nat) {i : Nat} : ∀ {n : Nat}, i < n → fb_sm (fun k => if k = i then v else f k) n + f i = fb_sm f n + v
  | 0, h => absurd h (Nat.not_lt_zero i)
  | n + 1, h => by
    rw [fb_sm_succ, fb_sm_succ]
    rcases Nat.lt_or_ge i n with q | q
    · have := fb_sm_upd f v q
      have e : (if n = i then v else f n) = f n := if_neg (by omega)
      rw [e]
      omega
    · have e : i = n := by omega
      subst e
      rw [fb_sm_out f v (Nat.le_refl _)]
      simp only [if_true]
      omega
theorem fb_sm_add (f g : Nat → Nat) : ∀ n, fb_sm (fun k => f k + g k) n = fb_sm f n + fb_sm g n
  | 0 => rfl
  | n + 1 => by
    have h := fb_sm_add f g n
    rw [fb_sm_succ, fb_sm_succ, fb_sm_succ, h]
    omega
theorem fb_sm_le {f g : Nat → Nat} : ∀ {n : Nat}, (∀ k, k < n → f k ≤ g k) → fb_sm f n ≤ fb_sm g n
  | 0, _ => Nat.le_refl _
  | n + 1, h => by
    have h1 := fb_sm_le (n := n) (f := f) (g := g) (fun k hk => h k (by omega))
    have h2 := h n (by omega)
    rw [fb_sm_succ, fb_sm_succ]
    omega
theorem fb_sm_const (c : Nat) : ∀ n, fb_sm (fun _ => c) n = n * c
  | 0 => by rw [Nat.zero_mul]; rfl
  | n + 1 => by rw [fb_sm_succ, fb_sm_const c n, Nat.succ_mul]
theorem fb_sm_bound {f : Nat → Nat} {c n : Nat} (h : ∀ k, k < n → f k ≤ c) : fb_sm f n ≤ n * c := by
  rw [← fb_sm_const c n]
  exact fb_sm_le h
theorem fb_sm_mono (f : Nat → Nat) (m : Nat) : ∀ n, fb_sm f m ≤ fb_sm f (m + n)
  | 0 => Nat.le_refl _
  | n + 1 => by
    have h := fb_sm_mono f m n
    show fb_sm f m ≤ fb_sm f (m + n + 1)
    rw [fb_sm_succ]
    omega
theorem fb_sm_part (f : Nat → Nat) {i n : Nat} (h : i < n) : fb_sm f i + f i ≤ fb_sm f n := by
  have := fb_sm_mono f (i + 1) (n - (i + 1))
  rw [fb_sm_succ, show i + 1 + (n - (i + 1)) = n by omega] at this
  exact this
theorem fb_sm_split (f : Nat → Nat) (m : Nat) : ∀ n, fb_sm f (m + n) = fb_sm f m + fb_sm (fun k => f (m + k)) n
  | 0 => rfl
  | n + 1 => by
    have h := fb_sm_split f m n
    show fb_sm f (m + n + 1) = _
    rw [fb_sm_succ, fb_sm_succ, h, Nat.add_assoc]
theorem fb_sm_zero {f : Nat → Nat} {n : Nat} (h : fb_sm f n = 0) : ∀ k, k < n → f k = 0 := fun k hk => by
  have := fb_sm_part f hk
  omega
theorem fb_bit_set (n j i : Nat) : (n ||| 2 ^ j).testBit i = (n.testBit i || decide (i = j)) := by
  rw [Nat.testBit_or]
  by_cases h : j = i
  · subst h; simp
  · have h2 : ¬ i = j := fun e => h e.symm
    first | (simp [Nat.testBit_two_pow, h, h2]; done) | (simp [Nat.testBit_two_pow_of_ne h, h2]; done)
end
section
set_option maxRecDepth 100000
/-! BASE: numbers, the two classes' states and worlds, rows over natural numbers, the contracts' forms, calls. (fa_and, fa_or, fb_xorI, s_l began as rows of kit/laws.) -/
abbrev vwCl : List vw_C := [(RX1, TX1, 13), (RX2, TX2, 9)]
theorem fa_and (a b : Nat) : nI a &&& nI b = nI (a &&& b) := by
  apply Int32.toBitVec_inj.1
  show BitVec.ofNat 32 a &&& BitVec.ofNat 32 b = BitVec.ofNat 32 (a &&& b)
  apply BitVec.eq_of_getLsbD_eq
  intro i hi
  simp [hi]
theorem fa_or (a b : Nat) : nI a ||| nI b = nI (a ||| b) := by
  apply Int32.toBitVec_inj.1
  show BitVec.ofNat 32 a ||| BitVec.ofNat 32 b = BitVec.ofNat 32 (a ||| b)
  apply BitVec.eq_of_getLsbD_eq
  intro i hi
  simp [hi]
theorem fb_xorI (a b : Nat) : nI a ^^^ nI b = nI (a ^^^ b) := by
  apply Int32.toBitVec_inj.1
  show BitVec.ofNat 32 a ^^^ BitVec.ofNat 32 b = BitVec.ofNat 32 (a ^^^ b)
  apply BitVec.eq_of_getLsbD_eq
  intro i hi
  simp [hi]
theorem s_l : ∀ n, n < 32 → ((nI n &&& 31).toBitVec.smod 32).toNat = n := by decide +kernel
theorem nu_eq {a b : Nat} (ha : a < 2 ^ 32) (hb : b < 2 ^ 32) : nI a = nI b ↔ a = b := by
  constructor
  · intro h
    have h2 := congrArg (fun x : Int32 => x.toBitVec.toNat) h
    simp only [pk_tn ha, pk_tn hb] at h2
    exact h2
  · intro h; rw [h]
theorem nu_and1 (a : Nat) : nI a &&& nI 1 = nI (a % 2) := by
  rw [fa_and]
  congr 1
  exact Nat.and_two_pow_sub_one_eq_mod a 1
theorem nu_shr {a v : Nat} (ha : a < 2 ^ 31) (hv : v < 32) : nI a >>> (nI v &&& 31) = nI (a / 2 ^ v) := pk_shrN ha (nI v &&& 31) v (s_l v hv)
theorem nu_shl {v : Nat} (hv : v < 31) : nI 1 <<< (nI v &&& 31) = nI (2 ^ v) := by
  have h : 1 * 2 ^ v < 2 ^ 32 := by
    rw [Nat.one_mul]; exact Nat.pow_lt_pow_right (by decide) (by omega)
  have := pk_shlN (nI v &&& 31) v (s_l v (by omega)) h
  rw [Nat.one_mul] at this
  exact this
/-- the number that -1 is -/
abbrev nNone : Nat := 4294967295
theorem nu_none : (-1 : Int32) = nI nNone := by decide +kernel
def nF (f : Nat → Nat) : Nat → Int32 := fun j => nI (f j)
def updN (f : Nat → Nat) (k x : Nat) : Nat → Nat := fun j => if j = k then x else f j
theorem updN_s (f : Nat → Nat) (k x : Nat) : updN f k x k = x := by simp [updN]
theorem updN_n (f : Nat → Nat) {k j : Nat} (x : Nat) (h : j ≠ k) : updN f k x j = f j := by simp [updN, h]
theorem nF_upd (f : Nat → Nat) (k x : Nat) : upd (nF f) k (nI x) = nF (updN f k x) := by
  funext j
  by_cases h : j = k <;> simp [upd, nF, updN, h]
/-- bit v of the plan P -/
abbrev bq (P v : Nat) : Nat := P / 2 ^ v % 2

/-- UnboxPlanner: n, count, skipped, formCost, from, to, boxingCost, unboxingCost, fixed, wanted, left, parent, queue -/
abbrev sgU : Type := Nat × Nat × Nat × (Nat → Nat) × (Nat → Nat) × (Nat → Nat) × (Nat → Nat) × (Nat → Nat) × (Nat → Nat) × (Nat → Nat) × (Nat → Nat) × (Nat → Nat) × (Nat → Nat)
/-- UnboxPlannerModel: n, plans, count, price, fixed, from, to, boxing, unboxing -/
abbrev sgM : Type := Nat × Nat × Nat × (Nat → Nat) × (Nat → Nat) × (Nat → Nat) × (Nat → Nat) × (Nat → Nat) × (Nat → Nat)
def fsU (a : Nat → Nat) (S : sgU) : List Value := [.ref (a 1), .ref (a 2), .ref (a 3), .ref (a 4), .ref (a 5), .ref (a 6), .ref (a 7), .ref (a 8), .ref (a 9), .ref (a 10), .int (nI S.1), .int (nI S.2.1), .int (nI S.2.2.1)]
def wU (d : ClassId) (a : Nat → Nat) (S : sgU) : va_W := [(a 0, .inr (0, fsU a S)), (a 1, .inl (d, 20, .inl (nF S.2.2.2.1))), (a 2, .inl (d, 20, .inl (nF S.2.2.2.2.1))), (a 3, .inl (d, 20, .inl (nF S.2.2.2.2.2.1))), (a 4, .inl (d, 20, .inl (nF S.2.2.2.2.2.2.1))), (a 5, .inl (d, 20, .inl (nF S.2.2.2.2.2.2.2.1))), (a 6, .inl (d, 10, .inl (nF S.2.2.2.2.2.2.2.2.1))), (a 7, .inl (d, 10, .inl (nF S.2.2.2.2.2.2.2.2.2.1))), (a 8, .inl (d, 144, .inl (nF S.2.2.2.2.2.2.2.2.2.2.1))), (a 9, .inl (d, 12, .inl (nF S.2.2.2.2.2.2.2.2.2.2.2.1))), (a 10, .inl (d, 12, .inl (nF S.2.2.2.2.2.2.2.2.2.2.2.2)))]
def fsM (a : Nat → Nat) (S : sgM) : List Value := [.int (nI S.1), .int (nI S.2.1), .ref (a 1), .ref (a 2), .int (nI S.2.2.1), .ref (a 3), .ref (a 4), .ref (a 5), .ref (a 6)]
def wM (d : ClassId) (a : Nat → Nat) (S : sgM) : va_W := [(a 0, .inr (1, fsM a S)), (a 1, .inl (d, 20, .inl (nF S.2.2.2.1))), (a 2, .inl (d, 10, .inl (nF S.2.2.2.2.1))), (a 3, .inl (d, 20, .inl (nF S.2.2.2.2.2.1))), (a 4, .inl (d, 20, .inl (nF S.2.2.2.2.2.2.1))), (a 5, .inl (d, 20, .inl (nF S.2.2.2.2.2.2.2.1))), (a 6, .inl (d, 20, .inl (nF S.2.2.2.2.2.2.2.2)))]
def IW (D : va_G) (A : Nat → Prop) (H0 : Heap) (ws : va_W) (H : Heap) (locs : List Loc) : Prop := va_P D vwCl ws H ∧ va_D A ws ∧ va_S A H0 H locs
def cx (own : String) (p : Program) (s : State) (m : MethodId) (c : Code) (args : Array Value) (cc : ByteArray) (nL : Nat) (D : va_G) (d : ClassId) : Prop := CallFix p m c cc nL s args lw_all own ∧ va_K D vwCl [(d, .int)] s
section RW
variable {p : Program} {l : Launch} {e : Env} {R : Room} {s : State} {m : MethodId} {args : Array Value} {below : List Frame} {meth : Method} {c : Code} {H : Heap} {locs : List Loc} {cells slots : Nat} {Q : State → Prop} {cc : ByteArray} {pc nL : Nat} {ls : Array Slot} {rest : List Value} {D : va_G} {d : ClassId} {A : Nat → Prop} {own : String}
theorem r_add {a b : Nat} (hx : p.tables.exec = Jvm.exec) (hb : c.code = cc)  (hdg : decode cc pc = .ok (.iadd, 1)) (k : W p l e R s m args below meth c H locs cells slots Q (F0 m (pc + 1) ls (.int (nI (a + b)) :: rest))) : W p l e R s m args below meth c H locs cells slots Q (F0 m pc ls (.int (nI b) :: .int (nI a) :: rest)) := lv_iadd hx hb hdg  (by rw [nI_add]; exact k)
theorem r_mul {a b : Nat} (hx : p.tables.exec = Jvm.exec) (hb : c.code = cc)  (hdg : decode cc pc = .ok (.imul, 1)) (k : W p l e R s m args below meth c H locs cells slots Q (F0 m (pc + 1) ls (.int (nI (a * b)) :: rest))) : W p l e R s m args below meth c H locs cells slots Q (F0 m pc ls (.int (nI b) :: .int (nI a) :: rest)) := lv_imul hx hb hdg  (by rw [pk_mul]; exact k)
theorem r_sub {a b : Nat} (hx : p.tables.exec = Jvm.exec) (hb : c.code = cc) (h : b ≤ a) (hdg : decode cc pc = .ok (.isub, 1)) (k : W p l e R s m args below meth c H locs cells slots Q (F0 m (pc + 1) ls (.int (nI (a - b)) :: rest))) : W p l e R s m args below meth c H locs cells slots Q (F0 m pc ls (.int (nI b) :: .int (nI a) :: rest)) := lv_isub hx hb hdg  (by rw [pk_sub h]; exact k)
theorem r_or {a b : Nat} (hx : p.tables.exec = Jvm.exec) (hb : c.code = cc)  (hdg : decode cc pc = .ok (.ior, 1)) (k : W p l e R s m args below meth c H locs cells slots Q (F0 m (pc + 1) ls (.int (nI (a ||| b)) :: rest))) : W p l e R s m args below meth c H locs cells slots Q (F0 m pc ls (.int (nI b) :: .int (nI a) :: rest)) := lv_ior hx hb hdg  (by rw [fa_or]; exact k)
theorem r_and {a b : Nat} (hx : p.tables.exec = Jvm.exec) (hb : c.code = cc)  (hdg : decode cc pc = .ok (.iand, 1)) (k : W p l e R s m args below meth c H locs cells slots Q (F0 m (pc + 1) ls (.int (nI (a &&& b)) :: rest))) : W p l e R s m args below meth c H locs cells slots Q (F0 m pc ls (.int (nI b) :: .int (nI a) :: rest)) := lv_iand hx hb hdg  (by rw [fa_and]; exact k)
theorem r_xor {a b : Nat} (hx : p.tables.exec = Jvm.exec) (hb : c.code = cc)  (hdg : decode cc pc = .ok (.ixor, 1)) (k : W p l e R s m args below meth c H locs cells slots Q (F0 m (pc + 1) ls (.int (nI (a ^^^ b)) :: rest))) : W p l e R s m args below meth c H locs cells slots Q (F0 m pc ls (.int (nI b) :: .int (nI a) :: rest)) := lv_ixor hx hb hdg  (by rw [fb_xorI]; exact k)
theorem r_shr {a b : Nat} (hx : p.tables.exec = Jvm.exec) (hb : c.code = cc) (ha : a < 2 ^ 31) (hv : b < 32) (hdg : decode cc pc = .ok (.ishr, 1)) (k : W p l e R s m args below meth c H locs cells slots Q (F0 m (pc + 1) ls (.int (nI (a / 2 ^ b)) :: rest))) : W p l e R s m args below meth c H locs cells slots Q (F0 m pc ls (.int (nI b) :: .int (nI a) :: rest)) := lv_ishr hx hb hdg  (by rw [nu_shr ha hv]; exact k)
theorem r_div {a b : Nat} (hx : p.tables.exec = Jvm.exec) (hb : c.code = cc) (ha : a < 2 ^ 31) (h0 : 0 < b) (h1 : b < 2 ^ 31) (hdg : decode cc pc = .ok (.idiv, 1)) (k : W p l e R s m args below meth c H locs cells slots Q (F0 m (pc + 1) ls (.int (nI (a / b)) :: rest))) : W p l e R s m args below meth c H locs cells slots Q (F0 m pc ls (.int (nI b) :: .int (nI a) :: rest)) := lv_idiv hx hb hdg (nI_ne0 h0 h1) (by rw [pk_div ha h0 h1]; exact k)
theorem r_rem {a b : Nat} (hx : p.tables.exec = Jvm.exec) (hb : c.code = cc) (ha : a < 2 ^ 31) (h0 : 0 < b) (h1 : b < 2 ^ 31) (hdg : decode cc pc = .ok (.irem, 1)) (k : W p l e R s m args below meth c H locs cells slots Q (F0 m (pc + 1) ls (.int (nI (a % b)) :: rest))) : W p l e R s m args below meth c H locs cells slots Q (F0 m pc ls (.int (nI b) :: .int (nI a) :: rest)) := lv_irem hx hb hdg (nI_ne0 h0 h1) (by rw [pk_rem ha h0 h1]; exact k)
theorem r_and1 {a : Nat} (hx : p.tables.exec = Jvm.exec) (hb : c.code = cc) (hdg : decode cc pc = .ok (.iand, 1)) (k : W p l e R s m args below meth c H locs cells slots Q (F0 m (pc + 1) ls (.int (nI (a % 2)) :: rest))) : W p l e R s m args below meth c H locs cells slots Q (F0 m pc ls (.int (nI 1) :: .int (nI a) :: rest)) := lv_iand hx hb hdg (by rw [nu_and1]; exact k)
theorem r_shl1 {b : Nat} (hx : p.tables.exec = Jvm.exec) (hb : c.code = cc) (hv : b < 31) (hdg : decode cc pc = .ok (.ishl, 1)) (k : W p l e R s m args below meth c H locs cells slots Q (F0 m (pc + 1) ls (.int (nI (2 ^ b)) :: rest))) : W p l e R s m args below meth c H locs cells slots Q (F0 m pc ls (.int (nI b) :: .int (nI 1) :: rest)) := lv_ishl hx hb hdg (by rw [nu_shl hv]; exact k)
theorem r_ge {a b tgt : Nat} {off : Int} (hx : p.tables.exec = Jvm.exec) (hb : c.code = cc) (hdg : decode cc pc = .ok (.if_icmp .ge off, 3)) (ht : (pc : Int) + off = (tgt : Int)) (ha : a < 2 ^ 31) (hb2 : b < 2 ^ 31) (kt : b ≤ a → W p l e R s m args below meth c H locs cells slots Q (F0 m tgt ls (rest))) (kf : a < b → W p l e R s m args below meth c H locs cells slots Q (F0 m (pc + 3) ls (rest))) : W p l e R s m args below meth c H locs cells slots Q (F0 m pc ls (.int (nI b) :: .int (nI a) :: rest)) := lv_icmp_ge hx hb hdg ht (fun h => kt ((nI_leI hb2 ha).mp h)) (fun h => kf (Nat.not_le.mp (fun q => h ((nI_leI hb2 ha).mpr q))))
theorem r_gt {a b tgt : Nat} {off : Int} (hx : p.tables.exec = Jvm.exec) (hb : c.code = cc) (hdg : decode cc pc = .ok (.if_icmp .gt off, 3)) (ht : (pc : Int) + off = (tgt : Int)) (ha : a < 2 ^ 31) (hb2 : b < 2 ^ 31) (kt : b < a → W p l e R s m args below meth c H locs cells slots Q (F0 m tgt ls (rest))) (kf : a ≤ b → W p l e R s m args below meth c H locs cells slots Q (F0 m (pc + 3) ls (rest))) : W p l e R s m args below meth c H locs cells slots Q (F0 m pc ls (.int (nI b) :: .int (nI a) :: rest)) := lv_icmp_gt hx hb hdg ht (fun h => kt ((nI_ltI hb2 ha).mp h)) (fun h => kf (Nat.not_lt.mp (fun q => h ((nI_ltI hb2 ha).mpr q))))
theorem r_le {a b tgt : Nat} {off : Int} (hx : p.tables.exec = Jvm.exec) (hb : c.code = cc) (hdg : decode cc pc = .ok (.if_icmp .le off, 3)) (ht : (pc : Int) + off = (tgt : Int)) (ha : a < 2 ^ 31) (hb2 : b < 2 ^ 31) (kt : a ≤ b → W p l e R s m args below meth c H locs cells slots Q (F0 m tgt ls (rest))) (kf : b < a → W p l e R s m args below meth c H locs cells slots Q (F0 m (pc + 3) ls (rest))) : W p l e R s m args below meth c H locs cells slots Q (F0 m pc ls (.int (nI b) :: .int (nI a) :: rest)) := lv_icmp_le hx hb hdg ht (fun h => kt ((nI_leI ha hb2).mp h)) (fun h => kf (Nat.not_le.mp (fun q => h ((nI_leI ha hb2).mpr q))))
theorem r_lt {a b tgt : Nat} {off : Int} (hx : p.tables.exec = Jvm.exec) (hb : c.code = cc) (hdg : decode cc pc = .ok (.if_icmp .lt off, 3)) (ht : (pc : Int) + off = (tgt : Int)) (ha : a < 2 ^ 31) (hb2 : b < 2 ^ 31) (kt : a < b → W p l e R s m args below meth c H locs cells slots Q (F0 m tgt ls (rest))) (kf : b ≤ a → W p l e R s m args below meth c H locs cells slots Q (F0 m (pc + 3) ls (rest))) : W p l e R s m args below meth c H locs cells slots Q (F0 m pc ls (.int (nI b) :: .int (nI a) :: rest)) := lv_icmp_lt hx hb hdg ht (fun h => kt ((nI_ltI ha hb2).mp h)) (fun h => kf (Nat.not_lt.mp (fun q => h ((nI_ltI ha hb2).mpr q))))
theorem r_eq {a b tgt : Nat} {off : Int} (hx : p.tables.exec = Jvm.exec) (hb : c.code = cc) (hdg : decode cc pc = .ok (.if_icmp .eq off, 3)) (ht : (pc : Int) + off = (tgt : Int)) (ha : a < 2 ^ 32) (hb2 : b < 2 ^ 32) (kt : a = b → W p l e R s m args below meth c H locs cells slots Q (F0 m tgt ls (rest))) (kf : a ≠ b → W p l e R s m args below meth c H locs cells slots Q (F0 m (pc + 3) ls (rest))) : W p l e R s m args below meth c H locs cells slots Q (F0 m pc ls (.int (nI b) :: .int (nI a) :: rest)) := lv_icmp_eq hx hb hdg ht (fun h => kt ((nu_eq ha hb2).mp h)) (fun h => kf (fun q => h ((nu_eq ha hb2).mpr q)))
theorem r_ne {a b tgt : Nat} {off : Int} (hx : p.tables.exec = Jvm.exec) (hb : c.code = cc) (hdg : decode cc pc = .ok (.if_icmp .ne off, 3)) (ht : (pc : Int) + off = (tgt : Int)) (ha : a < 2 ^ 32) (hb2 : b < 2 ^ 32) (kt : a ≠ b → W p l e R s m args below meth c H locs cells slots Q (F0 m tgt ls (rest))) (kf : a = b → W p l e R s m args below meth c H locs cells slots Q (F0 m (pc + 3) ls (rest))) : W p l e R s m args below meth c H locs cells slots Q (F0 m pc ls (.int (nI b) :: .int (nI a) :: rest)) := lv_icmp_ne hx hb hdg ht (fun h => kt (fun q => h ((nu_eq ha hb2).mpr q))) (fun h => kf ((nu_eq ha hb2).mp h))
theorem r_if_eq {a tgt : Nat} {off : Int} (hx : p.tables.exec = Jvm.exec) (hb : c.code = cc) (hdg : decode cc pc = .ok (.ifCond .eq off, 3)) (ht : (pc : Int) + off = (tgt : Int)) (ha : a < 2 ^ 32) (kt : a = 0 → W p l e R s m args below meth c H locs cells slots Q (F0 m tgt ls (rest))) (kf : a ≠ 0 → W p l e R s m args below meth c H locs cells slots Q (F0 m (pc + 3) ls (rest))) : W p l e R s m args below meth c H locs cells slots Q (F0 m pc ls (.int (nI a) :: rest)) := lv_if_eq hx hb hdg ht (fun h => kt ((nu_eq ha (by decide)).mp h)) (fun h => kf (fun q => h ((nu_eq ha (by decide)).mpr q)))
theorem r_if_ne {a tgt : Nat} {off : Int} (hx : p.tables.exec = Jvm.exec) (hb : c.code = cc) (hdg : decode cc pc = .ok (.ifCond .ne off, 3)) (ht : (pc : Int) + off = (tgt : Int)) (ha : a < 2 ^ 32) (kt : a ≠ 0 → W p l e R s m args below meth c H locs cells slots Q (F0 m tgt ls (rest))) (kf : a = 0 → W p l e R s m args below meth c H locs cells slots Q (F0 m (pc + 3) ls (rest))) : W p l e R s m args below meth c H locs cells slots Q (F0 m pc ls (.int (nI a) :: rest)) := lv_if_ne hx hb hdg ht (fun h => kt (fun q => h ((nu_eq ha (by decide)).mpr q))) (fun h => kf ((nu_eq ha (by decide)).mp h))
theorem r_if_le {a tgt : Nat} {off : Int} (hx : p.tables.exec = Jvm.exec) (hb : c.code = cc) (hdg : decode cc pc = .ok (.ifCond .le off, 3)) (ht : (pc : Int) + off = (tgt : Int)) (ha : a < 2 ^ 31) (kt : a = 0 → W p l e R s m args below meth c H locs cells slots Q (F0 m tgt ls (rest))) (kf : 0 < a → W p l e R s m args below meth c H locs cells slots Q (F0 m (pc + 3) ls (rest))) : W p l e R s m args below meth c H locs cells slots Q (F0 m pc ls (.int (nI a) :: rest)) := lv_if_le hx hb hdg ht (fun h => kt (Nat.le_zero.mp ((nI_leI ha (by decide)).mp h))) (fun h => kf (Nat.pos_of_ne_zero (fun q => h ((nI_leI ha (by decide)).mpr (Nat.le_of_eq q)))))
theorem r_getU {a : Nat → Nat} {S : sgU} {H0 : Heap} {index : Nat} (hC : cx RX1 p s m c args cc nL D d) (hI : IW D A H0 (wU d a S) H locs) (k : Nat) (hk : k < 13) (hq : Cond.fieldLink RX1 index RX1 (TX1 k).2.1 (TX1 k).2.2.1 ∈ lw_all) (hT : (TX1 k).1 = RX1) {v : Value} (hv : (fsU a S)[k]? = some v) (hdg : decode cc pc = .ok (.getfield index, 3)) (kk : W p l e R s m args below meth c H locs cells slots Q (F0 m (pc + 3) ls (v :: rest))) : W p l e R s m args below meth c H locs cells slots Q (F0 m pc ls (.ref (a 0) :: rest)) :=
  va_get (D := D) (ci := 0) (v := v) (C := RX1) (T := TX1) (N := 13) hC.1.1 hC.1.2.1 hC.1.2.2.2.2 in_X1 hC.1.2.2.2.1 hC.2 hI.1 0 rfl rfl k hk (hC.1.2.2.2.2 _ hq) (fun _ h9 => by rw [hT] at h9; exact h9) hv hdg kk
theorem r_putU {a : Nat → Nat} {S : sgU} {H0 : Heap} {index : Nat} (S' : sgU) (hC : cx RX1 p s m c args cc nL D d) (hI : IW D A H0 (wU d a S) H locs) (k : Nat) (hk : k < 13) (hq : Cond.fieldLink RX1 index RX1 (TX1 k).2.1 (TX1 k).2.2.1 ∈ lw_all) (hT : (TX1 k).1 = RX1) (hfin : (TX1 k).2.2.2 = false) (hty : parseFieldDescriptor (TX1 k).2.2.1 = some .int) {x : Int32} (hS : (wU d a S).set 0 (a 0, .inr (0, (fsU a S).set k (.int x))) = wU d a S') (hdg : decode cc pc = .ok (.putfield index, 3)) (kk : ∀ (H1 : Heap) (locs1 : List Loc), IW D A H0 (wU d a S') H1 locs1 → W p l e R s m args below meth c H1 locs1 cells slots Q (F0 m (pc + 3) ls (rest))) : W p l e R s m args below meth c H locs cells slots Q (F0 m pc ls (.int x :: .ref (a 0) :: rest)) := by
  refine va_put (D := D) (ci := 0) (v := .int x) (ty := .int) (C := RX1) (T := TX1) (N := 13) hC.1.1 hC.1.2.1 hC.1.2.2.2.2 in_X1 tyX1 tyX1_ok nmX1 hC.1.2.2.2.1 hC.2 hI.1 hI.2.1 hI.2.2 0 rfl rfl k hk (hC.1.2.2.2.2 _ hq) (fun _ h9 => by rw [hT] at h9; exact h9) hfin hty rfl rfl hk hdg (fun H1 locs1 h1 h2 h3 => ?_)
  rw [hS] at h1 h2
  exact kk H1 locs1 ⟨h1, h2, h3⟩
theorem r_getM {a : Nat → Nat} {S : sgM} {H0 : Heap} {index : Nat} (hC : cx RX2 p s m c args cc nL D d) (hI : IW D A H0 (wM d a S) H locs) (k : Nat) (hk : k < 9) (hq : Cond.fieldLink RX2 index RX2 (TX2 k).2.1 (TX2 k).2.2.1 ∈ lw_all) (hT : (TX2 k).1 = RX2) {v : Value} (hv : (fsM a S)[k]? = some v) (hdg : decode cc pc = .ok (.getfield index, 3)) (kk : W p l e R s m args below meth c H locs cells slots Q (F0 m (pc + 3) ls (v :: rest))) : W p l e R s m args below meth c H locs cells slots Q (F0 m pc ls (.ref (a 0) :: rest)) :=
  va_get (D := D) (ci := 1) (v := v) (C := RX2) (T := TX2) (N := 9) hC.1.1 hC.1.2.1 hC.1.2.2.2.2 in_X2 hC.1.2.2.2.1 hC.2 hI.1 0 rfl rfl k hk (hC.1.2.2.2.2 _ hq) (fun _ h9 => by rw [hT] at h9; exact h9) hv hdg kk
theorem r_putM {a : Nat → Nat} {S : sgM} {H0 : Heap} {index : Nat} (S' : sgM) (hC : cx RX2 p s m c args cc nL D d) (hI : IW D A H0 (wM d a S) H locs) (k : Nat) (hk : k < 9) (hq : Cond.fieldLink RX2 index RX2 (TX2 k).2.1 (TX2 k).2.2.1 ∈ lw_all) (hT : (TX2 k).1 = RX2) (hfin : (TX2 k).2.2.2 = false) (hty : parseFieldDescriptor (TX2 k).2.2.1 = some .int) {x : Int32} (hS : (wM d a S).set 0 (a 0, .inr (1, (fsM a S).set k (.int x))) = wM d a S') (hdg : decode cc pc = .ok (.putfield index, 3)) (kk : ∀ (H1 : Heap) (locs1 : List Loc), IW D A H0 (wM d a S') H1 locs1 → W p l e R s m args below meth c H1 locs1 cells slots Q (F0 m (pc + 3) ls (rest))) : W p l e R s m args below meth c H locs cells slots Q (F0 m pc ls (.int x :: .ref (a 0) :: rest)) := by
  refine va_put (D := D) (ci := 1) (v := .int x) (ty := .int) (C := RX2) (T := TX2) (N := 9) hC.1.1 hC.1.2.1 hC.1.2.2.2.2 in_X2 tyX2 tyX2_ok nmX2 hC.1.2.2.2.1 hC.2 hI.1 hI.2.1 hI.2.2 0 rfl rfl k hk (hC.1.2.2.2.2 _ hq) (fun _ h9 => by rw [hT] at h9; exact h9) hfin hty rfl rfl hk hdg (fun H1 locs1 h1 h2 h3 => ?_)
  rw [hS] at h1 h2
  exact kk H1 locs1 ⟨h1, h2, h3⟩
theorem r_ald {ws : va_W} {H0 : Heap} {N j ad : Nat} {f : Nat → Nat} (hC : cx own p s m c args cc nL D d) (hI : IW D A H0 ws H locs) (q0 : Nat) (ha : ws[q0]? = some (ad, .inl (d, N, .inl (nF f)))) (hj : j < N) (hN : N < 2 ^ 31) (hdg : decode cc pc = .ok (.iaload, 1)) (kk : W p l e R s m args below meth c H locs cells slots Q (F0 m (pc + 1) ls (.int (nI (f j)) :: rest))) : W p l e R s m args below meth c H locs cells slots Q (F0 m pc ls (.int (nI j) :: .ref ad :: rest)) := by
  refine va_iald hC.1.1 hC.1.2.1 hC.2 hI.1 q0 0 ha rfl (vp_in_nI hj hN) hdg ?_
  rw [nI_clamp (Nat.lt_trans hj hN)]
  exact kk
theorem r_ast {ws ws' : va_W} {H0 : Heap} {N j x ad : Nat} {f : Nat → Nat} (hC : cx own p s m c args cc nL D d) (hI : IW D A H0 ws H locs) (q0 : Nat) (ha : ws[q0]? = some (ad, .inl (d, N, .inl (nF f)))) (hj : j < N) (hN : N < 2 ^ 31) (hw : ws.set q0 (ad, .inl (d, N, .inl (nF (updN f j x)))) = ws') (hdg : decode cc pc = .ok (.iastore, 1)) (kk : ∀ (H1 : Heap) (locs1 : List Loc), IW D A H0 ws' H1 locs1 → W p l e R s m args below meth c H1 locs1 cells slots Q (F0 m (pc + 1) ls (rest))) : W p l e R s m args below meth c H locs cells slots Q (F0 m pc ls (.int (nI x) :: .int (nI j) :: .ref ad :: rest)) := by
  refine va_iast hC.1.1 hC.1.2.1 hC.2 hI.1 hI.2.1 hI.2.2 q0 0 ha rfl (vp_in_nI hj hN) hdg (fun H1 locs1 h1 h2 h3 => ?_)
  rw [nI_clamp (Nat.lt_trans hj hN), nF_upd, hw] at h1 h2
  exact kk H1 locs1 ⟨h1, h2, h3⟩
theorem r_none {n : Int} (hx : p.tables.exec = Jvm.exec) (hb : c.code = cc) (hdg : decode cc pc = .ok (.iconst n, 1)) (hn : n = -1) (k : W p l e R s m args below meth c H locs cells slots Q (F0 m (pc + 1) ls (.int (nI nNone) :: rest))) : W p l e R s m args below meth c H locs cells slots Q (F0 m pc ls (rest)) := lv_iconst (v := nI nNone) hx hb hdg (by rw [hn]; decide +kernel) k
theorem r_val {x y : Int32} (h : x = y) (k : W p l e R s m args below meth c H locs cells slots Q (F0 m pc ls (.int y :: rest))) : W p l e R s m args below meth c H locs cells slots Q (F0 m pc ls (.int x :: rest)) := by rw [h]; exact k
end RW
/-- a contract that answers an int: from any heap that holds the world of S, the answer r and the new state u with 'post r u' -/
def qI {σ : Type} (l : Launch) (y : MethodName) (cc : ByteArray) (L : Nat) (rt : FieldType) (rm : Room) (D : va_G) (d : ClassId) (WF : σ → va_W) (S : σ) (av : List Value) (post : Int32 → σ → Prop) : Prop :=
  ∀ sz : Nat, Met l y (ws_ y cc L (some rt)) rm (va_Pc av (fun U => U.heap.size = sz ∧ va_P D vwCl (WF S) U.heap ∧ va_K D vwCl [(d, .int)] U ∧ va_D (fun _ => True) (WF S))) (va_Qi post (fun u t => va_P D vwCl (WF u) t.heap ∧ va_K D vwCl [(d, .int)] t ∧ va_D (va_A (WF S) sz) (WF u)) (va_A (WF S) sz)) 0 0 (va_A (WF S) sz)
def qV {σ : Type} (l : Launch) (y : MethodName) (cc : ByteArray) (L : Nat) (rm : Room) (D : va_G) (d : ClassId) (WF : σ → va_W) (S : σ) (av : List Value) (post : σ → Prop) : Prop :=
  ∀ sz : Nat, Met l y (ws_ y cc L none) rm (va_Pc av (fun U => U.heap.size = sz ∧ va_P D vwCl (WF S) U.heap ∧ va_K D vwCl [(d, .int)] U ∧ va_D (fun _ => True) (WF S))) (va_Qv post (fun u t => va_P D vwCl (WF u) t.heap ∧ va_K D vwCl [(d, .int)] t ∧ va_D (va_A (WF S) sz) (WF u)) (va_A (WF S) sz)) 0 0 (va_A (WF S) sz)
set_option maxHeartbeats 4000000 in
theorem qI_of {σ : Type} {l : Launch} {y : MethodName} {cc : ByteArray} {L : Nat} {rt : FieldType} {rm : Room} {D : va_G} {d : ClassId} {WF : σ → va_W} {S : σ} {av : List Value} {post : Int32 → σ → Prop} (own : String) (ho : y.cls = own) (hy : plainName y.cls = true) (hL : (lg_sl av).length ≤ L) (hn : ∀ r u, post r u → narrow rt (.int r) = .int r)
    (body : ∀ (p : Program) (e : Env) (s : State) (m : MethodId) (below : List Frame) (meth : Method) (c : Code) (A : Nat → Prop) (Q : State → Prop) (H : Heap) (locs : List Loc) (ls : Array Slot),
      cx own p s m c av.toArray cc L D d → (∀ q : Nat, s.heap.size ≤ q → A q) → IW D A s.heap (WF S) H locs → lv_has ls L (lv_args 0 av) →
      (∀ (pc : Nat) (ls : Array Slot) (H : Heap) (locs : List Loc) (r : Int32) (u : σ), decode cc pc = .ok (.ireturn, 1) → post r u → IW D A s.heap (WF u) H locs → W p l e rm s m av.toArray below meth c H locs 0 0 Q (F0 m pc ls [.int r])) →
      W p l e rm s m av.toArray below meth c H locs 0 0 Q (F0 m 0 ls [])) : qI l y cc L rt rm D d WF S av post := by
  subst ho
  intro sz
  refine Met.ofW (cc := cc) (maxL := L) (ret := some rt) hy rfl ?_
  intro p e s m args below meth c s₁ B hml hv
  obtain ⟨rfl, hsz, hP, hK, hD0⟩ := hv
  have hts := atoms_spec (ws := ws_ y cc L (some rt)) B.pre
  have hts : ∀ w ∈ lw_all, w.before _ s = true := fun w h => hts w (List.mem_cons_of_mem _ h)
  have hown : s.vm.findClass y.cls = some m.cls := findClass_of_methodNamed B.named
  have hlocks := B.notSynchronized
  subst hsz
  have hD := hD0.self (sz := s.heap.size)
  have hl := lv_entry av (n := L) hL
  rw [lg_entry_eq]
  refine body p e s m below meth c (va_A (WF S) s.heap.size) _ s.heap [] _ ⟨⟨B.exec, B.bytes, hml, hown, hts⟩, hK⟩ (fun q h => Or.inr h) ⟨hP, hD, va_S.rf⟩ hl ?_
  intro pc ls H locs r u hdg hp hI
  exact W.zret B.exec B.bytes B.returns (hn r u hp) (fun t ht hW => ⟨⟨r, u, rfl, hp, by rw [ht]; exact hI.1, va_K.moved hW.alike hK, hI.2.1⟩, hI.2.2.F ht⟩) hI.2.2.2.2 hdg
set_option maxHeartbeats 4000000 in
theorem qV_of {σ : Type} {l : Launch} {y : MethodName} {cc : ByteArray} {L : Nat} {rm : Room} {D : va_G} {d : ClassId} {WF : σ → va_W} {S : σ} {av : List Value} {post : σ → Prop} (own : String) (ho : y.cls = own) (hy : plainName y.cls = true) (hL : (lg_sl av).length ≤ L)
    (body : ∀ (p : Program) (e : Env) (s : State) (m : MethodId) (below : List Frame) (meth : Method) (c : Code) (A : Nat → Prop) (Q : State → Prop) (H : Heap) (locs : List Loc) (ls : Array Slot),
      cx own p s m c av.toArray cc L D d → (∀ q : Nat, s.heap.size ≤ q → A q) → IW D A s.heap (WF S) H locs → lv_has ls L (lv_args 0 av) →
      (∀ (pc : Nat) (ls : Array Slot) (H : Heap) (locs : List Loc) (u : σ), decode cc pc = .ok (.return_, 1) → post u → IW D A s.heap (WF u) H locs → W p l e rm s m av.toArray below meth c H locs 0 0 Q (F0 m pc ls [])) →
      W p l e rm s m av.toArray below meth c H locs 0 0 Q (F0 m 0 ls [])) : qV l y cc L rm D d WF S av post := by
  subst ho
  intro sz
  refine Met.ofW (cc := cc) (maxL := L) (ret := none) hy rfl ?_
  intro p e s m args below meth c s₁ B hml hv
  obtain ⟨rfl, hsz, hP, hK, hD0⟩ := hv
  have hts := atoms_spec (ws := ws_ y cc L none) B.pre
  have hts : ∀ w ∈ lw_all, w.before _ s = true := fun w h => hts w (List.mem_cons_of_mem _ h)
  have hown : s.vm.findClass y.cls = some m.cls := findClass_of_methodNamed B.named
  have hlocks := B.notSynchronized
  subst hsz
  have hD := hD0.self (sz := s.heap.size)
  have hl := lv_entry av (n := L) hL
  rw [lg_entry_eq]
  refine body p e s m below meth c (va_A (WF S) s.heap.size) _ s.heap [] _ ⟨⟨B.exec, B.bytes, hml, hown, hts⟩, hK⟩ (fun q h => Or.inr h) ⟨hP, hD, va_S.rf⟩ hl ?_
  intro pc ls H locs u hdg hp hI
  exact W.vret B.exec B.bytes B.returns (fun t ht hW => ⟨⟨u, rfl, hp, by rw [ht]; exact hI.1, va_K.moved hW.alike hK, hI.2.1⟩, hI.2.2.F ht⟩) hI.2.2.2.2 hdg
section GO
variable {p : Program} {l : Launch} {e : Env} {R : Room} {s : State} {m : MethodId} {args : Array Value} {below : List Frame} {meth : Method} {c : Code} {H : Heap} {locs : List Loc} {cells slots : Nat} {Q : State → Prop} {cc : ByteArray} {pc nL : Nat} {ls : Array Slot} {rest st : List Value} {D : va_G} {d : ClassId} {A : Nat → Prop} {own : String}
set_option maxHeartbeats 4000000 in
theorem go_i {σ : Type} {WF : σ → va_W} {S : σ} {y : MethodName} {ccy : ByteArray} {Ly : Nat} {rt : FieldType} {rmy : Room} {b : Nat} {As : List Value} {post : Int32 → σ → Prop} (hC : cx own p s m c args cc nL D d) (hA : ∀ q : Nat, s.heap.size ≤ q → A q) (hI : IW D A s.heap (WF S) H locs) (hM : qI l y ccy Ly rt rmy D d WF S (.ref b :: As) post) {ci : Nat} {qc : vw_C} {fs : List Value} (hq : vwCl[ci]? = some qc) (h0 : (WF S)[0]? = some (b, .inr (ci, fs))) {index : Nat} (n : Nat) (hV : GoodIn lw_all (wsV own index qc.1 y (ws_ y ccy Ly (some rt)))) (hd : y.cls = qc.1 ∧ y.cls ≠ "java/lang/invoke/MethodHandle" ∧ y.cls ≠ "java/lang/invoke/VarHandle" ∧ (parseMethodDescriptor y.desc).map (fun d => d.parameters.length) = some n) (hR : rmy.frames + 1 ≤ R.frames ∧ 8 + (Ly + 11) + rmy.locals ≤ R.locals) (hc0 : rmy.cells = 0) (hs0 : rmy.slots = 0) (hn : As.length = n) (hl : ls.size = nL) (hst : st = As.reverse ++ .ref b :: rest) (hroom : (rest.map fun v => v.category).sum ≤ 8) (hdg : decode cc pc = .ok (.invokevirtual index, 3)) (hcs : cells ≤ R.cells ∧ slots ≤ R.slots) (kk : ∀ (r : Int32) (u : σ) (H1 : Heap) (locs1 : List Loc), post r u → IW D A s.heap (WF u) H1 locs1 → W p l e R s m args below meth c H1 locs1 cells slots Q (F0 m (pc + 3) ls (.int r :: rest))) : W p l e R s m args below meth c H locs cells slots Q (F0 m pc ls (st)) := by
  obtain ⟨hP, hD, hS⟩ := hI
  have hPc := hP
  have hDc := hD
  have hFc : ∀ q, va_A (WF S) H.size q → A q := by
    intro q h
    rcases h with ⟨k, e, h⟩ | h
    · exact hDc.2 k (q, e) h
    · exact hA q (Nat.le_trans hS.1 h)
  refine va_calli (va_runV (As := As) (rest := rest) hC.1 (hM H.size) (cwV n hC.1.2.2.2.2 hV rfl hc0 hs0 hd hR) ⟨fun a U g mk qq => by obtain ⟨q0, q1, qP, qK, qD⟩ := qq; exact ⟨q0, q1, qP, va_K.moved (u := U) (U := U.calling g mk a) (Vm.Alike.refl U.vm) qK, qD⟩, va_recv hC.2 hPc hq h0, fun U hU hW => ⟨rfl, by rw [hU], by rw [hU]; exact hPc, va_K.moved hW.alike hC.2, hDc.weaken (fun _ _ _ _ => trivial)⟩⟩ rfl hn hl hst (lv_room hroom) hdg hcs) hS (fun q _ h => hFc q h) hFc (fun r u t H1 locs1 ht hvm hp hB hz hk hS1 => ?_)
  obtain ⟨hP1, hK1, hD1⟩ := hB
  rw [ht] at hP1
  exact kk r u H1 locs1 hp ⟨hP1, hD1.weaken (fun k q _ h => hFc q.1 h), hS1⟩
set_option maxHeartbeats 4000000 in
theorem go_v {σ : Type} {WF : σ → va_W} {S : σ} {y : MethodName} {ccy : ByteArray} {Ly : Nat} {rmy : Room} {b : Nat} {As : List Value} {post : σ → Prop} (hC : cx own p s m c args cc nL D d) (hA : ∀ q : Nat, s.heap.size ≤ q → A q) (hI : IW D A s.heap (WF S) H locs) (hM : qV l y ccy Ly rmy D d WF S (.ref b :: As) post) {ci : Nat} {qc : vw_C} {fs : List Value} (hq : vwCl[ci]? = some qc) (h0 : (WF S)[0]? = some (b, .inr (ci, fs))) {index : Nat} (n : Nat) (hV : GoodIn lw_all (wsV own index qc.1 y (ws_ y ccy Ly none))) (hd : y.cls = qc.1 ∧ y.cls ≠ "java/lang/invoke/MethodHandle" ∧ y.cls ≠ "java/lang/invoke/VarHandle" ∧ (parseMethodDescriptor y.desc).map (fun d => d.parameters.length) = some n) (hR : rmy.frames + 1 ≤ R.frames ∧ 8 + (Ly + 11) + rmy.locals ≤ R.locals) (hc0 : rmy.cells = 0) (hs0 : rmy.slots = 0) (hn : As.length = n) (hl : ls.size = nL) (hst : st = As.reverse ++ .ref b :: rest) (hroom : (rest.map fun v => v.category).sum ≤ 8) (hdg : decode cc pc = .ok (.invokevirtual index, 3)) (hcs : cells ≤ R.cells ∧ slots ≤ R.slots) (kk : ∀ (u : σ) (H1 : Heap) (locs1 : List Loc), post u → IW D A s.heap (WF u) H1 locs1 → W p l e R s m args below meth c H1 locs1 cells slots Q (F0 m (pc + 3) ls (rest))) : W p l e R s m args below meth c H locs cells slots Q (F0 m pc ls (st)) := by
  obtain ⟨hP, hD, hS⟩ := hI
  have hPc := hP
  have hDc := hD
  have hFc : ∀ q, va_A (WF S) H.size q → A q := by
    intro q h
    rcases h with ⟨k, e, h⟩ | h
    · exact hDc.2 k (q, e) h
    · exact hA q (Nat.le_trans hS.1 h)
  refine va_callv (va_runV (As := As) (rest := rest) hC.1 (hM H.size) (cwV n hC.1.2.2.2.2 hV rfl hc0 hs0 hd hR) ⟨fun a U g mk qq => by obtain ⟨q0, q1, qP, qK, qD⟩ := qq; exact ⟨q0, q1, qP, va_K.moved (u := U) (U := U.calling g mk a) (Vm.Alike.refl U.vm) qK, qD⟩, va_recv hC.2 hPc hq h0, fun U hU hW => ⟨rfl, by rw [hU], by rw [hU]; exact hPc, va_K.moved hW.alike hC.2, hDc.weaken (fun _ _ _ _ => trivial)⟩⟩ rfl hn hl hst (lv_room hroom) hdg hcs) hS (fun q _ h => hFc q h) hFc (fun u t H1 locs1 ht hvm hp hB hz hk hS1 => ?_)
  obtain ⟨hP1, hK1, hD1⟩ := hB
  rw [ht] at hP1
  exact kk u H1 locs1 hp ⟨hP1, hD1.weaken (fun k q _ h => hFc q.1 h), hS1⟩
set_option maxHeartbeats 4000000 in
theorem go_iU {a a2 : Nat → Nat} {S : sgU} {S2 : sgM} {y : MethodName} {ccy : ByteArray} {Ly : Nat} {rt : FieldType} {rmy : Room} {b : Nat} {As : List Value} {post : Int32 → sgU → Prop} (hC : cx own p s m c args cc nL D d) (hA : ∀ q : Nat, s.heap.size ≤ q → A q) (hI : IW D A s.heap (wU d a S ++ wM d a2 S2) H locs) (hM : qI l y ccy Ly rt rmy D d (wU d a) S (.ref b :: As) post) {ci : Nat} {qc : vw_C} {fs : List Value} (hq : vwCl[ci]? = some qc) (h0 : ((wU d a) S)[0]? = some (b, .inr (ci, fs))) {index : Nat} (n : Nat) (hV : GoodIn lw_all (wsV own index qc.1 y (ws_ y ccy Ly (some rt)))) (hd : y.cls = qc.1 ∧ y.cls ≠ "java/lang/invoke/MethodHandle" ∧ y.cls ≠ "java/lang/invoke/VarHandle" ∧ (parseMethodDescriptor y.desc).map (fun d => d.parameters.length) = some n) (hR : rmy.frames + 1 ≤ R.frames ∧ 8 + (Ly + 11) + rmy.locals ≤ R.locals) (hc0 : rmy.cells = 0) (hs0 : rmy.slots = 0) (hn : As.length = n) (hl : ls.size = nL) (hst : st = As.reverse ++ .ref b :: rest) (hroom : (rest.map fun v => v.category).sum ≤ 8) (hdg : decode cc pc = .ok (.invokevirtual index, 3)) (hcs : cells ≤ R.cells ∧ slots ≤ R.slots) (kk : ∀ (r : Int32) (u : sgU) (H1 : Heap) (locs1 : List Loc), post r u → IW D A s.heap (wU d a u ++ wM d a2 S2) H1 locs1 → W p l e R s m args below meth c H1 locs1 cells slots Q (F0 m (pc + 3) ls (.int r :: rest))) : W p l e R s m args below meth c H locs cells slots Q (F0 m pc ls (st)) := by
  obtain ⟨hP, hD, hS⟩ := hI
  have hPc := hP.sub (ws' := (wU d a) S) [0, 1, 2, 3, 4, 5, 6, 7, 8, 9, 10] rfl
  have hDc := hD.sub (ws' := (wU d a) S) [0, 1, 2, 3, 4, 5, 6, 7, 8, 9, 10] (by decide) rfl
  have hFc : ∀ q, va_A ((wU d a) S) H.size q → A q := by
    intro q h
    rcases h with ⟨k, e, h⟩ | h
    · exact hDc.2 k (q, e) h
    · exact hA q (Nat.le_trans hS.1 h)
  refine va_calli (va_runV (As := As) (rest := rest) hC.1 (hM H.size) (cwV n hC.1.2.2.2.2 hV rfl hc0 hs0 hd hR) ⟨fun a U g mk qq => by obtain ⟨q0, q1, qP, qK, qD⟩ := qq; exact ⟨q0, q1, qP, va_K.moved (u := U) (U := U.calling g mk a) (Vm.Alike.refl U.vm) qK, qD⟩, va_recv hC.2 hPc hq h0, fun U hU hW => ⟨rfl, by rw [hU], by rw [hU]; exact hPc, va_K.moved hW.alike hC.2, hDc.weaken (fun _ _ _ _ => trivial)⟩⟩ rfl hn hl hst (lv_room hroom) hdg hcs) hS (fun q _ h => hFc q h) hFc (fun r u t H1 locs1 ht hvm hp hB hz hk hS1 => ?_)
  obtain ⟨hP1, hK1, hD1⟩ := hB
  rw [ht] at hP1
  obtain ⟨hP2, hD2⟩ := va_join (wc := (wU d a) S) (wr := wM d a2 S2) (w1 := wU d a u) hP hD [0, 1, 2, 3, 4, 5, 6, 7, 8, 9, 10] [11, 12, 13, 14, 15, 16, 17] rfl rfl (by decide) (by decide) hk hFc hP1 hD1
  exact kk r u H1 locs1 hp ⟨hP2.sub [7, 8, 9, 10, 11, 12, 13, 14, 15, 16, 17, 0, 1, 2, 3, 4, 5, 6] rfl, hD2.sub [7, 8, 9, 10, 11, 12, 13, 14, 15, 16, 17, 0, 1, 2, 3, 4, 5, 6] (by decide) rfl, hS1⟩
set_option maxHeartbeats 4000000 in
theorem go_iM {a a2 : Nat → Nat} {S2 : sgU} {S : sgM} {y : MethodName} {ccy : ByteArray} {Ly : Nat} {rt : FieldType} {rmy : Room} {b : Nat} {As : List Value} {post : Int32 → sgM → Prop} (hC : cx own p s m c args cc nL D d) (hA : ∀ q : Nat, s.heap.size ≤ q → A q) (hI : IW D A s.heap (wU d a2 S2 ++ wM d a S) H locs) (hM : qI l y ccy Ly rt rmy D d (wM d a) S (.ref b :: As) post) {ci : Nat} {qc : vw_C} {fs : List Value} (hq : vwCl[ci]? = some qc) (h0 : ((wM d a) S)[0]? = some (b, .inr (ci, fs))) {index : Nat} (n : Nat) (hV : GoodIn lw_all (wsV own index qc.1 y (ws_ y ccy Ly (some rt)))) (hd : y.cls = qc.1 ∧ y.cls ≠ "java/lang/invoke/MethodHandle" ∧ y.cls ≠ "java/lang/invoke/VarHandle" ∧ (parseMethodDescriptor y.desc).map (fun d => d.parameters.length) = some n) (hR : rmy.frames + 1 ≤ R.frames ∧ 8 + (Ly + 11) + rmy.locals ≤ R.locals) (hc0 : rmy.cells = 0) (hs0 : rmy.slots = 0) (hn : As.length = n) (hl : ls.size = nL) (hst : st = As.reverse ++ .ref b :: rest) (hroom : (rest.map fun v => v.category).sum ≤ 8) (hdg : decode cc pc = .ok (.invokevirtual index, 3)) (hcs : cells ≤ R.cells ∧ slots ≤ R.slots) (kk : ∀ (r : Int32) (u : sgM) (H1 : Heap) (locs1 : List Loc), post r u → IW D A s.heap (wU d a2 S2 ++ wM d a u) H1 locs1 → W p l e R s m args below meth c H1 locs1 cells slots Q (F0 m (pc + 3) ls (.int r :: rest))) : W p l e R s m args below meth c H locs cells slots Q (F0 m pc ls (st)) := by
  obtain ⟨hP, hD, hS⟩ := hI
  have hPc := hP.sub (ws' := (wM d a) S) [11, 12, 13, 14, 15, 16, 17] rfl
  have hDc := hD.sub (ws' := (wM d a) S) [11, 12, 13, 14, 15, 16, 17] (by decide) rfl
  have hFc : ∀ q, va_A ((wM d a) S) H.size q → A q := by
    intro q h
    rcases h with ⟨k, e, h⟩ | h
    · exact hDc.2 k (q, e) h
    · exact hA q (Nat.le_trans hS.1 h)
  refine va_calli (va_runV (As := As) (rest := rest) hC.1 (hM H.size) (cwV n hC.1.2.2.2.2 hV rfl hc0 hs0 hd hR) ⟨fun a U g mk qq => by obtain ⟨q0, q1, qP, qK, qD⟩ := qq; exact ⟨q0, q1, qP, va_K.moved (u := U) (U := U.calling g mk a) (Vm.Alike.refl U.vm) qK, qD⟩, va_recv hC.2 hPc hq h0, fun U hU hW => ⟨rfl, by rw [hU], by rw [hU]; exact hPc, va_K.moved hW.alike hC.2, hDc.weaken (fun _ _ _ _ => trivial)⟩⟩ rfl hn hl hst (lv_room hroom) hdg hcs) hS (fun q _ h => hFc q h) hFc (fun r u t H1 locs1 ht hvm hp hB hz hk hS1 => ?_)
  obtain ⟨hP1, hK1, hD1⟩ := hB
  rw [ht] at hP1
  obtain ⟨hP2, hD2⟩ := va_join (wc := (wM d a) S) (wr := wU d a2 S2) (w1 := wM d a u) hP hD [11, 12, 13, 14, 15, 16, 17] [0, 1, 2, 3, 4, 5, 6, 7, 8, 9, 10] rfl rfl (by decide) (by decide) hk hFc hP1 hD1
  exact kk r u H1 locs1 hp ⟨hP2, hD2, hS1⟩
end GO
end
section
set_option maxRecDepth 100000
/-! PLAIN LAW 1: cuts of a network of 12 nodes, what a push and a new edge do to them; plans as numbers; costs; least and best -/
-- ===== cuts =====
def cutX (le : Nat → Nat) (X : Nat → Bool) : Nat := fb_sm (fun j => if X (j / 12) && !(X (j % 12)) then le j else 0) 144
theorem cut_upd (le : Nat → Nat) (X : Nat → Bool) {i : Nat} (hi : i < 144) (y : Nat) : cutX (updN le i y) X + (if X (i / 12) && !(X (i % 12)) then le i else 0) = cutX le X + (if X (i / 12) && !(X (i % 12)) then y else 0) := by
  have h := fb_sm_upd (fun j => if X (j / 12) && !(X (j % 12)) then le j else 0) (if X (i / 12) && !(X (i % 12)) then y else 0) hi
  have e : (fun j => if X (j / 12) && !(X (j % 12)) then updN le i y j else 0) = (fun k => if k = i then (if X (i / 12) && !(X (i % 12)) then y else 0) else (if X (k / 12) && !(X (k % 12)) then le k else 0)) := by
    funext k
    by_cases hk : k = i
    · subst hk; simp [updN]
    · simp [updN, hk]
  unfold cutX
  rw [e]
  exact h
theorem ix_div {u v : Nat} (hv : v < 12) : (12 * u + v) / 12 = u := by omega
theorem ix_mod {u v : Nat} (hv : v < 12) : (12 * u + v) % 12 = v := by omega
theorem cut_set (le : Nat → Nat) (X : Nat → Bool) {u v : Nat} (hu : u < 12) (hv : v < 12) (y : Nat) : cutX (updN le (12 * u + v) y) X + (if X u && !(X v) then le (12 * u + v) else 0) = cutX le X + (if X u && !(X v) then y else 0) := by
  have h := cut_upd le X (i := 12 * u + v) (by omega) y
  rw [ix_div hv, ix_mod hv] at h
  exact h
theorem cut_add (le : Nat → Nat) (X : Nat → Bool) {u v : Nat} (hu : u < 12) (hv : v < 12) (y : Nat) : cutX (updN le (12 * u + v) (le (12 * u + v) + y)) X = cutX le X + (if X u && !(X v) then y else 0) := by
  have h := cut_set le X hu hv (le (12 * u + v) + y)
  split at h <;> simp_all <;> omega
theorem cut_sub (le : Nat → Nat) (X : Nat → Bool) {u v : Nat} (hu : u < 12) (hv : v < 12) {y : Nat} (hy : y ≤ le (12 * u + v)) : cutX (updN le (12 * u + v) (le (12 * u + v) - y)) X + (if X u && !(X v) then y else 0) = cutX le X := by
  have h := cut_set le X hu hv (le (12 * u + v) - y)
  split at h <;> simp_all <;> omega
theorem cut_zero {le : Nat → Nat} {X : Nat → Bool} : cutX le X = 0 ↔ ∀ u v, u < 12 → v < 12 → X u = true → X v = false → le (12 * u + v) = 0 := by
  constructor
  · intro h u v hu hv h1 h2
    have := fb_sm_zero h (12 * u + v) (by omega)
    simp only [ix_div hv, ix_mod hv, h1, h2] at this
    simpa using this
  · intro h
    have e : ∀ k, k < 144 → (if X (k / 12) && !(X (k % 12)) then le k else 0) = (fun _ => 0) k := by
      intro k hk
      by_cases hc : (X (k / 12) && !(X (k % 12))) = true
      · rw [if_pos hc]
        simp only [Bool.and_eq_true, Bool.not_eq_true'] at hc
        have := h (k / 12) (k % 12) (by omega) (by omega) hc.1 hc.2
        rw [show 12 * (k / 12) + k % 12 = k by omega] at this
        exact this
      · rw [if_neg hc]
    unfold cutX
    rw [fb_sm_cong e, fb_sm_const]
/-- one edge of a push: y from p to v, back from v to p -/
theorem cut_push (le : Nat → Nat) (X : Nat → Bool) {p v y : Nat} (hp : p < 12) (hv : v < 12) (hy : y ≤ le (12 * p + v)) : cutX (updN (updN le (12 * p + v) (le (12 * p + v) - y)) (12 * v + p) (updN le (12 * p + v) (le (12 * p + v) - y) (12 * v + p) + y)) X + (if X p then y else 0) = cutX le X + (if X v then y else 0) := by
  have h1 := cut_sub le X hp hv hy
  have h2 := cut_add (updN le (12 * p + v) (le (12 * p + v) - y)) X hv hp y
  rw [h2]
  cases hX : X p <;> cases hY : X v <;> simp [hX, hY] at h1 ⊢ <;> omega
theorem pair_push (le : Nat → Nat) {p v y : Nat} (hp : p < 12) (hv : v < 12) (hy : y ≤ le (12 * p + v)) {i j : Nat} (hi : i < 12) (hj : j < 12) : updN (updN le (12 * p + v) (le (12 * p + v) - y)) (12 * v + p) (updN le (12 * p + v) (le (12 * p + v) - y) (12 * v + p) + y) (12 * i + j) + updN (updN le (12 * p + v) (le (12 * p + v) - y)) (12 * v + p) (updN le (12 * p + v) (le (12 * p + v) - y) (12 * v + p) + y) (12 * j + i) = le (12 * i + j) + le (12 * j + i) := by
  have key : ∀ a b c d : Nat, a < 12 → b < 12 → c < 12 → d < 12 → (12 * a + b = 12 * c + d ↔ a = c ∧ b = d) := by
    intro a b c d _ _ _ _
    constructor
    · intro h; constructor <;> omega
    · intro h; rw [h.1, h.2]
  unfold updN
  simp only [key i j v p hi hj hv hp, key i j p v hi hj hp hv, key j i v p hj hi hv hp, key j i p v hj hi hp hv, key v p p v hv hp hp hv]
  by_cases h1 : i = v <;> by_cases h2 : j = p <;> by_cases h3 : i = p <;> by_cases h4 : j = v <;> simp_all <;> omega
-- ===== plans as numbers =====
theorem bq_lt (P v : Nat) : bq P v < 2 := Nat.mod_lt _ (by decide)
theorem bq_tb (P v : Nat) : P.testBit v = decide (bq P v = 1) := Nat.testBit_eq_decide_div_mod_eq
theorem bq_one {P v : Nat} : bq P v = 1 ↔ P.testBit v = true := by rw [bq_tb]; simp
theorem bq_zero {P v : Nat} : bq P v = 0 ↔ ¬ bq P v = 1 := by have := bq_lt P v; omega
theorem bits_ext {n C C' : Nat} (h : C < 2 ^ n) (h' : C' < 2 ^ n) (e : ∀ v, v < n → (bq C v = 1 ↔ bq C' v = 1)) : C = C' := by
  apply Nat.eq_of_testBit_eq
  intro i
  by_cases hi : i < n
  · rw [bq_tb, bq_tb]
    simp only [e i hi]
  · have hp : 2 ^ n ≤ 2 ^ i := Nat.pow_le_pow_right (by decide) (by omega)
    rw [Nat.testBit_lt_two_pow (by omega), Nat.testBit_lt_two_pow (by omega)]
theorem bq_or (S u v : Nat) : bq (S ||| 2 ^ u) v = 1 ↔ (bq S v = 1 ∨ v = u) := by
  rw [bq_one, fb_bit_set, bq_one]
  simp
theorem bq_and (A B v : Nat) : bq (A &&& B) v = 1 ↔ (bq A v = 1 ∧ bq B v = 1) := by
  rw [bq_one, Nat.testBit_and, bq_one, bq_one]
  simp
theorem bq_or2 (A B v : Nat) : bq (A ||| B) v = 1 ↔ (bq A v = 1 ∨ bq B v = 1) := by
  rw [bq_one, Nat.testBit_or, bq_one, bq_one]
  simp
theorem bq_full {n v : Nat} (h : v < n) : bq (2 ^ n - 1) v = 1 := by
  rw [bq_one]
  simp [Nat.testBit_two_pow_sub_one, h]
theorem bq_mask {S n v : Nat} (h : v < n) : bq (S &&& (2 ^ n - 1)) v = 1 ↔ bq S v = 1 := by
  rw [bq_and]
  simp [bq_full h]
theorem mask_lt (S n : Nat) : S &&& (2 ^ n - 1) < 2 ^ n := by
  rw [Nat.and_two_pow_sub_one_eq_mod]
  exact Nat.mod_lt _ (Nat.two_pow_pos n)
theorem bq_0 (v : Nat) : ¬ bq 0 v = 1 := by simp [bq]
def mkP (b : Nat → Bool) : Nat → Nat
  | 0 => 0
  | n + 1 => mkP b n ||| (if b n then 2 ^ n else 0)
theorem mkP_lt (b : Nat → Bool) : ∀ n, mkP b n < 2 ^ n
  | 0 => by simp [mkP]
  | n + 1 => by
    have h := mkP_lt b n
    have h2 : 2 ^ n < 2 ^ (n + 1) := Nat.pow_lt_pow_right (by decide) (by omega)
    unfold mkP
    refine Nat.or_lt_two_pow (by omega) ?_
    split
    · exact h2
    · exact Nat.two_pow_pos _
theorem mkP_bit (b : Nat → Bool) : ∀ n v, v < n → (bq (mkP b n) v = 1 ↔ b v = true)
  | 0, v, h => absurd h (Nat.not_lt_zero v)
  | n + 1, v, h => by
    have ih := mkP_bit b n v
    have hlt := mkP_lt b n
    have e : bq (mkP b (n + 1)) v = 1 ↔ (bq (mkP b n) v = 1 ∨ (b n = true ∧ v = n)) := by
      show bq (mkP b n ||| (if b n then 2 ^ n else 0)) v = 1 ↔ _
      cases hb : b n
      · simp [bq_or2, bq_0]
      · simp [bq_or]
    rw [e]
    by_cases hv : v = n
    · subst hv
      have h0 : ¬ bq (mkP b v) v = 1 := by
        rw [bq_one, Nat.testBit_lt_two_pow hlt]
        simp
      simp [h0]
    · rw [ih (by omega)]
      simp [hv]
-- ===== the data: n, count, price, from, to, boxing, unboxing =====
abbrev gD : Type := Nat × Nat × (Nat → Nat) × (Nat → Nat) × (Nat → Nat) × (Nat → Nat) × (Nat → Nat)
abbrev gn (g : gD) : Nat := g.1
abbrev gc (g : gD) : Nat := g.2.1
abbrev gpc (g : gD) : Nat → Nat := g.2.2.1
abbrev gfr (g : gD) : Nat → Nat := g.2.2.2.1
abbrev gto (g : gD) : Nat → Nat := g.2.2.2.2.1
abbrev gbx (g : gD) : Nat → Nat := g.2.2.2.2.2.1
abbrev gub (g : gD) : Nat → Nat := g.2.2.2.2.2.2
def gOK (g : gD) : Prop := 2 ≤ gn g ∧ gn g ≤ 10 ∧ gc g ≤ 20 ∧ (∀ j, gpc g j ≤ 60) ∧ (∀ f, gfr g f < gn g) ∧ (∀ f, gto g f < gn g) ∧ (∀ f, gbx g f ≤ 30) ∧ (∀ f, gub g f ≤ 30)
def vTot (g : gD) (P m : Nat) : Nat := fb_sm (fun v => gpc g (2 * v + bq P v)) m
def fTot (g : gD) (sk P m : Nat) : Nat := fb_sm (fun f => if f = sk then 0 else if bq P (gfr g f) = bq P (gto g f) then 0 else if bq P (gfr g f) = 0 then gbx g f else gub g f) m
/-- the cost of the plan P, the flow sk left out -/
def tot (g : gD) (sk P : Nat) : Nat := vTot g P (gn g) + fTot g sk P (gc g)
def okP (g : gD) (w : Nat → Nat) (P : Nat) : Prop := ∀ v, v < gn g → w v = 2 ∨ w v = bq P v
theorem vTot_le {g : gD} (h : gOK g) (P m : Nat) : vTot g P m ≤ m * 60 := fb_sm_bound (fun k _ => h.2.2.2.1 _)
theorem fTot_le {g : gD} (h : gOK g) (sk P m : Nat) : fTot g sk P m ≤ m * 30 := by
  refine fb_sm_bound (fun k _ => ?_)
  have h1 := h.2.2.2.2.2.2.1 k
  have h2 := h.2.2.2.2.2.2.2 k
  split
  · omega
  · split
    · omega
    · split <;> omega
theorem tot_le {g : gD} (h : gOK g) (sk P : Nat) : tot g sk P ≤ 1200 := by
  have h1 := vTot_le h P (gn g)
  have h2 := fTot_le h sk P (gc g)
  have h3 := h.2.1
  have h4 := h.2.2.1
  unfold tot
  omega
def isMin (N : Nat) (p : Nat → Prop) (t : Nat → Nat) (R : Nat) : Prop := (∃ P, P < N ∧ p P ∧ t P = R) ∧ ∀ P, P < N → p P → R ≤ t P
theorem isMin_one {N : Nat} {p : Nat → Prop} {t : Nat → Nat} {R R' : Nat} (h : isMin N p t R) (h' : isMin N p t R') : R = R' := by
  obtain ⟨⟨P, a1, a2, a3⟩, a4⟩ := h
  obtain ⟨⟨P', b1, b2, b3⟩, b4⟩ := h'
  have := a4 P' b1 b2
  have := b4 P a1 a2
  omega
theorem isMin_iff {N : Nat} {p q : Nat → Prop} {t : Nat → Nat} {R : Nat} (h : ∀ P, P < N → (p P ↔ q P)) (hm : isMin N p t R) : isMin N q t R := by
  obtain ⟨⟨P, a1, a2, a3⟩, a4⟩ := hm
  exact ⟨⟨P, a1, (h P a1).mp a2, a3⟩, fun P' b1 b2 => a4 P' b1 ((h P' b1).mpr b2)⟩
/-- the least over the numbers below N with p, or neg where none has it -/
def minOr (N : Nat) (p : Nat → Prop) (t : Nat → Nat) (neg r : Int32) : Prop := ((∀ P, P < N → ¬ p P) ∧ r = neg) ∨ ∃ R, r = nI R ∧ isMin N p t R
theorem minOr_one {N : Nat} {p : Nat → Prop} {t : Nat → Nat} {neg r r' : Int32} (h : minOr N p t neg r) (h' : minOr N p t neg r') : r = r' := by
  rcases h with ⟨h1, h2⟩ | ⟨R, h1, h2⟩ <;> rcases h' with ⟨g1, g2⟩ | ⟨R', g1, g2⟩
  · rw [h2, g2]
  · obtain ⟨⟨P, a1, a2, a3⟩, a4⟩ := g2
    exact absurd a2 (h1 P a1)
  · obtain ⟨⟨P, a1, a2, a3⟩, a4⟩ := h2
    exact absurd a2 (g1 P a1)
  · rw [h1, g1, isMin_one h2 g2]
theorem minOr_iff {N : Nat} {p q : Nat → Prop} {t : Nat → Nat} {neg r : Int32} (h : ∀ P, P < N → (p P ↔ q P)) (hm : minOr N p t neg r) : minOr N q t neg r := by
  rcases hm with ⟨h1, h2⟩ | ⟨R, h1, h2⟩
  · exact Or.inl ⟨fun P hP hq => h1 P hP ((h P hP).mpr hq), h2⟩
  · exact Or.inr ⟨R, h1, isMin_iff h h2⟩
/-- over the first i numbers -/
theorem minOr_0 (p : Nat → Prop) (t : Nat → Nat) (neg : Int32) : minOr 0 p t neg neg := Or.inl ⟨fun P h => absurd h (Nat.not_lt_zero P), rfl⟩
theorem minOr_no {i : Nat} {p : Nat → Prop} {t : Nat → Nat} {neg r : Int32} (h : minOr i p t neg r) (hp : ¬ p i) : minOr (i + 1) p t neg r := by
  rcases h with ⟨h1, h2⟩ | ⟨R, h1, ⟨P, a1, a2, a3⟩, a4⟩
  · refine Or.inl ⟨fun P hP hq => ?_, h2⟩
    rcases Nat.lt_or_ge P i with q | q
    · exact h1 P q hq
    · exact hp (by rw [show i = P by omega]; exact hq)
  · refine Or.inr ⟨R, h1, ⟨P, by omega, a2, a3⟩, fun P' hP hq => ?_⟩
    rcases Nat.lt_or_ge P' i with q | q
    · exact a4 P' q hq
    · exact absurd (by rw [show i = P' by omega]; exact hq) hp
/-- the new one is taken: there was none, or it is below -/
theorem minOr_take {i : Nat} {p : Nat → Prop} {t : Nat → Nat} {neg r : Int32} (h : minOr i p t neg r) (hp : p i) (hb : ∀ R, r = nI R → isMin i p t R → t i ≤ R) : minOr (i + 1) p t neg (nI (t i)) := by
  rcases h with ⟨h1, h2⟩ | ⟨R, h1, hm⟩
  · refine Or.inr ⟨t i, rfl, ⟨i, by omega, hp, rfl⟩, fun P' hP hq => ?_⟩
    rcases Nat.lt_or_ge P' i with q | q
    · exact absurd hq (h1 P' q)
    · rw [show P' = i by omega]
      exact Nat.le_refl _
  · have hR := hb R h1 hm
    refine Or.inr ⟨t i, rfl, ⟨i, by omega, hp, rfl⟩, fun P' hP hq => ?_⟩
    rcases Nat.lt_or_ge P' i with q | q
    · have := hm.2 P' q hq
      omega
    · rw [show P' = i by omega]
      exact Nat.le_refl _
theorem minOr_keep {i : Nat} {p : Nat → Prop} {t : Nat → Nat} {neg r : Int32} {R : Nat} (hr : r = nI R) (hm : isMin i p t R) (hb : R ≤ t i) : minOr (i + 1) p t neg r := by
  obtain ⟨⟨P, a1, a2, a3⟩, a4⟩ := hm
  refine Or.inr ⟨R, hr, ⟨P, by omega, a2, a3⟩, fun P' hP hq => ?_⟩
  rcases Nat.lt_or_ge P' i with q | q
  · exact a4 P' q hq
  · rw [show P' = i by omega]
    exact hb
def bestP (g : gD) (w : Nat → Nat) (sk P : Nat) : Prop := P < 2 ^ gn g ∧ okP g w P ∧ ∀ Q, Q < 2 ^ gn g → okP g w Q → tot g sk P ≤ tot g sk Q
theorem bestP_min {g : gD} {w : Nat → Nat} {sk R P : Nat} (h : isMin (2 ^ gn g) (okP g w) (tot g sk) R) (hP : P < 2 ^ gn g) : bestP g w sk P ↔ okP g w P ∧ tot g sk P = R := by
  obtain ⟨⟨P0, a1, a2, a3⟩, a4⟩ := h
  constructor
  · intro hb
    have := a4 P hP hb.2.1
    have := hb.2.2 P0 a1 a2
    exact ⟨hb.2.1, by omega⟩
  · intro hb
    exact ⟨hP, hb.1, fun Q h1 h2 => by rw [hb.2]; exact a4 Q h1 h2⟩
def isCommon (g : gD) (w : Nat → Nat) (C : Nat) : Prop := C < 2 ^ gn g ∧ ∀ v, v < gn g → (bq C v = 1 ↔ ∀ P, bestP g w nNone P → bq P v = 1)
def isSome (g : gD) (w : Nat → Nat) (C : Nat) : Prop := C < 2 ^ gn g ∧ ∀ v, v < gn g → (bq C v = 1 ↔ ∃ P, bestP g w nNone P ∧ bq P v = 1)
theorem isCommon_one {g : gD} {w : Nat → Nat} {C C' : Nat} (h : isCommon g w C) (h' : isCommon g w C') : C = C' := bits_ext h.1 h'.1 (fun v hv => (h.2 v hv).trans (h'.2 v hv).symm)
theorem isSome_one {g : gD} {w : Nat → Nat} {C C' : Nat} (h : isSome g w C) (h' : isSome g w C') : C = C' := bits_ext h.1 h'.1 (fun v hv => (h.2 v hv).trans (h'.2 v hv).symm)
theorem okP_cong {g : gD} {w w' : Nat → Nat} (h : ∀ v, v < gn g → w v = w' v) (P : Nat) : okP g w P ↔ okP g w' P := by
  constructor
  · intro a v hv; rw [← h v hv]; exact a v hv
  · intro a v hv; rw [h v hv]; exact a v hv
theorem bestP_cong {g : gD} {w w' : Nat → Nat} (h : ∀ v, v < gn g → w v = w' v) (sk P : Nat) : bestP g w sk P ↔ bestP g w' sk P := by
  unfold bestP
  simp only [okP_cong h]
theorem isCommon_cong {g : gD} {w w' : Nat → Nat} (h : ∀ v, v < gn g → w v = w' v) {C : Nat} (hC : isCommon g w C) : isCommon g w' C := by
  unfold isCommon at hC ⊢
  simp only [bestP_cong h] at hC
  exact hC
theorem isSome_cong {g : gD} {w w' : Nat → Nat} (h : ∀ v, v < gn g → w v = w' v) {C : Nat} (hC : isSome g w C) : isSome g w' C := by
  unfold isSome at hC ⊢
  simp only [bestP_cong h] at hC
  exact hC
end
section
set_option maxRecDepth 100000
/-! PLAIN LAW 2: the network's capacities against a plan's cost; a flow that leaves a closed set gives the least cost, the best plans and their extremes -/
def capS (g : gD) (wa : Nat → Nat) (v : Nat) : Nat := if wa v = 0 then 100000 else gpc g (2 * v + 1)
def capT (g : gD) (wa : Nat → Nat) (v : Nat) : Nat := if wa v = 1 then 100000 else gpc g (2 * v + 0)
def vCost (g : gD) (wa : Nat → Nat) (X : Nat → Bool) (m : Nat) : Nat := fb_sm (fun v => if X v then capT g wa v else capS g wa v) m
def fCost (g : gD) (sk : Nat) (X : Nat → Bool) (m : Nat) : Nat := fb_sm (fun f => if f = sk then 0 else (if X (gfr g f) && !(X (gto g f)) then gbx g f else 0) + (if X (gto g f) && !(X (gfr g f)) then gub g f else 0)) m
def pCost (g : gD) (wa : Nat → Nat) (sk : Nat) (X : Nat → Bool) : Nat := vCost g wa X (gn g) + fCost g sk X (gc g)
theorem pCost_cong {g : gD} (hg : gOK g) (wa : Nat → Nat) (sk : Nat) {X Y : Nat → Bool} (h : ∀ v, v < gn g → X v = Y v) : pCost g wa sk X = pCost g wa sk Y := by
  unfold pCost
  have e1 : vCost g wa X (gn g) = vCost g wa Y (gn g) := fb_sm_cong (fun v hv => by rw [h v hv])
  have e2 : fCost g sk X (gc g) = fCost g sk Y (gc g) := fb_sm_cong (fun f _ => by rw [h _ (hg.2.2.2.2.1 f), h _ (hg.2.2.2.2.2.1 f)])
  rw [e1, e2]
theorem pCost_ok {g : gD} (hg : gOK g) {wa : Nat → Nat} (sk : Nat) {X : Nat → Bool} {P : Nat} (hX : ∀ v, v < gn g → X v = decide (bq P v = 0)) (hP : okP g wa P) : pCost g wa sk X = tot g sk P := by
  have e1 : vCost g wa X (gn g) = vTot g P (gn g) := by
    refine fb_sm_cong (fun v hv => ?_)
    rw [hX v hv]
    have h1 := hP v hv
    have h2 := bq_lt P v
    unfold capT capS
    rcases Nat.lt_or_ge (bq P v) 1 with q | q
    · have hb : bq P v = 0 := by omega
      rw [hb] at h1 ⊢
      have hw : ¬ wa v = 1 := by omega
      simp [hw]
    · have hb : bq P v = 1 := by omega
      rw [hb] at h1 ⊢
      have hw : ¬ wa v = 0 := by omega
      simp [hw]
  have e2 : fCost g sk X (gc g) = fTot g sk P (gc g) := by
    refine fb_sm_cong (fun f _ => ?_)
    rw [hX _ (hg.2.2.2.2.1 f), hX _ (hg.2.2.2.2.2.1 f)]
    have h1 := bq_lt P (gfr g f)
    have h2 := bq_lt P (gto g f)
    by_cases hs : f = sk
    · simp [hs]
    · rw [if_neg hs, if_neg hs]
      rcases Nat.lt_or_ge (bq P (gfr g f)) 1 with q | q <;> rcases Nat.lt_or_ge (bq P (gto g f)) 1 with r | r
      · have a : bq P (gfr g f) = 0 := by omega
        have b : bq P (gto g f) = 0 := by omega
        simp [a, b]
      · have a : bq P (gfr g f) = 0 := by omega
        have b : bq P (gto g f) = 1 := by omega
        simp [a, b]
      · have a : bq P (gfr g f) = 1 := by omega
        have b : bq P (gto g f) = 0 := by omega
        simp [a, b]
      · have a : bq P (gfr g f) = 1 := by omega
        have b : bq P (gto g f) = 1 := by omega
        simp [a, b]
  unfold pCost tot
  rw [e1, e2]
theorem pCost_bad {g : gD} {wa : Nat → Nat} (sk : Nat) {X : Nat → Bool} {P : Nat} (hw : ∀ v, v < gn g → wa v ≤ 2) (hX : ∀ v, v < gn g → X v = decide (bq P v = 0)) (hP : ¬ okP g wa P) : 100000 ≤ pCost g wa sk X := by
  have hx : ∃ v, v < gn g ∧ ¬ (wa v = 2 ∨ wa v = bq P v) := Classical.byContradiction fun h => hP (fun v hv => Classical.byContradiction fun q => h ⟨v, hv, q⟩)
  obtain ⟨v, hv, hq⟩ := hx
  have h1 := fb_sm_part (fun v => if X v then capT g wa v else capS g wa v) hv
  have h2 := hw v hv
  have h3 := bq_lt P v
  have h4 : (if X v then capT g wa v else capS g wa v) = 100000 := by
    rw [hX v hv]
    unfold capT capS
    rcases Nat.lt_or_ge (bq P v) 1 with q | q
    · have hb : bq P v = 0 := by omega
      have hw1 : wa v = 1 := by omega
      simp [hb, hw1]
    · have hb : bq P v = 1 := by omega
      have hw1 : wa v = 0 := by omega
      simp [hb, hw1]
  unfold pCost vCost
  rw [h4] at h1
  omega
/-- the set of a plan: the source and the raw values -/
def xP (n P : Nat) : Nat → Bool := fun v => decide (v = 10) || (decide (v < n) && decide (bq P v = 0))
theorem xP_10 (n P : Nat) : xP n P 10 = true := by simp [xP]
theorem xP_11 {n : Nat} (h : n ≤ 10) (P : Nat) : xP n P 11 = false := by
  have : ¬ 11 < n := by omega
  simp [xP, this]
theorem xP_v {n v : Nat} (hn : n ≤ 10) (h : v < n) (P : Nat) : xP n P v = decide (bq P v = 0) := by
  have : ¬ v = 10 := by omega
  simp [xP, h, this]
/-- some allowed plan -/
def pW (g : gD) (wa : Nat → Nat) : Nat := mkP (fun v => decide (wa v = 1)) (gn g)
theorem pW_ok {g : gD} {wa : Nat → Nat} (hw : ∀ v, v < gn g → wa v ≤ 2) : okP g wa (pW g wa) := by
  intro v hv
  have h1 := hw v hv
  have h2 := mkP_bit (fun v => decide (wa v = 1)) (gn g) v hv
  have h3 := bq_lt (pW g wa) v
  have h4 : bq (pW g wa) v = 1 ↔ wa v = 1 := by
    unfold pW
    rw [h2]
    simp
  by_cases q : wa v = 1
  · exact Or.inr (by rw [h4.mpr q]; exact q)
  · have : ¬ bq (pW g wa) v = 1 := fun z => q (h4.mp z)
    omega
theorem pW_lt (g : gD) (wa : Nat → Nat) : pW g wa < 2 ^ gn g := mkP_lt _ _
-- ===== the network is built =====
def phA (le : Nat → Nat) (i : Nat) : Prop := ∀ j, j < i → le j = 0
theorem phA_s {le : Nat → Nat} {i : Nat} (h : phA le i) : phA (updN le i 0) (i + 1) := by
  intro j hj
  by_cases q : j = i
  · rw [q, updN_s]
  · rw [updN_n _ _ q]; exact h j (by omega)
def phB (g : gD) (wa le : Nat → Nat) (i : Nat) : Prop := (∀ X : Nat → Bool, X 10 = true → X 11 = false → cutX le X = vCost g wa X i) ∧ (∀ v, i ≤ v → v < 10 → le (120 + v) = 0 ∧ le (12 * v + 11) = 0) ∧ ∀ j, j < 144 → le j ≤ 100000
theorem phB_0 {g : gD} {wa le : Nat → Nat} (h : phA le 144) : phB g wa le 0 := by
  refine ⟨fun X _ _ => ?_, fun v _ hv => ⟨h _ (by omega), h _ (by omega)⟩, fun j hj => by rw [h j hj]; omega⟩
  have : cutX le X = 0 := cut_zero.mpr (fun u v hu hv _ _ => h _ (by omega))
  rw [this]
  rfl
theorem phB_s {g : gD} {wa le : Nat → Nat} {i x y : Nat} (hg : gOK g) (hi : i < gn g) (h : phB g wa le i) (hx : x = capS g wa i) (hy : y = capT g wa i) : phB g wa (updN (updN le (120 + i) x) (12 * i + 11) y) (i + 1) := by
  obtain ⟨h1, h2, h3⟩ := h
  have hn := hg.2.1
  have hz := h2 i (Nat.le_refl i) (by omega)
  have hpc := hg.2.2.2.1
  have hxl : x ≤ 100000 := by
    rw [hx]; unfold capS; split
    · omega
    · have := hpc (2 * i + 1); omega
  have hyl : y ≤ 100000 := by
    rw [hy]; unfold capT; split
    · omega
    · have := hpc (2 * i + 0); omega
  refine ⟨fun X X10 X11 => ?_, fun v hv hv2 => ?_, fun j hj => ?_⟩
  · have e1 := cut_set le X (u := 10) (v := i) (by decide) (by omega) x
    have e2 := cut_set (updN le (120 + i) x) X (u := i) (v := 11) (by omega) (by decide) y
    have e3 : updN le (120 + i) x (12 * i + 11) = 0 := by
      rw [updN_n _ _ (by omega)]; exact hz.2
    have e4 : 12 * 10 + i = 120 + i := by omega
    rw [e4] at e1
    rw [e3] at e2
    rw [hz.1] at e1
    have e5 := h1 X X10 X11
    show _ = fb_sm _ (i + 1)
    rw [fb_sm_succ]
    unfold vCost at e5
    cases hX : X i <;> simp [hX, X10, X11] at e1 e2 ⊢ <;> omega
  · have a := h2 v (by omega) hv2
    constructor
    · rw [updN_n _ _ (by omega), updN_n _ _ (by omega)]; exact a.1
    · rw [updN_n _ _ (by omega), updN_n _ _ (by omega)]; exact a.2
  · by_cases q : j = 12 * i + 11
    · rw [q, updN_s]; exact hyl
    · rw [updN_n _ _ q]
      by_cases r : j = 120 + i
      · rw [r, updN_s]; exact hxl
      · rw [updN_n _ _ r]; exact h3 j hj
def phC (g : gD) (wa : Nat → Nat) (sk : Nat) (le : Nat → Nat) (i : Nat) : Prop := (∀ X : Nat → Bool, X 10 = true → X 11 = false → cutX le X = vCost g wa X (gn g) + fCost g sk X i) ∧ ∀ j, j < 144 → le j ≤ 100000 + 60 * i
theorem phC_0 {g : gD} {wa le : Nat → Nat} {sk : Nat} (h : phB g wa le (gn g)) : phC g wa sk le 0 := ⟨fun X a b => by rw [h.1 X a b]; rfl, fun j hj => by have := h.2.2 j hj; omega⟩
theorem phC_skip {g : gD} {wa le : Nat → Nat} {sk i : Nat} (h : phC g wa sk le i) (hs : i = sk) : phC g wa sk le (i + 1) := by
  refine ⟨fun X a b => ?_, fun j hj => by have := h.2 j hj; omega⟩
  rw [h.1 X a b]
  unfold fCost
  rw [fb_sm_succ, if_pos hs]
  omega
theorem phC_s {g : gD} {wa le : Nat → Nat} {sk i : Nat} (hg : gOK g) (h : phC g wa sk le i) (hs : i ≠ sk) : phC g wa sk (updN (updN le (12 * gfr g i + gto g i) (le (12 * gfr g i + gto g i) + gbx g i)) (12 * gto g i + gfr g i) (updN le (12 * gfr g i + gto g i) (le (12 * gfr g i + gto g i) + gbx g i) (12 * gto g i + gfr g i) + gub g i)) (i + 1) := by
  have hn := hg.2.1
  have hf := hg.2.2.2.2.1 i
  have ht := hg.2.2.2.2.2.1 i
  have hbx := hg.2.2.2.2.2.2.1 i
  have hub := hg.2.2.2.2.2.2.2 i
  refine ⟨fun X a b => ?_, fun j hj => ?_⟩
  · rw [cut_add _ X (by omega) (by omega), cut_add le X (by omega) (by omega), h.1 X a b]
    unfold fCost
    rw [fb_sm_succ, if_neg hs]
    omega
  · have h0 := h.2 j hj
    have h1 : updN le (12 * gfr g i + gto g i) (le (12 * gfr g i + gto g i) + gbx g i) j ≤ 100000 + 60 * i + 30 := by
      by_cases q : j = 12 * gfr g i + gto g i
      · rw [← q, updN_s]; omega
      · rw [updN_n _ _ q]; omega
    by_cases q : j = 12 * gto g i + gfr g i
    · rw [← q, updN_s]; omega
    · rw [updN_n _ _ q]; omega
-- ===== the rounds =====
def pairB (le : Nat → Nat) : Prop := ∀ u v, u < 12 → v < 12 → le (12 * u + v) + le (12 * v + u) ≤ 202400
theorem pairB_lt {le : Nat → Nat} (h : pairB le) {j : Nat} (hj : j < 144) : le j < 2 ^ 31 := by
  have := h (j / 12) (j % 12) (by omega) (by omega)
  rw [show 12 * (j / 12) + j % 12 = j by omega] at this
  omega
def phD (g : gD) (wa : Nat → Nat) (sk : Nat) (le : Nat → Nat) (T rd : Nat) : Prop := (∀ X : Nat → Bool, X 10 = true → X 11 = false → cutX le X + T = pCost g wa sk X) ∧ pairB le ∧ rd ≤ T
theorem phD_0 {g : gD} {wa le : Nat → Nat} {sk : Nat} (hg : gOK g) (h : phC g wa sk le (gc g)) : phD g wa sk le 0 0 := by
  refine ⟨fun X a b => by rw [h.1 X a b]; rfl, fun u v hu hv => ?_, Nat.le_refl 0⟩
  have h1 := h.2 (12 * u + v) (by omega)
  have h2 := h.2 (12 * v + u) (by omega)
  have h3 := hg.2.2.1
  omega
theorem phD_T {g : gD} {wa le : Nat → Nat} {sk T rd : Nat} (hg : gOK g) (hw : ∀ v, v < gn g → wa v ≤ 2) (h : phD g wa sk le T rd) : T ≤ 1200 := by
  have h1 := h.1 (xP (gn g) (pW g wa)) (xP_10 _ _) (xP_11 hg.2.1 _)
  rw [pCost_ok hg sk (fun v hv => xP_v hg.2.1 hv _) (pW_ok hw)] at h1
  have h2 := tot_le hg sk (pW g wa)
  omega
def pushOK (le le' : Nat → Nat) (am : Nat) : Prop := 1 ≤ am ∧ am ≤ 100000 ∧ (∀ X : Nat → Bool, X 10 = true → X 11 = false → cutX le' X + am = cutX le X) ∧ ∀ u v, u < 12 → v < 12 → le' (12 * u + v) + le' (12 * v + u) = le (12 * u + v) + le (12 * v + u)
theorem phD_s {g : gD} {wa le le' : Nat → Nat} {sk T rd am : Nat} (h : phD g wa sk le T rd) (hp : pushOK le le' am) : phD g wa sk le' (T + am) (rd + 1) := by
  obtain ⟨h1, h2, h3⟩ := h
  obtain ⟨p1, p2, p3, p4⟩ := hp
  refine ⟨fun X a b => ?_, fun u v hu hv => by rw [p4 u v hu hv]; exact h2 u v hu hv, by omega⟩
  have := h1 X a b
  have := p3 X a b
  omega
/-- what solve leaves -/
def solOK (g : gD) (wa : Nat → Nat) (sk : Nat) (le : Nat → Nat) (T : Nat) : Prop := (∀ X : Nat → Bool, X 10 = true → X 11 = false → cutX le X + T = pCost g wa sk X) ∧ pairB le ∧ ∃ X : Nat → Bool, X 10 = true ∧ X 11 = false ∧ cutX le X = 0
theorem sol_min {g : gD} {wa le : Nat → Nat} {sk T : Nat} (hg : gOK g) (hw : ∀ v, v < gn g → wa v ≤ 2) (h : solOK g wa sk le T) : isMin (2 ^ gn g) (okP g wa) (tot g sk) T := by
  obtain ⟨h1, h2, X, a, b, c⟩ := h
  have hn := hg.2.1
  have low : ∀ P, okP g wa P → T ≤ tot g sk P := by
    intro P hP
    have := h1 (xP (gn g) P) (xP_10 _ _) (xP_11 hn _)
    rw [pCost_ok hg sk (fun v hv => xP_v hn hv _) hP] at this
    omega
  have hT : T ≤ 1200 := Nat.le_trans (low _ (pW_ok hw)) (tot_le hg sk _)
  have hX := h1 X a b
  rw [c] at hX
  have hbit : ∀ v, v < gn g → X v = decide (bq (mkP (fun v => !(X v)) (gn g)) v = 0) := by
    intro v hv
    have h2 := mkP_bit (fun v => !(X v)) (gn g) v hv
    have h3 := bq_lt (mkP (fun v => !(X v)) (gn g)) v
    cases hx : X v
    · have : bq (mkP (fun v => !(X v)) (gn g)) v = 1 := h2.mpr (by simp [hx])
      simp [this]
    · have : ¬ bq (mkP (fun v => !(X v)) (gn g)) v = 1 := fun z => by
        have := h2.mp z
        simp [hx] at this
      have : bq (mkP (fun v => !(X v)) (gn g)) v = 0 := by omega
      simp [this]
  refine ⟨⟨mkP (fun v => !(X v)) (gn g), mkP_lt _ _, ?_, ?_⟩, fun P _ hP => low P hP⟩
  · refine Classical.byContradiction fun hb => ?_
    have := pCost_bad sk hw hbit hb
    omega
  · by_cases hb : okP g wa (mkP (fun v => !(X v)) (gn g))
    · rw [← pCost_ok hg sk hbit hb]
      omega
    · have := pCost_bad sk hw hbit hb
      omega
theorem sol_best {g : gD} {wa le : Nat → Nat} {sk T : Nat} (hg : gOK g) (hw : ∀ v, v < gn g → wa v ≤ 2) (h : solOK g wa sk le T) {P : Nat} (hP : P < 2 ^ gn g) {X : Nat → Bool} (X10 : X 10 = true) (X11 : X 11 = false) (hX : ∀ v, v < gn g → X v = decide (bq P v = 0)) : bestP g wa sk P ↔ cutX le X = 0 := by
  have hm := sol_min hg hw h
  rw [bestP_min hm hP]
  have h1 := h.1 X X10 X11
  have hT : T ≤ 1200 := Nat.le_trans (hm.2 _ (pW_lt g wa) (pW_ok hw)) (tot_le hg sk _)
  constructor
  · intro hb
    rw [pCost_ok hg sk hX hb.1] at h1
    omega
  · intro hc
    by_cases hb : okP g wa P
    · rw [pCost_ok hg sk hX hb] at h1
      exact ⟨hb, by omega⟩
    · have := pCost_bad sk hw hX hb
      omega
-- ===== the breadth-first search =====
def rcB (pa : Nat → Nat) : Nat → Bool := fun v => decide (pa v ≠ nNone)
theorem rcB_t {pa : Nat → Nat} {v : Nat} : rcB pa v = true ↔ pa v ≠ nNone := by simp [rcB]
theorem rcB_f {pa : Nat → Nat} {v : Nat} : rcB pa v = false ↔ pa v = nNone := by simp [rcB]
/-- queue and parents while node number k of the queue is worked, values below v0 done -/
def seI (le pa qu : Nat → Nat) (qd k v0 : Nat) : Prop :=
  pa 10 = 10 ∧ (∀ v, v < 12 → pa v ≠ nNone → pa v < 12) ∧ (qd = fb_ct (rcB pa) 12) ∧ (∀ i, i < qd → qu i < 12 ∧ pa (qu i) ≠ nNone) ∧
  (∃ rk : Nat → Nat, (∀ v, v < 12 → pa v ≠ nNone → rk v < qd ∧ qu (rk v) = v) ∧ ∀ v, v < 12 → pa v ≠ nNone → v ≠ 10 → rk (pa v) < rk v ∧ pa (pa v) ≠ nNone ∧ 0 < le (12 * pa v + v)) ∧
  (∀ i, i < k → i < qd → ∀ v, v < 12 → 0 < le (12 * qu i + v) → pa v ≠ nNone) ∧ (k < qd → ∀ v, v < v0 → 0 < le (12 * qu k + v) → pa v ≠ nNone)
theorem seI_qd {le pa qu : Nat → Nat} {qd k v0 : Nat} (h : seI le pa qu qd k v0) : qd ≤ 12 := by rw [h.2.2.1]; exact fb_ct_le _ _
theorem seI_pa {le pa qu : Nat → Nat} {qd k v0 v : Nat} (h : seI le pa qu qd k v0) (hv : v < 12) : pa v < 2 ^ 32 := by
  by_cases q : pa v = nNone
  · rw [q]; decide
  · have := h.2.1 v hv q; omega
theorem seI_0 {le pa qu : Nat → Nat} (h : ∀ v, v < 12 → pa v = nNone) : seI le (updN pa 10 10) (updN qu 0 10) 1 0 0 := by
  have hp : ∀ v, v < 12 → (updN pa 10 10 v ≠ nNone ↔ v = 10) := by
    intro v hv
    by_cases q : v = 10
    · subst q
      rw [updN_s]
      exact ⟨fun _ => rfl, fun _ => by decide⟩
    · simp [updN, q, h v hv]
  refine ⟨updN_s _ _ _, fun v hv hq => ?_, ?_, fun i hi => ?_, ⟨fun _ => 0, fun v hv hq => ?_, fun v hv hq h10 => absurd ((hp v hv).mp hq) h10⟩, fun i hi => absurd hi (Nat.not_lt_zero i), fun _ v hv => absurd hv (Nat.not_lt_zero v)⟩
  · rw [(hp v hv).mp hq, updN_s]; decide
  · have e : ∀ v, v < 12 → rcB (updN pa 10 10) v = decide (v = 10) := fun v hv => by
      unfold rcB
      simp only [hp v hv]
    rw [fb_ct_cong e]
    decide
  · rw [show i = 0 by omega, updN_s, updN_s]
    exact ⟨by decide, by decide⟩
  · rw [(hp v hv).mp hq]
    exact ⟨by decide, updN_s _ _ _⟩
theorem seI_lt {le pa qu : Nat → Nat} {qd k v0 : Nat} (h : seI le pa qu qd k v0) (hv : v0 < 12) (hp : pa v0 = nNone) : qd < 12 := by
  have h1 := fb_ct_upd (rcB pa) true (i := v0) (n := 12) hv
  have h2 := fb_ct_le (fun k => if k = v0 then true else rcB pa k) 12
  rw [rcB_f.mpr hp, if_neg (by decide), if_pos rfl] at h1
  have := h.2.2.1
  omega
theorem seI_no {le pa qu : Nat → Nat} {qd k v0 : Nat} (h : seI le pa qu qd k v0) (hn : pa v0 ≠ nNone ∨ le (12 * qu k + v0) = 0) : seI le pa qu qd k (v0 + 1) := by
  obtain ⟨h1, h2, h3, h4, h5, h6, h7⟩ := h
  refine ⟨h1, h2, h3, h4, h5, h6, fun hk v hv hl => ?_⟩
  by_cases q : v = v0
  · subst q
    rcases hn with a | a
    · exact a
    · omega
  · exact h7 hk v (by omega) hl
theorem seI_add {le pa qu : Nat → Nat} {qd k v0 : Nat} (h : seI le pa qu qd k v0) (hk : k < qd) (hv : v0 < 12) (hp : pa v0 = nNone) (hl : 0 < le (12 * qu k + v0)) : seI le (updN pa v0 (qu k)) (updN qu qd v0) (qd + 1) k (v0 + 1) := by
  have hq12 := seI_lt h hv hp
  obtain ⟨h1, h2, h3, h4, ⟨rk, r1, r2⟩, h6, h7⟩ := h
  have hqk := h4 k hk
  have hqkv : qu k ≠ v0 := fun e => hqk.2 (by rw [e]; exact hp)
  have hqkn : qu k ≠ nNone := fun e => by have := hqk.1; rw [e] at this; exact absurd this (by decide)
  have hv10 : v0 ≠ 10 := fun e => by rw [e, h1] at hp; exact absurd hp (by decide)
  have pn : ∀ v, v ≠ v0 → updN pa v0 (qu k) v = pa v := fun v hv => updN_n _ _ hv
  have ps : updN pa v0 (qu k) v0 = qu k := updN_s _ _ _
  have qn : ∀ i, i < qd → updN qu qd v0 i = qu i := fun i hi => updN_n _ _ (by omega)
  have qs : updN qu qd v0 qd = v0 := updN_s _ _ _
  have rn : ∀ v, v ≠ v0 → updN rk v0 qd v = rk v := fun v hv => updN_n _ _ hv
  have rs : updN rk v0 qd v0 = qd := updN_s _ _ _
  have keep : ∀ v, pa v ≠ nNone → updN pa v0 (qu k) v ≠ nNone := by
    intro v hq
    by_cases e : v = v0
    · rw [e, ps]; exact hqkn
    · rw [pn v e]; exact hq
  refine ⟨by rw [pn 10 (Ne.symm hv10)]; exact h1, fun v hv2 hq => ?_, ?_, fun i hi => ?_, ⟨updN rk v0 qd, fun v hv2 hq => ?_, fun v hv2 hq h10 => ?_⟩, fun i hi hi2 v hv2 hq => ?_, fun _ v hv2 hq => ?_⟩
  · by_cases e : v = v0
    · rw [e, ps]; exact hqk.1
    · rw [pn v e] at hq ⊢; exact h2 v hv2 hq
  · have e1 := fb_ct_upd (rcB pa) true (i := v0) (n := 12) hv
    rw [rcB_f.mpr hp, if_neg (by decide), if_pos rfl] at e1
    have e2 : ∀ v, v < 12 → rcB (updN pa v0 (qu k)) v = (fun k => if k = v0 then true else rcB pa k) v := by
      intro v hv2
      by_cases e : v = v0
      · subst e
        simp only [if_true]
        exact rcB_t.mpr (by rw [ps]; exact hqkn)
      · simp only [e, if_false]
        unfold rcB
        rw [pn v e]
    rw [fb_ct_cong e2]
    omega
  · by_cases e : i = qd
    · subst e
      rw [qs, ps]
      exact ⟨hv, hqkn⟩
    · rw [qn i (by omega)]
      have := h4 i (by omega)
      exact ⟨this.1, keep _ this.2⟩
  · by_cases e : v = v0
    · subst e
      rw [rs, qs]
      exact ⟨by omega, rfl⟩
    · rw [pn v e] at hq
      have := r1 v hv2 hq
      rw [rn v e, qn _ this.1]
      exact ⟨by omega, this.2⟩
  · by_cases e : v = v0
    · subst e
      rw [ps, rs, rn _ hqkv]
      exact ⟨(r1 _ hqk.1 hqk.2).1, keep _ hqk.2, hl⟩
    · rw [pn v e] at hq ⊢
      have := r2 v hv2 hq h10
      have e2 : pa v ≠ v0 := fun z => this.2.1 (by rw [z]; exact hp)
      rw [rn v e, rn _ e2]
      exact ⟨this.1, keep _ this.2.1, this.2.2⟩
  · rw [qn i (by omega)] at hq
    exact keep v (h6 i hi (by omega) v hv2 hq)
  · rw [qn k hk] at hq
    by_cases e : v = v0
    · rw [e, ps]; exact hqkn
    · exact keep v (h7 hk v (by omega) hq)
theorem seI_next {le pa qu : Nat → Nat} {qd k : Nat} (h : seI le pa qu qd k 12) : seI le pa qu qd (k + 1) 0 := by
  obtain ⟨h1, h2, h3, h4, h5, h6, h7⟩ := h
  refine ⟨h1, h2, h3, h4, h5, fun i hi hi2 v hv hl => ?_, fun _ v hv => absurd hv (Nat.not_lt_zero v)⟩
  by_cases e : i = k
  · subst e
    exact h7 hi2 v hv hl
  · exact h6 i (by omega) hi2 v hv hl
/-- what search leaves -/
def srch (le pa : Nat → Nat) : Prop := pa 10 = 10 ∧ (∀ v, v < 12 → pa v ≠ nNone → pa v < 12) ∧ (∃ rk : Nat → Nat, ∀ v, v < 12 → pa v ≠ nNone → rk v < 12 ∧ (v ≠ 10 → rk (pa v) < rk v ∧ pa (pa v) ≠ nNone ∧ 0 < le (12 * pa v + v))) ∧ ∀ u v, u < 12 → v < 12 → pa u ≠ nNone → 0 < le (12 * u + v) → pa v ≠ nNone
theorem seI_end {le pa qu : Nat → Nat} {qd k : Nat} (h : seI le pa qu qd k 0) (hk : qd ≤ k) : srch le pa := by
  have hq := seI_qd h
  obtain ⟨h1, h2, h3, h4, ⟨rk, r1, r2⟩, h6, h7⟩ := h
  refine ⟨h1, h2, ⟨rk, fun v hv hp => ⟨by have := (r1 v hv hp).1; omega, fun h10 => r2 v hv hp h10⟩⟩, fun u v hu hv hp hl => ?_⟩
  have := r1 u hu hp
  exact h6 (rk u) (by omega) this.1 v hv (by rw [this.2]; exact hl)
theorem srch_pa {le pa : Nat → Nat} {v : Nat} (h : srch le pa) (hv : v < 12) : pa v < 2 ^ 32 := by
  by_cases q : pa v = nNone
  · rw [q]; decide
  · have := h.2.1 v hv q; omega
theorem srch_closed {le pa : Nat → Nat} (h : srch le pa) : cutX le (rcB pa) = 0 := by
  refine cut_zero.mpr (fun u v hu hv h1 h2 => ?_)
  have := h.2.2.2 u v hu hv (rcB_t.mp h1)
  have h3 := rcB_f.mp h2
  rcases Nat.eq_zero_or_pos (le (12 * u + v)) with e | e
  · exact e
  · exact absurd h3 (this e)
/-- every closed set with the source holds what was reached -/
theorem srch_least {le pa : Nat → Nat} (h : srch le pa) {X : Nat → Bool} (hX : cutX le X = 0) (X10 : X 10 = true) {v : Nat} (hv : v < 12) (hp : pa v ≠ nNone) : X v = true := by
  obtain ⟨h1, h2, ⟨rk, r⟩, h4⟩ := h
  have key : ∀ n v, v < 12 → pa v ≠ nNone → rk v < n → X v = true := by
    intro n
    induction n with
    | zero => intro v _ _ hr; exact absurd hr (Nat.not_lt_zero _)
    | succ n ih =>
      intro v hv hp hr
      by_cases e : v = 10
      · rw [e]; exact X10
      · have a := (r v hv hp).2 e
        have b := ih (pa v) (h2 v hv hp) a.2.1 (by omega)
        cases hx : X v
        · have := cut_zero.mp hX (pa v) v (h2 v hv hp) hv b hx
          omega
        · rfl
  exact key (rk v + 1) v hv hp (by omega)
/-- search found no way to the sink: solve's end -/
theorem sol_of {g : gD} {wa le pa : Nat → Nat} {sk T rd : Nat} (h : phD g wa sk le T rd) (hs : srch le pa) (hp : pa 11 = nNone) : solOK g wa sk le T :=
  ⟨h.1, h.2.1, rcB pa, rcB_t.mpr (by rw [hs.1]; decide), rcB_f.mpr hp, srch_closed hs⟩
-- ===== the push =====
def pth (pa : Nat → Nat) : Nat → Nat
  | 0 => 11
  | i + 1 => pa (pth pa i)
theorem pth_ok {le pa : Nat → Nat} (h : srch le pa) (hp : pa 11 ≠ nNone) : ∃ rk : Nat → Nat, ∀ k, (∀ i, i < k → pth pa i ≠ 10) → pth pa k < 12 ∧ pa (pth pa k) ≠ nNone ∧ rk (pth pa k) + k ≤ 11 ∧ (∀ i, i < k → rk (pth pa k) < rk (pth pa i)) ∧ (pth pa k ≠ 10 → 0 < le (12 * pa (pth pa k) + pth pa k) ∧ pa (pth pa k) < 12) := by
  obtain ⟨h1, h2, ⟨rk, r⟩, h4⟩ := h
  refine ⟨rk, fun k => ?_⟩
  induction k with
  | zero =>
    intro _
    have := r 11 (by decide) hp
    exact ⟨show 11 < 12 by decide, hp, by have := this.1; show rk 11 + 0 ≤ 11; omega, fun i hi => absurd hi (Nat.not_lt_zero i), fun h => ⟨(this.2 (by decide)).2.2, h2 11 (by decide) hp⟩⟩
  | succ k ih =>
    intro hn
    obtain ⟨a1, a2, a3, a4, a5⟩ := ih (fun i hi => hn i (by omega))
    have hk := hn k (by omega)
    have b := (r _ a1 a2).2 hk
    have hlt := h2 _ a1 a2
    have c := r (pa (pth pa k)) hlt b.2.1
    refine ⟨hlt, b.2.1, ?_, fun i hi => ?_, fun h10 => ⟨(c.2 h10).2.2, h2 _ hlt b.2.1⟩⟩
    · show rk (pa (pth pa k)) + (k + 1) ≤ 11
      omega
    · show rk (pa (pth pa k)) < _
      by_cases e : i = k
      · rw [e]; exact b.1
      · have := a4 i (by omega)
        omega
/-- the first walk: am is below what is left on all edges so far -/
def puA (le pa : Nat → Nat) (am k : Nat) : Prop := (∀ i, i < k → pth pa i ≠ 10) ∧ 1 ≤ am ∧ am ≤ 100000 ∧ ∀ i, i < k → am ≤ le (12 * pth pa (i + 1) + pth pa i)
theorem puA_0 (le pa : Nat → Nat) : puA le pa 100000 0 := ⟨fun i hi => absurd hi (Nat.not_lt_zero i), by decide, by decide, fun i hi => absurd hi (Nat.not_lt_zero i)⟩
theorem puA_s {le pa : Nat → Nat} {am am' k : Nat} (h : puA le pa am k) (hk : pth pa k ≠ 10) (h1 : 1 ≤ am') (h2 : am' ≤ am) (h3 : am' ≤ le (12 * pth pa (k + 1) + pth pa k)) : puA le pa am' (k + 1) := by
  obtain ⟨a1, a2, a3, a4⟩ := h
  refine ⟨fun i hi => ?_, h1, by omega, fun i hi => ?_⟩
  · by_cases e : i = k
    · rw [e]; exact hk
    · exact a1 i (by omega)
  · by_cases e : i = k
    · rw [e]; exact h3
    · have := a4 i (by omega); omega
/-- the second walk: from the sink up to place k -/
def puB (le0 pa le : Nat → Nat) (am K k : Nat) : Prop := k ≤ K ∧ (∀ i, k ≤ i → i < K → am ≤ le (12 * pth pa (i + 1) + pth pa i)) ∧ (∀ X : Nat → Bool, X 11 = false → cutX le X + (if X (pth pa k) then am else 0) = cutX le0 X) ∧ ∀ u v, u < 12 → v < 12 → le (12 * u + v) + le (12 * v + u) = le0 (12 * u + v) + le0 (12 * v + u)
theorem puB_0 {le pa : Nat → Nat} {am K : Nat} (h : puA le pa am K) : puB le pa le am K 0 := by
  refine ⟨Nat.zero_le K, fun i _ hi => h.2.2.2 i hi, fun X hX => ?_, fun _ _ _ _ => rfl⟩
  show cutX le X + (if X 11 then am else 0) = cutX le X
  rw [hX]
  rfl
theorem puB_s {le0 pa le : Nat → Nat} {am K k : Nat} (hs : srch le0 pa) (hp : pa 11 ≠ nNone) (hA : ∀ i, i < K → pth pa i ≠ 10) (h : puB le0 pa le am K k) (hk : k < K) : puB le0 pa (updN (updN le (12 * pa (pth pa k) + pth pa k) (le (12 * pa (pth pa k) + pth pa k) - am)) (12 * pth pa k + pa (pth pa k)) (updN le (12 * pa (pth pa k) + pth pa k) (le (12 * pa (pth pa k) + pth pa k) - am) (12 * pth pa k + pa (pth pa k)) + am)) am K (k + 1) := by
  obtain ⟨rk, r⟩ := pth_ok hs hp
  obtain ⟨b1, b2, b3, b4⟩ := h
  have rK := r k (fun i hi => hA i (by omega))
  have hv : pth pa k < 12 := rK.1
  have hpv : pa (pth pa k) < 12 := (rK.2.2.2.2 (hA k hk)).2
  have hle : am ≤ le (12 * pa (pth pa k) + pth pa k) := b2 k (Nat.le_refl k) hk
  refine ⟨by omega, fun i hi hi2 => ?_, fun X hX => ?_, fun u v hu hv2 => ?_⟩
  · have ri := r i (fun j hj => hA j (by omega))
    have hne : pth pa i ≠ pth pa k := fun e => by
      have := ri.2.2.2.1 k (by omega)
      rw [e] at this
      omega
    have hi12 : pth pa i < 12 := ri.1
    have hi13 : pth pa (i + 1) < 12 := (ri.2.2.2.2 (hA i hi2)).2
    have base := b2 i (by omega) hi2
    have e1 : updN le (12 * pa (pth pa k) + pth pa k) (le (12 * pa (pth pa k) + pth pa k) - am) (12 * pth pa (i + 1) + pth pa i) = le (12 * pth pa (i + 1) + pth pa i) := updN_n _ _ (by omega)
    by_cases e : 12 * pth pa (i + 1) + pth pa i = 12 * pth pa k + pa (pth pa k)
    · rw [e, updN_s, ← e, e1]
      omega
    · rw [updN_n _ _ e, e1]
      exact base
  · have h1 := cut_push le X hpv hv hle
    have h2 := b3 X hX
    show _ + (if X (pa (pth pa k)) then am else 0) = _
    rw [h1]
    exact h2
  · rw [pair_push le hpv hv hle hu hv2]
    exact b4 u v hu hv2
theorem puB_end {le0 pa le : Nat → Nat} {am K k : Nat} (hA : puA le0 pa am K) (h : puB le0 pa le am K k) (hk : pth pa k = 10) : pushOK le0 le am := by
  obtain ⟨b1, b2, b3, b4⟩ := h
  refine ⟨hA.2.1, hA.2.2.1, fun X X10 X11 => ?_, b4⟩
  have := b3 X X11
  rw [hk, X10] at this
  exact this
-- ===== who reaches the sink =====
def bClo (le : Nat → Nat) (S : Nat) : Prop := ∀ i, i < 144 → 0 < le i → bq S (i % 12) = 1 → bq S (i / 12) = 1
def bSnd (le : Nat → Nat) (S : Nat) : Prop := bq S 11 = 1 ∧ S < 4096 ∧ ∀ X : Nat → Bool, X 11 = false → cutX le X = 0 → ∀ v, v < 12 → bq S v = 1 → X v = false
def bCt (S : Nat) : Nat := fb_ct (fun v => decide (bq S v = 1)) 12
/-- at a round's head -/
def rsO (le : Nat → Nat) (S r : Nat) : Prop := bSnd le S ∧ (bClo le S ∨ r + 1 ≤ bCt S)
/-- in a round that began with S0, the edges below j seen -/
def rsI (le : Nat → Nat) (S0 S j : Nat) : Prop := bSnd le S ∧ (∀ v, v < 12 → bq S0 v = 1 → bq S v = 1) ∧ (∀ i, i < j → 0 < le i → bq S0 (i % 12) = 1 → bq S (i / 12) = 1) ∧ (bClo le S0 → S = S0)
theorem rsO_0 (le : Nat → Nat) : rsO le 2048 0 := by
  have h : ∀ v, v < 12 → bq 2048 v = 1 → v = 11 := by decide
  refine ⟨⟨by decide, by decide, fun X hX _ v hv hb => ?_⟩, Or.inr (by decide)⟩
  rw [h v hv hb]; exact hX
theorem rsI_0 {le : Nat → Nat} {S r : Nat} (h : rsO le S r) : rsI le S S 0 := ⟨h.1, fun _ _ a => a, fun i hi => absurd hi (Nat.not_lt_zero i), fun _ => rfl⟩
theorem rsI_no {le : Nat → Nat} {S0 S j : Nat} (h : rsI le S0 S j) (hn : le j = 0 ∨ ¬ bq S (j % 12) = 1) : rsI le S0 S (j + 1) := by
  obtain ⟨h1, h2, h3, h4⟩ := h
  refine ⟨h1, h2, fun i hi hl hb => ?_, h4⟩
  by_cases e : i = j
  · subst e
    rcases hn with a | a
    · omega
    · exact absurd (h2 _ (by omega) hb) a
  · exact h3 i (by omega) hl hb
theorem rsI_add {le : Nat → Nat} {S0 S j : Nat} (hj : j < 144) (h : rsI le S0 S j) (hl : 0 < le j) (hb : bq S (j % 12) = 1) : rsI le S0 (S ||| 2 ^ (j / 12)) (j + 1) := by
  obtain ⟨⟨s1, s2, s3⟩, h2, h3, h4⟩ := h
  have hu : j / 12 < 12 := by omega
  refine ⟨⟨(bq_or _ _ _).mpr (Or.inl s1), Nat.or_lt_two_pow (n := 12) s2 (Nat.pow_lt_pow_right (by decide) hu), fun X hX hc v hv hv2 => ?_⟩, fun v hv hv2 => (bq_or _ _ _).mpr (Or.inl (h2 v hv hv2)), fun i hi hi2 hi3 => ?_, fun hc => ?_⟩
  · rcases (bq_or _ _ _).mp hv2 with a | a
    · exact s3 X hX hc v hv a
    · have h5 := s3 X hX hc (j % 12) (by omega) hb
      cases hx : X v
      · rfl
      · have := cut_zero.mp hc v (j % 12) hv (by omega) hx h5
        rw [a, show 12 * (j / 12) + j % 12 = j by omega] at this
        omega
  · by_cases e : i = j
    · rw [e]; exact (bq_or _ _ _).mpr (Or.inr rfl)
    · exact (bq_or _ _ _).mpr (Or.inl (h3 i (by omega) hi2 hi3))
  · have e := h4 hc
    have hbit : bq S (j / 12) = 1 := by rw [e]; exact hc j hj hl (by rw [← e]; exact hb)
    have e2 : S ||| 2 ^ (j / 12) = S := by
      refine bits_ext (n := 12) (Nat.or_lt_two_pow (n := 12) s2 (Nat.pow_lt_pow_right (by decide) hu)) s2 (fun v _ => ?_)
      rw [bq_or]
      constructor
      · intro a
        rcases a with a | a
        · exact a
        · rw [a]; exact hbit
      · exact Or.inl
    rw [e2]; exact e
theorem bCt_lt {S0 S v : Nat} (hv : v < 12) (h : ∀ v, v < 12 → bq S0 v = 1 → bq S v = 1) (h1 : bq S v = 1) (h2 : ¬ bq S0 v = 1) : bCt S0 + 1 ≤ bCt S := by
  have e1 := fb_ct_upd (fun v => decide (bq S0 v = 1)) true (i := v) (n := 12) hv
  have e2 : fb_ct (fun k => if k = v then true else (fun v => decide (bq S0 v = 1)) k) 12 ≤ fb_ct (fun v => decide (bq S v = 1)) 12 := by
    refine fb_ct_sub (fun k hk hq => ?_)
    by_cases e : k = v
    · rw [e]; simp [h1]
    · simp only [e, if_false, decide_eq_true_eq] at hq
      simp [h k hk hq]
  rw [if_neg (show ¬ decide (bq S0 v = 1) = true by rw [decide_eq_true_eq]; exact h2), if_pos rfl] at e1
  exact Nat.le_trans (Nat.le_of_eq e1.symm) e2
theorem rsI_end {le : Nat → Nat} {S0 S r : Nat} (h0 : rsO le S0 r) (h : rsI le S0 S 144) : rsO le S (r + 1) := by
  obtain ⟨h1, h2, h3, h4⟩ := h
  refine ⟨h1, ?_⟩
  rcases h0.2 with a | a
  · rw [h4 a]; exact Or.inl a
  · by_cases hc : ∃ v, v < 12 ∧ bq S v = 1 ∧ ¬ bq S0 v = 1
    · obtain ⟨v, hv, q1, q2⟩ := hc
      have := bCt_lt hv h2 q1 q2
      exact Or.inr (by omega)
    · have hcl : bClo le S0 := fun i hi hl hb => by
        have := h3 i hi hl hb
        exact Classical.byContradiction fun z => hc ⟨i / 12, by omega, this, z⟩
      rw [h4 hcl]; exact Or.inl hcl
theorem rsO_end {le : Nat → Nat} {S : Nat} (h : rsO le S 12) : bSnd le S ∧ bClo le S := by
  refine ⟨h.1, ?_⟩
  rcases h.2 with a | a
  · exact a
  · have := fb_ct_le (fun v => decide (bq S v = 1)) 12
    unfold bCt at a
    omega
theorem sol_common {g : gD} {wa le : Nat → Nat} {T S : Nat} (hg : gOK g) (hw : ∀ v, v < gn g → wa v ≤ 2) (h : solOK g wa nNone le T) (hs : bSnd le S) (hc : bClo le S) : isCommon g wa (S &&& (2 ^ gn g - 1)) := by
  have hn := hg.2.1
  refine ⟨mask_lt _ _, fun v hv => ?_⟩
  rw [bq_mask hv]
  constructor
  · intro hb P hP
    have hx := (sol_best hg hw h hP.1 (xP_10 _ P) (xP_11 hn P) (fun v hv => xP_v hn hv P)).mp hP
    have := hs.2.2 _ (xP_11 hn P) hx v (by omega) hb
    rw [xP_v hn hv P] at this
    have h2 := bq_lt P v
    simp at this
    omega
  · intro ha
    obtain ⟨X0, a, b, c⟩ := h.2.2
    have h10 : ¬ bq S 10 = 1 := fun z => by
      have := hs.2.2 X0 b c 10 (by decide) z
      rw [a] at this
      cases this
    have hclo : cutX le (fun v => decide (¬ bq S v = 1)) = 0 := by
      refine cut_zero.mpr (fun u v hu hv h1 h2 => ?_)
      simp at h1 h2
      rcases Nat.eq_zero_or_pos (le (12 * u + v)) with e | e
      · exact e
      · have := hc (12 * u + v) (by omega) e (by rw [ix_mod hv]; exact h2)
        rw [ix_div hv] at this
        exact absurd (this.symm.trans h1) (by decide)
    have hbit : ∀ v, v < gn g → (fun v => decide (¬ bq S v = 1)) v = decide (bq (S &&& (2 ^ gn g - 1)) v = 0) := by
      intro v hv
      have h1 := bq_mask (S := S) hv
      have h2 := bq_lt (S &&& (2 ^ gn g - 1)) v
      have h3 := bq_lt S v
      have : (¬ bq S v = 1) ↔ bq (S &&& (2 ^ gn g - 1)) v = 0 := by omega
      simp only [this]
    have hbest := (sol_best hg hw h (mask_lt S (gn g)) (X := fun v => decide (¬ bq S v = 1)) (by simp [h10]) (by simp [hs.1]) hbit).mpr hclo
    have := ha _ hbest
    rw [bq_mask hv] at this
    exact this
-- ===== who the source doesn't reach =====
def nfI (pa : Nat → Nat) (S i : Nat) : Prop := S < 2 ^ i ∧ ∀ v, v < i → (bq S v = 1 ↔ pa v = nNone)
theorem nfI_0 (pa : Nat → Nat) : nfI pa 0 0 := ⟨by decide, fun v hv => absurd hv (Nat.not_lt_zero v)⟩
theorem hi_bit {S i : Nat} (h : S < 2 ^ i) : ¬ bq S i = 1 := by
  rw [bq_one, Nat.testBit_lt_two_pow h]
  simp
theorem nfI_no {pa : Nat → Nat} {S i : Nat} (h : nfI pa S i) (hp : pa i ≠ nNone) : nfI pa S (i + 1) := by
  have h2 : 2 ^ i < 2 ^ (i + 1) := Nat.pow_lt_pow_right (by decide) (by omega)
  refine ⟨by have := h.1; omega, fun v hv => ?_⟩
  by_cases e : v = i
  · subst e
    exact ⟨fun a => absurd a (hi_bit h.1), fun a => absurd a hp⟩
  · exact h.2 v (by omega)
theorem nfI_add {pa : Nat → Nat} {S i : Nat} (h : nfI pa S i) (hp : pa i = nNone) : nfI pa (S ||| 2 ^ i) (i + 1) := by
  have h2 : 2 ^ i < 2 ^ (i + 1) := Nat.pow_lt_pow_right (by decide) (by omega)
  refine ⟨Nat.or_lt_two_pow (by have := h.1; omega) h2, fun v hv => ?_⟩
  rw [bq_or]
  by_cases e : v = i
  · subst e
    exact ⟨fun _ => hp, fun _ => Or.inr rfl⟩
  · rw [h.2 v (by omega)]
    simp [e]
theorem sol_some {g : gD} {wa le pa : Nat → Nat} {T S : Nat} (hg : gOK g) (hw : ∀ v, v < gn g → wa v ≤ 2) (h : solOK g wa nNone le T) (hs : srch le pa) (hn : nfI pa S (gn g)) : isSome g wa S := by
  have hn10 := hg.2.1
  have hX10 : rcB pa 10 = true := rcB_t.mpr (by rw [hs.1]; decide)
  have hX11 : rcB pa 11 = false := by
    obtain ⟨X0, a, b, c⟩ := h.2.2
    refine rcB_f.mpr (Classical.byContradiction fun z => ?_)
    have := srch_least hs c a (by decide) z
    rw [b] at this
    cases this
  have hbit : ∀ v, v < gn g → rcB pa v = decide (bq S v = 0) := by
    intro v hv
    have h1 := hn.2 v hv
    have h2 := bq_lt S v
    have : (pa v ≠ nNone) ↔ bq S v = 0 := by
      constructor
      · intro z
        have : ¬ bq S v = 1 := fun y => z (h1.mp y)
        omega
      · intro z y
        have := h1.mpr y
        omega
    unfold rcB
    simp only [this]
  have hbest := (sol_best hg hw h hn.1 hX10 hX11 hbit).mpr (srch_closed hs)
  refine ⟨hn.1, fun v hv => ⟨fun hb => ⟨S, hbest, hb⟩, fun hb => ?_⟩⟩
  obtain ⟨P, hP, hb⟩ := hb
  rw [hn.2 v hv]
  refine Classical.byContradiction fun z => ?_
  have hx := (sol_best hg hw h hP.1 (xP_10 _ P) (xP_11 hn10 P) (fun v hv => xP_v hn10 hv P)).mp hP
  have := srch_least hs hx (xP_10 _ P) (by omega) z
  rw [xP_v hn10 hv P, hb] at this
  simp at this
end
section
set_option maxRecDepth 100000
/-! THE METHODS' MEANING: what each answers and leaves, as predicates that fix the answer -/
abbrev ro0 : Room := { frames := 0, cells := 0, slots := 0, locals := 0 }
abbrev ro1 : Room := { frames := 1, cells := 0, slots := 0, locals := 30 }
abbrev ro2 : Room := { frames := 2, cells := 0, slots := 0, locals := 60 }
abbrev ro3 : Room := { frames := 3, cells := 0, slots := 0, locals := 90 }
abbrev ro4 : Room := { frames := 4, cells := 0, slots := 0, locals := 120 }
/-- x is one of 0 .. n-1 -/
def inR (x : Int32) (n : Nat) : Prop := ∃ v, v < n ∧ x = nI v
theorem inR_nI {v n : Nat} (h : v < n) : inR (nI v) n := ⟨v, h, rfl⟩
theorem inR_of {x : Int32} {n : Nat} (hn : n < 2 ^ 31) (h0 : ¬ x < 0) (h : ¬ nI n ≤ x) : inR x n := by
  rcases pk_ix x hn with q | q | q
  · exact absurd q h0
  · exact absurd q h
  · exact q
theorem inR_neg {x : Int32} {n : Nat} (hn : n < 2 ^ 31) (h : x < 0) : ¬ inR x n := by
  rintro ⟨v, hv, rfl⟩
  exact nI_pos (by omega) h
theorem inR_big {x : Int32} {n : Nat} (hn : n < 2 ^ 31) (h : nI n ≤ x) : ¬ inR x n := by
  rintro ⟨v, hv, rfl⟩
  exact nI_ge hv hn h
theorem inR_ofL {x : Int32} {n : Nat} (hn : n + 1 < 2 ^ 31) (h0 : ¬ x < 0) (h : x ≤ nI n) : inR x (n + 1) := by
  rcases pk_ix x hn with q | q | q
  · exact absurd q h0
  · exact absurd (Int32.le_trans q h) (nI_ge (by omega) hn)
  · exact q
theorem inR_bigL {x : Int32} {n : Nat} (hn : n + 1 < 2 ^ 31) (h : ¬ x ≤ nI n) : ¬ inR x (n + 1) := by
  rintro ⟨v, hv, rfl⟩
  exact h (nI_le (by omega) (by omega))
theorem inR_2 {y : Int32} (h : y = 0 ∨ y = 1) : inR y 2 := by
  rcases h with rfl | rfl
  · exact ⟨0, by decide, rfl⟩
  · exact ⟨1, by decide, rfl⟩
theorem inR_n2 {y : Int32} (h : ¬ y = 0) (h1 : ¬ y = 1) : ¬ inR y 2 := by
  rintro ⟨v, hv, rfl⟩
  rcases (show v = 0 ∨ v = 1 by omega) with rfl | rfl
  · exact h rfl
  · exact h1 rfl
theorem nI_inj {a b : Nat} (ha : a < 2 ^ 31) (hb : b < 2 ^ 31) (h : nI a = nI b) : a = b := (nI_eq ha hb).mp h
def yesNo (r : Int32) (p : Prop) : Prop := (r = 1 ∧ p) ∨ (r = 0 ∧ ¬ p)
theorem yesNo_bool {r : Int32} {p : Prop} (h : yesNo r p) : narrow .boolean (.int r) = .int r := by
  rcases h with ⟨rfl, _⟩ | ⟨rfl, _⟩ <;> rfl
theorem yesNo_ne {r : Int32} {p : Prop} (h : yesNo r p) (hr : ¬ r = 0) : p := by
  rcases h with ⟨_, q⟩ | ⟨q, _⟩
  · exact q
  · exact absurd q hr
theorem yesNo_eq {r : Int32} {p : Prop} (h : yesNo r p) (hr : r = 0) : ¬ p := by
  rcases h with ⟨q, _⟩ | ⟨_, q⟩
  · rw [hr] at q; exact absurd q (by decide)
  · exact q
theorem yesNo_one {r r' : Int32} {p : Prop} (h : yesNo r p) (h' : yesNo r' p) : r = r' := by
  rcases h with ⟨a, b⟩ | ⟨a, b⟩ <;> rcases h' with ⟨c, d⟩ | ⟨c, d⟩
  · rw [a, c]
  · exact absurd b d
  · exact absurd d b
  · rw [a, c]
def sCost (n : Nat) (fc : Nat → Nat) (x y z r : Int32) (fc' : Nat → Nat) : Prop :=
  (¬ inR x n ∧ r = -1 ∧ fc' = fc) ∨ (inR x n ∧ ¬ inR y 2 ∧ r = -2 ∧ fc' = fc) ∨ (inR x n ∧ inR y 2 ∧ ¬ inR z 61 ∧ r = -3 ∧ fc' = fc) ∨
  ∃ v f q, v < n ∧ f < 2 ∧ q < 61 ∧ x = nI v ∧ y = nI f ∧ z = nI q ∧ r = nI (fc (2 * v + f)) ∧ fc' = updN fc (2 * v + f) q
theorem sCost_one {n : Nat} {fc : Nat → Nat} {x y z r r2 : Int32} {f1 f2 : Nat → Nat} (hn : n < 2 ^ 31) (h : sCost n fc x y z r f1) (h' : sCost n fc x y z r2 f2) : r = r2 ∧ f1 = f2 := by
  rcases h with ⟨a1, a2, a3⟩ | ⟨a1, a2, a3, a4⟩ | ⟨a1, a2, a3, a4, a5⟩ | ⟨v, f, q, a1, a2, a3, a4, a5, a6, a7, a8⟩ <;>
  rcases h' with ⟨b1, b2, b3⟩ | ⟨b1, b2, b3, b4⟩ | ⟨b1, b2, b3, b4, b5⟩ | ⟨v', f', q', b1, b2, b3, b4, b5, b6, b7, b8⟩
  · exact ⟨a2.trans b2.symm, a3.trans b3.symm⟩
  · exact absurd b1 a1
  · exact absurd b1 a1
  · exact absurd ⟨v', b1, b4⟩ a1
  · exact absurd a1 b1
  · exact ⟨a3.trans b3.symm, a4.trans b4.symm⟩
  · exact absurd b2 a2
  · exact absurd ⟨f', b2, b5⟩ a2
  · exact absurd a1 b1
  · exact absurd a2 b2
  · exact ⟨a4.trans b4.symm, a5.trans b5.symm⟩
  · exact absurd ⟨q', b3, b6⟩ a3
  · exact absurd ⟨v, a1, a4⟩ b1
  · exact absurd ⟨f, a2, a5⟩ b2
  · exact absurd ⟨q, a3, a6⟩ b3
  · have e1 : v = v' := nI_inj (by omega) (by omega) (a4.symm.trans b4)
    have e2 : f = f' := nI_inj (by omega) (by omega) (a5.symm.trans b5)
    have e3 : q = q' := nI_inj (by omega) (by omega) (a6.symm.trans b6)
    subst e1 e2 e3
    exact ⟨a7.trans b7.symm, a8.trans b8.symm⟩
theorem sCost_ok {n : Nat} {fc : Nat → Nat} {x y z r : Int32} {f1 : Nat → Nat} (h : sCost n fc x y z r f1) (hf : ∀ j, fc j ≤ 60) : ∀ j, f1 j ≤ 60 := by
  rcases h with ⟨a1, a2, a3⟩ | ⟨a1, a2, a3, a4⟩ | ⟨a1, a2, a3, a4, a5⟩ | ⟨v, f, q, a1, a2, a3, a4, a5, a6, a7, a8⟩
  · rw [a3]; exact hf
  · rw [a4]; exact hf
  · rw [a5]; exact hf
  · rw [a8]
    intro j
    by_cases e : j = 2 * v + f
    · rw [e, updN_s]; omega
    · rw [updN_n _ _ e]; exact hf j
/-- a flow is added: count, from, to, boxing, unboxing -/
def sFlow (n ct : Nat) (ff ft bx ub : Nat → Nat) (x y z w r : Int32) (ct' : Nat) (ff' ft' bx' ub' : Nat → Nat) : Prop :=
  (((¬ (inR x n ∧ inR y n) ∧ r = -1) ∨ ((inR x n ∧ inR y n) ∧ x = y ∧ r = -2) ∨ ((inR x n ∧ inR y n) ∧ ¬ x = y ∧ ¬ (inR z 31 ∧ inR w 31) ∧ r = -3) ∨ ((inR x n ∧ inR y n) ∧ ¬ x = y ∧ (inR z 31 ∧ inR w 31) ∧ ct = 20 ∧ r = -4)) ∧ ct' = ct ∧ ff' = ff ∧ ft' = ft ∧ bx' = bx ∧ ub' = ub) ∨
  ∃ u v q t, u < n ∧ v < n ∧ q < 31 ∧ t < 31 ∧ x = nI u ∧ y = nI v ∧ z = nI q ∧ w = nI t ∧ ¬ x = y ∧ ct ≠ 20 ∧ r = nI ct ∧ ct' = ct + 1 ∧ ff' = updN ff ct u ∧ ft' = updN ft ct v ∧ bx' = updN bx ct q ∧ ub' = updN ub ct t
theorem sFlow_one {n ct : Nat} {ff ft bx ub : Nat → Nat} {x y z w r r2 : Int32} {c1 c2 : Nat} {f1 t1 b1 u1 f2 t2 b2 u2 : Nat → Nat} (hn : n < 2 ^ 31) (h : sFlow n ct ff ft bx ub x y z w r c1 f1 t1 b1 u1) (h' : sFlow n ct ff ft bx ub x y z w r2 c2 f2 t2 b2 u2) : r = r2 ∧ c1 = c2 ∧ f1 = f2 ∧ t1 = t2 ∧ b1 = b2 ∧ u1 = u2 := by
  rcases h with ⟨h, rfl, rfl, rfl, rfl, rfl⟩ | ⟨u, v, q, t, a1, a2, a3, a4, a5, a6, a7, a8, a9, a10, a11, a12, a13, a14, a15, a16⟩ <;>
  rcases h' with ⟨h', rfl, rfl, rfl, rfl, rfl⟩ | ⟨u', v', q', t', e1, e2, e3, e4, e5, e6, e7, e8, e9, e10, e11, e12, e13, e14, e15, e16⟩
  · refine ⟨?_, rfl, rfl, rfl, rfl, rfl⟩
    rcases h with ⟨a1, a2⟩ | ⟨a1, a2, a3⟩ | ⟨a1, a2, a3, a4⟩ | ⟨a1, a2, a3, a4, a5⟩ <;>
    rcases h' with ⟨g1, g2⟩ | ⟨g1, g2, g3⟩ | ⟨g1, g2, g3, g4⟩ | ⟨g1, g2, g3, g4, g5⟩ <;>
    first | (exact absurd g1 a1) | (exact absurd a1 g1) | (exact absurd g2 a2) | (exact absurd a2 g2) | (exact absurd g3 a3) | (exact absurd a3 g3) | (simp only [*])
  · have i1 : inR x n ∧ inR y n := ⟨⟨u', e1, e5⟩, ⟨v', e2, e6⟩⟩
    have i2 : inR z 31 ∧ inR w 31 := ⟨⟨q', e3, e7⟩, ⟨t', e4, e8⟩⟩
    rcases h with ⟨a1, a2⟩ | ⟨a1, a2, a3⟩ | ⟨a1, a2, a3, a4⟩ | ⟨a1, a2, a3, a4, a5⟩
    · exact absurd i1 a1
    · exact absurd a2 e9
    · exact absurd i2 a3
    · exact absurd a4 e10
  · have i1 : inR x n ∧ inR y n := ⟨⟨u, a1, a5⟩, ⟨v, a2, a6⟩⟩
    have i2 : inR z 31 ∧ inR w 31 := ⟨⟨q, a3, a7⟩, ⟨t, a4, a8⟩⟩
    rcases h' with ⟨g1, g2⟩ | ⟨g1, g2, g3⟩ | ⟨g1, g2, g3, g4⟩ | ⟨g1, g2, g3, g4, g5⟩
    · exact absurd i1 g1
    · exact absurd g2 a9
    · exact absurd i2 g3
    · exact absurd g4 a10
  · have k1 : u = u' := nI_inj (by omega) (by omega) (a5.symm.trans e5)
    have k2 : v = v' := nI_inj (by omega) (by omega) (a6.symm.trans e6)
    have k3 : q = q' := nI_inj (by omega) (by omega) (a7.symm.trans e7)
    have k4 : t = t' := nI_inj (by omega) (by omega) (a8.symm.trans e8)
    subst k1 k2 k3 k4
    exact ⟨a11.trans e11.symm, a12.trans e12.symm, a13.trans e13.symm, a14.trans e14.symm, a15.trans e15.symm, a16.trans e16.symm⟩
/-- the places behind f moved down by one, as far as place m -/
def shf (h : Nat → Nat) (f m : Nat) : Nat → Nat := fun j => if f ≤ j ∧ j + 1 < m then h (j + 1) else h j
theorem shf_0 (h : Nat → Nat) (f : Nat) : shf h f (f + 1) = h := by
  funext j
  unfold shf
  rw [if_neg (by omega)]
theorem shf_at (h : Nat → Nat) {f m : Nat} : shf h f m m = h m := by
  unfold shf
  rw [if_neg (by omega)]
theorem shf_s (h : Nat → Nat) {f m : Nat} (hm : f < m) : updN (shf h f m) (m - 1) (shf h f m m) = shf h f (m + 1) := by
  funext j
  rw [shf_at]
  by_cases e : j = m - 1
  · rw [e, updN_s]
    unfold shf
    rw [if_pos (by omega), show m - 1 + 1 = m by omega]
  · rw [updN_n _ _ e]
    unfold shf
    by_cases q : f ≤ j ∧ j + 1 < m
    · rw [if_pos q, if_pos (by omega)]
    · rw [if_neg q, if_neg (by omega)]
theorem shf_s2 (h : Nat → Nat) {f m : Nat} (hm : f ≤ m) : updN (shf h f (m + 1)) m (shf h f (m + 1) (m + 1)) = shf h f (m + 1 + 1) := shf_s h (m := m + 1) (by omega)
def sCut (ct : Nat) (ff ft bx ub : Nat → Nat) (x r : Int32) (ct' : Nat) (ff' ft' bx' ub' : Nat → Nat) : Prop :=
  (¬ inR x ct ∧ r = -1 ∧ ct' = ct ∧ ff' = ff ∧ ft' = ft ∧ bx' = bx ∧ ub' = ub) ∨ ∃ f, f < ct ∧ x = nI f ∧ r = nI (ct - 1) ∧ ct' = ct - 1 ∧ ff' = shf ff f ct ∧ ft' = shf ft f ct ∧ bx' = shf bx f ct ∧ ub' = shf ub f ct
theorem sCut_one {ct : Nat} {ff ft bx ub : Nat → Nat} {x r r2 : Int32} {c1 c2 : Nat} {f1 t1 b1 u1 f2 t2 b2 u2 : Nat → Nat} (hn : ct < 2 ^ 31) (h : sCut ct ff ft bx ub x r c1 f1 t1 b1 u1) (h' : sCut ct ff ft bx ub x r2 c2 f2 t2 b2 u2) : r = r2 ∧ c1 = c2 ∧ f1 = f2 ∧ t1 = t2 ∧ b1 = b2 ∧ u1 = u2 := by
  rcases h with ⟨a0, rfl, rfl, rfl, rfl, rfl, rfl⟩ | ⟨f, a1, a2, rfl, rfl, rfl, rfl, rfl, rfl⟩ <;>
  rcases h' with ⟨g0, rfl, rfl, rfl, rfl, rfl, rfl⟩ | ⟨f', g1, g2, rfl, rfl, rfl, rfl, rfl, rfl⟩
  · exact ⟨rfl, rfl, rfl, rfl, rfl, rfl⟩
  · exact absurd ⟨f', g1, g2⟩ a0
  · exact absurd ⟨f, a1, a2⟩ g0
  · have k1 : f = f' := nI_inj (by omega) (by omega) (a2.symm.trans g2)
    subst k1
    exact ⟨rfl, rfl, rfl, rfl, rfl, rfl⟩
def sFix (n : Nat) (fx : Nat → Nat) (x y r : Int32) (fx' : Nat → Nat) : Prop :=
  (¬ inR x n ∧ r = -1 ∧ fx' = fx) ∨ (inR x n ∧ ¬ inR y 3 ∧ r = -2 ∧ fx' = fx) ∨ ∃ v f, v < n ∧ f < 3 ∧ x = nI v ∧ y = nI f ∧ r = nI (fx v) ∧ fx' = updN fx v f
theorem sFix_one {n : Nat} {fx : Nat → Nat} {x y r r2 : Int32} {f1 f2 : Nat → Nat} (hn : n < 2 ^ 31) (h : sFix n fx x y r f1) (h' : sFix n fx x y r2 f2) : r = r2 ∧ f1 = f2 := by
  rcases h with ⟨a1, rfl, rfl⟩ | ⟨a1, a2, rfl, rfl⟩ | ⟨v, f, a1, a2, a3, a4, rfl, rfl⟩ <;>
  rcases h' with ⟨b1, rfl, rfl⟩ | ⟨b1, b2, rfl, rfl⟩ | ⟨v', f', b1, b2, b3, b4, rfl, rfl⟩
  · exact ⟨rfl, rfl⟩
  · exact absurd b1 a1
  · exact absurd ⟨v', b1, b3⟩ a1
  · exact absurd a1 b1
  · exact ⟨rfl, rfl⟩
  · exact absurd ⟨f', b2, b4⟩ a2
  · exact absurd ⟨v, a1, a3⟩ b1
  · exact absurd ⟨f, a2, a4⟩ b2
  · have e1 : v = v' := nI_inj (by omega) (by omega) (a3.symm.trans b3)
    have e2 : f = f' := nI_inj (by omega) (by omega) (a4.symm.trans b4)
    subst e1 e2
    exact ⟨rfl, rfl⟩
def sCostOf (g : gD) (x r : Int32) : Prop := (¬ inR x (2 ^ gn g) ∧ r = -1) ∨ ∃ P, P < 2 ^ gn g ∧ x = nI P ∧ r = nI (tot g nNone P)
theorem pow10 {n : Nat} (h : n ≤ 10) : 2 ^ n ≤ 1024 := Nat.pow_le_pow_right (show 2 > 0 by decide) h
theorem sCostOf_one {g : gD} (hg : gOK g) {x r r' : Int32} (h : sCostOf g x r) (h' : sCostOf g x r') : r = r' := by
  have hp := pow10 hg.2.1
  rcases h with ⟨a, rfl⟩ | ⟨P, a, b, rfl⟩ <;> rcases h' with ⟨c, rfl⟩ | ⟨P', c, d, rfl⟩
  · rfl
  · exact absurd ⟨P', c, d⟩ a
  · exact absurd ⟨P, a, b⟩ c
  · have e : P = P' := nI_inj (by omega) (by omega) (b.symm.trans d)
    rw [e]
def sBest (g : gD) (fx : Nat → Nat) (r : Int32) : Prop := ∃ T, r = nI T ∧ isMin (2 ^ gn g) (okP g fx) (tot g nNone) T
theorem sBest_one {g : gD} {fx : Nat → Nat} {r r' : Int32} (h : sBest g fx r) (h' : sBest g fx r') : r = r' := by
  obtain ⟨T, rfl, a⟩ := h
  obtain ⟨T', rfl, b⟩ := h'
  rw [isMin_one a b]
def sCom (g : gD) (fx : Nat → Nat) (r : Int32) : Prop := ∃ C, r = nI C ∧ isCommon g fx C
theorem sCom_one {g : gD} {fx : Nat → Nat} {r r' : Int32} (h : sCom g fx r) (h' : sCom g fx r') : r = r' := by
  obtain ⟨T, rfl, a⟩ := h
  obtain ⟨T', rfl, b⟩ := h'
  rw [isCommon_one a b]
def sSom (g : gD) (fx : Nat → Nat) (r : Int32) : Prop := ∃ C, r = nI C ∧ isSome g fx C
theorem sSom_one {g : gD} {fx : Nat → Nat} {r r' : Int32} (h : sSom g fx r) (h' : sSom g fx r') : r = r' := by
  obtain ⟨T, rfl, a⟩ := h
  obtain ⟨T', rfl, b⟩ := h'
  rw [isSome_one a b]
def comV (g : gD) (fx : Nat → Nat) (v : Nat) : Prop := ∀ P, bestP g fx nNone P → bq P v = 1
def somV (g : gD) (fx : Nat → Nat) (v : Nat) : Prop := ∃ P, bestP g fx nNone P ∧ bq P v = 1
def sSet (g : gD) (fx : Nat → Nat) (x r : Int32) : Prop := (¬ inR x (gn g) ∧ r = -1) ∨ ∃ v, v < gn g ∧ x = nI v ∧ ((comV g fx v ∧ r = 1) ∨ (¬ comV g fx v ∧ somV g fx v ∧ r = 2) ∨ (¬ comV g fx v ∧ ¬ somV g fx v ∧ r = 0))
theorem sSet_one {g : gD} (hg : gOK g) {fx : Nat → Nat} {x r r' : Int32} (h : sSet g fx x r) (h' : sSet g fx x r') : r = r' := by
  have hn := hg.2.1
  rcases h with ⟨a, rfl⟩ | ⟨v, a1, a2, a3⟩ <;> rcases h' with ⟨c, rfl⟩ | ⟨v', b1, b2, b3⟩
  · rfl
  · exact absurd ⟨v', b1, b2⟩ a
  · exact absurd ⟨v, a1, a2⟩ c
  · have e : v = v' := nI_inj (by omega) (by omega) (a2.symm.trans b2)
    subst e
    rcases a3 with ⟨p1, p2⟩ | ⟨p1, p2, p3⟩ | ⟨p1, p2, p3⟩ <;> rcases b3 with ⟨q1, q2⟩ | ⟨q1, q2, q3⟩ | ⟨q1, q2, q3⟩
    · rw [p2, q2]
    · exact absurd p1 q1
    · exact absurd p1 q1
    · exact absurd q1 p1
    · rw [p3, q3]
    · exact absurd p2 q2
    · exact absurd q1 p1
    · exact absurd q2 p2
    · rw [p3, q3]
def sWith (g : gD) (fx : Nat → Nat) (x y r : Int32) : Prop := (¬ inR x (gn g) ∧ r = -1) ∨ (inR x (gn g) ∧ ¬ inR y 2 ∧ r = -2) ∨ ∃ v f, v < gn g ∧ f < 2 ∧ x = nI v ∧ y = nI f ∧ minOr (2 ^ gn g) (fun P => okP g fx P ∧ bq P v = f) (tot g nNone) (-3) r
theorem sWith_one {g : gD} (hg : gOK g) {fx : Nat → Nat} {x y r r' : Int32} (h : sWith g fx x y r) (h' : sWith g fx x y r') : r = r' := by
  have hn := hg.2.1
  rcases h with ⟨a, rfl⟩ | ⟨a, a0, rfl⟩ | ⟨v, f, a1, a2, a3, a4, a5⟩ <;> rcases h' with ⟨c, rfl⟩ | ⟨c, c0, rfl⟩ | ⟨v', f', b1, b2, b3, b4, b5⟩
  · rfl
  · exact absurd c a
  · exact absurd ⟨v', b1, b3⟩ a
  · exact absurd a c
  · rfl
  · exact absurd ⟨f', b2, b4⟩ a0
  · exact absurd ⟨v, a1, a3⟩ c
  · exact absurd ⟨f, a2, a4⟩ c0
  · have e1 : v = v' := nI_inj (by omega) (by omega) (a3.symm.trans b3)
    have e2 : f = f' := nI_inj (by omega) (by omega) (a4.symm.trans b4)
    subst e1 e2
    exact minOr_one a5 b5
def sTied (g : gD) (fx : Nat → Nat) (x y z r : Int32) : Prop := (¬ (inR x (gn g) ∧ inR y (gn g)) ∧ r = -1) ∨ ∃ u v, u < gn g ∧ v < gn g ∧ x = nI u ∧ y = nI v ∧ minOr (2 ^ gn g) (fun P => okP g fx P ∧ (bq P u = bq P v ↔ ¬ z = 0)) (tot g nNone) (-2) r
theorem sTied_one {g : gD} (hg : gOK g) {fx : Nat → Nat} {x y z r r' : Int32} (h : sTied g fx x y z r) (h' : sTied g fx x y z r') : r = r' := by
  have hn := hg.2.1
  rcases h with ⟨a, rfl⟩ | ⟨u, v, a1, a2, a3, a4, a5⟩ <;> rcases h' with ⟨c, rfl⟩ | ⟨u', v', b1, b2, b3, b4, b5⟩
  · rfl
  · exact absurd ⟨⟨u', b1, b3⟩, ⟨v', b2, b4⟩⟩ a
  · exact absurd ⟨⟨u, a1, a3⟩, ⟨v, a2, a4⟩⟩ c
  · have e1 : u = u' := nI_inj (by omega) (by omega) (a3.symm.trans b3)
    have e2 : v = v' := nI_inj (by omega) (by omega) (a4.symm.trans b4)
    subst e1 e2
    exact minOr_one a5 b5
def sSav (g : gD) (fx : Nat → Nat) (x r : Int32) : Prop := (¬ inR x (gc g) ∧ r = -1) ∨ ∃ f T1 T2, f < gc g ∧ x = nI f ∧ isMin (2 ^ gn g) (okP g fx) (tot g nNone) T1 ∧ isMin (2 ^ gn g) (okP g fx) (tot g f) T2 ∧ r = nI T1 - nI T2
theorem sSav_one {g : gD} (hg : gOK g) {fx : Nat → Nat} {x r r' : Int32} (h : sSav g fx x r) (h' : sSav g fx x r') : r = r' := by
  have hn := hg.2.2.1
  rcases h with ⟨a, rfl⟩ | ⟨f, T1, T2, a1, a2, a3, a4, rfl⟩ <;> rcases h' with ⟨c, rfl⟩ | ⟨f', T1', T2', b1, b2, b3, b4, rfl⟩
  · rfl
  · exact absurd ⟨f', b1, b2⟩ a
  · exact absurd ⟨f, a1, a2⟩ c
  · have e1 : f = f' := nI_inj (by omega) (by omega) (a2.symm.trans b2)
    subst e1
    rw [isMin_one a3 b3, isMin_one a4 b4]
def sIsB (g : gD) (fx : Nat → Nat) (x r : Int32) : Prop := (¬ inR x (2 ^ gn g) ∧ r = -1) ∨ ∃ P, P < 2 ^ gn g ∧ x = nI P ∧ yesNo r (bestP g fx nNone P)
theorem sIsB_one {g : gD} (hg : gOK g) {fx : Nat → Nat} {x r r' : Int32} (h : sIsB g fx x r) (h' : sIsB g fx x r') : r = r' := by
  have hp := pow10 hg.2.1
  rcases h with ⟨a, rfl⟩ | ⟨P, a, b, h1⟩ <;> rcases h' with ⟨c, rfl⟩ | ⟨P', c, d, h2⟩
  · rfl
  · exact absurd ⟨P', c, d⟩ a
  · exact absurd ⟨P, a, b⟩ c
  · have e : P = P' := nI_inj (by omega) (by omega) (b.symm.trans d)
    subst e
    exact yesNo_one h1 h2
def sCnt (g : gD) (fx : Nat → Nat) (r : Int32) : Prop := ∃ C E, isCommon g fx C ∧ isSome g fx E ∧ r = nI (fb_ct (fun v => decide (bq C v = bq E v)) (gn g))
theorem sCnt_one {g : gD} {fx : Nat → Nat} {r r' : Int32} (h : sCnt g fx r) (h' : sCnt g fx r') : r = r' := by
  obtain ⟨C, E, a, b, rfl⟩ := h
  obtain ⟨C', E', c, d, rfl⟩ := h'
  rw [isCommon_one a c, isSome_one b d]
end
section
set_option maxRecDepth 100000
/-! what a store does to a world (printed by mk_sets.py) -/
theorem wU_s1 {d : ClassId} {a : Nat → Nat} {n ct sk : Nat} {fc ff ft bx ub fx wa le pa qu : Nat → Nat} {g : Nat → Nat} : (wU d a (n, ct, sk, fc, ff, ft, bx, ub, fx, wa, le, pa, qu)).set 1 (a 1, .inl (d, 20, .inl (nF g))) = wU d a (n, ct, sk, g, ff, ft, bx, ub, fx, wa, le, pa, qu) := rfl
theorem wU_g1 {d : ClassId} {a : Nat → Nat} {n ct sk : Nat} {fc ff ft bx ub fx wa le pa qu : Nat → Nat} : (wU d a (n, ct, sk, fc, ff, ft, bx, ub, fx, wa, le, pa, qu))[1]? = some (a 1, .inl (d, 20, .inl (nF fc))) := rfl
theorem wU_s2 {d : ClassId} {a : Nat → Nat} {n ct sk : Nat} {fc ff ft bx ub fx wa le pa qu : Nat → Nat} {g : Nat → Nat} : (wU d a (n, ct, sk, fc, ff, ft, bx, ub, fx, wa, le, pa, qu)).set 2 (a 2, .inl (d, 20, .inl (nF g))) = wU d a (n, ct, sk, fc, g, ft, bx, ub, fx, wa, le, pa, qu) := rfl
theorem wU_g2 {d : ClassId} {a : Nat → Nat} {n ct sk : Nat} {fc ff ft bx ub fx wa le pa qu : Nat → Nat} : (wU d a (n, ct, sk, fc, ff, ft, bx, ub, fx, wa, le, pa, qu))[2]? = some (a 2, .inl (d, 20, .inl (nF ff))) := rfl
theorem wU_s3 {d : ClassId} {a : Nat → Nat} {n ct sk : Nat} {fc ff ft bx ub fx wa le pa qu : Nat → Nat} {g : Nat → Nat} : (wU d a (n, ct, sk, fc, ff, ft, bx, ub, fx, wa, le, pa, qu)).set 3 (a 3, .inl (d, 20, .inl (nF g))) = wU d a (n, ct, sk, fc, ff, g, bx, ub, fx, wa, le, pa, qu) := rfl
theorem wU_g3 {d : ClassId} {a : Nat → Nat} {n ct sk : Nat} {fc ff ft bx ub fx wa le pa qu : Nat → Nat} : (wU d a (n, ct, sk, fc, ff, ft, bx, ub, fx, wa, le, pa, qu))[3]? = some (a 3, .inl (d, 20, .inl (nF ft))) := rfl
theorem wU_s4 {d : ClassId} {a : Nat → Nat} {n ct sk : Nat} {fc ff ft bx ub fx wa le pa qu : Nat → Nat} {g : Nat → Nat} : (wU d a (n, ct, sk, fc, ff, ft, bx, ub, fx, wa, le, pa, qu)).set 4 (a 4, .inl (d, 20, .inl (nF g))) = wU d a (n, ct, sk, fc, ff, ft, g, ub, fx, wa, le, pa, qu) := rfl
theorem wU_g4 {d : ClassId} {a : Nat → Nat} {n ct sk : Nat} {fc ff ft bx ub fx wa le pa qu : Nat → Nat} : (wU d a (n, ct, sk, fc, ff, ft, bx, ub, fx, wa, le, pa, qu))[4]? = some (a 4, .inl (d, 20, .inl (nF bx))) := rfl
theorem wU_s5 {d : ClassId} {a : Nat → Nat} {n ct sk : Nat} {fc ff ft bx ub fx wa le pa qu : Nat → Nat} {g : Nat → Nat} : (wU d a (n, ct, sk, fc, ff, ft, bx, ub, fx, wa, le, pa, qu)).set 5 (a 5, .inl (d, 20, .inl (nF g))) = wU d a (n, ct, sk, fc, ff, ft, bx, g, fx, wa, le, pa, qu) := rfl
theorem wU_g5 {d : ClassId} {a : Nat → Nat} {n ct sk : Nat} {fc ff ft bx ub fx wa le pa qu : Nat → Nat} : (wU d a (n, ct, sk, fc, ff, ft, bx, ub, fx, wa, le, pa, qu))[5]? = some (a 5, .inl (d, 20, .inl (nF ub))) := rfl
theorem wU_s6 {d : ClassId} {a : Nat → Nat} {n ct sk : Nat} {fc ff ft bx ub fx wa le pa qu : Nat → Nat} {g : Nat → Nat} : (wU d a (n, ct, sk, fc, ff, ft, bx, ub, fx, wa, le, pa, qu)).set 6 (a 6, .inl (d, 10, .inl (nF g))) = wU d a (n, ct, sk, fc, ff, ft, bx, ub, g, wa, le, pa, qu) := rfl
theorem wU_g6 {d : ClassId} {a : Nat → Nat} {n ct sk : Nat} {fc ff ft bx ub fx wa le pa qu : Nat → Nat} : (wU d a (n, ct, sk, fc, ff, ft, bx, ub, fx, wa, le, pa, qu))[6]? = some (a 6, .inl (d, 10, .inl (nF fx))) := rfl
theorem wU_s7 {d : ClassId} {a : Nat → Nat} {n ct sk : Nat} {fc ff ft bx ub fx wa le pa qu : Nat → Nat} {g : Nat → Nat} : (wU d a (n, ct, sk, fc, ff, ft, bx, ub, fx, wa, le, pa, qu)).set 7 (a 7, .inl (d, 10, .inl (nF g))) = wU d a (n, ct, sk, fc, ff, ft, bx, ub, fx, g, le, pa, qu) := rfl
theorem wU_g7 {d : ClassId} {a : Nat → Nat} {n ct sk : Nat} {fc ff ft bx ub fx wa le pa qu : Nat → Nat} : (wU d a (n, ct, sk, fc, ff, ft, bx, ub, fx, wa, le, pa, qu))[7]? = some (a 7, .inl (d, 10, .inl (nF wa))) := rfl
theorem wU_s8 {d : ClassId} {a : Nat → Nat} {n ct sk : Nat} {fc ff ft bx ub fx wa le pa qu : Nat → Nat} {g : Nat → Nat} : (wU d a (n, ct, sk, fc, ff, ft, bx, ub, fx, wa, le, pa, qu)).set 8 (a 8, .inl (d, 144, .inl (nF g))) = wU d a (n, ct, sk, fc, ff, ft, bx, ub, fx, wa, g, pa, qu) := rfl
theorem wU_g8 {d : ClassId} {a : Nat → Nat} {n ct sk : Nat} {fc ff ft bx ub fx wa le pa qu : Nat → Nat} : (wU d a (n, ct, sk, fc, ff, ft, bx, ub, fx, wa, le, pa, qu))[8]? = some (a 8, .inl (d, 144, .inl (nF le))) := rfl
theorem wU_s9 {d : ClassId} {a : Nat → Nat} {n ct sk : Nat} {fc ff ft bx ub fx wa le pa qu : Nat → Nat} {g : Nat → Nat} : (wU d a (n, ct, sk, fc, ff, ft, bx, ub, fx, wa, le, pa, qu)).set 9 (a 9, .inl (d, 12, .inl (nF g))) = wU d a (n, ct, sk, fc, ff, ft, bx, ub, fx, wa, le, g, qu) := rfl
theorem wU_g9 {d : ClassId} {a : Nat → Nat} {n ct sk : Nat} {fc ff ft bx ub fx wa le pa qu : Nat → Nat} : (wU d a (n, ct, sk, fc, ff, ft, bx, ub, fx, wa, le, pa, qu))[9]? = some (a 9, .inl (d, 12, .inl (nF pa))) := rfl
theorem wU_s10 {d : ClassId} {a : Nat → Nat} {n ct sk : Nat} {fc ff ft bx ub fx wa le pa qu : Nat → Nat} {g : Nat → Nat} : (wU d a (n, ct, sk, fc, ff, ft, bx, ub, fx, wa, le, pa, qu)).set 10 (a 10, .inl (d, 12, .inl (nF g))) = wU d a (n, ct, sk, fc, ff, ft, bx, ub, fx, wa, le, pa, g) := rfl
theorem wU_g10 {d : ClassId} {a : Nat → Nat} {n ct sk : Nat} {fc ff ft bx ub fx wa le pa qu : Nat → Nat} : (wU d a (n, ct, sk, fc, ff, ft, bx, ub, fx, wa, le, pa, qu))[10]? = some (a 10, .inl (d, 12, .inl (nF qu))) := rfl
theorem wU_p10 {d : ClassId} {a : Nat → Nat} {n ct sk : Nat} {fc ff ft bx ub fx wa le pa qu : Nat → Nat} {x : Nat} : (wU d a (n, ct, sk, fc, ff, ft, bx, ub, fx, wa, le, pa, qu)).set 0 (a 0, .inr (0, (fsU a (n, ct, sk, fc, ff, ft, bx, ub, fx, wa, le, pa, qu)).set 10 (.int (nI x)))) = wU d a (x, ct, sk, fc, ff, ft, bx, ub, fx, wa, le, pa, qu) := rfl
theorem wU_p11 {d : ClassId} {a : Nat → Nat} {n ct sk : Nat} {fc ff ft bx ub fx wa le pa qu : Nat → Nat} {x : Nat} : (wU d a (n, ct, sk, fc, ff, ft, bx, ub, fx, wa, le, pa, qu)).set 0 (a 0, .inr (0, (fsU a (n, ct, sk, fc, ff, ft, bx, ub, fx, wa, le, pa, qu)).set 11 (.int (nI x)))) = wU d a (n, x, sk, fc, ff, ft, bx, ub, fx, wa, le, pa, qu) := rfl
theorem wU_p12 {d : ClassId} {a : Nat → Nat} {n ct sk : Nat} {fc ff ft bx ub fx wa le pa qu : Nat → Nat} {x : Nat} : (wU d a (n, ct, sk, fc, ff, ft, bx, ub, fx, wa, le, pa, qu)).set 0 (a 0, .inr (0, (fsU a (n, ct, sk, fc, ff, ft, bx, ub, fx, wa, le, pa, qu)).set 12 (.int (nI x)))) = wU d a (n, ct, x, fc, ff, ft, bx, ub, fx, wa, le, pa, qu) := rfl
theorem wM_s1 {d : ClassId} {a : Nat → Nat} {n pl ct : Nat} {fc fx ff ft bx ub : Nat → Nat} {g : Nat → Nat} : (wM d a (n, pl, ct, fc, fx, ff, ft, bx, ub)).set 1 (a 1, .inl (d, 20, .inl (nF g))) = wM d a (n, pl, ct, g, fx, ff, ft, bx, ub) := rfl
theorem wM_g1 {d : ClassId} {a : Nat → Nat} {n pl ct : Nat} {fc fx ff ft bx ub : Nat → Nat} : (wM d a (n, pl, ct, fc, fx, ff, ft, bx, ub))[1]? = some (a 1, .inl (d, 20, .inl (nF fc))) := rfl
theorem wM_s2 {d : ClassId} {a : Nat → Nat} {n pl ct : Nat} {fc fx ff ft bx ub : Nat → Nat} {g : Nat → Nat} : (wM d a (n, pl, ct, fc, fx, ff, ft, bx, ub)).set 2 (a 2, .inl (d, 10, .inl (nF g))) = wM d a (n, pl, ct, fc, g, ff, ft, bx, ub) := rfl
theorem wM_g2 {d : ClassId} {a : Nat → Nat} {n pl ct : Nat} {fc fx ff ft bx ub : Nat → Nat} : (wM d a (n, pl, ct, fc, fx, ff, ft, bx, ub))[2]? = some (a 2, .inl (d, 10, .inl (nF fx))) := rfl
theorem wM_s3 {d : ClassId} {a : Nat → Nat} {n pl ct : Nat} {fc fx ff ft bx ub : Nat → Nat} {g : Nat → Nat} : (wM d a (n, pl, ct, fc, fx, ff, ft, bx, ub)).set 3 (a 3, .inl (d, 20, .inl (nF g))) = wM d a (n, pl, ct, fc, fx, g, ft, bx, ub) := rfl
theorem wM_g3 {d : ClassId} {a : Nat → Nat} {n pl ct : Nat} {fc fx ff ft bx ub : Nat → Nat} : (wM d a (n, pl, ct, fc, fx, ff, ft, bx, ub))[3]? = some (a 3, .inl (d, 20, .inl (nF ff))) := rfl
theorem wM_s4 {d : ClassId} {a : Nat → Nat} {n pl ct : Nat} {fc fx ff ft bx ub : Nat → Nat} {g : Nat → Nat} : (wM d a (n, pl, ct, fc, fx, ff, ft, bx, ub)).set 4 (a 4, .inl (d, 20, .inl (nF g))) = wM d a (n, pl, ct, fc, fx, ff, g, bx, ub) := rfl
theorem wM_g4 {d : ClassId} {a : Nat → Nat} {n pl ct : Nat} {fc fx ff ft bx ub : Nat → Nat} : (wM d a (n, pl, ct, fc, fx, ff, ft, bx, ub))[4]? = some (a 4, .inl (d, 20, .inl (nF ft))) := rfl
theorem wM_s5 {d : ClassId} {a : Nat → Nat} {n pl ct : Nat} {fc fx ff ft bx ub : Nat → Nat} {g : Nat → Nat} : (wM d a (n, pl, ct, fc, fx, ff, ft, bx, ub)).set 5 (a 5, .inl (d, 20, .inl (nF g))) = wM d a (n, pl, ct, fc, fx, ff, ft, g, ub) := rfl
theorem wM_g5 {d : ClassId} {a : Nat → Nat} {n pl ct : Nat} {fc fx ff ft bx ub : Nat → Nat} : (wM d a (n, pl, ct, fc, fx, ff, ft, bx, ub))[5]? = some (a 5, .inl (d, 20, .inl (nF bx))) := rfl
theorem wM_s6 {d : ClassId} {a : Nat → Nat} {n pl ct : Nat} {fc fx ff ft bx ub : Nat → Nat} {g : Nat → Nat} : (wM d a (n, pl, ct, fc, fx, ff, ft, bx, ub)).set 6 (a 6, .inl (d, 20, .inl (nF g))) = wM d a (n, pl, ct, fc, fx, ff, ft, bx, g) := rfl
theorem wM_g6 {d : ClassId} {a : Nat → Nat} {n pl ct : Nat} {fc fx ff ft bx ub : Nat → Nat} : (wM d a (n, pl, ct, fc, fx, ff, ft, bx, ub))[6]? = some (a 6, .inl (d, 20, .inl (nF ub))) := rfl
theorem wM_p0 {d : ClassId} {a : Nat → Nat} {n pl ct : Nat} {fc fx ff ft bx ub : Nat → Nat} {x : Nat} : (wM d a (n, pl, ct, fc, fx, ff, ft, bx, ub)).set 0 (a 0, .inr (1, (fsM a (n, pl, ct, fc, fx, ff, ft, bx, ub)).set 0 (.int (nI x)))) = wM d a (x, pl, ct, fc, fx, ff, ft, bx, ub) := rfl
theorem wM_p1 {d : ClassId} {a : Nat → Nat} {n pl ct : Nat} {fc fx ff ft bx ub : Nat → Nat} {x : Nat} : (wM d a (n, pl, ct, fc, fx, ff, ft, bx, ub)).set 0 (a 0, .inr (1, (fsM a (n, pl, ct, fc, fx, ff, ft, bx, ub)).set 1 (.int (nI x)))) = wM d a (n, x, ct, fc, fx, ff, ft, bx, ub) := rfl
theorem wM_p4 {d : ClassId} {a : Nat → Nat} {n pl ct : Nat} {fc fx ff ft bx ub : Nat → Nat} {x : Nat} : (wM d a (n, pl, ct, fc, fx, ff, ft, bx, ub)).set 0 (a 0, .inr (1, (fsM a (n, pl, ct, fc, fx, ff, ft, bx, ub)).set 4 (.int (nI x)))) = wM d a (n, pl, x, fc, fx, ff, ft, bx, ub) := rfl
end
section
set_option maxRecDepth 100000
/-! PLAIN LAW 3: steps of sums, of minima, of allowed plans, of counts -/
theorem ne_none {f : Nat} (h : f < 1000) : f ≠ nNone := fun e => by rw [e] at h; exact absurd h (by decide)
theorem inR_ofG {x : Int32} {n : Nat} (hn : n + 1 < 2 ^ 31) (h0 : ¬ x < 0) (h : ¬ nI n < x) : inR x (n + 1) := by
  rcases pk_ix x hn with q | q | q
  · exact absurd q h0
  · exact absurd (Int32.lt_of_lt_of_le (nI_lt (Nat.lt_succ_self n) hn) q) h
  · exact q
theorem inR_bigG {x : Int32} {n : Nat} (hn : n + 1 < 2 ^ 31) (h : nI n < x) : ¬ inR x (n + 1) := by
  rintro ⟨v, hv, rfl⟩
  exact nI_nlt (by omega) (by omega) h
theorem vT_s (g : gD) (P v : Nat) : vTot g P (v + 1) = vTot g P v + gpc g (2 * v + bq P v) := rfl
theorem fT_eq {g : gD} {sk P f : Nat} (h : bq P (gfr g f) = bq P (gto g f)) : fTot g sk P (f + 1) = fTot g sk P f := by
  unfold fTot
  rw [fb_sm_succ]
  split <;> simp [h]
theorem fT_sk {g : gD} {sk P f : Nat} (h : f = sk) : fTot g sk P (f + 1) = fTot g sk P f := by
  unfold fTot
  rw [fb_sm_succ, if_pos h]
  rfl
theorem fT_bx {g : gD} {sk P f : Nat} (hs : f ≠ sk) (h : ¬ bq P (gfr g f) = bq P (gto g f)) (h0 : bq P (gfr g f) = 0) : fTot g sk P (f + 1) = fTot g sk P f + gbx g f := by
  unfold fTot
  rw [fb_sm_succ, if_neg hs, if_neg h, if_pos h0]
theorem fT_ub {g : gD} {sk P f : Nat} (hs : f ≠ sk) (h : ¬ bq P (gfr g f) = bq P (gto g f)) (h0 : ¬ bq P (gfr g f) = 0) : fTot g sk P (f + 1) = fTot g sk P f + gub g f := by
  unfold fTot
  rw [fb_sm_succ, if_neg hs, if_neg h, if_neg h0]
theorem isMin_lt {g : gD} (hg : gOK g) {N sk R : Nat} {p : Nat → Prop} (h : isMin N p (tot g sk) R) : R ≤ 1200 := by
  obtain ⟨⟨P, _, _, rfl⟩, _⟩ := h
  exact tot_le hg sk P
theorem minOr_nn {g : gD} (hg : gOK g) {N sk : Nat} {p : Nat → Prop} {neg r : Int32} (hn : neg < 0) (h : minOr N p (tot g sk) neg r) (hr : ¬ r < 0) : ∃ R, r = nI R ∧ isMin N p (tot g sk) R := by
  rcases h with ⟨_, rfl⟩ | h
  · exact absurd hn hr
  · exact h
theorem minOr_neg {g : gD} (hg : gOK g) {N sk : Nat} {p : Nat → Prop} {r : Int32} (hr : r < 0) {R : Nat} (e : r = nI R) (h : isMin N p (tot g sk) R) : False := by
  have := isMin_lt hg h
  rw [e] at hr
  exact nI_pos (by omega) hr
/-- two families of plans put together -/
theorem minOr_joinT {N : Nat} {p q w : Nat → Prop} {t : Nat → Nat} {neg r : Int32} {T : Nat} (hw : ∀ P, P < N → (w P ↔ p P ∨ q P)) (h : minOr N p t neg r) (hq : isMin N q t T) (hb : ∀ R, r = nI R → isMin N p t R → T ≤ R) : minOr N w t neg (nI T) := by
  obtain ⟨⟨P, a1, a2, a3⟩, a4⟩ := hq
  refine Or.inr ⟨T, rfl, ⟨P, a1, (hw P a1).mpr (Or.inr a2), a3⟩, fun Q hQ hx => ?_⟩
  rcases (hw Q hQ).mp hx with b | b
  · rcases h with ⟨h1, _⟩ | ⟨R, h1, h2⟩
    · exact absurd b (h1 Q hQ)
    · exact Nat.le_trans (hb R h1 h2) (h2.2 Q hQ b)
  · exact a4 Q hQ b
theorem minOr_joinK {N : Nat} {p q w : Nat → Prop} {t : Nat → Nat} {neg r : Int32} {R T : Nat} (hw : ∀ P, P < N → (w P ↔ p P ∨ q P)) (hr : r = nI R) (h : isMin N p t R) (hq : isMin N q t T) (hb : R ≤ T) : minOr N w t neg r := by
  obtain ⟨⟨P, a1, a2, a3⟩, a4⟩ := h
  refine Or.inr ⟨R, hr, ⟨P, a1, (hw P a1).mpr (Or.inl a2), a3⟩, fun Q hQ hx => ?_⟩
  rcases (hw Q hQ).mp hx with b | b
  · exact a4 Q hQ b
  · exact Nat.le_trans hb (hq.2 Q hQ b)
/-- one value's form wanted -/
theorem okP_set {g : gD} {wa fx : Nat → Nat} {v f : Nat} (hwa : ∀ u, u < gn g → wa u = fx u) (hv : v < gn g) (hf : f < 2) (hx : fx v = 2 ∨ fx v = f) (P : Nat) : okP g (updN wa v f) P ↔ okP g fx P ∧ bq P v = f := by
  constructor
  · intro h
    have hb : bq P v = f := by
      have := h v hv
      rw [updN_s] at this
      omega
    refine ⟨fun u hu => ?_, hb⟩
    by_cases e : u = v
    · subst e
      rcases hx with a | a
      · exact Or.inl a
      · exact Or.inr (a.trans hb.symm)
    · have := h u hu
      rw [updN_n _ _ e, hwa u hu] at this
      exact this
  · intro h u hu
    by_cases e : u = v
    · subst e
      rw [updN_s]
      exact Or.inr h.2.symm
    · rw [updN_n _ _ e, hwa u hu]
      exact h.1 u hu
theorem okP_no {g : gD} {fx : Nat → Nat} {v f : Nat} (hv : v < gn g) (h2 : ¬ fx v = 2) (hf : ¬ fx v = f) {P : Nat} (h : okP g fx P) (hb : bq P v = f) : False := by
  rcases h v hv with a | a
  · exact h2 a
  · exact hf (a.trans hb)
/-- two values' forms wanted -/
theorem okP_set2 {g : gD} {wa fx : Nat → Nat} {u v i o : Nat} (hwa : ∀ u, u < gn g → wa u = fx u) (hu : u < gn g) (hv : v < gn g) (hi : i < 2) (ho : o < 2) (hxu : fx u = 2 ∨ fx u = i) (hxv : fx v = 2 ∨ fx v = o) (hc : u = v → i = o) (P : Nat) : okP g (updN (updN wa u i) v o) P ↔ okP g fx P ∧ bq P u = i ∧ bq P v = o := by
  constructor
  · intro h
    have hb : bq P v = o := by
      have := h v hv
      rw [updN_s] at this
      omega
    have ha : bq P u = i := by
      by_cases e : u = v
      · rw [e, hb, hc e]
      · have := h u hu
        rw [updN_n _ _ e, updN_s] at this
        omega
    refine ⟨fun x hx => ?_, ha, hb⟩
    by_cases e : x = v
    · subst e
      rcases hxv with a | a
      · exact Or.inl a
      · exact Or.inr (a.trans hb.symm)
    · by_cases e2 : x = u
      · subst e2
        rcases hxu with a | a
        · exact Or.inl a
        · exact Or.inr (a.trans ha.symm)
      · have := h x hx
        rw [updN_n _ _ e, updN_n _ _ e2, hwa x hx] at this
        exact this
  · intro h x hx
    by_cases e : x = v
    · subst e
      rw [updN_s]
      exact Or.inr h.2.2.symm
    · by_cases e2 : x = u
      · subst e2
        rw [updN_n _ _ e, updN_s]
        exact Or.inr h.2.1.symm
      · rw [updN_n _ _ e, updN_n _ _ e2, hwa x hx]
        exact h.1 x hx
/-- the plans that bestTied asks for -/
def pTied (g : gD) (fx : Nat → Nat) (u v : Nat) (z : Int32) (P : Nat) : Prop := okP g fx P ∧ (bq P u = bq P v ↔ ¬ z = 0)
theorem pTied_i {g : gD} {fx : Nat → Nat} {u v i o : Nat} {z : Int32} (hi : i < 2) (ho : o < 2) (hz : i = o ↔ ¬ z = 0) (P : Nat) : (pTied g fx u v z P ∧ bq P u = i) ↔ (okP g fx P ∧ bq P u = i ∧ bq P v = o) := by
  have h1 := bq_lt P u
  have h2 := bq_lt P v
  unfold pTied
  rw [← hz]
  constructor
  · rintro ⟨⟨a, b⟩, c⟩
    refine ⟨a, c, ?_⟩
    rw [c] at b
    omega
  · rintro ⟨a, b, c⟩
    refine ⟨⟨a, ?_⟩, b⟩
    rw [b, c]
theorem tied_0 (g : gD) (fx : Nat → Nat) (u v : Nat) (z : Int32) (N : Nat) (t : Nat → Nat) : minOr N (fun P => pTied g fx u v z P ∧ bq P u < 0) t (-2) (-2) := Or.inl ⟨fun P _ h => absurd h.2 (Nat.not_lt_zero _), rfl⟩
theorem tied_split {g : gD} {fx : Nat → Nat} {u v i o : Nat} {z : Int32} (hi : i < 2) (ho : o < 2) (hz : i = o ↔ ¬ z = 0) (P : Nat) : (pTied g fx u v z P ∧ bq P u < i + 1) ↔ ((pTied g fx u v z P ∧ bq P u < i) ∨ (okP g fx P ∧ bq P u = i ∧ bq P v = o)) := by
  rw [← pTied_i hi ho hz]
  constructor
  · rintro ⟨a, b⟩
    rcases Nat.lt_or_ge (bq P u) i with q | q
    · exact Or.inl ⟨a, q⟩
    · exact Or.inr ⟨a, by omega⟩
  · rintro (⟨a, b⟩ | ⟨a, b⟩)
    · exact ⟨a, by omega⟩
    · exact ⟨a, by omega⟩
theorem tied_no {g : gD} {fx : Nat → Nat} {u v i o N : Nat} {z neg r : Int32} {t : Nat → Nat} (hi : i < 2) (ho : o < 2) (hz : i = o ↔ ¬ z = 0) (h : minOr N (fun P => pTied g fx u v z P ∧ bq P u < i) t neg r) (hn : ∀ P, okP g fx P → bq P u = i → bq P v = o → False) : minOr N (fun P => pTied g fx u v z P ∧ bq P u < i + 1) t neg r := by
  refine minOr_iff (fun P _ => ?_) h
  rw [tied_split hi ho hz]
  constructor
  · exact Or.inl
  · rintro (a | ⟨a, b, c⟩)
    · exact a
    · exact (hn P a b c).elim
theorem tied_end {g : gD} {fx : Nat → Nat} {u v N : Nat} {z neg r : Int32} {t : Nat → Nat} (h : minOr N (fun P => pTied g fx u v z P ∧ bq P u < 2) t neg r) : minOr N (fun P => okP g fx P ∧ (bq P u = bq P v ↔ ¬ z = 0)) t neg r := minOr_iff (fun P _ => ⟨fun a => a.1, fun a => ⟨a, bq_lt P u⟩⟩) h
/-- common and some: bits -/
theorem com_in_som {g : gD} {fx : Nat → Nat} {C E v T : Nat} (hm : isMin (2 ^ gn g) (okP g fx) (tot g nNone) T) (hC : isCommon g fx C) (hE : isSome g fx E) (hv : v < gn g) (h : bq C v = 1) : bq E v = 1 := by
  obtain ⟨⟨P, a1, a2, a3⟩, a4⟩ := hm
  have hb : bestP g fx nNone P := (bestP_min ⟨⟨P, a1, a2, a3⟩, a4⟩ a1).mpr ⟨a2, a3⟩
  exact (hE.2 v hv).mpr ⟨P, hb, (hC.2 v hv).mp h P hb⟩
theorem open_bit {g : gD} {fx : Nat → Nat} {C E v T : Nat} (hn : gn g ≤ 10) (hm : isMin (2 ^ gn g) (okP g fx) (tot g nNone) T) (hC : isCommon g fx C) (hE : isSome g fx E) (hv : v < gn g) : bq (E &&& (C ^^^ nNone)) v = 1 ↔ ¬ bq C v = bq E v := by
  have h1 := bq_lt C v
  have h2 := bq_lt E v
  have h3 := com_in_som hm hC hE hv
  have h4 : bq (C ^^^ nNone) v = 1 ↔ ¬ bq C v = 1 := by
    rw [bq_one, Nat.testBit_xor, bq_one]
    have : nNone.testBit v = true := by
      have : nNone = 2 ^ 32 - 1 := by decide
      rw [this, Nat.testBit_two_pow_sub_one]
      simp; omega
    rw [this]
    simp
  rw [bq_and, h4]
  omega
theorem open_ct {g : gD} {fx : Nat → Nat} {C E T : Nat} (hn : gn g ≤ 10) (hm : isMin (2 ^ gn g) (okP g fx) (tot g nNone) T) (hC : isCommon g fx C) (hE : isSome g fx E) {sm : Nat} (h : sm + fb_ct (fun v => decide (bq (E &&& (C ^^^ nNone)) v = 1)) (gn g) = gn g) : sm = fb_ct (fun v => decide (bq C v = bq E v)) (gn g) := by
  have e : fb_ct (fun v => decide (bq (E &&& (C ^^^ nNone)) v = 1)) (gn g) = fb_ct (fun v => !(decide (bq C v = bq E v))) (gn g) := fb_ct_cong (fun v hv => by
    have := open_bit hn hm hC hE hv
    simp only [this, decide_not])
  have := fb_ct_not (fun v => decide (bq C v = bq E v)) (gn g)
  omega
theorem ct_bit (O i : Nat) : fb_ct (fun v => decide (bq O v = 1)) (i + 1) = fb_ct (fun v => decide (bq O v = 1)) i + bq O i := by
  rw [fb_ct_succ]
  have h := bq_lt O i
  by_cases q : bq O i = 1
  · rw [q, if_pos (by decide)]
  · rw [if_neg (by rw [decide_eq_true_eq]; exact q)]
    omega
end
section
set_option maxRecDepth 100000
/-! UnboxPlanner: the methods that call none (printed by gen_u1.py over walk.py) -/
set_option maxHeartbeats 4000000 in
/-- isValue(x) -/
theorem mU_isValue (l : Launch) (D : va_G) (d : ClassId) (a : Nat → Nat) (n ct sk : Nat) (fc ff ft bx ub fx wa le pa qu : Nat → Nat) (x : Int32) (hn : n < 2 ^ 31) : qI l yX1_isValue cX1_isValue 2 .boolean ro0 D d (wU d a) (n, ct, sk, fc, ff, ft, bx, ub, fx, wa, le, pa, qu) [.ref (a 0), .int x] (fun r u => yesNo r (inR x n) ∧ u = (n, ct, sk, fc, ff, ft, bx, ub, fx, wa, le, pa, qu)) := by
  refine qI_of RX1 rfl (by decide) (Nat.le_of_ble_eq_true rfl) (fun _ _ h => yesNo_bool h.1) ?_
  intro p e s m below meth c0 A Q H locs ls hC hA hI hl hE
  have hx := hC.1.1
  have hb := hC.1.2.1
  have hown := hC.1.2.2.2.1
  have hts := hC.1.2.2.2.2
  have hl : lv_has ls 2 [(0, .ref (a 0)), (1, .int x)] := hl
  refine lv_iload_n hx hb dX1_isValue_0 rfl (lv_at hl 1 rfl) ?_
  refine lv_if_lt (tgt := 16) hx hb dX1_isValue_1 (by decide) (fun c_1 => ?_) (fun c_1 => ?_)
  · skip
    refine lv_iconst (v := nI 0) hx hb dX1_isValue_16 (by decide +kernel) ?_
    exact hE 17 ls H locs (nI 0) (n, ct, sk, fc, ff, ft, bx, ub, fx, wa, le, pa, qu) dX1_isValue_17 (⟨Or.inr ⟨rfl, inR_neg hn c_1⟩, rfl⟩) hI
  · skip
    refine lv_iload_n hx hb dX1_isValue_4 rfl (lv_at hl 1 rfl) ?_
    refine lv_aload_n hx hb dX1_isValue_5 rfl (lv_at hl 0 rfl) ?_
    refine r_getU (v := .int (nI n)) hC hI 10 (by decide) q38 rfl rfl dX1_isValue_6 ?_
    refine lv_icmp_ge (tgt := 16) hx hb dX1_isValue_9 (by decide) (fun c_9 => ?_) (fun c_9 => ?_)
    · skip
      refine lv_iconst (v := nI 0) hx hb dX1_isValue_16 (by decide +kernel) ?_
      exact hE 17 ls H locs (nI 0) (n, ct, sk, fc, ff, ft, bx, ub, fx, wa, le, pa, qu) dX1_isValue_17 (⟨Or.inr ⟨rfl, inR_big hn c_9⟩, rfl⟩) hI
    · skip
      refine lv_iconst (v := nI 1) hx hb dX1_isValue_12 (by decide +kernel) ?_
      refine lv_goto (tgt := 17) hx hb dX1_isValue_13 (by decide) ?_
      exact hE 17 ls H locs (nI 1) (n, ct, sk, fc, ff, ft, bx, ub, fx, wa, le, pa, qu) dX1_isValue_17 (⟨Or.inl ⟨rfl, inR_of hn c_1 c_9⟩, rfl⟩) hI
set_option maxHeartbeats 4000000 in
/-- isFlow(x) -/
theorem mU_isFlow (l : Launch) (D : va_G) (d : ClassId) (a : Nat → Nat) (n ct sk : Nat) (fc ff ft bx ub fx wa le pa qu : Nat → Nat) (x : Int32) (hn : ct < 2 ^ 31) : qI l yX1_isFlow cX1_isFlow 2 .boolean ro0 D d (wU d a) (n, ct, sk, fc, ff, ft, bx, ub, fx, wa, le, pa, qu) [.ref (a 0), .int x] (fun r u => yesNo r (inR x ct) ∧ u = (n, ct, sk, fc, ff, ft, bx, ub, fx, wa, le, pa, qu)) := by
  refine qI_of RX1 rfl (by decide) (Nat.le_of_ble_eq_true rfl) (fun _ _ h => yesNo_bool h.1) ?_
  intro p e s m below meth c0 A Q H locs ls hC hA hI hl hE
  have hx := hC.1.1
  have hb := hC.1.2.1
  have hown := hC.1.2.2.2.1
  have hts := hC.1.2.2.2.2
  have hl : lv_has ls 2 [(0, .ref (a 0)), (1, .int x)] := hl
  refine lv_iload_n hx hb dX1_isFlow_0 rfl (lv_at hl 1 rfl) ?_
  refine lv_if_lt (tgt := 16) hx hb dX1_isFlow_1 (by decide) (fun c_1 => ?_) (fun c_1 => ?_)
  · skip
    refine lv_iconst (v := nI 0) hx hb dX1_isFlow_16 (by decide +kernel) ?_
    exact hE 17 ls H locs (nI 0) (n, ct, sk, fc, ff, ft, bx, ub, fx, wa, le, pa, qu) dX1_isFlow_17 (⟨Or.inr ⟨rfl, inR_neg hn c_1⟩, rfl⟩) hI
  · skip
    refine lv_iload_n hx hb dX1_isFlow_4 rfl (lv_at hl 1 rfl) ?_
    refine lv_aload_n hx hb dX1_isFlow_5 rfl (lv_at hl 0 rfl) ?_
    refine r_getU (v := .int (nI ct)) hC hI 11 (by decide) q39 rfl rfl dX1_isFlow_6 ?_
    refine lv_icmp_ge (tgt := 16) hx hb dX1_isFlow_9 (by decide) (fun c_9 => ?_) (fun c_9 => ?_)
    · skip
      refine lv_iconst (v := nI 0) hx hb dX1_isFlow_16 (by decide +kernel) ?_
      exact hE 17 ls H locs (nI 0) (n, ct, sk, fc, ff, ft, bx, ub, fx, wa, le, pa, qu) dX1_isFlow_17 (⟨Or.inr ⟨rfl, inR_big hn c_9⟩, rfl⟩) hI
    · skip
      refine lv_iconst (v := nI 1) hx hb dX1_isFlow_12 (by decide +kernel) ?_
      refine lv_goto (tgt := 17) hx hb dX1_isFlow_13 (by decide) ?_
      exact hE 17 ls H locs (nI 1) (n, ct, sk, fc, ff, ft, bx, ub, fx, wa, le, pa, qu) dX1_isFlow_17 (⟨Or.inl ⟨rfl, inR_of hn c_1 c_9⟩, rfl⟩) hI
set_option maxHeartbeats 4000000 in
/-- isPlan(x) -/
theorem mU_isPlan (l : Launch) (D : va_G) (d : ClassId) (a : Nat → Nat) (n ct sk : Nat) (fc ff ft bx ub fx wa le pa qu : Nat → Nat) (x : Int32) (hn : n ≤ 10) : qI l yX1_isPlan cX1_isPlan 2 .boolean ro0 D d (wU d a) (n, ct, sk, fc, ff, ft, bx, ub, fx, wa, le, pa, qu) [.ref (a 0), .int x] (fun r u => yesNo r (inR x (2 ^ n)) ∧ u = (n, ct, sk, fc, ff, ft, bx, ub, fx, wa, le, pa, qu)) := by
  refine qI_of RX1 rfl (by decide) (Nat.le_of_ble_eq_true rfl) (fun _ _ h => yesNo_bool h.1) ?_
  intro p e s m below meth c0 A Q H locs ls hC hA hI hl hE
  have hx := hC.1.1
  have hb := hC.1.2.1
  have hown := hC.1.2.2.2.1
  have hts := hC.1.2.2.2.2
  have hl : lv_has ls 2 [(0, .ref (a 0)), (1, .int x)] := hl
  have hp := pow10 hn
  refine lv_iload_n hx hb dX1_isPlan_0 rfl (lv_at hl 1 rfl) ?_
  refine lv_if_lt (tgt := 18) hx hb dX1_isPlan_1 (by decide) (fun c_1 => ?_) (fun c_1 => ?_)
  · skip
    refine lv_iconst (v := nI 0) hx hb dX1_isPlan_18 (by decide +kernel) ?_
    exact hE 19 ls H locs (nI 0) (n, ct, sk, fc, ff, ft, bx, ub, fx, wa, le, pa, qu) dX1_isPlan_19 (⟨Or.inr ⟨rfl, inR_neg (by omega) c_1⟩, rfl⟩) hI
  · skip
    refine lv_iload_n hx hb dX1_isPlan_4 rfl (lv_at hl 1 rfl) ?_
    refine lv_iconst (v := nI 1) hx hb dX1_isPlan_5 (by decide +kernel) ?_
    refine lv_aload_n hx hb dX1_isPlan_6 rfl (lv_at hl 0 rfl) ?_
    refine r_getU (v := .int (nI n)) hC hI 10 (by decide) q38 rfl rfl dX1_isPlan_7 ?_
    refine r_shl1 hx hb (by omega) dX1_isPlan_10 ?_
    refine lv_icmp_ge (tgt := 18) hx hb dX1_isPlan_11 (by decide) (fun c_11 => ?_) (fun c_11 => ?_)
    · skip
      refine lv_iconst (v := nI 0) hx hb dX1_isPlan_18 (by decide +kernel) ?_
      exact hE 19 ls H locs (nI 0) (n, ct, sk, fc, ff, ft, bx, ub, fx, wa, le, pa, qu) dX1_isPlan_19 (⟨Or.inr ⟨rfl, inR_big (by omega) c_11⟩, rfl⟩) hI
    · skip
      refine lv_iconst (v := nI 1) hx hb dX1_isPlan_14 (by decide +kernel) ?_
      refine lv_goto (tgt := 19) hx hb dX1_isPlan_15 (by decide) ?_
      exact hE 19 ls H locs (nI 1) (n, ct, sk, fc, ff, ft, bx, ub, fx, wa, le, pa, qu) dX1_isPlan_19 (⟨Or.inl ⟨rfl, inR_of (by omega) c_1 c_11⟩, rfl⟩) hI
set_option maxHeartbeats 4000000 in
/-- values() -/
theorem mU_values (l : Launch) (D : va_G) (d : ClassId) (a : Nat → Nat) (n ct sk : Nat) (fc ff ft bx ub fx wa le pa qu : Nat → Nat)  : qI l yX1_values cX1_values 1 .int ro0 D d (wU d a) (n, ct, sk, fc, ff, ft, bx, ub, fx, wa, le, pa, qu) [.ref (a 0)] (fun r u => r = nI n ∧ u = (n, ct, sk, fc, ff, ft, bx, ub, fx, wa, le, pa, qu)) := by
  refine qI_of RX1 rfl (by decide) (Nat.le_of_ble_eq_true rfl) (fun _ _ _ => rfl) ?_
  intro p e s m below meth c0 A Q H locs ls hC hA hI hl hE
  have hx := hC.1.1
  have hb := hC.1.2.1
  have hown := hC.1.2.2.2.1
  have hts := hC.1.2.2.2.2
  have hl : lv_has ls 1 [(0, .ref (a 0))] := hl
  refine lv_aload_n hx hb dX1_values_0 rfl (lv_at hl 0 rfl) ?_
  refine r_getU (v := .int (nI n)) hC hI 10 (by decide) q38 rfl rfl dX1_values_1 ?_
  exact hE 4 ls H locs (nI n) (n, ct, sk, fc, ff, ft, bx, ub, fx, wa, le, pa, qu) dX1_values_4 (⟨rfl, rfl⟩) hI
set_option maxHeartbeats 4000000 in
/-- flows() -/
theorem mU_flows (l : Launch) (D : va_G) (d : ClassId) (a : Nat → Nat) (n ct sk : Nat) (fc ff ft bx ub fx wa le pa qu : Nat → Nat)  : qI l yX1_flows cX1_flows 1 .int ro0 D d (wU d a) (n, ct, sk, fc, ff, ft, bx, ub, fx, wa, le, pa, qu) [.ref (a 0)] (fun r u => r = nI ct ∧ u = (n, ct, sk, fc, ff, ft, bx, ub, fx, wa, le, pa, qu)) := by
  refine qI_of RX1 rfl (by decide) (Nat.le_of_ble_eq_true rfl) (fun _ _ _ => rfl) ?_
  intro p e s m below meth c0 A Q H locs ls hC hA hI hl hE
  have hx := hC.1.1
  have hb := hC.1.2.1
  have hown := hC.1.2.2.2.1
  have hts := hC.1.2.2.2.2
  have hl : lv_has ls 1 [(0, .ref (a 0))] := hl
  refine lv_aload_n hx hb dX1_flows_0 rfl (lv_at hl 0 rfl) ?_
  refine r_getU (v := .int (nI ct)) hC hI 11 (by decide) q39 rfl rfl dX1_flows_1 ?_
  exact hE 4 ls H locs (nI ct) (n, ct, sk, fc, ff, ft, bx, ub, fx, wa, le, pa, qu) dX1_flows_4 (⟨rfl, rfl⟩) hI
set_option maxHeartbeats 4000000 in
/-- takeFixed(): the fixed forms are the wanted ones -/
theorem mU_takeFixed (l : Launch) (D : va_G) (d : ClassId) (a : Nat → Nat) (n ct sk : Nat) (fc ff ft bx ub fx wa le pa qu : Nat → Nat) (hn : n ≤ 10) : qV l yX1_takeFixed cX1_takeFixed 2 ro0 D d (wU d a) (n, ct, sk, fc, ff, ft, bx, ub, fx, wa, le, pa, qu) [.ref (a 0)] (fun u => ∃ wa' : Nat → Nat, u = (n, ct, sk, fc, ff, ft, bx, ub, fx, wa', le, pa, qu) ∧ ∀ v, v < n → wa' v = fx v) := by
  refine qV_of RX1 rfl (by decide) (Nat.le_of_ble_eq_true rfl) ?_
  intro p e s m below meth c0 A Q H locs ls hC hA hI hl hE
  have hx := hC.1.1
  have hb := hC.1.2.1
  have hown := hC.1.2.2.2.1
  have hts := hC.1.2.2.2.2
  have hl : lv_has ls 2 [(0, .ref (a 0))] := hl
  have L1 : ∀ (j : Nat) (i : Nat) (wa : Nat → Nat) (H : Heap) (locs : List Loc) (ls : Array Slot), (i ≤ n) → (n + 1 ≤ i + j) → (∀ v, v < i → wa v = fx v) → IW D A s.heap (wU d a (n, ct, sk, fc, ff, ft, bx, ub, fx, wa, le, pa, qu)) H locs → lv_has ls 2 [(0, .ref (a 0)), (1, .int (nI i))] → W p l e ro0 s m ([.ref (a 0)] : List Value).toArray below meth c0 H locs 0 0 Q (F0 m 2 ls []) := by
    intro j
    induction j with
    | zero => intro i wa H locs ls hi hj hv hI hl; exact absurd hj (by omega)
    | succ j ih =>
      intro i wa H locs ls hi hj hv hI hl
      refine lv_iload_n hx hb dX1_takeFixed_2 rfl (lv_at hl 1 rfl) ?_
      refine lv_aload_n hx hb dX1_takeFixed_3 rfl (lv_at hl 0 rfl) ?_
      refine r_getU (v := .int (nI n)) hC hI 10 (by decide) q38 rfl rfl dX1_takeFixed_4 ?_
      refine r_ge (tgt := 28) hx hb dX1_takeFixed_7 (by decide) (by omega) (by omega) (fun c_7 => ?_) (fun c_7 => ?_)
      · skip
        exact hE 28 ls H locs (n, ct, sk, fc, ff, ft, bx, ub, fx, wa, le, pa, qu) dX1_takeFixed_28 (⟨wa, rfl, fun v hv2 => hv v (by omega)⟩) hI
      · skip
        refine lv_aload_n hx hb dX1_takeFixed_10 rfl (lv_at hl 0 rfl) ?_
        refine r_getU (v := .ref (a 7)) hC hI 6 (by decide) q34 rfl rfl dX1_takeFixed_11 ?_
        refine lv_iload_n hx hb dX1_takeFixed_14 rfl (lv_at hl 1 rfl) ?_
        refine lv_aload_n hx hb dX1_takeFixed_15 rfl (lv_at hl 0 rfl) ?_
        refine r_getU (v := .ref (a 6)) hC hI 5 (by decide) q33 rfl rfl dX1_takeFixed_16 ?_
        refine lv_iload_n hx hb dX1_takeFixed_19 rfl (lv_at hl 1 rfl) ?_
        refine r_ald (N := 10) (f := fx) (j := i) hC hI 6 wU_g6 (by omega) (by decide) dX1_takeFixed_20 ?_
        refine r_ast (N := 10) (f := wa) (j := i) (x := fx i) (ws' := wU d a (n, ct, sk, fc, ff, ft, bx, ub, fx, (updN wa i (fx i)), le, pa, qu)) hC hI 7 wU_g7 (by omega) (by decide) wU_s7 dX1_takeFixed_21 (fun H locs hI => ?_)
        refine lv_iinc (v := nI (i + 1)) (lv' := [(1, .int (nI (i + 1))), (0, .ref (a 0))]) hx hb dX1_takeFixed_22 hl (k := 1) rfl (nI_1 i) (by decide) rfl (fun ls hl => ?_)
        refine lv_goto (tgt := 2) hx hb dX1_takeFixed_25 (by decide) ?_
        exact ih (i + 1) (updN wa i (fx i)) H locs ls (by omega) (by omega) (lt_s (fun v q => by rw [updN_n _ _ (by omega)]; exact hv v q) (updN_s _ _ _)) hI (lv_sub hl [1, 0] rfl)
  refine lv_iconst (v := nI 0) hx hb dX1_takeFixed_0 (by decide +kernel) ?_
  refine lv_istore_n (lv' := [(1, .int (nI 0)), (0, .ref (a 0))]) hx hb dX1_takeFixed_1 rfl hl (by decide) rfl (fun ls hl => ?_)
  exact L1 (n + 1) 0 wa H locs ls (by omega) (by omega) lt_0 hI (lv_sub hl [1, 0] rfl)
set_option maxHeartbeats 4000000 in
/-- search(): breadth first, over what is left -/
theorem mU_search (l : Launch) (D : va_G) (d : ClassId) (a : Nat → Nat) (n ct sk : Nat) (fc ff ft bx ub fx wa le pa qu : Nat → Nat) (hB : pairB le) : qV l yX1_search cX1_search 4 ro0 D d (wU d a) (n, ct, sk, fc, ff, ft, bx, ub, fx, wa, le, pa, qu) [.ref (a 0)] (fun u => ∃ pa' qu' : Nat → Nat, u = (n, ct, sk, fc, ff, ft, bx, ub, fx, wa, le, pa', qu') ∧ srch le pa') := by
  refine qV_of RX1 rfl (by decide) (Nat.le_of_ble_eq_true rfl) ?_
  intro p e s m below meth c0 A Q H locs ls hC hA hI hl hE
  have hx := hC.1.1
  have hb := hC.1.2.1
  have hown := hC.1.2.2.2.1
  have hts := hC.1.2.2.2.2
  have hl : lv_has ls 4 [(0, .ref (a 0))] := hl
  have L2 : ∀ (j : Nat) (k : Nat) (qd : Nat) (pa : Nat → Nat) (qu : Nat → Nat) (H : Heap) (locs : List Loc) (ls : Array Slot), (13 ≤ k + j) → (k ≤ 12) → (seI le pa qu qd k 0) → IW D A s.heap (wU d a (n, ct, sk, fc, ff, ft, bx, ub, fx, wa, le, pa, qu)) H locs → lv_has ls 4 [(0, .ref (a 0)), (1, .int (nI qd)), (2, .int (nI k))] → W p l e ro0 s m ([.ref (a 0)] : List Value).toArray below meth c0 H locs 0 0 Q (F0 m 42 ls []) := by
    intro j
    induction j with
    | zero => intro k qd pa qu H locs ls hj hk hv hI hl; exact absurd hj (by omega)
    | succ j ih =>
      intro k qd pa qu H locs ls hj hk hv hI hl
      have hqd := seI_qd hv
      refine lv_iload_n hx hb dX1_search_42 rfl (lv_at hl 2 rfl) ?_
      refine lv_bipush (v := nI 12) hx hb dX1_search_43 (by decide +kernel) ?_
      refine r_ge (tgt := 124) hx hb dX1_search_45 (by decide) (by omega) (by omega) (fun c_45 => ?_) (fun c_45 => ?_)
      · skip
        exact hE 124 ls H locs (n, ct, sk, fc, ff, ft, bx, ub, fx, wa, le, pa, qu) dX1_search_124 (⟨pa, qu, rfl, seI_end hv (by omega)⟩) hI
      · skip
        refine lv_iload_n hx hb dX1_search_48 rfl (lv_at hl 2 rfl) ?_
        refine lv_iload_n hx hb dX1_search_49 rfl (lv_at hl 1 rfl) ?_
        refine r_ge (tgt := 124) hx hb dX1_search_50 (by decide) (by omega) (by omega) (fun c_50 => ?_) (fun c_50 => ?_)
        · skip
          exact hE 124 ls H locs (n, ct, sk, fc, ff, ft, bx, ub, fx, wa, le, pa, qu) dX1_search_124 (⟨pa, qu, rfl, seI_end hv (by omega)⟩) hI
        · skip
          have ih0 := ih
          refine lv_iconst (v := nI 0) hx hb dX1_search_53 (by decide +kernel) ?_
          refine lv_istore_n (lv' := [(3, .int (nI 0)), (0, .ref (a 0)), (1, .int (nI qd)), (2, .int (nI k))]) hx hb dX1_search_54 rfl hl (by decide) rfl (fun ls hl => ?_)
          have hI0 := hI
          have hl0 := hl
          have hkq := c_50
          clear hI hl
          have L3 : ∀ (j : Nat) (v : Nat) (qd : Nat) (pa : Nat → Nat) (qu : Nat → Nat) (H : Heap) (locs : List Loc) (ls : Array Slot), (13 ≤ v + j) → (v ≤ 12) → (k < qd) → (seI le pa qu qd k v) → IW D A s.heap (wU d a (n, ct, sk, fc, ff, ft, bx, ub, fx, wa, le, pa, qu)) H locs → lv_has ls 4 [(0, .ref (a 0)), (1, .int (nI qd)), (2, .int (nI k)), (3, .int (nI v))] → W p l e ro0 s m ([.ref (a 0)] : List Value).toArray below meth c0 H locs 0 0 Q (F0 m 55 ls []) := by
            intro j
            induction j with
            | zero => intro v qd pa qu H locs ls hj hv12 hkq hv hI hl; exact absurd hj (by omega)
            | succ j ih =>
              intro v qd pa qu H locs ls hj hv12 hkq hv hI hl
              have hqd := seI_qd hv
              refine lv_iload_n hx hb dX1_search_55 rfl (lv_at hl 3 rfl) ?_
              refine lv_bipush (v := nI 12) hx hb dX1_search_56 (by decide +kernel) ?_
              refine r_ge (tgt := 118) hx hb dX1_search_58 (by decide) (by omega) (by omega) (fun c_58 => ?_) (fun c_58 => ?_)
              · skip
                have e12 : v = 12 := by omega
                rw [e12] at hv
                refine lv_iinc (v := nI (k + 1)) (lv' := [(2, .int (nI (k + 1))), (0, .ref (a 0)), (1, .int (nI qd)), (3, .int (nI v))]) hx hb dX1_search_118 hl (k := 2) rfl (nI_1 k) (by decide) rfl (fun ls hl => ?_)
                refine lv_goto (tgt := 42) hx hb dX1_search_121 (by decide) ?_
                exact ih0 (k + 1) qd pa qu H locs ls (by omega) (by omega) (seI_next hv) hI (lv_sub hl [1, 2, 0] rfl)
              · skip
                have hpa := seI_pa hv c_58
                have hqk := hv.2.2.2.1 k hkq
                have hle : 12 * qu k + v < 144 := by omega
                have hl31 := pairB_lt hB hle
                refine lv_aload_n hx hb dX1_search_61 rfl (lv_at hl 0 rfl) ?_
                refine r_getU (v := .ref (a 9)) hC hI 8 (by decide) q36 rfl rfl dX1_search_62 ?_
                refine lv_iload_n hx hb dX1_search_65 rfl (lv_at hl 3 rfl) ?_
                refine r_ald (N := 12) (f := pa) (j := v) hC hI 9 wU_g9 (by omega) (by decide) dX1_search_66 ?_
                refine lv_iconst (v := nI nNone) hx hb dX1_search_67 (by decide +kernel) ?_
                refine r_ne (tgt := 112) hx hb dX1_search_68 (by decide) hpa (by decide) (fun c_68 => ?_) (fun c_68 => ?_)
                · skip
                  refine lv_iinc (v := nI (v + 1)) (lv' := [(3, .int (nI (v + 1))), (0, .ref (a 0)), (1, .int (nI qd)), (2, .int (nI k))]) hx hb dX1_search_112 hl (k := 3) rfl (nI_1 v) (by decide) rfl (fun ls hl => ?_)
                  refine lv_goto (tgt := 55) hx hb dX1_search_115 (by decide) ?_
                  exact ih (v + 1) qd pa qu H locs ls (by omega) (by omega) hkq (seI_no hv (Or.inl c_68)) hI (lv_sub hl [1, 2, 3, 0] rfl)
                · skip
                  refine lv_aload_n hx hb dX1_search_71 rfl (lv_at hl 0 rfl) ?_
                  refine r_getU (v := .ref (a 8)) hC hI 7 (by decide) q35 rfl rfl dX1_search_72 ?_
                  refine lv_bipush (v := nI 12) hx hb dX1_search_75 (by decide +kernel) ?_
                  refine lv_aload_n hx hb dX1_search_77 rfl (lv_at hl 0 rfl) ?_
                  refine r_getU (v := .ref (a 10)) hC hI 9 (by decide) q37 rfl rfl dX1_search_78 ?_
                  refine lv_iload_n hx hb dX1_search_81 rfl (lv_at hl 2 rfl) ?_
                  refine r_ald (N := 12) (f := qu) (j := k) hC hI 10 wU_g10 (by omega) (by decide) dX1_search_82 ?_
                  refine r_mul hx hb dX1_search_83 ?_
                  refine lv_iload_n hx hb dX1_search_84 rfl (lv_at hl 3 rfl) ?_
                  refine r_add hx hb dX1_search_85 ?_
                  refine r_ald (N := 144) (f := le) (j := (12 * (qu k)) + v) hC hI 8 wU_g8 (by omega) (by decide) dX1_search_86 ?_
                  refine r_if_le (tgt := 112) hx hb dX1_search_87 (by decide) hl31 (fun c_87 => ?_) (fun c_87 => ?_)
                  · skip
                    refine lv_iinc (v := nI (v + 1)) (lv' := [(3, .int (nI (v + 1))), (0, .ref (a 0)), (1, .int (nI qd)), (2, .int (nI k))]) hx hb dX1_search_112 hl (k := 3) rfl (nI_1 v) (by decide) rfl (fun ls hl => ?_)
                    refine lv_goto (tgt := 55) hx hb dX1_search_115 (by decide) ?_
                    exact ih (v + 1) qd pa qu H locs ls (by omega) (by omega) hkq (seI_no hv (Or.inr c_87)) hI (lv_sub hl [1, 2, 3, 0] rfl)
                  · skip
                    have hlt := seI_lt hv c_58 c_68
                    refine lv_aload_n hx hb dX1_search_90 rfl (lv_at hl 0 rfl) ?_
                    refine r_getU (v := .ref (a 9)) hC hI 8 (by decide) q36 rfl rfl dX1_search_91 ?_
                    refine lv_iload_n hx hb dX1_search_94 rfl (lv_at hl 3 rfl) ?_
                    refine lv_aload_n hx hb dX1_search_95 rfl (lv_at hl 0 rfl) ?_
                    refine r_getU (v := .ref (a 10)) hC hI 9 (by decide) q37 rfl rfl dX1_search_96 ?_
                    refine lv_iload_n hx hb dX1_search_99 rfl (lv_at hl 2 rfl) ?_
                    refine r_ald (N := 12) (f := qu) (j := k) hC hI 10 wU_g10 (by omega) (by decide) dX1_search_100 ?_
                    refine r_ast (N := 12) (f := pa) (j := v) (x := qu k) (ws' := wU d a (n, ct, sk, fc, ff, ft, bx, ub, fx, wa, le, (updN pa v (qu k)), qu)) hC hI 9 wU_g9 (by omega) (by decide) wU_s9 dX1_search_101 (fun H locs hI => ?_)
                    refine lv_aload_n hx hb dX1_search_102 rfl (lv_at hl 0 rfl) ?_
                    refine r_getU (v := .ref (a 10)) hC hI 9 (by decide) q37 rfl rfl dX1_search_103 ?_
                    refine lv_iload_n hx hb dX1_search_106 rfl (lv_at hl 1 rfl) ?_
                    refine lv_iload_n hx hb dX1_search_107 rfl (lv_at hl 3 rfl) ?_
                    refine r_ast (N := 12) (f := qu) (j := qd) (x := v) (ws' := wU d a (n, ct, sk, fc, ff, ft, bx, ub, fx, wa, le, (updN pa v (qu k)), (updN qu qd v))) hC hI 10 wU_g10 (by omega) (by decide) wU_s10 dX1_search_108 (fun H locs hI => ?_)
                    refine lv_iinc (v := nI (qd + 1)) (lv' := [(1, .int (nI (qd + 1))), (0, .ref (a 0)), (2, .int (nI k)), (3, .int (nI v))]) hx hb dX1_search_109 hl (k := 1) rfl (nI_1 qd) (by decide) rfl (fun ls hl => ?_)
                    refine lv_iinc (v := nI (v + 1)) (lv' := [(3, .int (nI (v + 1))), (1, .int (nI (qd + 1))), (0, .ref (a 0)), (2, .int (nI k))]) hx hb dX1_search_112 hl (k := 3) rfl (nI_1 v) (by decide) rfl (fun ls hl => ?_)
                    refine lv_goto (tgt := 55) hx hb dX1_search_115 (by decide) ?_
                    exact ih (v + 1) (qd + 1) (updN pa v (qu k)) (updN qu qd v) H locs ls (by omega) (by omega) (by omega) (seI_add hv hkq c_58 c_68 c_87) hI (lv_sub hl [2, 1, 3, 0] rfl)
          exact L3 13 0 qd pa qu H locs ls (by omega) (by omega) c_50 hv hI0 (lv_sub hl0 [1, 2, 3, 0] rfl)
  have L1 : ∀ (j : Nat) (i : Nat) (pa : Nat → Nat) (H : Heap) (locs : List Loc) (ls : Array Slot), (i ≤ 12) → (13 ≤ i + j) → (∀ v, v < i → pa v = nNone) → IW D A s.heap (wU d a (n, ct, sk, fc, ff, ft, bx, ub, fx, wa, le, pa, qu)) H locs → lv_has ls 4 [(0, .ref (a 0)), (1, .int (nI i))] → W p l e ro0 s m ([.ref (a 0)] : List Value).toArray below meth c0 H locs 0 0 Q (F0 m 2 ls []) := by
    intro j
    induction j with
    | zero => intro i pa H locs ls hi hj hv hI hl; exact absurd hj (by omega)
    | succ j ih =>
      intro i pa H locs ls hi hj hv hI hl
      refine lv_iload_n hx hb dX1_search_2 rfl (lv_at hl 1 rfl) ?_
      refine lv_bipush (v := nI 12) hx hb dX1_search_3 (by decide +kernel) ?_
      refine r_ge (tgt := 21) hx hb dX1_search_5 (by decide) (by omega) (by omega) (fun c_5 => ?_) (fun c_5 => ?_)
      · skip
        refine lv_aload_n hx hb dX1_search_21 rfl (lv_at hl 0 rfl) ?_
        refine r_getU (v := .ref (a 9)) hC hI 8 (by decide) q36 rfl rfl dX1_search_22 ?_
        refine lv_bipush (v := nI 10) hx hb dX1_search_25 (by decide +kernel) ?_
        refine lv_bipush (v := nI 10) hx hb dX1_search_27 (by decide +kernel) ?_
        refine r_ast (N := 12) (f := pa) (j := 10) (x := 10) (ws' := wU d a (n, ct, sk, fc, ff, ft, bx, ub, fx, wa, le, (updN pa 10 10), qu)) hC hI 9 wU_g9 (by omega) (by decide) wU_s9 dX1_search_29 (fun H locs hI => ?_)
        refine lv_aload_n hx hb dX1_search_30 rfl (lv_at hl 0 rfl) ?_
        refine r_getU (v := .ref (a 10)) hC hI 9 (by decide) q37 rfl rfl dX1_search_31 ?_
        refine lv_iconst (v := nI 0) hx hb dX1_search_34 (by decide +kernel) ?_
        refine lv_bipush (v := nI 10) hx hb dX1_search_35 (by decide +kernel) ?_
        refine r_ast (N := 12) (f := qu) (j := 0) (x := 10) (ws' := wU d a (n, ct, sk, fc, ff, ft, bx, ub, fx, wa, le, (updN pa 10 10), (updN qu 0 10))) hC hI 10 wU_g10 (by omega) (by decide) wU_s10 dX1_search_37 (fun H locs hI => ?_)
        refine lv_iconst (v := nI 1) hx hb dX1_search_38 (by decide +kernel) ?_
        refine lv_istore_n (lv' := [(1, .int (nI 1)), (0, .ref (a 0))]) hx hb dX1_search_39 rfl hl (by decide) rfl (fun ls hl => ?_)
        refine lv_iconst (v := nI 0) hx hb dX1_search_40 (by decide +kernel) ?_
        refine lv_istore_n (lv' := [(2, .int (nI 0)), (1, .int (nI 1)), (0, .ref (a 0))]) hx hb dX1_search_41 rfl hl (by decide) rfl (fun ls hl => ?_)
        exact L2 13 0 1 (updN pa 10 10) (updN qu 0 10) H locs ls (by omega) (by omega) (seI_0 (fun v q => hv v (by omega))) hI (lv_sub hl [2, 1, 0] rfl)
      · skip
        refine lv_aload_n hx hb dX1_search_8 rfl (lv_at hl 0 rfl) ?_
        refine r_getU (v := .ref (a 9)) hC hI 8 (by decide) q36 rfl rfl dX1_search_9 ?_
        refine lv_iload_n hx hb dX1_search_12 rfl (lv_at hl 1 rfl) ?_
        refine lv_iconst (v := nI nNone) hx hb dX1_search_13 (by decide +kernel) ?_
        refine r_ast (N := 12) (f := pa) (j := i) (x := nNone) (ws' := wU d a (n, ct, sk, fc, ff, ft, bx, ub, fx, wa, le, (updN pa i nNone), qu)) hC hI 9 wU_g9 (by omega) (by decide) wU_s9 dX1_search_14 (fun H locs hI => ?_)
        refine lv_iinc (v := nI (i + 1)) (lv' := [(1, .int (nI (i + 1))), (0, .ref (a 0))]) hx hb dX1_search_15 hl (k := 1) rfl (nI_1 i) (by decide) rfl (fun ls hl => ?_)
        refine lv_goto (tgt := 2) hx hb dX1_search_18 (by decide) ?_
        exact ih (i + 1) (updN pa i nNone) H locs ls (by omega) (by omega) (lt_s (fun v q => by rw [updN_n _ _ (by omega)]; exact hv v q) (updN_s _ _ _)) hI (lv_sub hl [1, 0] rfl)
  refine lv_iconst (v := nI 0) hx hb dX1_search_0 (by decide +kernel) ?_
  refine lv_istore_n (lv' := [(1, .int (nI 0)), (0, .ref (a 0))]) hx hb dX1_search_1 rfl hl (by decide) rfl (fun ls hl => ?_)
  exact L1 13 0 pa H locs ls (by omega) (by omega) lt_0 hI (lv_sub hl [1, 0] rfl)
end
section
set_option maxRecDepth 100000
/-! UnboxPlanner: push, reachingSink (printed by gen_u2.py) -/
set_option maxHeartbeats 4000000 in
/-- push(): the least that is left on the way found is pushed along it -/
theorem mU_push (l : Launch) (D : va_G) (d : ClassId) (a : Nat → Nat) (n ct sk : Nat) (fc ff ft bx ub fx wa le pa qu : Nat → Nat) (hB : pairB le) (hs : srch le pa) (h11 : pa 11 ≠ nNone) : qI l yX1_push cX1_push 5 .int ro0 D d (wU d a) (n, ct, sk, fc, ff, ft, bx, ub, fx, wa, le, pa, qu) [.ref (a 0)] (fun r u => ∃ (am : Nat) (le' : Nat → Nat), r = nI am ∧ u = (n, ct, sk, fc, ff, ft, bx, ub, fx, wa, le', pa, qu) ∧ pushOK le le' am) := by
  refine qI_of RX1 rfl (by decide) (Nat.le_of_ble_eq_true rfl) (fun _ _ _ => rfl) ?_
  intro p e s m below meth c0 A Q H locs ls hC hA hI hl hE
  have hx := hC.1.1
  have hb := hC.1.2.1
  have hown := hC.1.2.2.2.1
  have hts := hC.1.2.2.2.2
  have hl : lv_has ls 5 [(0, .ref (a 0))] := hl
  obtain ⟨rk, hr⟩ := pth_ok hs h11
  have L2 : ∀ (j : Nat) (am : Nat) (K : Nat) (k : Nat) (v : Nat) (lf : Nat → Nat) (H : Heap) (locs : List Loc) (ls : Array Slot), (13 ≤ k + j) → (k ≤ 12) → (puA le pa am K) → (pth pa K = 10) → (puB le pa lf am K k) → (v = pth pa k) → IW D A s.heap (wU d a (n, ct, sk, fc, ff, ft, bx, ub, fx, wa, lf, pa, qu)) H locs → lv_has ls 5 [(0, .ref (a 0)), (1, .int (nI am)), (2, .int (nI v)), (3, .int (nI k))] → W p l e ro0 s m ([.ref (a 0)] : List Value).toArray below meth c0 H locs 0 0 Q (F0 m 69 ls []) := by
    intro j
    induction j with
    | zero => intro am K k v lf H locs ls hj hk hA hK hb2 ev hI hl; exact absurd hj (by omega)
    | succ j ih =>
      intro am K k v lf H locs ls hj hk hA hK hb2 ev hI hl
      have hrk := hr k (fun i hi => hA.1 i (by have := hb2.1; omega))
      have hv12 : v < 12 := by rw [ev]; exact hrk.1
      have hk11 : k ≤ 11 := by have := hrk.2.2.1; omega
      refine lv_iload_n hx hb dX1_push_69 rfl (lv_at hl 3 rfl) ?_
      refine lv_bipush (v := nI 12) hx hb dX1_push_70 (by decide +kernel) ?_
      refine r_ge (tgt := 134) hx hb dX1_push_72 (by decide) (by omega) (by omega) (fun c_72 => ?_) (fun c_72 => ?_)
      · skip
        exact absurd c_72 (by omega)
      · skip
        refine lv_iload_n hx hb dX1_push_75 rfl (lv_at hl 2 rfl) ?_
        refine lv_bipush (v := nI 10) hx hb dX1_push_76 (by decide +kernel) ?_
        refine r_eq (tgt := 134) hx hb dX1_push_78 (by decide) (by omega) (by omega) (fun c_78 => ?_) (fun c_78 => ?_)
        · skip
          refine lv_iload_n hx hb dX1_push_134 rfl (lv_at hl 1 rfl) ?_
          exact hE 135 ls H locs (nI am) (n, ct, sk, fc, ff, ft, bx, ub, fx, wa, lf, pa, qu) dX1_push_135 (⟨am, lf, rfl, rfl, puB_end hA hb2 (by rw [← ev]; exact c_78)⟩) hI
        · skip
          have hkK : k < K := by
            rcases Nat.lt_or_ge k K with q | q
            · exact q
            · exact absurd (by rw [ev, show k = K by have := hb2.1; omega]; exact hK) c_78
          have hpv : pa v < 12 := by rw [ev]; exact (hrk.2.2.2.2 (hA.1 k hkK)).2
          have hle : am ≤ lf (12 * pa v + v) := by rw [ev]; exact hb2.2.1 k (Nat.le_refl k) hkK
          have hstep := puB_s hs h11 hA.1 hb2 hkK
          rw [← ev] at hstep
          refine lv_aload_n hx hb dX1_push_81 rfl (lv_at hl 0 rfl) ?_
          refine r_getU (v := .ref (a 8)) hC hI 7 (by decide) q35 rfl rfl dX1_push_82 ?_
          refine lv_bipush (v := nI 12) hx hb dX1_push_85 (by decide +kernel) ?_
          refine lv_aload_n hx hb dX1_push_87 rfl (lv_at hl 0 rfl) ?_
          refine r_getU (v := .ref (a 9)) hC hI 8 (by decide) q36 rfl rfl dX1_push_88 ?_
          refine lv_iload_n hx hb dX1_push_91 rfl (lv_at hl 2 rfl) ?_
          refine r_ald (N := 12) (f := pa) (j := v) hC hI 9 wU_g9 (by omega) (by decide) dX1_push_92 ?_
          refine r_mul hx hb dX1_push_93 ?_
          refine lv_iload_n hx hb dX1_push_94 rfl (lv_at hl 2 rfl) ?_
          refine r_add hx hb dX1_push_95 ?_
          refine lv_dup2_11 hx hb dX1_push_96 rfl rfl ?_
          refine r_ald (N := 144) (f := lf) (j := (12 * (pa v)) + v) hC hI 8 wU_g8 (by omega) (by decide) dX1_push_97 ?_
          refine lv_iload_n hx hb dX1_push_98 rfl (lv_at hl 1 rfl) ?_
          refine r_sub hx hb hle dX1_push_99 ?_
          refine r_ast (N := 144) (f := lf) (j := (12 * (pa v)) + v) (x := (lf ((12 * (pa v)) + v)) - am) (ws' := wU d a (n, ct, sk, fc, ff, ft, bx, ub, fx, wa, (updN lf ((12 * (pa v)) + v) ((lf ((12 * (pa v)) + v)) - am)), pa, qu)) hC hI 8 wU_g8 (by omega) (by decide) wU_s8 dX1_push_100 (fun H locs hI => ?_)
          refine lv_aload_n hx hb dX1_push_101 rfl (lv_at hl 0 rfl) ?_
          refine r_getU (v := .ref (a 8)) hC hI 7 (by decide) q35 rfl rfl dX1_push_102 ?_
          refine lv_bipush (v := nI 12) hx hb dX1_push_105 (by decide +kernel) ?_
          refine lv_iload_n hx hb dX1_push_107 rfl (lv_at hl 2 rfl) ?_
          refine r_mul hx hb dX1_push_108 ?_
          refine lv_aload_n hx hb dX1_push_109 rfl (lv_at hl 0 rfl) ?_
          refine r_getU (v := .ref (a 9)) hC hI 8 (by decide) q36 rfl rfl dX1_push_110 ?_
          refine lv_iload_n hx hb dX1_push_113 rfl (lv_at hl 2 rfl) ?_
          refine r_ald (N := 12) (f := pa) (j := v) hC hI 9 wU_g9 (by omega) (by decide) dX1_push_114 ?_
          refine r_add hx hb dX1_push_115 ?_
          refine lv_dup2_11 hx hb dX1_push_116 rfl rfl ?_
          refine r_ald (N := 144) (f := (updN lf ((12 * (pa v)) + v) ((lf ((12 * (pa v)) + v)) - am))) (j := (12 * v) + (pa v)) hC hI 8 wU_g8 (by omega) (by decide) dX1_push_117 ?_
          refine lv_iload_n hx hb dX1_push_118 rfl (lv_at hl 1 rfl) ?_
          refine r_add hx hb dX1_push_119 ?_
          refine r_ast (N := 144) (f := (updN lf ((12 * (pa v)) + v) ((lf ((12 * (pa v)) + v)) - am))) (j := (12 * v) + (pa v)) (x := ((updN lf ((12 * (pa v)) + v) ((lf ((12 * (pa v)) + v)) - am)) ((12 * v) + (pa v))) + am) (ws' := wU d a (n, ct, sk, fc, ff, ft, bx, ub, fx, wa, (updN (updN lf ((12 * (pa v)) + v) ((lf ((12 * (pa v)) + v)) - am)) ((12 * v) + (pa v)) (((updN lf ((12 * (pa v)) + v) ((lf ((12 * (pa v)) + v)) - am)) ((12 * v) + (pa v))) + am)), pa, qu)) hC hI 8 wU_g8 (by omega) (by decide) wU_s8 dX1_push_120 (fun H locs hI => ?_)
          refine lv_aload_n hx hb dX1_push_121 rfl (lv_at hl 0 rfl) ?_
          refine r_getU (v := .ref (a 9)) hC hI 8 (by decide) q36 rfl rfl dX1_push_122 ?_
          refine lv_iload_n hx hb dX1_push_125 rfl (lv_at hl 2 rfl) ?_
          refine r_ald (N := 12) (f := pa) (j := v) hC hI 9 wU_g9 (by omega) (by decide) dX1_push_126 ?_
          refine lv_istore_n (lv' := [(2, .int (nI (pa v))), (0, .ref (a 0)), (1, .int (nI am)), (3, .int (nI k))]) hx hb dX1_push_127 rfl hl (by decide) rfl (fun ls hl => ?_)
          refine lv_iinc (v := nI (k + 1)) (lv' := [(3, .int (nI (k + 1))), (2, .int (nI (pa v))), (0, .ref (a 0)), (1, .int (nI am))]) hx hb dX1_push_128 hl (k := 3) rfl (nI_1 k) (by decide) rfl (fun ls hl => ?_)
          refine lv_goto (tgt := 69) hx hb dX1_push_131 (by decide) ?_
          exact ih am K (k + 1) (pa v) _ H locs ls (by omega) (by omega) hA hK hstep (by rw [ev]; rfl) hI (lv_sub hl [2, 3, 1, 0] rfl)
  have L1 : ∀ (j : Nat) (am : Nat) (k : Nat) (v : Nat) (H : Heap) (locs : List Loc) (ls : Array Slot), (13 ≤ k + j) → (k ≤ 12) → (puA le pa am k) → (v = pth pa k) → IW D A s.heap (wU d a (n, ct, sk, fc, ff, ft, bx, ub, fx, wa, le, pa, qu)) H locs → lv_has ls 5 [(0, .ref (a 0)), (1, .int (nI am)), (2, .int (nI v)), (3, .int (nI k))] → W p l e ro0 s m ([.ref (a 0)] : List Value).toArray below meth c0 H locs 0 0 Q (F0 m 8 ls []) := by
    intro j
    induction j with
    | zero => intro am k v H locs ls hj hk hA ev hI hl; exact absurd hj (by omega)
    | succ j ih =>
      intro am k v H locs ls hj hk hA ev hI hl
      have hrk := hr k (fun i hi => hA.1 i hi)
      have hv12 : v < 12 := by rw [ev]; exact hrk.1
      have hk11 : k ≤ 11 := by have := hrk.2.2.1; omega
      have ham := hA.2.2.1
      refine lv_iload_n hx hb dX1_push_8 rfl (lv_at hl 3 rfl) ?_
      refine lv_bipush (v := nI 12) hx hb dX1_push_9 (by decide +kernel) ?_
      refine r_ge (tgt := 64) hx hb dX1_push_11 (by decide) (by omega) (by omega) (fun c_11 => ?_) (fun c_11 => ?_)
      · skip
        exact absurd c_11 (by omega)
      · skip
        refine lv_iload_n hx hb dX1_push_14 rfl (lv_at hl 2 rfl) ?_
        refine lv_bipush (v := nI 10) hx hb dX1_push_15 (by decide +kernel) ?_
        refine r_eq (tgt := 64) hx hb dX1_push_17 (by decide) (by omega) (by omega) (fun c_17 => ?_) (fun c_17 => ?_)
        · skip
          have hA2 := hA
          have ev10 : pth pa k = 10 := by rw [← ev]; exact c_17
          refine lv_bipush (v := nI 11) hx hb dX1_push_64 (by decide +kernel) ?_
          refine lv_istore_n (lv' := [(2, .int (nI 11)), (0, .ref (a 0)), (1, .int (nI am)), (3, .int (nI k))]) hx hb dX1_push_66 rfl hl (by decide) rfl (fun ls hl => ?_)
          refine lv_iconst (v := nI 0) hx hb dX1_push_67 (by decide +kernel) ?_
          refine lv_istore_n (lv' := [(3, .int (nI 0)), (2, .int (nI 11)), (0, .ref (a 0)), (1, .int (nI am))]) hx hb dX1_push_68 rfl hl (by decide) rfl (fun ls hl => ?_)
          exact L2 13 am k 0 11 le H locs ls (by omega) (by omega) hA ev10 (puB_0 hA) rfl hI (lv_sub hl [2, 3, 1, 0] rfl)
        · skip
          have hne : pth pa k ≠ 10 := by rw [← ev]; exact c_17
          have hpv : pa v < 12 := by rw [ev]; exact (hrk.2.2.2.2 hne).2
          have hpos : 0 < le (12 * pa v + v) := by rw [ev]; exact (hrk.2.2.2.2 hne).1
          have hl31 := pairB_lt hB (show 12 * pa v + v < 144 by omega)
          refine lv_aload_n hx hb dX1_push_20 rfl (lv_at hl 0 rfl) ?_
          refine r_getU (v := .ref (a 8)) hC hI 7 (by decide) q35 rfl rfl dX1_push_21 ?_
          refine lv_bipush (v := nI 12) hx hb dX1_push_24 (by decide +kernel) ?_
          refine lv_aload_n hx hb dX1_push_26 rfl (lv_at hl 0 rfl) ?_
          refine r_getU (v := .ref (a 9)) hC hI 8 (by decide) q36 rfl rfl dX1_push_27 ?_
          refine lv_iload_n hx hb dX1_push_30 rfl (lv_at hl 2 rfl) ?_
          refine r_ald (N := 12) (f := pa) (j := v) hC hI 9 wU_g9 (by omega) (by decide) dX1_push_31 ?_
          refine r_mul hx hb dX1_push_32 ?_
          refine lv_iload_n hx hb dX1_push_33 rfl (lv_at hl 2 rfl) ?_
          refine r_add hx hb dX1_push_34 ?_
          refine r_ald (N := 144) (f := le) (j := (12 * (pa v)) + v) hC hI 8 wU_g8 (by omega) (by decide) dX1_push_35 ?_
          refine lv_istore (lv' := [(4, .int (nI (le ((12 * (pa v)) + v)))), (0, .ref (a 0)), (1, .int (nI am)), (2, .int (nI v)), (3, .int (nI k))]) hx hb dX1_push_36 hl (by decide) rfl (fun ls hl => ?_)
          refine lv_iload hx hb dX1_push_38 (lv_at hl 0 rfl) ?_
          refine lv_iload_n hx hb dX1_push_40 rfl (lv_at hl 2 rfl) ?_
          refine r_ge (tgt := 49) hx hb dX1_push_41 (by decide) (by omega) (by omega) (fun c_41 => ?_) (fun c_41 => ?_)
          · skip
            refine lv_iload_n hx hb dX1_push_49 rfl (lv_at hl 2 rfl) ?_
            refine lv_istore_n (lv' := [(1, .int (nI am)), (4, .int (nI (le ((12 * (pa v)) + v)))), (0, .ref (a 0)), (2, .int (nI v)), (3, .int (nI k))]) hx hb dX1_push_50 rfl hl (by decide) rfl (fun ls hl => ?_)
            refine lv_aload_n hx hb dX1_push_51 rfl (lv_at hl 2 rfl) ?_
            refine r_getU (v := .ref (a 9)) hC hI 8 (by decide) q36 rfl rfl dX1_push_52 ?_
            refine lv_iload_n hx hb dX1_push_55 rfl (lv_at hl 3 rfl) ?_
            refine r_ald (N := 12) (f := pa) (j := v) hC hI 9 wU_g9 (by omega) (by decide) dX1_push_56 ?_
            refine lv_istore_n (lv' := [(2, .int (nI (pa v))), (1, .int (nI am)), (4, .int (nI (le ((12 * (pa v)) + v)))), (0, .ref (a 0)), (3, .int (nI k))]) hx hb dX1_push_57 rfl hl (by decide) rfl (fun ls hl => ?_)
            refine lv_iinc (v := nI (k + 1)) (lv' := [(3, .int (nI (k + 1))), (2, .int (nI (pa v))), (1, .int (nI am)), (4, .int (nI (le ((12 * (pa v)) + v)))), (0, .ref (a 0))]) hx hb dX1_push_58 hl (k := 4) rfl (nI_1 k) (by decide) rfl (fun ls hl => ?_)
            refine lv_goto (tgt := 8) hx hb dX1_push_61 (by decide) ?_
            exact ih am (k + 1) (pa v) H locs ls (by omega) (by omega) (puA_s hA hne hA.2.1 (Nat.le_refl _) (by show _ ≤ le (12 * pa (pth pa k) + pth pa k); rw [← ev]; omega)) (by rw [ev]; rfl) hI (lv_sub hl [4, 2, 1, 0] rfl)
          · skip
            refine lv_iload hx hb dX1_push_44 (lv_at hl 0 rfl) ?_
            refine lv_goto (tgt := 50) hx hb dX1_push_46 (by decide) ?_
            refine lv_istore_n (lv' := [(1, .int (nI (le ((12 * (pa v)) + v)))), (4, .int (nI (le ((12 * (pa v)) + v)))), (0, .ref (a 0)), (2, .int (nI v)), (3, .int (nI k))]) hx hb dX1_push_50 rfl hl (by decide) rfl (fun ls hl => ?_)
            refine lv_aload_n hx hb dX1_push_51 rfl (lv_at hl 2 rfl) ?_
            refine r_getU (v := .ref (a 9)) hC hI 8 (by decide) q36 rfl rfl dX1_push_52 ?_
            refine lv_iload_n hx hb dX1_push_55 rfl (lv_at hl 3 rfl) ?_
            refine r_ald (N := 12) (f := pa) (j := v) hC hI 9 wU_g9 (by omega) (by decide) dX1_push_56 ?_
            refine lv_istore_n (lv' := [(2, .int (nI (pa v))), (1, .int (nI (le ((12 * (pa v)) + v)))), (4, .int (nI (le ((12 * (pa v)) + v)))), (0, .ref (a 0)), (3, .int (nI k))]) hx hb dX1_push_57 rfl hl (by decide) rfl (fun ls hl => ?_)
            refine lv_iinc (v := nI (k + 1)) (lv' := [(3, .int (nI (k + 1))), (2, .int (nI (pa v))), (1, .int (nI (le ((12 * (pa v)) + v)))), (4, .int (nI (le ((12 * (pa v)) + v)))), (0, .ref (a 0))]) hx hb dX1_push_58 hl (k := 4) rfl (nI_1 k) (by decide) rfl (fun ls hl => ?_)
            refine lv_goto (tgt := 8) hx hb dX1_push_61 (by decide) ?_
            exact ih (le ((12 * (pa v)) + v)) (k + 1) (pa v) H locs ls (by omega) (by omega) (puA_s hA hne (by omega) (by omega) (by show _ ≤ le (12 * pa (pth pa k) + pth pa k); rw [← ev]; exact Nat.le_refl _)) (by rw [ev]; rfl) hI (lv_sub hl [4, 2, 1, 0] rfl)
  refine lv_ldc (v := nI 100000) hx hb hown (hts _ q121) dX1_push_0 ?_
  refine lv_istore_n (lv' := [(1, .int (nI 100000)), (0, .ref (a 0))]) hx hb dX1_push_2 rfl hl (by decide) rfl (fun ls hl => ?_)
  refine lv_bipush (v := nI 11) hx hb dX1_push_3 (by decide +kernel) ?_
  refine lv_istore_n (lv' := [(2, .int (nI 11)), (1, .int (nI 100000)), (0, .ref (a 0))]) hx hb dX1_push_5 rfl hl (by decide) rfl (fun ls hl => ?_)
  refine lv_iconst (v := nI 0) hx hb dX1_push_6 (by decide +kernel) ?_
  refine lv_istore_n (lv' := [(3, .int (nI 0)), (2, .int (nI 11)), (1, .int (nI 100000)), (0, .ref (a 0))]) hx hb dX1_push_7 rfl hl (by decide) rfl (fun ls hl => ?_)
  exact L1 13 100000 0 11 H locs ls (by omega) (by omega) (puA_0 le pa) rfl hI (lv_sub hl [3, 2, 1, 0] rfl)
set_option maxHeartbeats 4000000 in
/-- reachingSink(): the values from which the sink can be reached -/
theorem mU_reachingSink (l : Launch) (D : va_G) (d : ClassId) (a : Nat → Nat) (n ct sk : Nat) (fc ff ft bx ub fx wa le pa qu : Nat → Nat) (hB : pairB le) (hn : n ≤ 10) : qI l yX1_reachingSink cX1_reachingSink 4 .int ro0 D d (wU d a) (n, ct, sk, fc, ff, ft, bx, ub, fx, wa, le, pa, qu) [.ref (a 0)] (fun r u => ∃ Sx : Nat, r = nI (Sx &&& (2 ^ n - 1)) ∧ u = (n, ct, sk, fc, ff, ft, bx, ub, fx, wa, le, pa, qu) ∧ bSnd le Sx ∧ bClo le Sx) := by
  refine qI_of RX1 rfl (by decide) (Nat.le_of_ble_eq_true rfl) (fun _ _ _ => rfl) ?_
  intro p e s m below meth c0 A Q H locs ls hC hA hI hl hE
  have hx := hC.1.1
  have hb := hC.1.2.1
  have hown := hC.1.2.2.2.1
  have hts := hC.1.2.2.2.2
  have hl : lv_has ls 4 [(0, .ref (a 0))] := hl
  have hp2 := pow10 hn
  have hp0 := Nat.two_pow_pos n
  have L2 : ∀ (j : Nat) (rd : Nat) (Sx : Nat) (H : Heap) (locs : List Loc) (ls : Array Slot), (13 ≤ rd + j) → (rd ≤ 12) → (rsO le Sx rd) → IW D A s.heap (wU d a (n, ct, sk, fc, ff, ft, bx, ub, fx, wa, le, pa, qu)) H locs → lv_has ls 4 [(0, .ref (a 0)), (1, .int (nI Sx)), (2, .int (nI rd))] → W p l e ro0 s m ([.ref (a 0)] : List Value).toArray below meth c0 H locs 0 0 Q (F0 m 6 ls []) := by
    intro j
    induction j with
    | zero => intro rd Sx H locs ls hj hr hv hI hl; exact absurd hj (by omega)
    | succ j ih =>
      intro rd Sx H locs ls hj hr hv hI hl
      refine lv_iload_n hx hb dX1_reachingSink_6 rfl (lv_at hl 2 rfl) ?_
      refine lv_bipush (v := nI 12) hx hb dX1_reachingSink_7 (by decide +kernel) ?_
      refine r_ge (tgt := 63) hx hb dX1_reachingSink_9 (by decide) (by omega) (by omega) (fun c_9 => ?_) (fun c_9 => ?_)
      · skip
        have er : rd = 12 := by omega
        rw [er] at hv
        have hend := rsO_end hv
        refine lv_iload_n hx hb dX1_reachingSink_63 rfl (lv_at hl 1 rfl) ?_
        refine lv_iconst (v := nI 1) hx hb dX1_reachingSink_64 (by decide +kernel) ?_
        refine lv_aload_n hx hb dX1_reachingSink_65 rfl (lv_at hl 0 rfl) ?_
        refine r_getU (v := .int (nI n)) hC hI 10 (by decide) q38 rfl rfl dX1_reachingSink_66 ?_
        refine r_shl1 hx hb (by omega) dX1_reachingSink_69 ?_
        refine lv_iconst (v := nI 1) hx hb dX1_reachingSink_70 (by decide +kernel) ?_
        refine r_sub hx hb hp0 dX1_reachingSink_71 ?_
        refine r_and hx hb dX1_reachingSink_72 ?_
        exact hE 73 ls H locs (nI (Sx &&& ((2 ^ n) - 1))) (n, ct, sk, fc, ff, ft, bx, ub, fx, wa, le, pa, qu) dX1_reachingSink_73 (⟨Sx, rfl, rfl, hend.1, hend.2⟩) hI
      · skip
        have ih0 := ih
        have hv0 := hv
        refine lv_iconst (v := nI 0) hx hb dX1_reachingSink_12 (by decide +kernel) ?_
        refine lv_istore_n (lv' := [(3, .int (nI 0)), (0, .ref (a 0)), (1, .int (nI Sx)), (2, .int (nI rd))]) hx hb dX1_reachingSink_13 rfl hl (by decide) rfl (fun ls hl => ?_)
        have hI0 := hI
        have hl0 := hl
        clear hI hl
        have L3 : ∀ (j : Nat) (v : Nat) (Sy : Nat) (H : Heap) (locs : List Loc) (ls : Array Slot), (145 ≤ v + j) → (v ≤ 144) → (rsI le Sx Sy v) → IW D A s.heap (wU d a (n, ct, sk, fc, ff, ft, bx, ub, fx, wa, le, pa, qu)) H locs → lv_has ls 4 [(0, .ref (a 0)), (1, .int (nI Sy)), (2, .int (nI rd)), (3, .int (nI v))] → W p l e ro0 s m ([.ref (a 0)] : List Value).toArray below meth c0 H locs 0 0 Q (F0 m 14 ls []) := by
          intro j
          induction j with
          | zero => intro v Sy H locs ls hj hv hw hI hl; exact absurd hj (by omega)
          | succ j ih =>
            intro v Sy H locs ls hj hv hw hI hl
            have hS := hw.1.2.1
            refine lv_iload_n hx hb dX1_reachingSink_14 rfl (lv_at hl 3 rfl) ?_
            refine lv_sipush (v := nI 144) hx hb dX1_reachingSink_15 (by decide +kernel) ?_
            refine r_ge (tgt := 57) hx hb dX1_reachingSink_18 (by decide) (by omega) (by omega) (fun c_18 => ?_) (fun c_18 => ?_)
            · skip
              have e144 : v = 144 := by omega
              rw [e144] at hw
              refine lv_iinc (v := nI (rd + 1)) (lv' := [(2, .int (nI (rd + 1))), (0, .ref (a 0)), (1, .int (nI Sy)), (3, .int (nI v))]) hx hb dX1_reachingSink_57 hl (k := 2) rfl (nI_1 rd) (by decide) rfl (fun ls hl => ?_)
              refine lv_goto (tgt := 6) hx hb dX1_reachingSink_60 (by decide) ?_
              exact ih0 (rd + 1) Sy H locs ls (by omega) (by omega) (rsI_end hv0 hw) hI (lv_sub hl [1, 2, 0] rfl)
            · skip
              have hl31 := pairB_lt hB c_18
              refine lv_aload_n hx hb dX1_reachingSink_21 rfl (lv_at hl 0 rfl) ?_
              refine r_getU (v := .ref (a 8)) hC hI 7 (by decide) q35 rfl rfl dX1_reachingSink_22 ?_
              refine lv_iload_n hx hb dX1_reachingSink_25 rfl (lv_at hl 3 rfl) ?_
              refine r_ald (N := 144) (f := le) (j := v) hC hI 8 wU_g8 (by omega) (by decide) dX1_reachingSink_26 ?_
              refine r_if_le (tgt := 51) hx hb dX1_reachingSink_27 (by decide) hl31 (fun c_27 => ?_) (fun c_27 => ?_)
              · skip
                refine lv_iinc (v := nI (v + 1)) (lv' := [(3, .int (nI (v + 1))), (0, .ref (a 0)), (1, .int (nI Sy)), (2, .int (nI rd))]) hx hb dX1_reachingSink_51 hl (k := 3) rfl (nI_1 v) (by decide) rfl (fun ls hl => ?_)
                refine lv_goto (tgt := 14) hx hb dX1_reachingSink_54 (by decide) ?_
                exact ih (v + 1) Sy H locs ls (by omega) (by omega) (rsI_no hw (Or.inl c_27)) hI (lv_sub hl [1, 2, 3, 0] rfl)
              · skip
                have hbb := bq_lt Sy (v % 12)
                refine lv_iload_n hx hb dX1_reachingSink_30 rfl (lv_at hl 1 rfl) ?_
                refine lv_iload_n hx hb dX1_reachingSink_31 rfl (lv_at hl 3 rfl) ?_
                refine lv_bipush (v := nI 12) hx hb dX1_reachingSink_32 (by decide +kernel) ?_
                refine r_rem hx hb (by omega) (by omega) (by omega) dX1_reachingSink_34 ?_
                refine r_shr hx hb (by omega) (by omega) dX1_reachingSink_35 ?_
                refine lv_iconst (v := nI 1) hx hb dX1_reachingSink_36 (by decide +kernel) ?_
                refine r_and1 hx hb dX1_reachingSink_37 ?_
                refine lv_iconst (v := nI 1) hx hb dX1_reachingSink_38 (by decide +kernel) ?_
                refine r_ne (tgt := 51) hx hb dX1_reachingSink_39 (by decide) (by omega) (by omega) (fun c_39 => ?_) (fun c_39 => ?_)
                · skip
                  refine lv_iinc (v := nI (v + 1)) (lv' := [(3, .int (nI (v + 1))), (0, .ref (a 0)), (1, .int (nI Sy)), (2, .int (nI rd))]) hx hb dX1_reachingSink_51 hl (k := 3) rfl (nI_1 v) (by decide) rfl (fun ls hl => ?_)
                  refine lv_goto (tgt := 14) hx hb dX1_reachingSink_54 (by decide) ?_
                  exact ih (v + 1) Sy H locs ls (by omega) (by omega) (rsI_no hw (Or.inr c_39)) hI (lv_sub hl [1, 2, 3, 0] rfl)
                · skip
                  refine lv_iload_n hx hb dX1_reachingSink_42 rfl (lv_at hl 1 rfl) ?_
                  refine lv_iconst (v := nI 1) hx hb dX1_reachingSink_43 (by decide +kernel) ?_
                  refine lv_iload_n hx hb dX1_reachingSink_44 rfl (lv_at hl 3 rfl) ?_
                  refine lv_bipush (v := nI 12) hx hb dX1_reachingSink_45 (by decide +kernel) ?_
                  refine r_div hx hb (by omega) (by omega) (by omega) dX1_reachingSink_47 ?_
                  refine r_shl1 hx hb (by omega) dX1_reachingSink_48 ?_
                  refine r_or hx hb dX1_reachingSink_49 ?_
                  refine lv_istore_n (lv' := [(1, .int (nI (Sy ||| (2 ^ (v / 12))))), (0, .ref (a 0)), (2, .int (nI rd)), (3, .int (nI v))]) hx hb dX1_reachingSink_50 rfl hl (by decide) rfl (fun ls hl => ?_)
                  refine lv_iinc (v := nI (v + 1)) (lv' := [(3, .int (nI (v + 1))), (1, .int (nI (Sy ||| (2 ^ (v / 12))))), (0, .ref (a 0)), (2, .int (nI rd))]) hx hb dX1_reachingSink_51 hl (k := 3) rfl (nI_1 v) (by decide) rfl (fun ls hl => ?_)
                  refine lv_goto (tgt := 14) hx hb dX1_reachingSink_54 (by decide) ?_
                  exact ih (v + 1) (Sy ||| (2 ^ (v / 12))) H locs ls (by omega) (by omega) (rsI_add c_18 hw c_27 c_39) hI (lv_sub hl [2, 1, 3, 0] rfl)
        exact L3 145 0 Sx H locs ls (by omega) (by omega) (rsI_0 hv0) hI0 (lv_sub hl0 [1, 2, 3, 0] rfl)
  refine lv_sipush (v := nI 2048) hx hb dX1_reachingSink_0 (by decide +kernel) ?_
  refine lv_istore_n (lv' := [(1, .int (nI 2048)), (0, .ref (a 0))]) hx hb dX1_reachingSink_3 rfl hl (by decide) rfl (fun ls hl => ?_)
  refine lv_iconst (v := nI 0) hx hb dX1_reachingSink_4 (by decide +kernel) ?_
  refine lv_istore_n (lv' := [(2, .int (nI 0)), (1, .int (nI 2048)), (0, .ref (a 0))]) hx hb dX1_reachingSink_5 rfl hl (by decide) rfl (fun ls hl => ?_)
  exact L2 13 0 2048 H locs ls (by omega) (by omega) (rsO_0 le) hI (lv_sub hl [2, 1, 0] rfl)
end
section
set_option maxRecDepth 100000
/-! UnboxPlanner: solve, notFromSource (printed by gen_u3.py) -/
set_option maxHeartbeats 4000000 in
/-- solve(): the network is built, flow is pushed until the sink is cut off -/
theorem mU_solve (l : Launch) (D : va_G) (d : ClassId) (a : Nat → Nat) (n ct sk : Nat) (fc ff ft bx ub fx wa le pa qu : Nat → Nat) (hg : gOK (n, ct, fc, ff, ft, bx, ub)) (hw : ∀ v, v < n → wa v ≤ 2) (hsk : sk < 2 ^ 32) : qI l yX1_solve cX1_solve 3 .int ro1 D d (wU d a) (n, ct, sk, fc, ff, ft, bx, ub, fx, wa, le, pa, qu) [.ref (a 0)] (fun r u => ∃ (T : Nat) (le' pa' qu' : Nat → Nat), r = nI T ∧ u = (n, ct, sk, fc, ff, ft, bx, ub, fx, wa, le', pa', qu') ∧ solOK (n, ct, fc, ff, ft, bx, ub) wa sk le' T) := by
  refine qI_of RX1 rfl (by decide) (Nat.le_of_ble_eq_true rfl) (fun _ _ _ => rfl) ?_
  intro p e s m below meth c0 A Q H locs ls hC hA hI hl hE
  have hx := hC.1.1
  have hb := hC.1.2.1
  have hown := hC.1.2.2.2.1
  have hts := hC.1.2.2.2.2
  have hl : lv_has ls 3 [(0, .ref (a 0))] := hl
  have hn : n ≤ 10 := hg.2.1
  have hn2 : 2 ≤ n := hg.1
  have hct : ct ≤ 20 := hg.2.2.1
  have hfc : ∀ j, fc j ≤ 60 := hg.2.2.2.1
  have hff : ∀ f, ff f < n := hg.2.2.2.2.1
  have hft : ∀ f, ft f < n := hg.2.2.2.2.2.1
  have hbx : ∀ f, bx f ≤ 30 := hg.2.2.2.2.2.2.1
  have hub : ∀ f, ub f ≤ 30 := hg.2.2.2.2.2.2.2
  have L4 : ∀ (j : Nat) (rd : Nat) (T : Nat) (le : Nat → Nat) (pa : Nat → Nat) (qu : Nat → Nat) (H : Heap) (locs : List Loc) (ls : Array Slot), (1202 ≤ rd + j) → (rd ≤ 1201) → (phD (n, ct, fc, ff, ft, bx, ub) wa sk le T rd) → IW D A s.heap (wU d a (n, ct, sk, fc, ff, ft, bx, ub, fx, wa, le, pa, qu)) H locs → lv_has ls 3 [(0, .ref (a 0)), (1, .int (nI T)), (2, .int (nI rd))] → W p l e ro1 s m ([.ref (a 0)] : List Value).toArray below meth c0 H locs 0 0 Q (F0 m 196 ls []) := by
    intro j
    induction j with
    | zero => intro rd T le pa qu H locs ls hj hr hv hI hl; exact absurd hj (by omega)
    | succ j ih =>
      intro rd T le pa qu H locs ls hj hr hv hI hl
      have hT := phD_T hg hw hv
      have hrT := hv.2.2
      refine lv_iload_n hx hb dX1_solve_196 rfl (lv_at hl 2 rfl) ?_
      refine lv_sipush (v := nI 2000) hx hb dX1_solve_197 (by decide +kernel) ?_
      refine r_ge (tgt := 234) hx hb dX1_solve_200 (by decide) (by omega) (by omega) (fun c_200 => ?_) (fun c_200 => ?_)
      · skip
        exact absurd c_200 (by omega)
      · skip
        refine lv_aload_n hx hb dX1_solve_203 rfl (lv_at hl 0 rfl) ?_
        refine go_v (rest := []) hC hA hI (mU_search l D d a n ct sk fc ff ft bx ub fx wa le pa qu hv.2.1) (ci := 0) rfl rfl 0 (lw_V q122 q124 qs5 q18 q125) (by decide +kernel) ⟨Nat.le_of_ble_eq_true rfl, Nat.le_of_ble_eq_true rfl⟩ rfl rfl rfl hl.1 rfl (Nat.le_of_ble_eq_true rfl) dX1_solve_204 ⟨Nat.zero_le _, Nat.zero_le _⟩ (fun u_204 H locs hp hI => ?_)
        obtain ⟨pa2, qu2, rfl, hs⟩ := hp
        refine lv_aload_n hx hb dX1_solve_207 rfl (lv_at hl 0 rfl) ?_
        refine r_getU (v := .ref (a 9)) hC hI 8 (by decide) q36 rfl rfl dX1_solve_208 ?_
        refine lv_bipush (v := nI 11) hx hb dX1_solve_211 (by decide +kernel) ?_
        refine r_ald (N := 12) (f := pa2) (j := 11) hC hI 9 wU_g9 (by omega) (by decide) dX1_solve_213 ?_
        refine lv_iconst (v := nI nNone) hx hb dX1_solve_214 (by decide +kernel) ?_
        refine r_ne (tgt := 221) hx hb dX1_solve_215 (by decide) (srch_pa hs (by decide)) (by decide) (fun c_215 => ?_) (fun c_215 => ?_)
        · skip
          refine lv_iload_n hx hb dX1_solve_221 rfl (lv_at hl 1 rfl) ?_
          refine lv_aload_n hx hb dX1_solve_222 rfl (lv_at hl 0 rfl) ?_
          refine go_i (rest := [.int (nI T)]) hC hA hI (mU_push l D d a n ct sk fc ff ft bx ub fx wa le pa2 qu2 hv.2.1 hs c_215) (ci := 0) rfl rfl 0 (lw_V q126 q128 qs6 q18 q129) (by decide +kernel) ⟨Nat.le_of_ble_eq_true rfl, Nat.le_of_ble_eq_true rfl⟩ rfl rfl rfl hl.1 rfl (Nat.le_of_ble_eq_true rfl) dX1_solve_223 ⟨Nat.zero_le _, Nat.zero_le _⟩ (fun r_223 u_223 H locs hp hI => ?_)
          obtain ⟨am, le2, rfl, rfl, hp2⟩ := hp
          refine r_add hx hb dX1_solve_226 ?_
          refine lv_istore_n (lv' := [(1, .int (nI (T + am))), (0, .ref (a 0)), (2, .int (nI rd))]) hx hb dX1_solve_227 rfl hl (by decide) rfl (fun ls hl => ?_)
          refine lv_iinc (v := nI (rd + 1)) (lv' := [(2, .int (nI (rd + 1))), (1, .int (nI (T + am))), (0, .ref (a 0))]) hx hb dX1_solve_228 hl (k := 2) rfl (nI_1 rd) (by decide) rfl (fun ls hl => ?_)
          refine lv_goto (tgt := 196) hx hb dX1_solve_231 (by decide) ?_
          exact ih (rd + 1) (T + am) le2 pa2 qu2 H locs ls (by omega) (by omega) (phD_s hv hp2) hI (lv_sub hl [2, 1, 0] rfl)
        · skip
          refine lv_goto (tgt := 234) hx hb dX1_solve_218 (by decide) ?_
          refine lv_iload_n hx hb dX1_solve_234 rfl (lv_at hl 1 rfl) ?_
          exact hE 235 ls H locs (nI T) (n, ct, sk, fc, ff, ft, bx, ub, fx, wa, le, pa2, qu2) dX1_solve_235 (⟨T, le, pa2, qu2, rfl, rfl, sol_of hv hs c_215⟩) hI
  have L3 : ∀ (j : Nat) (i : Nat) (le : Nat → Nat) (H : Heap) (locs : List Loc) (ls : Array Slot), (i ≤ ct) → (ct + 1 ≤ i + j) → (phC (n, ct, fc, ff, ft, bx, ub) wa sk le i) → IW D A s.heap (wU d a (n, ct, sk, fc, ff, ft, bx, ub, fx, wa, le, pa, qu)) H locs → lv_has ls 3 [(0, .ref (a 0)), (1, .int (nI i))] → W p l e ro1 s m ([.ref (a 0)] : List Value).toArray below meth c0 H locs 0 0 Q (F0 m 110 ls []) := by
    intro j
    induction j with
    | zero => intro i le H locs ls hi hj hv hI hl; exact absurd hj (by omega)
    | succ j ih =>
      intro i le H locs ls hi hj hv hI hl
      refine lv_iload_n hx hb dX1_solve_110 rfl (lv_at hl 1 rfl) ?_
      refine lv_aload_n hx hb dX1_solve_111 rfl (lv_at hl 0 rfl) ?_
      refine r_getU (v := .int (nI ct)) hC hI 11 (by decide) q39 rfl rfl dX1_solve_112 ?_
      refine r_ge (tgt := 192) hx hb dX1_solve_115 (by decide) (by omega) (by omega) (fun c_115 => ?_) (fun c_115 => ?_)
      · skip
        have ei : i = ct := by omega
        rw [ei] at hv
        refine lv_iconst (v := nI 0) hx hb dX1_solve_192 (by decide +kernel) ?_
        refine lv_istore_n (lv' := [(1, .int (nI 0)), (0, .ref (a 0))]) hx hb dX1_solve_193 rfl hl (by decide) rfl (fun ls hl => ?_)
        refine lv_iconst (v := nI 0) hx hb dX1_solve_194 (by decide +kernel) ?_
        refine lv_istore_n (lv' := [(2, .int (nI 0)), (1, .int (nI 0)), (0, .ref (a 0))]) hx hb dX1_solve_195 rfl hl (by decide) rfl (fun ls hl => ?_)
        exact L4 1202 0 0 le pa qu H locs ls (by omega) (by omega) (phD_0 hg hv) hI (lv_sub hl [2, 1, 0] rfl)
      · skip
        have h1 := hff i
        have h2 := hft i
        refine lv_iload_n hx hb dX1_solve_118 rfl (lv_at hl 1 rfl) ?_
        refine lv_aload_n hx hb dX1_solve_119 rfl (lv_at hl 0 rfl) ?_
        refine r_getU (v := .int (nI sk)) hC hI 12 (by decide) q40 rfl rfl dX1_solve_120 ?_
        refine r_eq (tgt := 186) hx hb dX1_solve_123 (by decide) (by omega) (by omega) (fun c_123 => ?_) (fun c_123 => ?_)
        · skip
          refine lv_iinc (v := nI (i + 1)) (lv' := [(1, .int (nI (i + 1))), (0, .ref (a 0))]) hx hb dX1_solve_186 hl (k := 1) rfl (nI_1 i) (by decide) rfl (fun ls hl => ?_)
          refine lv_goto (tgt := 110) hx hb dX1_solve_189 (by decide) ?_
          exact ih (i + 1) le H locs ls (by omega) (by omega) (phC_skip hv c_123) hI (lv_sub hl [1, 0] rfl)
        · skip
          refine lv_aload_n hx hb dX1_solve_126 rfl (lv_at hl 0 rfl) ?_
          refine r_getU (v := .ref (a 8)) hC hI 7 (by decide) q35 rfl rfl dX1_solve_127 ?_
          refine lv_bipush (v := nI 12) hx hb dX1_solve_130 (by decide +kernel) ?_
          refine lv_aload_n hx hb dX1_solve_132 rfl (lv_at hl 0 rfl) ?_
          refine r_getU (v := .ref (a 2)) hC hI 1 (by decide) q29 rfl rfl dX1_solve_133 ?_
          refine lv_iload_n hx hb dX1_solve_136 rfl (lv_at hl 1 rfl) ?_
          refine r_ald (N := 20) (f := ff) (j := i) hC hI 2 wU_g2 (by omega) (by decide) dX1_solve_137 ?_
          refine r_mul hx hb dX1_solve_138 ?_
          refine lv_aload_n hx hb dX1_solve_139 rfl (lv_at hl 0 rfl) ?_
          refine r_getU (v := .ref (a 3)) hC hI 2 (by decide) q30 rfl rfl dX1_solve_140 ?_
          refine lv_iload_n hx hb dX1_solve_143 rfl (lv_at hl 1 rfl) ?_
          refine r_ald (N := 20) (f := ft) (j := i) hC hI 3 wU_g3 (by omega) (by decide) dX1_solve_144 ?_
          refine r_add hx hb dX1_solve_145 ?_
          refine lv_dup2_11 hx hb dX1_solve_146 rfl rfl ?_
          refine r_ald (N := 144) (f := le) (j := (12 * (ff i)) + (ft i)) hC hI 8 wU_g8 (by omega) (by decide) dX1_solve_147 ?_
          refine lv_aload_n hx hb dX1_solve_148 rfl (lv_at hl 0 rfl) ?_
          refine r_getU (v := .ref (a 4)) hC hI 3 (by decide) q31 rfl rfl dX1_solve_149 ?_
          refine lv_iload_n hx hb dX1_solve_152 rfl (lv_at hl 1 rfl) ?_
          refine r_ald (N := 20) (f := bx) (j := i) hC hI 4 wU_g4 (by omega) (by decide) dX1_solve_153 ?_
          refine r_add hx hb dX1_solve_154 ?_
          refine r_ast (N := 144) (f := le) (j := (12 * (ff i)) + (ft i)) (x := (le ((12 * (ff i)) + (ft i))) + (bx i)) (ws' := wU d a (n, ct, sk, fc, ff, ft, bx, ub, fx, wa, (updN le ((12 * (ff i)) + (ft i)) ((le ((12 * (ff i)) + (ft i))) + (bx i))), pa, qu)) hC hI 8 wU_g8 (by omega) (by decide) wU_s8 dX1_solve_155 (fun H locs hI => ?_)
          refine lv_aload_n hx hb dX1_solve_156 rfl (lv_at hl 0 rfl) ?_
          refine r_getU (v := .ref (a 8)) hC hI 7 (by decide) q35 rfl rfl dX1_solve_157 ?_
          refine lv_bipush (v := nI 12) hx hb dX1_solve_160 (by decide +kernel) ?_
          refine lv_aload_n hx hb dX1_solve_162 rfl (lv_at hl 0 rfl) ?_
          refine r_getU (v := .ref (a 3)) hC hI 2 (by decide) q30 rfl rfl dX1_solve_163 ?_
          refine lv_iload_n hx hb dX1_solve_166 rfl (lv_at hl 1 rfl) ?_
          refine r_ald (N := 20) (f := ft) (j := i) hC hI 3 wU_g3 (by omega) (by decide) dX1_solve_167 ?_
          refine r_mul hx hb dX1_solve_168 ?_
          refine lv_aload_n hx hb dX1_solve_169 rfl (lv_at hl 0 rfl) ?_
          refine r_getU (v := .ref (a 2)) hC hI 1 (by decide) q29 rfl rfl dX1_solve_170 ?_
          refine lv_iload_n hx hb dX1_solve_173 rfl (lv_at hl 1 rfl) ?_
          refine r_ald (N := 20) (f := ff) (j := i) hC hI 2 wU_g2 (by omega) (by decide) dX1_solve_174 ?_
          refine r_add hx hb dX1_solve_175 ?_
          refine lv_dup2_11 hx hb dX1_solve_176 rfl rfl ?_
          refine r_ald (N := 144) (f := (updN le ((12 * (ff i)) + (ft i)) ((le ((12 * (ff i)) + (ft i))) + (bx i)))) (j := (12 * (ft i)) + (ff i)) hC hI 8 wU_g8 (by omega) (by decide) dX1_solve_177 ?_
          refine lv_aload_n hx hb dX1_solve_178 rfl (lv_at hl 0 rfl) ?_
          refine r_getU (v := .ref (a 5)) hC hI 4 (by decide) q32 rfl rfl dX1_solve_179 ?_
          refine lv_iload_n hx hb dX1_solve_182 rfl (lv_at hl 1 rfl) ?_
          refine r_ald (N := 20) (f := ub) (j := i) hC hI 5 wU_g5 (by omega) (by decide) dX1_solve_183 ?_
          refine r_add hx hb dX1_solve_184 ?_
          refine r_ast (N := 144) (f := (updN le ((12 * (ff i)) + (ft i)) ((le ((12 * (ff i)) + (ft i))) + (bx i)))) (j := (12 * (ft i)) + (ff i)) (x := ((updN le ((12 * (ff i)) + (ft i)) ((le ((12 * (ff i)) + (ft i))) + (bx i))) ((12 * (ft i)) + (ff i))) + (ub i)) (ws' := wU d a (n, ct, sk, fc, ff, ft, bx, ub, fx, wa, (updN (updN le ((12 * (ff i)) + (ft i)) ((le ((12 * (ff i)) + (ft i))) + (bx i))) ((12 * (ft i)) + (ff i)) (((updN le ((12 * (ff i)) + (ft i)) ((le ((12 * (ff i)) + (ft i))) + (bx i))) ((12 * (ft i)) + (ff i))) + (ub i))), pa, qu)) hC hI 8 wU_g8 (by omega) (by decide) wU_s8 dX1_solve_185 (fun H locs hI => ?_)
          refine lv_iinc (v := nI (i + 1)) (lv' := [(1, .int (nI (i + 1))), (0, .ref (a 0))]) hx hb dX1_solve_186 hl (k := 1) rfl (nI_1 i) (by decide) rfl (fun ls hl => ?_)
          refine lv_goto (tgt := 110) hx hb dX1_solve_189 (by decide) ?_
          exact ih (i + 1) _ H locs ls (by omega) (by omega) (phC_s hg hv c_123) hI (lv_sub hl [1, 0] rfl)
  have L2 : ∀ (j : Nat) (i : Nat) (le : Nat → Nat) (H : Heap) (locs : List Loc) (ls : Array Slot), (i ≤ n) → (n + 1 ≤ i + j) → (phB (n, ct, fc, ff, ft, bx, ub) wa le i) → IW D A s.heap (wU d a (n, ct, sk, fc, ff, ft, bx, ub, fx, wa, le, pa, qu)) H locs → lv_has ls 3 [(0, .ref (a 0)), (1, .int (nI i))] → W p l e ro1 s m ([.ref (a 0)] : List Value).toArray below meth c0 H locs 0 0 Q (F0 m 24 ls []) := by
    intro j
    induction j with
    | zero => intro i le H locs ls hi hj hv hI hl; exact absurd hj (by omega)
    | succ j ih =>
      intro i le H locs ls hi hj hv hI hl
      refine lv_iload_n hx hb dX1_solve_24 rfl (lv_at hl 1 rfl) ?_
      refine lv_aload_n hx hb dX1_solve_25 rfl (lv_at hl 0 rfl) ?_
      refine r_getU (v := .int (nI n)) hC hI 10 (by decide) q38 rfl rfl dX1_solve_26 ?_
      refine r_ge (tgt := 108) hx hb dX1_solve_29 (by decide) (by omega) (by omega) (fun c_29 => ?_) (fun c_29 => ?_)
      · skip
        have ei : i = n := by omega
        rw [ei] at hv
        refine lv_iconst (v := nI 0) hx hb dX1_solve_108 (by decide +kernel) ?_
        refine lv_istore_n (lv' := [(1, .int (nI 0)), (0, .ref (a 0))]) hx hb dX1_solve_109 rfl hl (by decide) rfl (fun ls hl => ?_)
        exact L3 (ct + 1) 0 le H locs ls (by omega) (by omega) (phC_0 hv) hI (lv_sub hl [1, 0] rfl)
      · skip
        have h1 := hw i c_29
        refine lv_aload_n hx hb dX1_solve_32 rfl (lv_at hl 0 rfl) ?_
        refine r_getU (v := .ref (a 8)) hC hI 7 (by decide) q35 rfl rfl dX1_solve_33 ?_
        refine lv_bipush (v := nI 120) hx hb dX1_solve_36 (by decide +kernel) ?_
        refine lv_iload_n hx hb dX1_solve_38 rfl (lv_at hl 1 rfl) ?_
        refine r_add hx hb dX1_solve_39 ?_
        refine lv_aload_n hx hb dX1_solve_40 rfl (lv_at hl 0 rfl) ?_
        refine r_getU (v := .ref (a 7)) hC hI 6 (by decide) q34 rfl rfl dX1_solve_41 ?_
        refine lv_iload_n hx hb dX1_solve_44 rfl (lv_at hl 1 rfl) ?_
        refine r_ald (N := 10) (f := wa) (j := i) hC hI 7 wU_g7 (by omega) (by decide) dX1_solve_45 ?_
        refine r_if_ne (tgt := 54) hx hb dX1_solve_46 (by decide) (by omega) (fun c_46 => ?_) (fun c_46 => ?_)
        · skip
          refine lv_aload_n hx hb dX1_solve_54 rfl (lv_at hl 0 rfl) ?_
          refine r_getU (v := .ref (a 1)) hC hI 0 (by decide) q28 rfl rfl dX1_solve_55 ?_
          refine lv_iconst (v := nI 2) hx hb dX1_solve_58 (by decide +kernel) ?_
          refine lv_iload_n hx hb dX1_solve_59 rfl (lv_at hl 1 rfl) ?_
          refine r_mul hx hb dX1_solve_60 ?_
          refine lv_iconst (v := nI 1) hx hb dX1_solve_61 (by decide +kernel) ?_
          refine r_add hx hb dX1_solve_62 ?_
          refine r_ald (N := 20) (f := fc) (j := (2 * i) + 1) hC hI 1 wU_g1 (by omega) (by decide) dX1_solve_63 ?_
          refine r_ast (N := 144) (f := le) (j := 120 + i) (x := fc ((2 * i) + 1)) (ws' := wU d a (n, ct, sk, fc, ff, ft, bx, ub, fx, wa, (updN le (120 + i) (fc ((2 * i) + 1))), pa, qu)) hC hI 8 wU_g8 (by omega) (by decide) wU_s8 dX1_solve_64 (fun H locs hI => ?_)
          refine lv_aload_n hx hb dX1_solve_65 rfl (lv_at hl 0 rfl) ?_
          refine r_getU (v := .ref (a 8)) hC hI 7 (by decide) q35 rfl rfl dX1_solve_66 ?_
          refine lv_bipush (v := nI 12) hx hb dX1_solve_69 (by decide +kernel) ?_
          refine lv_iload_n hx hb dX1_solve_71 rfl (lv_at hl 1 rfl) ?_
          refine r_mul hx hb dX1_solve_72 ?_
          refine lv_bipush (v := nI 11) hx hb dX1_solve_73 (by decide +kernel) ?_
          refine r_add hx hb dX1_solve_75 ?_
          refine lv_aload_n hx hb dX1_solve_76 rfl (lv_at hl 0 rfl) ?_
          refine r_getU (v := .ref (a 7)) hC hI 6 (by decide) q34 rfl rfl dX1_solve_77 ?_
          refine lv_iload_n hx hb dX1_solve_80 rfl (lv_at hl 1 rfl) ?_
          refine r_ald (N := 10) (f := wa) (j := i) hC hI 7 wU_g7 (by omega) (by decide) dX1_solve_81 ?_
          refine lv_iconst (v := nI 1) hx hb dX1_solve_82 (by decide +kernel) ?_
          refine r_ne (tgt := 91) hx hb dX1_solve_83 (by decide) (by omega) (by omega) (fun c_83 => ?_) (fun c_83 => ?_)
          · skip
            refine lv_aload_n hx hb dX1_solve_91 rfl (lv_at hl 0 rfl) ?_
            refine r_getU (v := .ref (a 1)) hC hI 0 (by decide) q28 rfl rfl dX1_solve_92 ?_
            refine lv_iconst (v := nI 2) hx hb dX1_solve_95 (by decide +kernel) ?_
            refine lv_iload_n hx hb dX1_solve_96 rfl (lv_at hl 1 rfl) ?_
            refine r_mul hx hb dX1_solve_97 ?_
            refine lv_iconst (v := nI 0) hx hb dX1_solve_98 (by decide +kernel) ?_
            refine r_add hx hb dX1_solve_99 ?_
            refine r_ald (N := 20) (f := fc) (j := (2 * i) + 0) hC hI 1 wU_g1 (by omega) (by decide) dX1_solve_100 ?_
            refine r_ast (N := 144) (f := (updN le (120 + i) (fc ((2 * i) + 1)))) (j := (12 * i) + 11) (x := fc ((2 * i) + 0)) (ws' := wU d a (n, ct, sk, fc, ff, ft, bx, ub, fx, wa, (updN (updN le (120 + i) (fc ((2 * i) + 1))) ((12 * i) + 11) (fc ((2 * i) + 0))), pa, qu)) hC hI 8 wU_g8 (by omega) (by decide) wU_s8 dX1_solve_101 (fun H locs hI => ?_)
            refine lv_iinc (v := nI (i + 1)) (lv' := [(1, .int (nI (i + 1))), (0, .ref (a 0))]) hx hb dX1_solve_102 hl (k := 1) rfl (nI_1 i) (by decide) rfl (fun ls hl => ?_)
            refine lv_goto (tgt := 24) hx hb dX1_solve_105 (by decide) ?_
            exact ih (i + 1) _ H locs ls (by omega) (by omega) (phB_s hg c_29 hv (by unfold capS; rw [if_neg c_46]) (by unfold capT; rw [if_neg c_83])) hI (lv_sub hl [1, 0] rfl)
          · skip
            refine lv_ldc (v := nI 100000) hx hb hown (hts _ q121) dX1_solve_86 ?_
            refine lv_goto (tgt := 101) hx hb dX1_solve_88 (by decide) ?_
            refine r_ast (N := 144) (f := (updN le (120 + i) (fc ((2 * i) + 1)))) (j := (12 * i) + 11) (x := 100000) (ws' := wU d a (n, ct, sk, fc, ff, ft, bx, ub, fx, wa, (updN (updN le (120 + i) (fc ((2 * i) + 1))) ((12 * i) + 11) 100000), pa, qu)) hC hI 8 wU_g8 (by omega) (by decide) wU_s8 dX1_solve_101 (fun H locs hI => ?_)
            refine lv_iinc (v := nI (i + 1)) (lv' := [(1, .int (nI (i + 1))), (0, .ref (a 0))]) hx hb dX1_solve_102 hl (k := 1) rfl (nI_1 i) (by decide) rfl (fun ls hl => ?_)
            refine lv_goto (tgt := 24) hx hb dX1_solve_105 (by decide) ?_
            exact ih (i + 1) _ H locs ls (by omega) (by omega) (phB_s hg c_29 hv (by unfold capS; rw [if_neg c_46]) (by unfold capT; rw [if_pos c_83])) hI (lv_sub hl [1, 0] rfl)
        · skip
          refine lv_ldc (v := nI 100000) hx hb hown (hts _ q121) dX1_solve_49 ?_
          refine lv_goto (tgt := 64) hx hb dX1_solve_51 (by decide) ?_
          refine r_ast (N := 144) (f := le) (j := 120 + i) (x := 100000) (ws' := wU d a (n, ct, sk, fc, ff, ft, bx, ub, fx, wa, (updN le (120 + i) 100000), pa, qu)) hC hI 8 wU_g8 (by omega) (by decide) wU_s8 dX1_solve_64 (fun H locs hI => ?_)
          refine lv_aload_n hx hb dX1_solve_65 rfl (lv_at hl 0 rfl) ?_
          refine r_getU (v := .ref (a 8)) hC hI 7 (by decide) q35 rfl rfl dX1_solve_66 ?_
          refine lv_bipush (v := nI 12) hx hb dX1_solve_69 (by decide +kernel) ?_
          refine lv_iload_n hx hb dX1_solve_71 rfl (lv_at hl 1 rfl) ?_
          refine r_mul hx hb dX1_solve_72 ?_
          refine lv_bipush (v := nI 11) hx hb dX1_solve_73 (by decide +kernel) ?_
          refine r_add hx hb dX1_solve_75 ?_
          refine lv_aload_n hx hb dX1_solve_76 rfl (lv_at hl 0 rfl) ?_
          refine r_getU (v := .ref (a 7)) hC hI 6 (by decide) q34 rfl rfl dX1_solve_77 ?_
          refine lv_iload_n hx hb dX1_solve_80 rfl (lv_at hl 1 rfl) ?_
          refine r_ald (N := 10) (f := wa) (j := i) hC hI 7 wU_g7 (by omega) (by decide) dX1_solve_81 ?_
          refine lv_iconst (v := nI 1) hx hb dX1_solve_82 (by decide +kernel) ?_
          refine r_ne (tgt := 91) hx hb dX1_solve_83 (by decide) (by omega) (by omega) (fun c_83 => ?_) (fun c_83 => ?_)
          · skip
            refine lv_aload_n hx hb dX1_solve_91 rfl (lv_at hl 0 rfl) ?_
            refine r_getU (v := .ref (a 1)) hC hI 0 (by decide) q28 rfl rfl dX1_solve_92 ?_
            refine lv_iconst (v := nI 2) hx hb dX1_solve_95 (by decide +kernel) ?_
            refine lv_iload_n hx hb dX1_solve_96 rfl (lv_at hl 1 rfl) ?_
            refine r_mul hx hb dX1_solve_97 ?_
            refine lv_iconst (v := nI 0) hx hb dX1_solve_98 (by decide +kernel) ?_
            refine r_add hx hb dX1_solve_99 ?_
            refine r_ald (N := 20) (f := fc) (j := (2 * i) + 0) hC hI 1 wU_g1 (by omega) (by decide) dX1_solve_100 ?_
            refine r_ast (N := 144) (f := (updN le (120 + i) 100000)) (j := (12 * i) + 11) (x := fc ((2 * i) + 0)) (ws' := wU d a (n, ct, sk, fc, ff, ft, bx, ub, fx, wa, (updN (updN le (120 + i) 100000) ((12 * i) + 11) (fc ((2 * i) + 0))), pa, qu)) hC hI 8 wU_g8 (by omega) (by decide) wU_s8 dX1_solve_101 (fun H locs hI => ?_)
            refine lv_iinc (v := nI (i + 1)) (lv' := [(1, .int (nI (i + 1))), (0, .ref (a 0))]) hx hb dX1_solve_102 hl (k := 1) rfl (nI_1 i) (by decide) rfl (fun ls hl => ?_)
            refine lv_goto (tgt := 24) hx hb dX1_solve_105 (by decide) ?_
            exact ih (i + 1) _ H locs ls (by omega) (by omega) (phB_s hg c_29 hv (by unfold capS; rw [if_pos c_46]) (by unfold capT; rw [if_neg c_83])) hI (lv_sub hl [1, 0] rfl)
          · skip
            refine lv_ldc (v := nI 100000) hx hb hown (hts _ q121) dX1_solve_86 ?_
            refine lv_goto (tgt := 101) hx hb dX1_solve_88 (by decide) ?_
            refine r_ast (N := 144) (f := (updN le (120 + i) 100000)) (j := (12 * i) + 11) (x := 100000) (ws' := wU d a (n, ct, sk, fc, ff, ft, bx, ub, fx, wa, (updN (updN le (120 + i) 100000) ((12 * i) + 11) 100000), pa, qu)) hC hI 8 wU_g8 (by omega) (by decide) wU_s8 dX1_solve_101 (fun H locs hI => ?_)
            refine lv_iinc (v := nI (i + 1)) (lv' := [(1, .int (nI (i + 1))), (0, .ref (a 0))]) hx hb dX1_solve_102 hl (k := 1) rfl (nI_1 i) (by decide) rfl (fun ls hl => ?_)
            refine lv_goto (tgt := 24) hx hb dX1_solve_105 (by decide) ?_
            exact ih (i + 1) _ H locs ls (by omega) (by omega) (phB_s hg c_29 hv (by unfold capS; rw [if_pos c_46]) (by unfold capT; rw [if_pos c_83])) hI (lv_sub hl [1, 0] rfl)
  have L1 : ∀ (j : Nat) (i : Nat) (le : Nat → Nat) (H : Heap) (locs : List Loc) (ls : Array Slot), (i ≤ 144) → (145 ≤ i + j) → (phA le i) → IW D A s.heap (wU d a (n, ct, sk, fc, ff, ft, bx, ub, fx, wa, le, pa, qu)) H locs → lv_has ls 3 [(0, .ref (a 0)), (1, .int (nI i))] → W p l e ro1 s m ([.ref (a 0)] : List Value).toArray below meth c0 H locs 0 0 Q (F0 m 2 ls []) := by
    intro j
    induction j with
    | zero => intro i le H locs ls hi hj hv hI hl; exact absurd hj (by omega)
    | succ j ih =>
      intro i le H locs ls hi hj hv hI hl
      refine lv_iload_n hx hb dX1_solve_2 rfl (lv_at hl 1 rfl) ?_
      refine lv_sipush (v := nI 144) hx hb dX1_solve_3 (by decide +kernel) ?_
      refine r_ge (tgt := 22) hx hb dX1_solve_6 (by decide) (by omega) (by omega) (fun c_6 => ?_) (fun c_6 => ?_)
      · skip
        have ei : i = 144 := by omega
        rw [ei] at hv
        refine lv_iconst (v := nI 0) hx hb dX1_solve_22 (by decide +kernel) ?_
        refine lv_istore_n (lv' := [(1, .int (nI 0)), (0, .ref (a 0))]) hx hb dX1_solve_23 rfl hl (by decide) rfl (fun ls hl => ?_)
        exact L2 (n + 1) 0 le H locs ls (by omega) (by omega) (phB_0 hv) hI (lv_sub hl [1, 0] rfl)
      · skip
        refine lv_aload_n hx hb dX1_solve_9 rfl (lv_at hl 0 rfl) ?_
        refine r_getU (v := .ref (a 8)) hC hI 7 (by decide) q35 rfl rfl dX1_solve_10 ?_
        refine lv_iload_n hx hb dX1_solve_13 rfl (lv_at hl 1 rfl) ?_
        refine lv_iconst (v := nI 0) hx hb dX1_solve_14 (by decide +kernel) ?_
        refine r_ast (N := 144) (f := le) (j := i) (x := 0) (ws' := wU d a (n, ct, sk, fc, ff, ft, bx, ub, fx, wa, (updN le i 0), pa, qu)) hC hI 8 wU_g8 (by omega) (by decide) wU_s8 dX1_solve_15 (fun H locs hI => ?_)
        refine lv_iinc (v := nI (i + 1)) (lv' := [(1, .int (nI (i + 1))), (0, .ref (a 0))]) hx hb dX1_solve_16 hl (k := 1) rfl (nI_1 i) (by decide) rfl (fun ls hl => ?_)
        refine lv_goto (tgt := 2) hx hb dX1_solve_19 (by decide) ?_
        exact ih (i + 1) _ H locs ls (by omega) (by omega) (phA_s hv) hI (lv_sub hl [1, 0] rfl)
  refine lv_iconst (v := nI 0) hx hb dX1_solve_0 (by decide +kernel) ?_
  refine lv_istore_n (lv' := [(1, .int (nI 0)), (0, .ref (a 0))]) hx hb dX1_solve_1 rfl hl (by decide) rfl (fun ls hl => ?_)
  exact L1 145 0 le H locs ls (by omega) (by omega) lt_0 hI (lv_sub hl [1, 0] rfl)
set_option maxHeartbeats 4000000 in
/-- notFromSource(): the values that the source does not reach -/
theorem mU_notFromSource (l : Launch) (D : va_G) (d : ClassId) (a : Nat → Nat) (n ct sk : Nat) (fc ff ft bx ub fx wa le pa qu : Nat → Nat) (hB : pairB le) (hn : n ≤ 10) : qI l yX1_notFromSource cX1_notFromSource 3 .int ro1 D d (wU d a) (n, ct, sk, fc, ff, ft, bx, ub, fx, wa, le, pa, qu) [.ref (a 0)] (fun r u => ∃ (Sx : Nat) (pa' qu' : Nat → Nat), r = nI Sx ∧ u = (n, ct, sk, fc, ff, ft, bx, ub, fx, wa, le, pa', qu') ∧ srch le pa' ∧ nfI pa' Sx n) := by
  refine qI_of RX1 rfl (by decide) (Nat.le_of_ble_eq_true rfl) (fun _ _ _ => rfl) ?_
  intro p e s m below meth c0 A Q H locs ls hC hA hI hl hE
  have hx := hC.1.1
  have hb := hC.1.2.1
  have hown := hC.1.2.2.2.1
  have hts := hC.1.2.2.2.2
  have hl : lv_has ls 3 [(0, .ref (a 0))] := hl
  refine lv_aload_n hx hb dX1_notFromSource_0 rfl (lv_at hl 0 rfl) ?_
  refine go_v (rest := []) hC hA hI (mU_search l D d a n ct sk fc ff ft bx ub fx wa le pa qu hB) (ci := 0) rfl rfl 0 (lw_V q122 q124 qs5 q18 q125) (by decide +kernel) ⟨Nat.le_of_ble_eq_true rfl, Nat.le_of_ble_eq_true rfl⟩ rfl rfl rfl hl.1 rfl (Nat.le_of_ble_eq_true rfl) dX1_notFromSource_1 ⟨Nat.zero_le _, Nat.zero_le _⟩ (fun u_1 H locs hp hI => ?_)
  obtain ⟨pa2, qu2, rfl, hs⟩ := hp
  refine lv_iconst (v := nI 0) hx hb dX1_notFromSource_4 (by decide +kernel) ?_
  refine lv_istore_n (lv' := [(1, .int (nI 0)), (0, .ref (a 0))]) hx hb dX1_notFromSource_5 rfl hl (by decide) rfl (fun ls hl => ?_)
  refine lv_iconst (v := nI 0) hx hb dX1_notFromSource_6 (by decide +kernel) ?_
  refine lv_istore_n (lv' := [(2, .int (nI 0)), (1, .int (nI 0)), (0, .ref (a 0))]) hx hb dX1_notFromSource_7 rfl hl (by decide) rfl (fun ls hl => ?_)
  have hI0 := hI
  have hl0 := hl
  clear hI hl
  have L1 : ∀ (j : Nat) (i : Nat) (Sx : Nat) (H : Heap) (locs : List Loc) (ls : Array Slot), (i ≤ n) → (n + 1 ≤ i + j) → (nfI pa2 Sx i) → IW D A s.heap (wU d a (n, ct, sk, fc, ff, ft, bx, ub, fx, wa, le, pa2, qu2)) H locs → lv_has ls 3 [(0, .ref (a 0)), (1, .int (nI Sx)), (2, .int (nI i))] → W p l e ro1 s m ([.ref (a 0)] : List Value).toArray below meth c0 H locs 0 0 Q (F0 m 8 ls []) := by
    intro j
    induction j with
    | zero => intro i Sx H locs ls hi hj hv hI hl; exact absurd hj (by omega)
    | succ j ih =>
      intro i Sx H locs ls hi hj hv hI hl
      refine lv_iload_n hx hb dX1_notFromSource_8 rfl (lv_at hl 2 rfl) ?_
      refine lv_aload_n hx hb dX1_notFromSource_9 rfl (lv_at hl 0 rfl) ?_
      refine r_getU (v := .int (nI n)) hC hI 10 (by decide) q38 rfl rfl dX1_notFromSource_10 ?_
      refine r_ge (tgt := 38) hx hb dX1_notFromSource_13 (by decide) (by omega) (by omega) (fun c_13 => ?_) (fun c_13 => ?_)
      · skip
        have ei : i = n := by omega
        rw [ei] at hv
        refine lv_iload_n hx hb dX1_notFromSource_38 rfl (lv_at hl 1 rfl) ?_
        exact hE 39 ls H locs (nI Sx) (n, ct, sk, fc, ff, ft, bx, ub, fx, wa, le, pa2, qu2) dX1_notFromSource_39 (⟨Sx, pa2, qu2, rfl, rfl, hs, hv⟩) hI
      · skip
        refine lv_aload_n hx hb dX1_notFromSource_16 rfl (lv_at hl 0 rfl) ?_
        refine r_getU (v := .ref (a 9)) hC hI 8 (by decide) q36 rfl rfl dX1_notFromSource_17 ?_
        refine lv_iload_n hx hb dX1_notFromSource_20 rfl (lv_at hl 2 rfl) ?_
        refine r_ald (N := 12) (f := pa2) (j := i) hC hI 9 wU_g9 (by omega) (by decide) dX1_notFromSource_21 ?_
        refine lv_iconst (v := nI nNone) hx hb dX1_notFromSource_22 (by decide +kernel) ?_
        refine r_ne (tgt := 32) hx hb dX1_notFromSource_23 (by decide) (srch_pa hs (by omega)) (by decide) (fun c_23 => ?_) (fun c_23 => ?_)
        · skip
          refine lv_iinc (v := nI (i + 1)) (lv' := [(2, .int (nI (i + 1))), (0, .ref (a 0)), (1, .int (nI Sx))]) hx hb dX1_notFromSource_32 hl (k := 2) rfl (nI_1 i) (by decide) rfl (fun ls hl => ?_)
          refine lv_goto (tgt := 8) hx hb dX1_notFromSource_35 (by decide) ?_
          exact ih (i + 1) _ H locs ls (by omega) (by omega) (nfI_no hv c_23) hI (lv_sub hl [1, 2, 0] rfl)
        · skip
          refine lv_iload_n hx hb dX1_notFromSource_26 rfl (lv_at hl 1 rfl) ?_
          refine lv_iconst (v := nI 1) hx hb dX1_notFromSource_27 (by decide +kernel) ?_
          refine lv_iload_n hx hb dX1_notFromSource_28 rfl (lv_at hl 2 rfl) ?_
          refine r_shl1 hx hb (by omega) dX1_notFromSource_29 ?_
          refine r_or hx hb dX1_notFromSource_30 ?_
          refine lv_istore_n (lv' := [(1, .int (nI (Sx ||| (2 ^ i)))), (0, .ref (a 0)), (2, .int (nI i))]) hx hb dX1_notFromSource_31 rfl hl (by decide) rfl (fun ls hl => ?_)
          refine lv_iinc (v := nI (i + 1)) (lv' := [(2, .int (nI (i + 1))), (1, .int (nI (Sx ||| (2 ^ i)))), (0, .ref (a 0))]) hx hb dX1_notFromSource_32 hl (k := 2) rfl (nI_1 i) (by decide) rfl (fun ls hl => ?_)
          refine lv_goto (tgt := 8) hx hb dX1_notFromSource_35 (by decide) ?_
          exact ih (i + 1) _ H locs ls (by omega) (by omega) (nfI_add hv c_23) hI (lv_sub hl [2, 1, 0] rfl)
  exact L1 (n + 1) 0 0 H locs ls (by omega) (by omega) (nfI_0 pa2) hI0 (lv_sub hl0 [2, 1, 0] rfl)
end
section
set_option maxRecDepth 100000
/-! UnboxPlanner: cost, flow, cut, fix, costOf (printed by gen_u4.py) -/
set_option maxHeartbeats 4000000 in
/-- cost(x, y, z) -/
theorem mU_cost (l : Launch) (D : va_G) (d : ClassId) (a : Nat → Nat) (n ct sk : Nat) (fc ff ft bx ub fx wa le pa qu : Nat → Nat) (x y z : Int32) (hn : n ≤ 10) : qI l yX1_cost cX1_cost 5 .int ro1 D d (wU d a) (n, ct, sk, fc, ff, ft, bx, ub, fx, wa, le, pa, qu) [.ref (a 0), .int x, .int y, .int z] (fun r u => ∃ fc' : Nat → Nat, u = (n, ct, sk, fc', ff, ft, bx, ub, fx, wa, le, pa, qu) ∧ sCost n fc x y z r fc') := by
  refine qI_of RX1 rfl (by decide) (Nat.le_of_ble_eq_true rfl) (fun _ _ _ => rfl) ?_
  intro p e s m below meth c0 A Q H locs ls hC hA hI hl hE
  have hx := hC.1.1
  have hb := hC.1.2.1
  have hown := hC.1.2.2.2.1
  have hts := hC.1.2.2.2.2
  have hl : lv_has ls 5 [(0, .ref (a 0)), (1, .int x), (2, .int y), (3, .int z)] := hl
  refine lv_aload_n hx hb dX1_cost_0 rfl (lv_at hl 0 rfl) ?_
  refine lv_iload_n hx hb dX1_cost_1 rfl (lv_at hl 1 rfl) ?_
  refine go_i (rest := []) hC hA hI (mU_isValue l D d a n ct sk fc ff ft bx ub fx wa le pa qu x (by omega)) (ci := 0) rfl rfl 1 (lw_V q77 q79 qs0 q18 q80) (by decide +kernel) ⟨Nat.le_of_ble_eq_true rfl, Nat.le_of_ble_eq_true rfl⟩ rfl rfl rfl hl.1 rfl (Nat.le_of_ble_eq_true rfl) dX1_cost_2 ⟨Nat.zero_le _, Nat.zero_le _⟩ (fun r_2 u_2 H locs hp hI => ?_)
  obtain ⟨hy, rfl⟩ := hp
  refine lv_if_ne (tgt := 10) hx hb dX1_cost_5 (by decide) (fun c_5 => ?_) (fun c_5 => ?_)
  · skip
    obtain ⟨v, hv, rfl⟩ := yesNo_ne hy c_5
    refine lv_iload_n hx hb dX1_cost_10 rfl (lv_at hl 2 rfl) ?_
    refine lv_if_eq (tgt := 22) hx hb dX1_cost_11 (by decide) (fun c_11 => ?_) (fun c_11 => ?_)
    · skip
      obtain ⟨f, hf, rfl⟩ : inR y 2 := inR_2 (Or.inl c_11)
      refine lv_iload_n hx hb dX1_cost_22 rfl (lv_at hl 3 rfl) ?_
      refine lv_if_lt (tgt := 32) hx hb dX1_cost_23 (by decide) (fun c_23 => ?_) (fun c_23 => ?_)
      · skip
        refine lv_bipush (v := (-3)) hx hb dX1_cost_32 (by decide +kernel) ?_
        exact hE 34 ls H locs ((-3)) (n, ct, sk, fc, ff, ft, bx, ub, fx, wa, le, pa, qu) dX1_cost_34 (⟨fc, rfl, Or.inr (Or.inr (Or.inl ⟨inR_nI hv, inR_nI hf, inR_neg (by decide) c_23, rfl, rfl⟩))⟩) hI
      · skip
        refine lv_iload_n hx hb dX1_cost_26 rfl (lv_at hl 3 rfl) ?_
        refine lv_bipush (v := nI 60) hx hb dX1_cost_27 (by decide +kernel) ?_
        refine lv_icmp_le (tgt := 35) hx hb dX1_cost_29 (by decide) (fun c_29 => ?_) (fun c_29 => ?_)
        · skip
          obtain ⟨q, hq, rfl⟩ : inR z 61 := inR_ofL (by decide) c_23 c_29
          refine lv_aload_n hx hb dX1_cost_35 rfl (lv_at hl 0 rfl) ?_
          refine r_getU (v := .ref (a 1)) hC hI 0 (by decide) q28 rfl rfl dX1_cost_36 ?_
          refine lv_iconst (v := nI 2) hx hb dX1_cost_39 (by decide +kernel) ?_
          refine lv_iload_n hx hb dX1_cost_40 rfl (lv_at hl 1 rfl) ?_
          refine r_mul hx hb dX1_cost_41 ?_
          refine lv_iload_n hx hb dX1_cost_42 rfl (lv_at hl 2 rfl) ?_
          refine r_add hx hb dX1_cost_43 ?_
          refine r_ald (N := 20) (f := fc) (j := (2 * v) + f) hC hI 1 wU_g1 (by omega) (by decide) dX1_cost_44 ?_
          refine lv_istore (lv' := [(4, .int (nI (fc ((2 * v) + f)))), (0, .ref (a 0)), (1, .int (nI v)), (2, .int (nI f)), (3, .int (nI q))]) hx hb dX1_cost_45 hl (by decide) rfl (fun ls hl => ?_)
          refine lv_aload_n hx hb dX1_cost_47 rfl (lv_at hl 1 rfl) ?_
          refine r_getU (v := .ref (a 1)) hC hI 0 (by decide) q28 rfl rfl dX1_cost_48 ?_
          refine lv_iconst (v := nI 2) hx hb dX1_cost_51 (by decide +kernel) ?_
          refine lv_iload_n hx hb dX1_cost_52 rfl (lv_at hl 2 rfl) ?_
          refine r_mul hx hb dX1_cost_53 ?_
          refine lv_iload_n hx hb dX1_cost_54 rfl (lv_at hl 3 rfl) ?_
          refine r_add hx hb dX1_cost_55 ?_
          refine lv_iload_n hx hb dX1_cost_56 rfl (lv_at hl 4 rfl) ?_
          refine r_ast (N := 20) (f := fc) (j := (2 * v) + f) (x := q) (ws' := wU d a (n, ct, sk, (updN fc ((2 * v) + f) q), ff, ft, bx, ub, fx, wa, le, pa, qu)) hC hI 1 wU_g1 (by omega) (by decide) wU_s1 dX1_cost_57 (fun H locs hI => ?_)
          refine lv_iload hx hb dX1_cost_58 (lv_at hl 0 rfl) ?_
          exact hE 60 ls H locs (nI (fc ((2 * v) + f))) (n, ct, sk, (updN fc ((2 * v) + f) q), ff, ft, bx, ub, fx, wa, le, pa, qu) dX1_cost_60 (⟨_, rfl, Or.inr (Or.inr (Or.inr ⟨v, f, q, hv, hf, hq, rfl, rfl, rfl, rfl, rfl⟩))⟩) hI
        · skip
          refine lv_bipush (v := (-3)) hx hb dX1_cost_32 (by decide +kernel) ?_
          exact hE 34 ls H locs ((-3)) (n, ct, sk, fc, ff, ft, bx, ub, fx, wa, le, pa, qu) dX1_cost_34 (⟨fc, rfl, Or.inr (Or.inr (Or.inl ⟨inR_nI hv, inR_nI hf, inR_bigL (by decide) c_29, rfl, rfl⟩))⟩) hI
    · skip
      refine lv_iload_n hx hb dX1_cost_14 rfl (lv_at hl 2 rfl) ?_
      refine lv_iconst (v := nI 1) hx hb dX1_cost_15 (by decide +kernel) ?_
      refine lv_icmp_eq (tgt := 22) hx hb dX1_cost_16 (by decide) (fun c_16 => ?_) (fun c_16 => ?_)
      · skip
        obtain ⟨f, hf, rfl⟩ : inR y 2 := inR_2 (Or.inr c_16)
        refine lv_iload_n hx hb dX1_cost_22 rfl (lv_at hl 3 rfl) ?_
        refine lv_if_lt (tgt := 32) hx hb dX1_cost_23 (by decide) (fun c_23 => ?_) (fun c_23 => ?_)
        · skip
          refine lv_bipush (v := (-3)) hx hb dX1_cost_32 (by decide +kernel) ?_
          exact hE 34 ls H locs ((-3)) (n, ct, sk, fc, ff, ft, bx, ub, fx, wa, le, pa, qu) dX1_cost_34 (⟨fc, rfl, Or.inr (Or.inr (Or.inl ⟨inR_nI hv, inR_nI hf, inR_neg (by decide) c_23, rfl, rfl⟩))⟩) hI
        · skip
          refine lv_iload_n hx hb dX1_cost_26 rfl (lv_at hl 3 rfl) ?_
          refine lv_bipush (v := nI 60) hx hb dX1_cost_27 (by decide +kernel) ?_
          refine lv_icmp_le (tgt := 35) hx hb dX1_cost_29 (by decide) (fun c_29 => ?_) (fun c_29 => ?_)
          · skip
            obtain ⟨q, hq, rfl⟩ : inR z 61 := inR_ofL (by decide) c_23 c_29
            refine lv_aload_n hx hb dX1_cost_35 rfl (lv_at hl 0 rfl) ?_
            refine r_getU (v := .ref (a 1)) hC hI 0 (by decide) q28 rfl rfl dX1_cost_36 ?_
            refine lv_iconst (v := nI 2) hx hb dX1_cost_39 (by decide +kernel) ?_
            refine lv_iload_n hx hb dX1_cost_40 rfl (lv_at hl 1 rfl) ?_
            refine r_mul hx hb dX1_cost_41 ?_
            refine lv_iload_n hx hb dX1_cost_42 rfl (lv_at hl 2 rfl) ?_
            refine r_add hx hb dX1_cost_43 ?_
            refine r_ald (N := 20) (f := fc) (j := (2 * v) + f) hC hI 1 wU_g1 (by omega) (by decide) dX1_cost_44 ?_
            refine lv_istore (lv' := [(4, .int (nI (fc ((2 * v) + f)))), (0, .ref (a 0)), (1, .int (nI v)), (2, .int (nI f)), (3, .int (nI q))]) hx hb dX1_cost_45 hl (by decide) rfl (fun ls hl => ?_)
            refine lv_aload_n hx hb dX1_cost_47 rfl (lv_at hl 1 rfl) ?_
            refine r_getU (v := .ref (a 1)) hC hI 0 (by decide) q28 rfl rfl dX1_cost_48 ?_
            refine lv_iconst (v := nI 2) hx hb dX1_cost_51 (by decide +kernel) ?_
            refine lv_iload_n hx hb dX1_cost_52 rfl (lv_at hl 2 rfl) ?_
            refine r_mul hx hb dX1_cost_53 ?_
            refine lv_iload_n hx hb dX1_cost_54 rfl (lv_at hl 3 rfl) ?_
            refine r_add hx hb dX1_cost_55 ?_
            refine lv_iload_n hx hb dX1_cost_56 rfl (lv_at hl 4 rfl) ?_
            refine r_ast (N := 20) (f := fc) (j := (2 * v) + f) (x := q) (ws' := wU d a (n, ct, sk, (updN fc ((2 * v) + f) q), ff, ft, bx, ub, fx, wa, le, pa, qu)) hC hI 1 wU_g1 (by omega) (by decide) wU_s1 dX1_cost_57 (fun H locs hI => ?_)
            refine lv_iload hx hb dX1_cost_58 (lv_at hl 0 rfl) ?_
            exact hE 60 ls H locs (nI (fc ((2 * v) + f))) (n, ct, sk, (updN fc ((2 * v) + f) q), ff, ft, bx, ub, fx, wa, le, pa, qu) dX1_cost_60 (⟨_, rfl, Or.inr (Or.inr (Or.inr ⟨v, f, q, hv, hf, hq, rfl, rfl, rfl, rfl, rfl⟩))⟩) hI
          · skip
            refine lv_bipush (v := (-3)) hx hb dX1_cost_32 (by decide +kernel) ?_
            exact hE 34 ls H locs ((-3)) (n, ct, sk, fc, ff, ft, bx, ub, fx, wa, le, pa, qu) dX1_cost_34 (⟨fc, rfl, Or.inr (Or.inr (Or.inl ⟨inR_nI hv, inR_nI hf, inR_bigL (by decide) c_29, rfl, rfl⟩))⟩) hI
      · skip
        refine lv_bipush (v := (-2)) hx hb dX1_cost_19 (by decide +kernel) ?_
        exact hE 21 ls H locs ((-2)) (n, ct, sk, fc, ff, ft, bx, ub, fx, wa, le, pa, qu) dX1_cost_21 (⟨fc, rfl, Or.inr (Or.inl ⟨inR_nI hv, inR_n2 c_11 c_16, rfl, rfl⟩)⟩) hI
  · skip
    refine lv_iconst (v := (-1)) hx hb dX1_cost_8 (by decide +kernel) ?_
    exact hE 9 ls H locs ((-1)) (n, ct, sk, fc, ff, ft, bx, ub, fx, wa, le, pa, qu) dX1_cost_9 (⟨fc, rfl, Or.inl ⟨yesNo_eq hy c_5, rfl, rfl⟩⟩) hI
set_option maxHeartbeats 4000000 in
/-- fix(x, y) -/
theorem mU_fix (l : Launch) (D : va_G) (d : ClassId) (a : Nat → Nat) (n ct sk : Nat) (fc ff ft bx ub fx wa le pa qu : Nat → Nat) (x y : Int32) (hn : n ≤ 10) : qI l yX1_fix cX1_fix 4 .int ro1 D d (wU d a) (n, ct, sk, fc, ff, ft, bx, ub, fx, wa, le, pa, qu) [.ref (a 0), .int x, .int y] (fun r u => ∃ fx' : Nat → Nat, u = (n, ct, sk, fc, ff, ft, bx, ub, fx', wa, le, pa, qu) ∧ sFix n fx x y r fx') := by
  refine qI_of RX1 rfl (by decide) (Nat.le_of_ble_eq_true rfl) (fun _ _ _ => rfl) ?_
  intro p e s m below meth c0 A Q H locs ls hC hA hI hl hE
  have hx := hC.1.1
  have hb := hC.1.2.1
  have hown := hC.1.2.2.2.1
  have hts := hC.1.2.2.2.2
  have hl : lv_has ls 4 [(0, .ref (a 0)), (1, .int x), (2, .int y)] := hl
  refine lv_aload_n hx hb dX1_fix_0 rfl (lv_at hl 0 rfl) ?_
  refine lv_iload_n hx hb dX1_fix_1 rfl (lv_at hl 1 rfl) ?_
  refine go_i (rest := []) hC hA hI (mU_isValue l D d a n ct sk fc ff ft bx ub fx wa le pa qu x (by omega)) (ci := 0) rfl rfl 1 (lw_V q77 q79 qs0 q18 q80) (by decide +kernel) ⟨Nat.le_of_ble_eq_true rfl, Nat.le_of_ble_eq_true rfl⟩ rfl rfl rfl hl.1 rfl (Nat.le_of_ble_eq_true rfl) dX1_fix_2 ⟨Nat.zero_le _, Nat.zero_le _⟩ (fun r_2 u_2 H locs hp hI => ?_)
  obtain ⟨hy, rfl⟩ := hp
  refine lv_if_ne (tgt := 10) hx hb dX1_fix_5 (by decide) (fun c_5 => ?_) (fun c_5 => ?_)
  · skip
    obtain ⟨v, hv, rfl⟩ := yesNo_ne hy c_5
    refine lv_iload_n hx hb dX1_fix_10 rfl (lv_at hl 2 rfl) ?_
    refine lv_if_lt (tgt := 19) hx hb dX1_fix_11 (by decide) (fun c_11 => ?_) (fun c_11 => ?_)
    · skip
      refine lv_bipush (v := (-2)) hx hb dX1_fix_19 (by decide +kernel) ?_
      exact hE 21 ls H locs ((-2)) (n, ct, sk, fc, ff, ft, bx, ub, fx, wa, le, pa, qu) dX1_fix_21 (⟨fx, rfl, Or.inr (Or.inl ⟨inR_nI hv, inR_neg (by decide) c_11, rfl, rfl⟩)⟩) hI
    · skip
      refine lv_iload_n hx hb dX1_fix_14 rfl (lv_at hl 2 rfl) ?_
      refine lv_iconst (v := nI 2) hx hb dX1_fix_15 (by decide +kernel) ?_
      refine lv_icmp_le (tgt := 22) hx hb dX1_fix_16 (by decide) (fun c_16 => ?_) (fun c_16 => ?_)
      · skip
        obtain ⟨f, hf, rfl⟩ : inR y 3 := inR_ofL (by decide) c_11 c_16
        refine lv_aload_n hx hb dX1_fix_22 rfl (lv_at hl 0 rfl) ?_
        refine r_getU (v := .ref (a 6)) hC hI 5 (by decide) q33 rfl rfl dX1_fix_23 ?_
        refine lv_iload_n hx hb dX1_fix_26 rfl (lv_at hl 1 rfl) ?_
        refine r_ald (N := 10) (f := fx) (j := v) hC hI 6 wU_g6 (by omega) (by decide) dX1_fix_27 ?_
        refine lv_istore_n (lv' := [(3, .int (nI (fx v))), (0, .ref (a 0)), (1, .int (nI v)), (2, .int (nI f))]) hx hb dX1_fix_28 rfl hl (by decide) rfl (fun ls hl => ?_)
        refine lv_aload_n hx hb dX1_fix_29 rfl (lv_at hl 1 rfl) ?_
        refine r_getU (v := .ref (a 6)) hC hI 5 (by decide) q33 rfl rfl dX1_fix_30 ?_
        refine lv_iload_n hx hb dX1_fix_33 rfl (lv_at hl 2 rfl) ?_
        refine lv_iload_n hx hb dX1_fix_34 rfl (lv_at hl 3 rfl) ?_
        refine r_ast (N := 10) (f := fx) (j := v) (x := f) (ws' := wU d a (n, ct, sk, fc, ff, ft, bx, ub, (updN fx v f), wa, le, pa, qu)) hC hI 6 wU_g6 (by omega) (by decide) wU_s6 dX1_fix_35 (fun H locs hI => ?_)
        refine lv_iload_n hx hb dX1_fix_36 rfl (lv_at hl 0 rfl) ?_
        exact hE 37 ls H locs (nI (fx v)) (n, ct, sk, fc, ff, ft, bx, ub, (updN fx v f), wa, le, pa, qu) dX1_fix_37 (⟨_, rfl, Or.inr (Or.inr ⟨v, f, hv, hf, rfl, rfl, rfl, rfl⟩)⟩) hI
      · skip
        refine lv_bipush (v := (-2)) hx hb dX1_fix_19 (by decide +kernel) ?_
        exact hE 21 ls H locs ((-2)) (n, ct, sk, fc, ff, ft, bx, ub, fx, wa, le, pa, qu) dX1_fix_21 (⟨fx, rfl, Or.inr (Or.inl ⟨inR_nI hv, inR_bigL (by decide) c_16, rfl, rfl⟩)⟩) hI
  · skip
    refine lv_iconst (v := (-1)) hx hb dX1_fix_8 (by decide +kernel) ?_
    exact hE 9 ls H locs ((-1)) (n, ct, sk, fc, ff, ft, bx, ub, fx, wa, le, pa, qu) dX1_fix_9 (⟨fx, rfl, Or.inl ⟨yesNo_eq hy c_5, rfl, rfl⟩⟩) hI
set_option maxHeartbeats 4000000 in
/-- flow(x, y, z, t) -/
theorem mU_flow (l : Launch) (D : va_G) (d : ClassId) (a : Nat → Nat) (n ct sk : Nat) (fc ff ft bx ub fx wa le pa qu : Nat → Nat) (x y z t : Int32) (hn : n ≤ 10) (hct : ct ≤ 20) : qI l yX1_flow cX1_flow 5 .int ro1 D d (wU d a) (n, ct, sk, fc, ff, ft, bx, ub, fx, wa, le, pa, qu) [.ref (a 0), .int x, .int y, .int z, .int t] (fun r u => ∃ (ct' : Nat) (ff' ft' bx' ub' : Nat → Nat), u = (n, ct', sk, fc, ff', ft', bx', ub', fx, wa, le, pa, qu) ∧ sFlow n ct ff ft bx ub x y z t r ct' ff' ft' bx' ub') := by
  refine qI_of RX1 rfl (by decide) (Nat.le_of_ble_eq_true rfl) (fun _ _ _ => rfl) ?_
  intro p e s m below meth c0 A Q H locs ls hC hA hI hl hE
  have hx := hC.1.1
  have hb := hC.1.2.1
  have hown := hC.1.2.2.2.1
  have hts := hC.1.2.2.2.2
  have hl : lv_has ls 5 [(0, .ref (a 0)), (1, .int x), (2, .int y), (3, .int z), (4, .int t)] := hl
  refine lv_aload_n hx hb dX1_flow_0 rfl (lv_at hl 0 rfl) ?_
  refine lv_iload_n hx hb dX1_flow_1 rfl (lv_at hl 1 rfl) ?_
  refine go_i (rest := []) hC hA hI (mU_isValue l D d a n ct sk fc ff ft bx ub fx wa le pa qu x (by omega)) (ci := 0) rfl rfl 1 (lw_V q77 q79 qs0 q18 q80) (by decide +kernel) ⟨Nat.le_of_ble_eq_true rfl, Nat.le_of_ble_eq_true rfl⟩ rfl rfl rfl hl.1 rfl (Nat.le_of_ble_eq_true rfl) dX1_flow_2 ⟨Nat.zero_le _, Nat.zero_le _⟩ (fun r_2 u_2 H locs hp hI => ?_)
  obtain ⟨hy, rfl⟩ := hp
  refine lv_if_eq (tgt := 16) hx hb dX1_flow_5 (by decide) (fun c_5 => ?_) (fun c_5 => ?_)
  · skip
    refine lv_iconst (v := (-1)) hx hb dX1_flow_16 (by decide +kernel) ?_
    exact hE 17 ls H locs ((-1)) (n, ct, sk, fc, ff, ft, bx, ub, fx, wa, le, pa, qu) dX1_flow_17 (⟨ct, ff, ft, bx, ub, rfl, Or.inl ⟨Or.inl ⟨fun q => yesNo_eq hy c_5 q.1, rfl⟩, rfl, rfl, rfl, rfl, rfl⟩⟩) hI
  · skip
    refine lv_aload_n hx hb dX1_flow_8 rfl (lv_at hl 0 rfl) ?_
    refine lv_iload_n hx hb dX1_flow_9 rfl (lv_at hl 2 rfl) ?_
    refine go_i (rest := []) hC hA hI (mU_isValue l D d a n ct sk fc ff ft bx ub fx wa le pa qu y (by omega)) (ci := 0) rfl rfl 1 (lw_V q77 q79 qs0 q18 q80) (by decide +kernel) ⟨Nat.le_of_ble_eq_true rfl, Nat.le_of_ble_eq_true rfl⟩ rfl rfl rfl hl.1 rfl (Nat.le_of_ble_eq_true rfl) dX1_flow_10 ⟨Nat.zero_le _, Nat.zero_le _⟩ (fun r_10 u_10 H locs hp hI => ?_)
    obtain ⟨hz, rfl⟩ := hp
    refine lv_if_ne (tgt := 18) hx hb dX1_flow_13 (by decide) (fun c_13 => ?_) (fun c_13 => ?_)
    · skip
      have hxy : inR x n ∧ inR y n := ⟨yesNo_ne hy c_5, yesNo_ne hz c_13⟩
      refine lv_iload_n hx hb dX1_flow_18 rfl (lv_at hl 1 rfl) ?_
      refine lv_iload_n hx hb dX1_flow_19 rfl (lv_at hl 2 rfl) ?_
      refine lv_icmp_ne (tgt := 26) hx hb dX1_flow_20 (by decide) (fun c_20 => ?_) (fun c_20 => ?_)
      · skip
        refine lv_iload_n hx hb dX1_flow_26 rfl (lv_at hl 3 rfl) ?_
        refine lv_if_lt (tgt := 48) hx hb dX1_flow_27 (by decide) (fun c_27 => ?_) (fun c_27 => ?_)
        · skip
          refine lv_bipush (v := (-3)) hx hb dX1_flow_48 (by decide +kernel) ?_
          exact hE 50 ls H locs ((-3)) (n, ct, sk, fc, ff, ft, bx, ub, fx, wa, le, pa, qu) dX1_flow_50 (⟨ct, ff, ft, bx, ub, rfl, Or.inl ⟨Or.inr (Or.inr (Or.inl ⟨hxy, c_20, fun q => inR_neg (by decide) c_27 q.1, rfl⟩)), rfl, rfl, rfl, rfl, rfl⟩⟩) hI
        · skip
          refine lv_iload_n hx hb dX1_flow_30 rfl (lv_at hl 3 rfl) ?_
          refine lv_bipush (v := nI 30) hx hb dX1_flow_31 (by decide +kernel) ?_
          refine lv_icmp_gt (tgt := 48) hx hb dX1_flow_33 (by decide) (fun c_33 => ?_) (fun c_33 => ?_)
          · skip
            refine lv_bipush (v := (-3)) hx hb dX1_flow_48 (by decide +kernel) ?_
            exact hE 50 ls H locs ((-3)) (n, ct, sk, fc, ff, ft, bx, ub, fx, wa, le, pa, qu) dX1_flow_50 (⟨ct, ff, ft, bx, ub, rfl, Or.inl ⟨Or.inr (Or.inr (Or.inl ⟨hxy, c_20, fun q => inR_bigG (by decide) c_33 q.1, rfl⟩)), rfl, rfl, rfl, rfl, rfl⟩⟩) hI
          · skip
            refine lv_iload hx hb dX1_flow_36 (lv_at hl 4 rfl) ?_
            refine lv_if_lt (tgt := 48) hx hb dX1_flow_38 (by decide) (fun c_38 => ?_) (fun c_38 => ?_)
            · skip
              refine lv_bipush (v := (-3)) hx hb dX1_flow_48 (by decide +kernel) ?_
              exact hE 50 ls H locs ((-3)) (n, ct, sk, fc, ff, ft, bx, ub, fx, wa, le, pa, qu) dX1_flow_50 (⟨ct, ff, ft, bx, ub, rfl, Or.inl ⟨Or.inr (Or.inr (Or.inl ⟨hxy, c_20, fun q => inR_neg (by decide) c_38 q.2, rfl⟩)), rfl, rfl, rfl, rfl, rfl⟩⟩) hI
            · skip
              refine lv_iload hx hb dX1_flow_41 (lv_at hl 4 rfl) ?_
              refine lv_bipush (v := nI 30) hx hb dX1_flow_43 (by decide +kernel) ?_
              refine lv_icmp_le (tgt := 51) hx hb dX1_flow_45 (by decide) (fun c_45 => ?_) (fun c_45 => ?_)
              · skip
                have hzt : inR z 31 ∧ inR t 31 := ⟨inR_ofG (by decide) c_27 c_33, inR_ofL (by decide) c_38 c_45⟩
                refine lv_aload_n hx hb dX1_flow_51 rfl (lv_at hl 0 rfl) ?_
                refine r_getU (v := .int (nI ct)) hC hI 11 (by decide) q39 rfl rfl dX1_flow_52 ?_
                refine lv_bipush (v := nI 20) hx hb dX1_flow_55 (by decide +kernel) ?_
                refine r_ne (tgt := 63) hx hb dX1_flow_57 (by decide) (by omega) (by omega) (fun c_57 => ?_) (fun c_57 => ?_)
                · skip
                  obtain ⟨⟨u, hu, rfl⟩, ⟨v, hv, rfl⟩⟩ := hxy
                  obtain ⟨⟨q, hq, rfl⟩, ⟨b, hb3, rfl⟩⟩ := hzt
                  refine lv_aload_n hx hb dX1_flow_63 rfl (lv_at hl 0 rfl) ?_
                  refine r_getU (v := .ref (a 2)) hC hI 1 (by decide) q29 rfl rfl dX1_flow_64 ?_
                  refine lv_aload_n hx hb dX1_flow_67 rfl (lv_at hl 0 rfl) ?_
                  refine r_getU (v := .int (nI ct)) hC hI 11 (by decide) q39 rfl rfl dX1_flow_68 ?_
                  refine lv_iload_n hx hb dX1_flow_71 rfl (lv_at hl 1 rfl) ?_
                  refine r_ast (N := 20) (f := ff) (j := ct) (x := u) (ws' := wU d a (n, ct, sk, fc, (updN ff ct u), ft, bx, ub, fx, wa, le, pa, qu)) hC hI 2 wU_g2 (by omega) (by decide) wU_s2 dX1_flow_72 (fun H locs hI => ?_)
                  refine lv_aload_n hx hb dX1_flow_73 rfl (lv_at hl 0 rfl) ?_
                  refine r_getU (v := .ref (a 3)) hC hI 2 (by decide) q30 rfl rfl dX1_flow_74 ?_
                  refine lv_aload_n hx hb dX1_flow_77 rfl (lv_at hl 0 rfl) ?_
                  refine r_getU (v := .int (nI ct)) hC hI 11 (by decide) q39 rfl rfl dX1_flow_78 ?_
                  refine lv_iload_n hx hb dX1_flow_81 rfl (lv_at hl 2 rfl) ?_
                  refine r_ast (N := 20) (f := ft) (j := ct) (x := v) (ws' := wU d a (n, ct, sk, fc, (updN ff ct u), (updN ft ct v), bx, ub, fx, wa, le, pa, qu)) hC hI 3 wU_g3 (by omega) (by decide) wU_s3 dX1_flow_82 (fun H locs hI => ?_)
                  refine lv_aload_n hx hb dX1_flow_83 rfl (lv_at hl 0 rfl) ?_
                  refine r_getU (v := .ref (a 4)) hC hI 3 (by decide) q31 rfl rfl dX1_flow_84 ?_
                  refine lv_aload_n hx hb dX1_flow_87 rfl (lv_at hl 0 rfl) ?_
                  refine r_getU (v := .int (nI ct)) hC hI 11 (by decide) q39 rfl rfl dX1_flow_88 ?_
                  refine lv_iload_n hx hb dX1_flow_91 rfl (lv_at hl 3 rfl) ?_
                  refine r_ast (N := 20) (f := bx) (j := ct) (x := q) (ws' := wU d a (n, ct, sk, fc, (updN ff ct u), (updN ft ct v), (updN bx ct q), ub, fx, wa, le, pa, qu)) hC hI 4 wU_g4 (by omega) (by decide) wU_s4 dX1_flow_92 (fun H locs hI => ?_)
                  refine lv_aload_n hx hb dX1_flow_93 rfl (lv_at hl 0 rfl) ?_
                  refine r_getU (v := .ref (a 5)) hC hI 4 (by decide) q32 rfl rfl dX1_flow_94 ?_
                  refine lv_aload_n hx hb dX1_flow_97 rfl (lv_at hl 0 rfl) ?_
                  refine r_getU (v := .int (nI ct)) hC hI 11 (by decide) q39 rfl rfl dX1_flow_98 ?_
                  refine lv_iload hx hb dX1_flow_101 (lv_at hl 4 rfl) ?_
                  refine r_ast (N := 20) (f := ub) (j := ct) (x := b) (ws' := wU d a (n, ct, sk, fc, (updN ff ct u), (updN ft ct v), (updN bx ct q), (updN ub ct b), fx, wa, le, pa, qu)) hC hI 5 wU_g5 (by omega) (by decide) wU_s5 dX1_flow_103 (fun H locs hI => ?_)
                  refine lv_aload_n hx hb dX1_flow_104 rfl (lv_at hl 0 rfl) ?_
                  refine lv_dup hx hb dX1_flow_105 rfl ?_
                  refine r_getU (v := .int (nI ct)) hC hI 11 (by decide) q39 rfl rfl dX1_flow_106 ?_
                  refine lv_iconst (v := nI 1) hx hb dX1_flow_109 (by decide +kernel) ?_
                  refine r_add hx hb dX1_flow_110 ?_
                  refine r_putU (n, (ct + 1), sk, fc, (updN ff ct u), (updN ft ct v), (updN bx ct q), (updN ub ct b), fx, wa, le, pa, qu) hC hI 11 (by decide) q39 rfl rfl (by decide +kernel) wU_p11 dX1_flow_111 (fun H locs hI => ?_)
                  refine lv_aload_n hx hb dX1_flow_114 rfl (lv_at hl 0 rfl) ?_
                  refine r_getU (v := .int (nI (ct + 1))) hC hI 11 (by decide) q39 rfl rfl dX1_flow_115 ?_
                  refine lv_iconst (v := nI 1) hx hb dX1_flow_118 (by decide +kernel) ?_
                  refine r_sub hx hb (by omega) dX1_flow_119 ?_
                  exact hE 120 ls H locs (nI ((ct + 1) - 1)) (n, (ct + 1), sk, fc, (updN ff ct u), (updN ft ct v), (updN bx ct q), (updN ub ct b), fx, wa, le, pa, qu) dX1_flow_120 (⟨_, _, _, _, _, rfl, Or.inr ⟨u, v, q, b, hu, hv, hq, hb3, rfl, rfl, rfl, rfl, c_20, c_57, rfl, rfl, rfl, rfl, rfl, rfl⟩⟩) hI
                · skip
                  refine lv_bipush (v := (-4)) hx hb dX1_flow_60 (by decide +kernel) ?_
                  exact hE 62 ls H locs ((-4)) (n, ct, sk, fc, ff, ft, bx, ub, fx, wa, le, pa, qu) dX1_flow_62 (⟨ct, ff, ft, bx, ub, rfl, Or.inl ⟨Or.inr (Or.inr (Or.inr ⟨hxy, c_20, hzt, c_57, rfl⟩)), rfl, rfl, rfl, rfl, rfl⟩⟩) hI
              · skip
                refine lv_bipush (v := (-3)) hx hb dX1_flow_48 (by decide +kernel) ?_
                exact hE 50 ls H locs ((-3)) (n, ct, sk, fc, ff, ft, bx, ub, fx, wa, le, pa, qu) dX1_flow_50 (⟨ct, ff, ft, bx, ub, rfl, Or.inl ⟨Or.inr (Or.inr (Or.inl ⟨hxy, c_20, fun q => inR_bigL (by decide) c_45 q.2, rfl⟩)), rfl, rfl, rfl, rfl, rfl⟩⟩) hI
      · skip
        refine lv_bipush (v := (-2)) hx hb dX1_flow_23 (by decide +kernel) ?_
        exact hE 25 ls H locs ((-2)) (n, ct, sk, fc, ff, ft, bx, ub, fx, wa, le, pa, qu) dX1_flow_25 (⟨ct, ff, ft, bx, ub, rfl, Or.inl ⟨Or.inr (Or.inl ⟨hxy, c_20, rfl⟩), rfl, rfl, rfl, rfl, rfl⟩⟩) hI
    · skip
      refine lv_iconst (v := (-1)) hx hb dX1_flow_16 (by decide +kernel) ?_
      exact hE 17 ls H locs ((-1)) (n, ct, sk, fc, ff, ft, bx, ub, fx, wa, le, pa, qu) dX1_flow_17 (⟨ct, ff, ft, bx, ub, rfl, Or.inl ⟨Or.inl ⟨fun q => yesNo_eq hz c_13 q.2, rfl⟩, rfl, rfl, rfl, rfl, rfl⟩⟩) hI
set_option maxHeartbeats 4000000 in
/-- cut(x) -/
theorem mU_cut (l : Launch) (D : va_G) (d : ClassId) (a : Nat → Nat) (n ct sk : Nat) (fc ff ft bx ub fx wa le pa qu : Nat → Nat) (x : Int32) (hct : ct ≤ 20) : qI l yX1_cut cX1_cut 3 .int ro1 D d (wU d a) (n, ct, sk, fc, ff, ft, bx, ub, fx, wa, le, pa, qu) [.ref (a 0), .int x] (fun r u => ∃ (ct' : Nat) (ff' ft' bx' ub' : Nat → Nat), u = (n, ct', sk, fc, ff', ft', bx', ub', fx, wa, le, pa, qu) ∧ sCut ct ff ft bx ub x r ct' ff' ft' bx' ub') := by
  refine qI_of RX1 rfl (by decide) (Nat.le_of_ble_eq_true rfl) (fun _ _ _ => rfl) ?_
  intro p e s m below meth c0 A Q H locs ls hC hA hI hl hE
  have hx := hC.1.1
  have hb := hC.1.2.1
  have hown := hC.1.2.2.2.1
  have hts := hC.1.2.2.2.2
  have hl : lv_has ls 3 [(0, .ref (a 0)), (1, .int x)] := hl
  refine lv_aload_n hx hb dX1_cut_0 rfl (lv_at hl 0 rfl) ?_
  refine lv_iload_n hx hb dX1_cut_1 rfl (lv_at hl 1 rfl) ?_
  refine go_i (rest := []) hC hA hI (mU_isFlow l D d a n ct sk fc ff ft bx ub fx wa le pa qu x (by omega)) (ci := 0) rfl rfl 1 (lw_V q89 q91 qs1 q18 q92) (by decide +kernel) ⟨Nat.le_of_ble_eq_true rfl, Nat.le_of_ble_eq_true rfl⟩ rfl rfl rfl hl.1 rfl (Nat.le_of_ble_eq_true rfl) dX1_cut_2 ⟨Nat.zero_le _, Nat.zero_le _⟩ (fun r_2 u_2 H locs hp hI => ?_)
  obtain ⟨hy, rfl⟩ := hp
  refine lv_if_ne (tgt := 10) hx hb dX1_cut_5 (by decide) (fun c_5 => ?_) (fun c_5 => ?_)
  · skip
    obtain ⟨f, hf, rfl⟩ := yesNo_ne hy c_5
    refine lv_iload_n hx hb dX1_cut_10 rfl (lv_at hl 1 rfl) ?_
    refine lv_iconst (v := nI 1) hx hb dX1_cut_11 (by decide +kernel) ?_
    refine r_add hx hb dX1_cut_12 ?_
    refine lv_istore_n (lv' := [(2, .int (nI (f + 1))), (0, .ref (a 0)), (1, .int (nI f))]) hx hb dX1_cut_13 rfl hl (by decide) rfl (fun ls hl => ?_)
    have hI0 := hI
    have hl0 := hl
    clear hI hl
    have L1 : ∀ (j : Nat) (i : Nat) (H : Heap) (locs : List Loc) (ls : Array Slot), (i ≤ ct) → (ct + 1 ≤ i + j) → (f < i) → IW D A s.heap (wU d a (n, ct, sk, fc, (shf ff f i), (shf ft f i), (shf bx f i), (shf ub f i), fx, wa, le, pa, qu)) H locs → lv_has ls 3 [(0, .ref (a 0)), (2, .int (nI i))] → W p l e ro1 s m ([.ref (a 0), .int (nI f)] : List Value).toArray below meth c0 H locs 0 0 Q (F0 m 14 ls []) := by
      intro j
      induction j with
      | zero => intro i H locs ls hi hj hfi hI hl; exact absurd hj (by omega)
      | succ j ih =>
        intro i H locs ls hi hj hfi hI hl
        refine lv_iload_n hx hb dX1_cut_14 rfl (lv_at hl 1 rfl) ?_
        refine lv_aload_n hx hb dX1_cut_15 rfl (lv_at hl 0 rfl) ?_
        refine r_getU (v := .int (nI ct)) hC hI 11 (by decide) q39 rfl rfl dX1_cut_16 ?_
        refine r_ge (tgt := 84) hx hb dX1_cut_19 (by decide) (by omega) (by omega) (fun c_19 => ?_) (fun c_19 => ?_)
        · skip
          have ei : i = ct := by omega
          rw [ei] at hI hl
          refine lv_aload_n hx hb dX1_cut_84 rfl (lv_at hl 0 rfl) ?_
          refine lv_dup hx hb dX1_cut_85 rfl ?_
          refine r_getU (v := .int (nI ct)) hC hI 11 (by decide) q39 rfl rfl dX1_cut_86 ?_
          refine lv_iconst (v := nI 1) hx hb dX1_cut_89 (by decide +kernel) ?_
          refine r_sub hx hb (by omega) dX1_cut_90 ?_
          refine r_putU (n, (ct - 1), sk, fc, (shf ff f ct), (shf ft f ct), (shf bx f ct), (shf ub f ct), fx, wa, le, pa, qu) hC hI 11 (by decide) q39 rfl rfl (by decide +kernel) wU_p11 dX1_cut_91 (fun H locs hI => ?_)
          refine lv_aload_n hx hb dX1_cut_94 rfl (lv_at hl 0 rfl) ?_
          refine r_getU (v := .int (nI (ct - 1))) hC hI 11 (by decide) q39 rfl rfl dX1_cut_95 ?_
          exact hE 98 ls H locs (nI (ct - 1)) (n, (ct - 1), sk, fc, (shf ff f ct), (shf ft f ct), (shf bx f ct), (shf ub f ct), fx, wa, le, pa, qu) dX1_cut_98 (⟨_, _, _, _, _, rfl, Or.inr ⟨f, hf, rfl, rfl, rfl, rfl, rfl, rfl, rfl⟩⟩) hI
        · skip
          refine lv_aload_n hx hb dX1_cut_22 rfl (lv_at hl 0 rfl) ?_
          refine r_getU (v := .ref (a 2)) hC hI 1 (by decide) q29 rfl rfl dX1_cut_23 ?_
          refine lv_iload_n hx hb dX1_cut_26 rfl (lv_at hl 1 rfl) ?_
          refine lv_iconst (v := nI 1) hx hb dX1_cut_27 (by decide +kernel) ?_
          refine r_sub hx hb (by omega) dX1_cut_28 ?_
          refine lv_aload_n hx hb dX1_cut_29 rfl (lv_at hl 0 rfl) ?_
          refine r_getU (v := .ref (a 2)) hC hI 1 (by decide) q29 rfl rfl dX1_cut_30 ?_
          refine lv_iload_n hx hb dX1_cut_33 rfl (lv_at hl 1 rfl) ?_
          refine r_ald (N := 20) (f := (shf ff f i)) (j := i) hC hI 2 wU_g2 (by omega) (by decide) dX1_cut_34 ?_
          refine r_ast (N := 20) (f := (shf ff f i)) (j := i - 1) (x := (shf ff f i) i) (ws' := wU d a (n, ct, sk, fc, (updN (shf ff f i) (i - 1) ((shf ff f i) i)), (shf ft f i), (shf bx f i), (shf ub f i), fx, wa, le, pa, qu)) hC hI 2 wU_g2 (by omega) (by decide) wU_s2 dX1_cut_35 (fun H locs hI => ?_)
          refine lv_aload_n hx hb dX1_cut_36 rfl (lv_at hl 0 rfl) ?_
          refine r_getU (v := .ref (a 3)) hC hI 2 (by decide) q30 rfl rfl dX1_cut_37 ?_
          refine lv_iload_n hx hb dX1_cut_40 rfl (lv_at hl 1 rfl) ?_
          refine lv_iconst (v := nI 1) hx hb dX1_cut_41 (by decide +kernel) ?_
          refine r_sub hx hb (by omega) dX1_cut_42 ?_
          refine lv_aload_n hx hb dX1_cut_43 rfl (lv_at hl 0 rfl) ?_
          refine r_getU (v := .ref (a 3)) hC hI 2 (by decide) q30 rfl rfl dX1_cut_44 ?_
          refine lv_iload_n hx hb dX1_cut_47 rfl (lv_at hl 1 rfl) ?_
          refine r_ald (N := 20) (f := (shf ft f i)) (j := i) hC hI 3 wU_g3 (by omega) (by decide) dX1_cut_48 ?_
          refine r_ast (N := 20) (f := (shf ft f i)) (j := i - 1) (x := (shf ft f i) i) (ws' := wU d a (n, ct, sk, fc, (updN (shf ff f i) (i - 1) ((shf ff f i) i)), (updN (shf ft f i) (i - 1) ((shf ft f i) i)), (shf bx f i), (shf ub f i), fx, wa, le, pa, qu)) hC hI 3 wU_g3 (by omega) (by decide) wU_s3 dX1_cut_49 (fun H locs hI => ?_)
          refine lv_aload_n hx hb dX1_cut_50 rfl (lv_at hl 0 rfl) ?_
          refine r_getU (v := .ref (a 4)) hC hI 3 (by decide) q31 rfl rfl dX1_cut_51 ?_
          refine lv_iload_n hx hb dX1_cut_54 rfl (lv_at hl 1 rfl) ?_
          refine lv_iconst (v := nI 1) hx hb dX1_cut_55 (by decide +kernel) ?_
          refine r_sub hx hb (by omega) dX1_cut_56 ?_
          refine lv_aload_n hx hb dX1_cut_57 rfl (lv_at hl 0 rfl) ?_
          refine r_getU (v := .ref (a 4)) hC hI 3 (by decide) q31 rfl rfl dX1_cut_58 ?_
          refine lv_iload_n hx hb dX1_cut_61 rfl (lv_at hl 1 rfl) ?_
          refine r_ald (N := 20) (f := (shf bx f i)) (j := i) hC hI 4 wU_g4 (by omega) (by decide) dX1_cut_62 ?_
          refine r_ast (N := 20) (f := (shf bx f i)) (j := i - 1) (x := (shf bx f i) i) (ws' := wU d a (n, ct, sk, fc, (updN (shf ff f i) (i - 1) ((shf ff f i) i)), (updN (shf ft f i) (i - 1) ((shf ft f i) i)), (updN (shf bx f i) (i - 1) ((shf bx f i) i)), (shf ub f i), fx, wa, le, pa, qu)) hC hI 4 wU_g4 (by omega) (by decide) wU_s4 dX1_cut_63 (fun H locs hI => ?_)
          refine lv_aload_n hx hb dX1_cut_64 rfl (lv_at hl 0 rfl) ?_
          refine r_getU (v := .ref (a 5)) hC hI 4 (by decide) q32 rfl rfl dX1_cut_65 ?_
          refine lv_iload_n hx hb dX1_cut_68 rfl (lv_at hl 1 rfl) ?_
          refine lv_iconst (v := nI 1) hx hb dX1_cut_69 (by decide +kernel) ?_
          refine r_sub hx hb (by omega) dX1_cut_70 ?_
          refine lv_aload_n hx hb dX1_cut_71 rfl (lv_at hl 0 rfl) ?_
          refine r_getU (v := .ref (a 5)) hC hI 4 (by decide) q32 rfl rfl dX1_cut_72 ?_
          refine lv_iload_n hx hb dX1_cut_75 rfl (lv_at hl 1 rfl) ?_
          refine r_ald (N := 20) (f := (shf ub f i)) (j := i) hC hI 5 wU_g5 (by omega) (by decide) dX1_cut_76 ?_
          refine r_ast (N := 20) (f := (shf ub f i)) (j := i - 1) (x := (shf ub f i) i) (ws' := wU d a (n, ct, sk, fc, (updN (shf ff f i) (i - 1) ((shf ff f i) i)), (updN (shf ft f i) (i - 1) ((shf ft f i) i)), (updN (shf bx f i) (i - 1) ((shf bx f i) i)), (updN (shf ub f i) (i - 1) ((shf ub f i) i)), fx, wa, le, pa, qu)) hC hI 5 wU_g5 (by omega) (by decide) wU_s5 dX1_cut_77 (fun H locs hI => ?_)
          rw [shf_s ff hfi, shf_s ft hfi, shf_s bx hfi, shf_s ub hfi] at hI
          refine lv_iinc (v := nI (i + 1)) (lv' := [(2, .int (nI (i + 1))), (0, .ref (a 0))]) hx hb dX1_cut_78 hl (k := 1) rfl (nI_1 i) (by decide) rfl (fun ls hl => ?_)
          refine lv_goto (tgt := 14) hx hb dX1_cut_81 (by decide) ?_
          exact ih (i + 1) H locs ls (by omega) (by omega) (by omega) hI (lv_sub hl [1, 0] rfl)
    exact L1 (ct + 1) (f + 1) H locs ls (by omega) (by omega) (by omega) (by rw [shf_0 ff, shf_0 ft, shf_0 bx, shf_0 ub]; exact hI0) (lv_sub hl0 [1, 0] rfl)
  · skip
    refine lv_iconst (v := (-1)) hx hb dX1_cut_8 (by decide +kernel) ?_
    exact hE 9 ls H locs ((-1)) (n, ct, sk, fc, ff, ft, bx, ub, fx, wa, le, pa, qu) dX1_cut_9 (⟨ct, ff, ft, bx, ub, rfl, Or.inl ⟨yesNo_eq hy c_5, rfl, rfl, rfl, rfl, rfl, rfl⟩⟩) hI
set_option maxHeartbeats 4000000 in
/-- costOf(x) -/
theorem mU_costOf (l : Launch) (D : va_G) (d : ClassId) (a : Nat → Nat) (n ct sk : Nat) (fc ff ft bx ub fx wa le pa qu : Nat → Nat) (x : Int32) (hg : gOK (n, ct, fc, ff, ft, bx, ub)) : qI l yX1_costOf cX1_costOf 6 .int ro1 D d (wU d a) (n, ct, sk, fc, ff, ft, bx, ub, fx, wa, le, pa, qu) [.ref (a 0), .int x] (fun r u => u = (n, ct, sk, fc, ff, ft, bx, ub, fx, wa, le, pa, qu) ∧ sCostOf (n, ct, fc, ff, ft, bx, ub) x r) := by
  refine qI_of RX1 rfl (by decide) (Nat.le_of_ble_eq_true rfl) (fun _ _ _ => rfl) ?_
  intro p e s m below meth c0 A Q H locs ls hC hA hI hl hE
  have hx := hC.1.1
  have hb := hC.1.2.1
  have hown := hC.1.2.2.2.1
  have hts := hC.1.2.2.2.2
  have hl : lv_has ls 6 [(0, .ref (a 0)), (1, .int x)] := hl
  have hn : n ≤ 10 := hg.2.1
  have hn2 : 2 ≤ n := hg.1
  have hct : ct ≤ 20 := hg.2.2.1
  have hfc : ∀ j, fc j ≤ 60 := hg.2.2.2.1
  have hff : ∀ f, ff f < n := hg.2.2.2.2.1
  have hft : ∀ f, ft f < n := hg.2.2.2.2.2.1
  have hbx : ∀ f, bx f ≤ 30 := hg.2.2.2.2.2.2.1
  have hub : ∀ f, ub f ≤ 30 := hg.2.2.2.2.2.2.2
  have hp2 := pow10 hn
  refine lv_aload_n hx hb dX1_costOf_0 rfl (lv_at hl 0 rfl) ?_
  refine lv_iload_n hx hb dX1_costOf_1 rfl (lv_at hl 1 rfl) ?_
  refine go_i (rest := []) hC hA hI (mU_isPlan l D d a n ct sk fc ff ft bx ub fx wa le pa qu x hn) (ci := 0) rfl rfl 1 (lw_V q105 q107 qs2 q18 q108) (by decide +kernel) ⟨Nat.le_of_ble_eq_true rfl, Nat.le_of_ble_eq_true rfl⟩ rfl rfl rfl hl.1 rfl (Nat.le_of_ble_eq_true rfl) dX1_costOf_2 ⟨Nat.zero_le _, Nat.zero_le _⟩ (fun r_2 u_2 H locs hp hI => ?_)
  obtain ⟨hy, rfl⟩ := hp
  refine lv_if_ne (tgt := 10) hx hb dX1_costOf_5 (by decide) (fun c_5 => ?_) (fun c_5 => ?_)
  · skip
    obtain ⟨P, hP, rfl⟩ := yesNo_ne hy c_5
    clear hy c_5
    have hI0 := hI
    have hl0 := hl
    clear hI hl
    have hP31 : P < 2 ^ 31 := by omega
    have L2 : ∀ (j : Nat) (f : Nat) (sm : Nat) (H : Heap) (locs : List Loc) (ls : Array Slot), (f ≤ ct) → (ct + 1 ≤ f + j) → (sm = vTot (n, ct, fc, ff, ft, bx, ub) P n + fTot (n, ct, fc, ff, ft, bx, ub) nNone P f) → IW D A s.heap (wU d a (n, ct, sk, fc, ff, ft, bx, ub, fx, wa, le, pa, qu)) H locs → lv_has ls 6 [(0, .ref (a 0)), (1, .int (nI P)), (2, .int (nI sm)), (3, .int (nI f))] → W p l e ro1 s m ([.ref (a 0), .int (nI P)] : List Value).toArray below meth c0 H locs 0 0 Q (F0 m 47 ls []) := by
      intro j
      induction j with
      | zero => intro f sm H locs ls hi hj hs hI hl; exact absurd hj (by omega)
      | succ j ih =>
        intro f sm H locs ls hi hj hs hI hl
        refine lv_iload_n hx hb dX1_costOf_47 rfl (lv_at hl 3 rfl) ?_
        refine lv_aload_n hx hb dX1_costOf_48 rfl (lv_at hl 0 rfl) ?_
        refine r_getU (v := .int (nI ct)) hC hI 11 (by decide) q39 rfl rfl dX1_costOf_49 ?_
        refine r_ge (tgt := 115) hx hb dX1_costOf_52 (by decide) (by omega) (by omega) (fun c_52 => ?_) (fun c_52 => ?_)
        · skip
          have ei : f = ct := by omega
          rw [ei] at hs
          refine lv_iload_n hx hb dX1_costOf_115 rfl (lv_at hl 2 rfl) ?_
          exact hE 116 ls H locs (nI sm) (n, ct, sk, fc, ff, ft, bx, ub, fx, wa, le, pa, qu) dX1_costOf_116 (⟨rfl, Or.inr ⟨P, hP, rfl, by rw [hs]; rfl⟩⟩) hI
        · skip
          have h1 := hff f
          have h2 := hft f
          have b1 := bq_lt P (ff f)
          have b2 := bq_lt P (ft f)
          refine lv_iload_n hx hb dX1_costOf_55 rfl (lv_at hl 1 rfl) ?_
          refine lv_aload_n hx hb dX1_costOf_56 rfl (lv_at hl 0 rfl) ?_
          refine r_getU (v := .ref (a 2)) hC hI 1 (by decide) q29 rfl rfl dX1_costOf_57 ?_
          refine lv_iload_n hx hb dX1_costOf_60 rfl (lv_at hl 3 rfl) ?_
          refine r_ald (N := 20) (f := ff) (j := f) hC hI 2 wU_g2 (by omega) (by decide) dX1_costOf_61 ?_
          refine r_shr hx hb (by omega) (by omega) dX1_costOf_62 ?_
          refine lv_iconst (v := nI 1) hx hb dX1_costOf_63 (by decide +kernel) ?_
          refine r_and1 hx hb dX1_costOf_64 ?_
          refine lv_istore (lv' := [(4, .int (nI (bq P (ff f)))), (0, .ref (a 0)), (1, .int (nI P)), (2, .int (nI sm)), (3, .int (nI f))]) hx hb dX1_costOf_65 hl (by decide) rfl (fun ls hl => ?_)
          refine lv_iload_n hx hb dX1_costOf_67 rfl (lv_at hl 2 rfl) ?_
          refine lv_aload_n hx hb dX1_costOf_68 rfl (lv_at hl 1 rfl) ?_
          refine r_getU (v := .ref (a 3)) hC hI 2 (by decide) q30 rfl rfl dX1_costOf_69 ?_
          refine lv_iload_n hx hb dX1_costOf_72 rfl (lv_at hl 4 rfl) ?_
          refine r_ald (N := 20) (f := ft) (j := f) hC hI 3 wU_g3 (by omega) (by decide) dX1_costOf_73 ?_
          refine r_shr hx hb (by omega) (by omega) dX1_costOf_74 ?_
          refine lv_iconst (v := nI 1) hx hb dX1_costOf_75 (by decide +kernel) ?_
          refine r_and1 hx hb dX1_costOf_76 ?_
          refine lv_istore (lv' := [(5, .int (nI (bq P (ft f)))), (4, .int (nI (bq P (ff f)))), (0, .ref (a 0)), (1, .int (nI P)), (2, .int (nI sm)), (3, .int (nI f))]) hx hb dX1_costOf_77 hl (by decide) rfl (fun ls hl => ?_)
          refine lv_iload hx hb dX1_costOf_79 (lv_at hl 1 rfl) ?_
          refine lv_iload hx hb dX1_costOf_81 (lv_at hl 0 rfl) ?_
          refine r_eq (tgt := 109) hx hb dX1_costOf_83 (by decide) (by omega) (by omega) (fun c_83 => ?_) (fun c_83 => ?_)
          · skip
            refine lv_iinc (v := nI (f + 1)) (lv' := [(3, .int (nI (f + 1))), (5, .int (nI (bq P (ft f)))), (4, .int (nI (bq P (ff f)))), (0, .ref (a 0)), (1, .int (nI P)), (2, .int (nI sm))]) hx hb dX1_costOf_109 hl (k := 5) rfl (nI_1 f) (by decide) rfl (fun ls hl => ?_)
            refine lv_goto (tgt := 47) hx hb dX1_costOf_112 (by decide) ?_
            exact ih (f + 1) _ H locs ls (by omega) (by omega) (by rw [fT_eq c_83]; exact hs) hI (lv_sub hl [3, 4, 5, 0] rfl)
          · skip
            refine lv_iload_n hx hb dX1_costOf_86 rfl (lv_at hl 4 rfl) ?_
            refine lv_iload hx hb dX1_costOf_87 (lv_at hl 1 rfl) ?_
            refine r_if_ne (tgt := 101) hx hb dX1_costOf_89 (by decide) (by omega) (fun c_89 => ?_) (fun c_89 => ?_)
            · skip
              refine lv_aload_n hx hb dX1_costOf_101 rfl (lv_at hl 2 rfl) ?_
              refine r_getU (v := .ref (a 5)) hC hI 4 (by decide) q32 rfl rfl dX1_costOf_102 ?_
              refine lv_iload_n hx hb dX1_costOf_105 rfl (lv_at hl 5 rfl) ?_
              refine r_ald (N := 20) (f := ub) (j := f) hC hI 5 wU_g5 (by omega) (by decide) dX1_costOf_106 ?_
              refine r_add hx hb dX1_costOf_107 ?_
              refine lv_istore_n (lv' := [(2, .int (nI (sm + (ub f)))), (5, .int (nI (bq P (ft f)))), (4, .int (nI (bq P (ff f)))), (0, .ref (a 0)), (1, .int (nI P)), (3, .int (nI f))]) hx hb dX1_costOf_108 rfl hl (by decide) rfl (fun ls hl => ?_)
              refine lv_iinc (v := nI (f + 1)) (lv' := [(3, .int (nI (f + 1))), (2, .int (nI (sm + (ub f)))), (5, .int (nI (bq P (ft f)))), (4, .int (nI (bq P (ff f)))), (0, .ref (a 0)), (1, .int (nI P))]) hx hb dX1_costOf_109 hl (k := 5) rfl (nI_1 f) (by decide) rfl (fun ls hl => ?_)
              refine lv_goto (tgt := 47) hx hb dX1_costOf_112 (by decide) ?_
              exact ih (f + 1) _ H locs ls (by omega) (by omega) (by rw [fT_ub (ne_none (by omega)) c_83 c_89, hs, Nat.add_assoc]) hI (lv_sub hl [4, 5, 1, 0] rfl)
            · skip
              refine lv_aload_n hx hb dX1_costOf_92 rfl (lv_at hl 2 rfl) ?_
              refine r_getU (v := .ref (a 4)) hC hI 3 (by decide) q31 rfl rfl dX1_costOf_93 ?_
              refine lv_iload_n hx hb dX1_costOf_96 rfl (lv_at hl 5 rfl) ?_
              refine r_ald (N := 20) (f := bx) (j := f) hC hI 4 wU_g4 (by omega) (by decide) dX1_costOf_97 ?_
              refine lv_goto (tgt := 107) hx hb dX1_costOf_98 (by decide) ?_
              refine r_add hx hb dX1_costOf_107 ?_
              refine lv_istore_n (lv' := [(2, .int (nI (sm + (bx f)))), (5, .int (nI (bq P (ft f)))), (4, .int (nI (bq P (ff f)))), (0, .ref (a 0)), (1, .int (nI P)), (3, .int (nI f))]) hx hb dX1_costOf_108 rfl hl (by decide) rfl (fun ls hl => ?_)
              refine lv_iinc (v := nI (f + 1)) (lv' := [(3, .int (nI (f + 1))), (2, .int (nI (sm + (bx f)))), (5, .int (nI (bq P (ft f)))), (4, .int (nI (bq P (ff f)))), (0, .ref (a 0)), (1, .int (nI P))]) hx hb dX1_costOf_109 hl (k := 5) rfl (nI_1 f) (by decide) rfl (fun ls hl => ?_)
              refine lv_goto (tgt := 47) hx hb dX1_costOf_112 (by decide) ?_
              exact ih (f + 1) _ H locs ls (by omega) (by omega) (by rw [fT_bx (ne_none (by omega)) c_83 c_89, hs, Nat.add_assoc]) hI (lv_sub hl [4, 5, 1, 0] rfl)
    have L1 : ∀ (j : Nat) (f : Nat) (sm : Nat) (H : Heap) (locs : List Loc) (ls : Array Slot), (f ≤ n) → (n + 1 ≤ f + j) → (sm = vTot (n, ct, fc, ff, ft, bx, ub) P f) → IW D A s.heap (wU d a (n, ct, sk, fc, ff, ft, bx, ub, fx, wa, le, pa, qu)) H locs → lv_has ls 6 [(0, .ref (a 0)), (1, .int (nI P)), (2, .int (nI sm)), (3, .int (nI f))] → W p l e ro1 s m ([.ref (a 0), .int (nI P)] : List Value).toArray below meth c0 H locs 0 0 Q (F0 m 14 ls []) := by
      intro j
      induction j with
      | zero => intro f sm H locs ls hi hj hs hI hl; exact absurd hj (by omega)
      | succ j ih =>
        intro f sm H locs ls hi hj hs hI hl
        refine lv_iload_n hx hb dX1_costOf_14 rfl (lv_at hl 3 rfl) ?_
        refine lv_aload_n hx hb dX1_costOf_15 rfl (lv_at hl 0 rfl) ?_
        refine r_getU (v := .int (nI n)) hC hI 10 (by decide) q38 rfl rfl dX1_costOf_16 ?_
        refine r_ge (tgt := 45) hx hb dX1_costOf_19 (by decide) (by omega) (by omega) (fun c_19 => ?_) (fun c_19 => ?_)
        · skip
          have ei : f = n := by omega
          rw [ei] at hs
          refine lv_iconst (v := nI 0) hx hb dX1_costOf_45 (by decide +kernel) ?_
          refine lv_istore_n (lv' := [(3, .int (nI 0)), (0, .ref (a 0)), (1, .int (nI P)), (2, .int (nI sm))]) hx hb dX1_costOf_46 rfl hl (by decide) rfl (fun ls hl => ?_)
          exact L2 (ct + 1) 0 sm H locs ls (by omega) (by omega) (by rw [hs]; rfl) hI (lv_sub hl [1, 2, 3, 0] rfl)
        · skip
          have b1 := bq_lt P f
          refine lv_iload_n hx hb dX1_costOf_22 rfl (lv_at hl 2 rfl) ?_
          refine lv_aload_n hx hb dX1_costOf_23 rfl (lv_at hl 0 rfl) ?_
          refine r_getU (v := .ref (a 1)) hC hI 0 (by decide) q28 rfl rfl dX1_costOf_24 ?_
          refine lv_iconst (v := nI 2) hx hb dX1_costOf_27 (by decide +kernel) ?_
          refine lv_iload_n hx hb dX1_costOf_28 rfl (lv_at hl 3 rfl) ?_
          refine r_mul hx hb dX1_costOf_29 ?_
          refine lv_iload_n hx hb dX1_costOf_30 rfl (lv_at hl 1 rfl) ?_
          refine lv_iload_n hx hb dX1_costOf_31 rfl (lv_at hl 3 rfl) ?_
          refine r_shr hx hb (by omega) (by omega) dX1_costOf_32 ?_
          refine lv_iconst (v := nI 1) hx hb dX1_costOf_33 (by decide +kernel) ?_
          refine r_and1 hx hb dX1_costOf_34 ?_
          refine r_add hx hb dX1_costOf_35 ?_
          refine r_ald (N := 20) (f := fc) (j := (2 * f) + (bq P f)) hC hI 1 wU_g1 (by omega) (by decide) dX1_costOf_36 ?_
          refine r_add hx hb dX1_costOf_37 ?_
          refine lv_istore_n (lv' := [(2, .int (nI (sm + (fc ((2 * f) + (bq P f)))))), (0, .ref (a 0)), (1, .int (nI P)), (3, .int (nI f))]) hx hb dX1_costOf_38 rfl hl (by decide) rfl (fun ls hl => ?_)
          refine lv_iinc (v := nI (f + 1)) (lv' := [(3, .int (nI (f + 1))), (2, .int (nI (sm + (fc ((2 * f) + (bq P f)))))), (0, .ref (a 0)), (1, .int (nI P))]) hx hb dX1_costOf_39 hl (k := 3) rfl (nI_1 f) (by decide) rfl (fun ls hl => ?_)
          refine lv_goto (tgt := 14) hx hb dX1_costOf_42 (by decide) ?_
          exact ih (f + 1) _ H locs ls (by omega) (by omega) (by rw [hs]; rfl) hI (lv_sub hl [2, 3, 1, 0] rfl)
    have hI := hI0
    have hl := hl0
    refine lv_iconst (v := nI 0) hx hb dX1_costOf_10 (by decide +kernel) ?_
    refine lv_istore_n (lv' := [(2, .int (nI 0)), (0, .ref (a 0)), (1, .int (nI P))]) hx hb dX1_costOf_11 rfl hl (by decide) rfl (fun ls hl => ?_)
    refine lv_iconst (v := nI 0) hx hb dX1_costOf_12 (by decide +kernel) ?_
    refine lv_istore_n (lv' := [(3, .int (nI 0)), (2, .int (nI 0)), (0, .ref (a 0)), (1, .int (nI P))]) hx hb dX1_costOf_13 rfl hl (by decide) rfl (fun ls hl => ?_)
    exact L1 (n + 1) 0 0 H locs ls (by omega) (by omega) rfl hI (lv_sub hl [2, 3, 1, 0] rfl)
  · skip
    refine lv_iconst (v := (-1)) hx hb dX1_costOf_8 (by decide +kernel) ?_
    exact hE 9 ls H locs ((-1)) (n, ct, sk, fc, ff, ft, bx, ub, fx, wa, le, pa, qu) dX1_costOf_9 (⟨rfl, Or.inl ⟨yesNo_eq hy c_5, rfl⟩⟩) hI
end
section
set_option maxRecDepth 100000
/-! UnboxPlanner: the questions (printed by gen_u5.py) -/
set_option maxHeartbeats 4000000 in
/-- best -/
theorem mU_best (l : Launch) (D : va_G) (d : ClassId) (a : Nat → Nat) (n ct : Nat) (fc ff ft bx ub fx wa le pa qu : Nat → Nat)  (hg : gOK (n, ct, fc, ff, ft, bx, ub)) (hfx : ∀ v, fx v ≤ 2) : qI l yX1_best cX1_best 1 .int ro2 D d (wU d a) (n, ct, nNone, fc, ff, ft, bx, ub, fx, wa, le, pa, qu) [.ref (a 0)] (fun r u => (∃ wa' le' pa' qu' : Nat → Nat, u = (n, ct, nNone, fc, ff, ft, bx, ub, fx, wa', le', pa', qu')) ∧ sBest (n, ct, fc, ff, ft, bx, ub) fx r) := by
  refine qI_of RX1 rfl (by decide) (Nat.le_of_ble_eq_true rfl) (fun _ _ _ => rfl) ?_
  intro p e s m below meth c0 A Q H locs ls hC hA hI hl hE
  have hx := hC.1.1
  have hb := hC.1.2.1
  have hown := hC.1.2.2.2.1
  have hts := hC.1.2.2.2.2
  have hl : lv_has ls 1 [(0, .ref (a 0))] := hl
  have hn : n ≤ 10 := hg.2.1
  have hn2 : 2 ≤ n := hg.1
  have hct : ct ≤ 20 := hg.2.2.1
  have hfc : ∀ j, fc j ≤ 60 := hg.2.2.2.1
  have hff : ∀ f, ff f < n := hg.2.2.2.2.1
  have hft : ∀ f, ft f < n := hg.2.2.2.2.2.1
  have hbx : ∀ f, bx f ≤ 30 := hg.2.2.2.2.2.2.1
  have hub : ∀ f, ub f ≤ 30 := hg.2.2.2.2.2.2.2
  have hp2 := pow10 hn
  refine lv_aload_n hx hb dX1_best_0 rfl (lv_at hl 0 rfl) ?_
  refine go_v (rest := []) hC hA hI (mU_takeFixed l D d a n ct nNone fc ff ft bx ub fx wa le pa qu hn) (ci := 0) rfl rfl 0 (lw_V q113 q115 qs3 q18 q116) (by decide +kernel) ⟨Nat.le_of_ble_eq_true rfl, Nat.le_of_ble_eq_true rfl⟩ rfl rfl rfl hl.1 rfl (Nat.le_of_ble_eq_true rfl) dX1_best_1 ⟨Nat.zero_le _, Nat.zero_le _⟩ (fun u_1 H locs hp hI => ?_)
  obtain ⟨wa2, rfl, hwa⟩ := hp
  have hw2 : ∀ v, v < n → wa2 v ≤ 2 := fun v hv => by rw [hwa v hv]; exact hfx v
  refine lv_aload_n hx hb dX1_best_4 rfl (lv_at hl 0 rfl) ?_
  refine go_i (rest := []) hC hA hI (mU_solve l D d a n ct nNone fc ff ft bx ub fx wa2 le pa qu hg hw2 (by decide)) (ci := 0) rfl rfl 0 (lw_V q117 q119 qs4 q18 q120) (by decide +kernel) ⟨Nat.le_of_ble_eq_true rfl, Nat.le_of_ble_eq_true rfl⟩ rfl rfl rfl hl.1 rfl (Nat.le_of_ble_eq_true rfl) dX1_best_5 ⟨Nat.zero_le _, Nat.zero_le _⟩ (fun r_5 u_5 H locs hp hI => ?_)
  obtain ⟨T, le2, pa2, qu2, rfl, rfl, hsol⟩ := hp
  exact hE 8 ls H locs (nI T) (n, ct, nNone, fc, ff, ft, bx, ub, fx, wa2, le2, pa2, qu2) dX1_best_8 (⟨⟨_, _, _, _, rfl⟩, T, rfl, (isMin_iff (fun P _ => okP_cong hwa P) (sol_min hg hw2 hsol))⟩) hI
set_option maxHeartbeats 4000000 in
/-- fewestBoxed -/
theorem mU_fewestBoxed (l : Launch) (D : va_G) (d : ClassId) (a : Nat → Nat) (n ct : Nat) (fc ff ft bx ub fx wa le pa qu : Nat → Nat)  (hg : gOK (n, ct, fc, ff, ft, bx, ub)) (hfx : ∀ v, fx v ≤ 2) : qI l yX1_fewestBoxed cX1_fewestBoxed 1 .int ro2 D d (wU d a) (n, ct, nNone, fc, ff, ft, bx, ub, fx, wa, le, pa, qu) [.ref (a 0)] (fun r u => (∃ wa' le' pa' qu' : Nat → Nat, u = (n, ct, nNone, fc, ff, ft, bx, ub, fx, wa', le', pa', qu')) ∧ sCom (n, ct, fc, ff, ft, bx, ub) fx r) := by
  refine qI_of RX1 rfl (by decide) (Nat.le_of_ble_eq_true rfl) (fun _ _ _ => rfl) ?_
  intro p e s m below meth c0 A Q H locs ls hC hA hI hl hE
  have hx := hC.1.1
  have hb := hC.1.2.1
  have hown := hC.1.2.2.2.1
  have hts := hC.1.2.2.2.2
  have hl : lv_has ls 1 [(0, .ref (a 0))] := hl
  have hn : n ≤ 10 := hg.2.1
  have hn2 : 2 ≤ n := hg.1
  have hct : ct ≤ 20 := hg.2.2.1
  have hfc : ∀ j, fc j ≤ 60 := hg.2.2.2.1
  have hff : ∀ f, ff f < n := hg.2.2.2.2.1
  have hft : ∀ f, ft f < n := hg.2.2.2.2.2.1
  have hbx : ∀ f, bx f ≤ 30 := hg.2.2.2.2.2.2.1
  have hub : ∀ f, ub f ≤ 30 := hg.2.2.2.2.2.2.2
  have hp2 := pow10 hn
  refine lv_aload_n hx hb dX1_fewestBoxed_0 rfl (lv_at hl 0 rfl) ?_
  refine go_v (rest := []) hC hA hI (mU_takeFixed l D d a n ct nNone fc ff ft bx ub fx wa le pa qu hn) (ci := 0) rfl rfl 0 (lw_V q113 q115 qs3 q18 q116) (by decide +kernel) ⟨Nat.le_of_ble_eq_true rfl, Nat.le_of_ble_eq_true rfl⟩ rfl rfl rfl hl.1 rfl (Nat.le_of_ble_eq_true rfl) dX1_fewestBoxed_1 ⟨Nat.zero_le _, Nat.zero_le _⟩ (fun u_1 H locs hp hI => ?_)
  obtain ⟨wa2, rfl, hwa⟩ := hp
  have hw2 : ∀ v, v < n → wa2 v ≤ 2 := fun v hv => by rw [hwa v hv]; exact hfx v
  refine lv_aload_n hx hb dX1_fewestBoxed_4 rfl (lv_at hl 0 rfl) ?_
  refine go_i (rest := []) hC hA hI (mU_solve l D d a n ct nNone fc ff ft bx ub fx wa2 le pa qu hg hw2 (by decide)) (ci := 0) rfl rfl 0 (lw_V q117 q119 qs4 q18 q120) (by decide +kernel) ⟨Nat.le_of_ble_eq_true rfl, Nat.le_of_ble_eq_true rfl⟩ rfl rfl rfl hl.1 rfl (Nat.le_of_ble_eq_true rfl) dX1_fewestBoxed_5 ⟨Nat.zero_le _, Nat.zero_le _⟩ (fun r_5 u_5 H locs hp hI => ?_)
  obtain ⟨T, le2, pa2, qu2, rfl, rfl, hsol⟩ := hp
  refine lv_pop hx hb dX1_fewestBoxed_8 rfl ?_
  refine lv_aload_n hx hb dX1_fewestBoxed_9 rfl (lv_at hl 0 rfl) ?_
  refine go_i (rest := []) hC hA hI (mU_reachingSink l D d a n ct nNone fc ff ft bx ub fx wa2 le2 pa2 qu2 hsol.2.1 hn) (ci := 0) rfl rfl 0 (lw_V q134 q136 qs7 q18 q137) (by decide +kernel) ⟨Nat.le_of_ble_eq_true rfl, Nat.le_of_ble_eq_true rfl⟩ rfl rfl rfl hl.1 rfl (Nat.le_of_ble_eq_true rfl) dX1_fewestBoxed_10 ⟨Nat.zero_le _, Nat.zero_le _⟩ (fun r_10 u_10 H locs hp hI => ?_)
  obtain ⟨Sx, rfl, rfl, hb1, hb2⟩ := hp
  have hcom := isCommon_cong hwa (sol_common hg hw2 hsol hb1 hb2)
  have hcl : Sx &&& (2 ^ n - 1) < 2 ^ n := mask_lt _ _
  exact hE 13 ls H locs (nI (Sx &&& (2 ^ n - 1))) (n, ct, nNone, fc, ff, ft, bx, ub, fx, wa2, le2, pa2, qu2) dX1_fewestBoxed_13 (⟨⟨_, _, _, _, rfl⟩, _, rfl, hcom⟩) hI
set_option maxHeartbeats 4000000 in
/-- mostBoxed -/
theorem mU_mostBoxed (l : Launch) (D : va_G) (d : ClassId) (a : Nat → Nat) (n ct : Nat) (fc ff ft bx ub fx wa le pa qu : Nat → Nat)  (hg : gOK (n, ct, fc, ff, ft, bx, ub)) (hfx : ∀ v, fx v ≤ 2) : qI l yX1_mostBoxed cX1_mostBoxed 1 .int ro2 D d (wU d a) (n, ct, nNone, fc, ff, ft, bx, ub, fx, wa, le, pa, qu) [.ref (a 0)] (fun r u => (∃ wa' le' pa' qu' : Nat → Nat, u = (n, ct, nNone, fc, ff, ft, bx, ub, fx, wa', le', pa', qu')) ∧ sSom (n, ct, fc, ff, ft, bx, ub) fx r) := by
  refine qI_of RX1 rfl (by decide) (Nat.le_of_ble_eq_true rfl) (fun _ _ _ => rfl) ?_
  intro p e s m below meth c0 A Q H locs ls hC hA hI hl hE
  have hx := hC.1.1
  have hb := hC.1.2.1
  have hown := hC.1.2.2.2.1
  have hts := hC.1.2.2.2.2
  have hl : lv_has ls 1 [(0, .ref (a 0))] := hl
  have hn : n ≤ 10 := hg.2.1
  have hn2 : 2 ≤ n := hg.1
  have hct : ct ≤ 20 := hg.2.2.1
  have hfc : ∀ j, fc j ≤ 60 := hg.2.2.2.1
  have hff : ∀ f, ff f < n := hg.2.2.2.2.1
  have hft : ∀ f, ft f < n := hg.2.2.2.2.2.1
  have hbx : ∀ f, bx f ≤ 30 := hg.2.2.2.2.2.2.1
  have hub : ∀ f, ub f ≤ 30 := hg.2.2.2.2.2.2.2
  have hp2 := pow10 hn
  refine lv_aload_n hx hb dX1_mostBoxed_0 rfl (lv_at hl 0 rfl) ?_
  refine go_v (rest := []) hC hA hI (mU_takeFixed l D d a n ct nNone fc ff ft bx ub fx wa le pa qu hn) (ci := 0) rfl rfl 0 (lw_V q113 q115 qs3 q18 q116) (by decide +kernel) ⟨Nat.le_of_ble_eq_true rfl, Nat.le_of_ble_eq_true rfl⟩ rfl rfl rfl hl.1 rfl (Nat.le_of_ble_eq_true rfl) dX1_mostBoxed_1 ⟨Nat.zero_le _, Nat.zero_le _⟩ (fun u_1 H locs hp hI => ?_)
  obtain ⟨wa2, rfl, hwa⟩ := hp
  have hw2 : ∀ v, v < n → wa2 v ≤ 2 := fun v hv => by rw [hwa v hv]; exact hfx v
  refine lv_aload_n hx hb dX1_mostBoxed_4 rfl (lv_at hl 0 rfl) ?_
  refine go_i (rest := []) hC hA hI (mU_solve l D d a n ct nNone fc ff ft bx ub fx wa2 le pa qu hg hw2 (by decide)) (ci := 0) rfl rfl 0 (lw_V q117 q119 qs4 q18 q120) (by decide +kernel) ⟨Nat.le_of_ble_eq_true rfl, Nat.le_of_ble_eq_true rfl⟩ rfl rfl rfl hl.1 rfl (Nat.le_of_ble_eq_true rfl) dX1_mostBoxed_5 ⟨Nat.zero_le _, Nat.zero_le _⟩ (fun r_5 u_5 H locs hp hI => ?_)
  obtain ⟨T, le2, pa2, qu2, rfl, rfl, hsol⟩ := hp
  refine lv_pop hx hb dX1_mostBoxed_8 rfl ?_
  refine lv_aload_n hx hb dX1_mostBoxed_9 rfl (lv_at hl 0 rfl) ?_
  refine go_i (rest := []) hC hA hI (mU_notFromSource l D d a n ct nNone fc ff ft bx ub fx wa2 le2 pa2 qu2 hsol.2.1 hn) (ci := 0) rfl rfl 0 (lw_V q142 q144 qs8 q18 q145) (by decide +kernel) ⟨Nat.le_of_ble_eq_true rfl, Nat.le_of_ble_eq_true rfl⟩ rfl rfl rfl hl.1 rfl (Nat.le_of_ble_eq_true rfl) dX1_mostBoxed_10 ⟨Nat.zero_le _, Nat.zero_le _⟩ (fun r_10 u_10 H locs hp hI => ?_)
  obtain ⟨Ex, pa3, qu3, rfl, rfl, hse, hnf⟩ := hp
  have hsom := isSome_cong hwa (sol_some hg hw2 hsol hse hnf)
  have hel : Ex < 2 ^ n := hnf.1
  exact hE 13 ls H locs (nI Ex) (n, ct, nNone, fc, ff, ft, bx, ub, fx, wa2, le2, pa3, qu3) dX1_mostBoxed_13 (⟨⟨_, _, _, _, rfl⟩, _, rfl, hsom⟩) hI
set_option maxHeartbeats 4000000 in
/-- settled -/
theorem mU_settled (l : Launch) (D : va_G) (d : ClassId) (a : Nat → Nat) (n ct : Nat) (fc ff ft bx ub fx wa le pa qu : Nat → Nat) (x : Int32) (hg : gOK (n, ct, fc, ff, ft, bx, ub)) (hfx : ∀ v, fx v ≤ 2) : qI l yX1_settled cX1_settled 2 .int ro2 D d (wU d a) (n, ct, nNone, fc, ff, ft, bx, ub, fx, wa, le, pa, qu) [.ref (a 0), .int x] (fun r u => (∃ wa' le' pa' qu' : Nat → Nat, u = (n, ct, nNone, fc, ff, ft, bx, ub, fx, wa', le', pa', qu')) ∧ sSet (n, ct, fc, ff, ft, bx, ub) fx x r) := by
  refine qI_of RX1 rfl (by decide) (Nat.le_of_ble_eq_true rfl) (fun _ _ _ => rfl) ?_
  intro p e s m below meth c0 A Q H locs ls hC hA hI hl hE
  have hx := hC.1.1
  have hb := hC.1.2.1
  have hown := hC.1.2.2.2.1
  have hts := hC.1.2.2.2.2
  have hl : lv_has ls 2 [(0, .ref (a 0)), (1, .int x)] := hl
  have hn : n ≤ 10 := hg.2.1
  have hn2 : 2 ≤ n := hg.1
  have hct : ct ≤ 20 := hg.2.2.1
  have hfc : ∀ j, fc j ≤ 60 := hg.2.2.2.1
  have hff : ∀ f, ff f < n := hg.2.2.2.2.1
  have hft : ∀ f, ft f < n := hg.2.2.2.2.2.1
  have hbx : ∀ f, bx f ≤ 30 := hg.2.2.2.2.2.2.1
  have hub : ∀ f, ub f ≤ 30 := hg.2.2.2.2.2.2.2
  have hp2 := pow10 hn
  refine lv_aload_n hx hb dX1_settled_0 rfl (lv_at hl 0 rfl) ?_
  refine lv_iload_n hx hb dX1_settled_1 rfl (lv_at hl 1 rfl) ?_
  refine go_i (rest := []) hC hA hI (mU_isValue l D d a n ct nNone fc ff ft bx ub fx wa le pa qu x (by omega)) (ci := 0) rfl rfl 1 (lw_V q77 q79 qs0 q18 q80) (by decide +kernel) ⟨Nat.le_of_ble_eq_true rfl, Nat.le_of_ble_eq_true rfl⟩ rfl rfl rfl hl.1 rfl (Nat.le_of_ble_eq_true rfl) dX1_settled_2 ⟨Nat.zero_le _, Nat.zero_le _⟩ (fun r_2 u_2 H locs hp hI => ?_)
  obtain ⟨hy, rfl⟩ := hp
  refine lv_if_ne (tgt := 10) hx hb dX1_settled_5 (by decide) (fun c_5 => ?_) (fun c_5 => ?_)
  · skip
    obtain ⟨v, hv, rfl⟩ := yesNo_ne hy c_5
    refine lv_aload_n hx hb dX1_settled_10 rfl (lv_at hl 0 rfl) ?_
    refine go_v (rest := []) hC hA hI (mU_takeFixed l D d a n ct nNone fc ff ft bx ub fx wa le pa qu hn) (ci := 0) rfl rfl 0 (lw_V q113 q115 qs3 q18 q116) (by decide +kernel) ⟨Nat.le_of_ble_eq_true rfl, Nat.le_of_ble_eq_true rfl⟩ rfl rfl rfl hl.1 rfl (Nat.le_of_ble_eq_true rfl) dX1_settled_11 ⟨Nat.zero_le _, Nat.zero_le _⟩ (fun u_11 H locs hp hI => ?_)
    obtain ⟨wa2, rfl, hwa⟩ := hp
    have hw2 : ∀ v, v < n → wa2 v ≤ 2 := fun v hv => by rw [hwa v hv]; exact hfx v
    refine lv_aload_n hx hb dX1_settled_14 rfl (lv_at hl 0 rfl) ?_
    refine go_i (rest := []) hC hA hI (mU_solve l D d a n ct nNone fc ff ft bx ub fx wa2 le pa qu hg hw2 (by decide)) (ci := 0) rfl rfl 0 (lw_V q117 q119 qs4 q18 q120) (by decide +kernel) ⟨Nat.le_of_ble_eq_true rfl, Nat.le_of_ble_eq_true rfl⟩ rfl rfl rfl hl.1 rfl (Nat.le_of_ble_eq_true rfl) dX1_settled_15 ⟨Nat.zero_le _, Nat.zero_le _⟩ (fun r_15 u_15 H locs hp hI => ?_)
    obtain ⟨T, le2, pa2, qu2, rfl, rfl, hsol⟩ := hp
    refine lv_pop hx hb dX1_settled_18 rfl ?_
    refine lv_aload_n hx hb dX1_settled_19 rfl (lv_at hl 0 rfl) ?_
    refine go_i (rest := []) hC hA hI (mU_reachingSink l D d a n ct nNone fc ff ft bx ub fx wa2 le2 pa2 qu2 hsol.2.1 hn) (ci := 0) rfl rfl 0 (lw_V q134 q136 qs7 q18 q137) (by decide +kernel) ⟨Nat.le_of_ble_eq_true rfl, Nat.le_of_ble_eq_true rfl⟩ rfl rfl rfl hl.1 rfl (Nat.le_of_ble_eq_true rfl) dX1_settled_20 ⟨Nat.zero_le _, Nat.zero_le _⟩ (fun r_20 u_20 H locs hp hI => ?_)
    obtain ⟨Sx, rfl, rfl, hb1, hb2⟩ := hp
    have hcom := isCommon_cong hwa (sol_common hg hw2 hsol hb1 hb2)
    have hcl : Sx &&& (2 ^ n - 1) < 2 ^ n := mask_lt _ _
    refine lv_iload_n hx hb dX1_settled_23 rfl (lv_at hl 1 rfl) ?_
    refine r_shr hx hb (by omega) (by omega) dX1_settled_24 ?_
    refine lv_iconst (v := nI 1) hx hb dX1_settled_25 (by decide +kernel) ?_
    refine r_and1 hx hb dX1_settled_26 ?_
    have hb3 := bq_lt (Sx &&& (2 ^ n - 1)) v
    refine lv_iconst (v := nI 1) hx hb dX1_settled_27 (by decide +kernel) ?_
    refine r_ne (tgt := 33) hx hb dX1_settled_28 (by decide) (by omega) (by omega) (fun c_28 => ?_) (fun c_28 => ?_)
    · skip
      have hnc : ¬ comV (n, ct, fc, ff, ft, bx, ub) fx v := fun q => c_28 ((hcom.2 v hv).mpr q)
      refine lv_aload_n hx hb dX1_settled_33 rfl (lv_at hl 0 rfl) ?_
      refine go_i (rest := []) hC hA hI (mU_notFromSource l D d a n ct nNone fc ff ft bx ub fx wa2 le2 pa2 qu2 hsol.2.1 hn) (ci := 0) rfl rfl 0 (lw_V q142 q144 qs8 q18 q145) (by decide +kernel) ⟨Nat.le_of_ble_eq_true rfl, Nat.le_of_ble_eq_true rfl⟩ rfl rfl rfl hl.1 rfl (Nat.le_of_ble_eq_true rfl) dX1_settled_34 ⟨Nat.zero_le _, Nat.zero_le _⟩ (fun r_34 u_34 H locs hp hI => ?_)
      obtain ⟨Ex, pa3, qu3, rfl, rfl, hse, hnf⟩ := hp
      have hsom := isSome_cong hwa (sol_some hg hw2 hsol hse hnf)
      have hel : Ex < 2 ^ n := hnf.1
      refine lv_iload_n hx hb dX1_settled_37 rfl (lv_at hl 1 rfl) ?_
      refine r_shr hx hb (by omega) (by omega) dX1_settled_38 ?_
      refine lv_iconst (v := nI 1) hx hb dX1_settled_39 (by decide +kernel) ?_
      refine r_and1 hx hb dX1_settled_40 ?_
      have hb4 := bq_lt Ex v
      refine lv_iconst (v := nI 1) hx hb dX1_settled_41 (by decide +kernel) ?_
      refine r_ne (tgt := 49) hx hb dX1_settled_42 (by decide) (by omega) (by omega) (fun c_42 => ?_) (fun c_42 => ?_)
      · skip
        refine lv_iconst (v := nI 0) hx hb dX1_settled_49 (by decide +kernel) ?_
        exact hE 50 ls H locs (nI 0) (n, ct, nNone, fc, ff, ft, bx, ub, fx, wa2, le2, pa3, qu3) dX1_settled_50 (⟨⟨_, _, _, _, rfl⟩, Or.inr ⟨v, hv, rfl, Or.inr (Or.inr ⟨hnc, fun q => c_42 ((hsom.2 v hv).mpr q), rfl⟩)⟩⟩) hI
      · skip
        refine lv_iconst (v := nI 2) hx hb dX1_settled_45 (by decide +kernel) ?_
        refine lv_goto (tgt := 50) hx hb dX1_settled_46 (by decide) ?_
        exact hE 50 ls H locs (nI 2) (n, ct, nNone, fc, ff, ft, bx, ub, fx, wa2, le2, pa3, qu3) dX1_settled_50 (⟨⟨_, _, _, _, rfl⟩, Or.inr ⟨v, hv, rfl, Or.inr (Or.inl ⟨hnc, (hsom.2 v hv).mp c_42, rfl⟩)⟩⟩) hI
    · skip
      refine lv_iconst (v := nI 1) hx hb dX1_settled_31 (by decide +kernel) ?_
      exact hE 32 ls H locs (nI 1) (n, ct, nNone, fc, ff, ft, bx, ub, fx, wa2, le2, pa2, qu2) dX1_settled_32 (⟨⟨_, _, _, _, rfl⟩, Or.inr ⟨v, hv, rfl, Or.inl ⟨(hcom.2 v hv).mp c_28, rfl⟩⟩⟩) hI
  · skip
    refine lv_iconst (v := (-1)) hx hb dX1_settled_8 (by decide +kernel) ?_
    exact hE 9 ls H locs ((-1)) (n, ct, nNone, fc, ff, ft, bx, ub, fx, wa, le, pa, qu) dX1_settled_9 (⟨⟨wa, le, pa, qu, rfl⟩, Or.inl ⟨yesNo_eq hy c_5, rfl⟩⟩) hI
set_option maxHeartbeats 4000000 in
/-- bestWith -/
theorem mU_bestWith (l : Launch) (D : va_G) (d : ClassId) (a : Nat → Nat) (n ct : Nat) (fc ff ft bx ub fx wa le pa qu : Nat → Nat) (x y : Int32) (hg : gOK (n, ct, fc, ff, ft, bx, ub)) (hfx : ∀ v, fx v ≤ 2) : qI l yX1_bestWith cX1_bestWith 3 .int ro2 D d (wU d a) (n, ct, nNone, fc, ff, ft, bx, ub, fx, wa, le, pa, qu) [.ref (a 0), .int x, .int y] (fun r u => (∃ wa' le' pa' qu' : Nat → Nat, u = (n, ct, nNone, fc, ff, ft, bx, ub, fx, wa', le', pa', qu')) ∧ sWith (n, ct, fc, ff, ft, bx, ub) fx x y r) := by
  refine qI_of RX1 rfl (by decide) (Nat.le_of_ble_eq_true rfl) (fun _ _ _ => rfl) ?_
  intro p e s m below meth c0 A Q H locs ls hC hA hI hl hE
  have hx := hC.1.1
  have hb := hC.1.2.1
  have hown := hC.1.2.2.2.1
  have hts := hC.1.2.2.2.2
  have hl : lv_has ls 3 [(0, .ref (a 0)), (1, .int x), (2, .int y)] := hl
  have hn : n ≤ 10 := hg.2.1
  have hn2 : 2 ≤ n := hg.1
  have hct : ct ≤ 20 := hg.2.2.1
  have hfc : ∀ j, fc j ≤ 60 := hg.2.2.2.1
  have hff : ∀ f, ff f < n := hg.2.2.2.2.1
  have hft : ∀ f, ft f < n := hg.2.2.2.2.2.1
  have hbx : ∀ f, bx f ≤ 30 := hg.2.2.2.2.2.2.1
  have hub : ∀ f, ub f ≤ 30 := hg.2.2.2.2.2.2.2
  have hp2 := pow10 hn
  refine lv_aload_n hx hb dX1_bestWith_0 rfl (lv_at hl 0 rfl) ?_
  refine lv_iload_n hx hb dX1_bestWith_1 rfl (lv_at hl 1 rfl) ?_
  refine go_i (rest := []) hC hA hI (mU_isValue l D d a n ct nNone fc ff ft bx ub fx wa le pa qu x (by omega)) (ci := 0) rfl rfl 1 (lw_V q77 q79 qs0 q18 q80) (by decide +kernel) ⟨Nat.le_of_ble_eq_true rfl, Nat.le_of_ble_eq_true rfl⟩ rfl rfl rfl hl.1 rfl (Nat.le_of_ble_eq_true rfl) dX1_bestWith_2 ⟨Nat.zero_le _, Nat.zero_le _⟩ (fun r_2 u_2 H locs hp hI => ?_)
  obtain ⟨hy, rfl⟩ := hp
  refine lv_if_ne (tgt := 10) hx hb dX1_bestWith_5 (by decide) (fun c_5 => ?_) (fun c_5 => ?_)
  · skip
    obtain ⟨v, hv, rfl⟩ := yesNo_ne hy c_5
    have hfv := hfx v
    refine lv_iload_n hx hb dX1_bestWith_10 rfl (lv_at hl 2 rfl) ?_
    refine lv_if_eq (tgt := 22) hx hb dX1_bestWith_11 (by decide) (fun c_11 => ?_) (fun c_11 => ?_)
    · skip
      obtain ⟨f, hf, rfl⟩ : inR y 2 := inR_2 (Or.inl c_11)
      refine lv_aload_n hx hb dX1_bestWith_22 rfl (lv_at hl 0 rfl) ?_
      refine r_getU (v := .ref (a 6)) hC hI 5 (by decide) q33 rfl rfl dX1_bestWith_23 ?_
      refine lv_iload_n hx hb dX1_bestWith_26 rfl (lv_at hl 1 rfl) ?_
      refine r_ald (N := 10) (f := fx) (j := v) hC hI 6 wU_g6 (by omega) (by decide) dX1_bestWith_27 ?_
      refine lv_iconst (v := nI 2) hx hb dX1_bestWith_28 (by decide +kernel) ?_
      refine r_eq (tgt := 45) hx hb dX1_bestWith_29 (by decide) (by omega) (by omega) (fun c_29 => ?_) (fun c_29 => ?_)
      · skip
        have hal : fx v = 2 ∨ fx v = f := Or.inl c_29
        refine lv_aload_n hx hb dX1_bestWith_45 rfl (lv_at hl 0 rfl) ?_
        refine go_v (rest := []) hC hA hI (mU_takeFixed l D d a n ct nNone fc ff ft bx ub fx wa le pa qu hn) (ci := 0) rfl rfl 0 (lw_V q113 q115 qs3 q18 q116) (by decide +kernel) ⟨Nat.le_of_ble_eq_true rfl, Nat.le_of_ble_eq_true rfl⟩ rfl rfl rfl hl.1 rfl (Nat.le_of_ble_eq_true rfl) dX1_bestWith_46 ⟨Nat.zero_le _, Nat.zero_le _⟩ (fun u_46 H locs hp hI => ?_)
        obtain ⟨wa2, rfl, hwa⟩ := hp
        have hw2 : ∀ v, v < n → wa2 v ≤ 2 := fun v hv => by rw [hwa v hv]; exact hfx v
        refine lv_aload_n hx hb dX1_bestWith_49 rfl (lv_at hl 0 rfl) ?_
        refine r_getU (v := .ref (a 7)) hC hI 6 (by decide) q34 rfl rfl dX1_bestWith_50 ?_
        refine lv_iload_n hx hb dX1_bestWith_53 rfl (lv_at hl 1 rfl) ?_
        refine lv_iload_n hx hb dX1_bestWith_54 rfl (lv_at hl 2 rfl) ?_
        refine r_ast (N := 10) (f := wa2) (j := v) (x := f) (ws' := wU d a (n, ct, nNone, fc, ff, ft, bx, ub, fx, (updN wa2 v f), le, pa, qu)) hC hI 7 wU_g7 (by omega) (by decide) wU_s7 dX1_bestWith_55 (fun H locs hI => ?_)
        have hw3 : ∀ u, u < n → updN wa2 v f u ≤ 2 := fun u hu => by
          by_cases e : u = v
          · rw [e, updN_s]; omega
          · rw [updN_n _ _ e]; exact hw2 u hu
        refine lv_aload_n hx hb dX1_bestWith_56 rfl (lv_at hl 0 rfl) ?_
        refine go_i (rest := []) hC hA hI (mU_solve l D d a n ct nNone fc ff ft bx ub fx (updN wa2 v f) le pa qu hg hw3 (by decide)) (ci := 0) rfl rfl 0 (lw_V q117 q119 qs4 q18 q120) (by decide +kernel) ⟨Nat.le_of_ble_eq_true rfl, Nat.le_of_ble_eq_true rfl⟩ rfl rfl rfl hl.1 rfl (Nat.le_of_ble_eq_true rfl) dX1_bestWith_57 ⟨Nat.zero_le _, Nat.zero_le _⟩ (fun r_57 u_57 H locs hp hI => ?_)
        obtain ⟨T, le2, pa2, qu2, rfl, rfl, hsol⟩ := hp
        exact hE 60 ls H locs (nI T) (n, ct, nNone, fc, ff, ft, bx, ub, fx, (updN wa2 v f), le2, pa2, qu2) dX1_bestWith_60 (⟨⟨_, _, _, _, rfl⟩, Or.inr (Or.inr ⟨v, f, hv, hf, rfl, rfl, Or.inr ⟨T, rfl, isMin_iff (fun P _ => okP_set hwa hv hf hal P) (sol_min hg hw3 hsol)⟩⟩)⟩) hI
      · skip
        refine lv_aload_n hx hb dX1_bestWith_32 rfl (lv_at hl 0 rfl) ?_
        refine r_getU (v := .ref (a 6)) hC hI 5 (by decide) q33 rfl rfl dX1_bestWith_33 ?_
        refine lv_iload_n hx hb dX1_bestWith_36 rfl (lv_at hl 1 rfl) ?_
        refine r_ald (N := 10) (f := fx) (j := v) hC hI 6 wU_g6 (by omega) (by decide) dX1_bestWith_37 ?_
        refine lv_iload_n hx hb dX1_bestWith_38 rfl (lv_at hl 2 rfl) ?_
        refine r_eq (tgt := 45) hx hb dX1_bestWith_39 (by decide) (by omega) (by omega) (fun c_39 => ?_) (fun c_39 => ?_)
        · skip
          have hal : fx v = 2 ∨ fx v = f := Or.inr c_39
          refine lv_aload_n hx hb dX1_bestWith_45 rfl (lv_at hl 0 rfl) ?_
          refine go_v (rest := []) hC hA hI (mU_takeFixed l D d a n ct nNone fc ff ft bx ub fx wa le pa qu hn) (ci := 0) rfl rfl 0 (lw_V q113 q115 qs3 q18 q116) (by decide +kernel) ⟨Nat.le_of_ble_eq_true rfl, Nat.le_of_ble_eq_true rfl⟩ rfl rfl rfl hl.1 rfl (Nat.le_of_ble_eq_true rfl) dX1_bestWith_46 ⟨Nat.zero_le _, Nat.zero_le _⟩ (fun u_46 H locs hp hI => ?_)
          obtain ⟨wa2, rfl, hwa⟩ := hp
          have hw2 : ∀ v, v < n → wa2 v ≤ 2 := fun v hv => by rw [hwa v hv]; exact hfx v
          refine lv_aload_n hx hb dX1_bestWith_49 rfl (lv_at hl 0 rfl) ?_
          refine r_getU (v := .ref (a 7)) hC hI 6 (by decide) q34 rfl rfl dX1_bestWith_50 ?_
          refine lv_iload_n hx hb dX1_bestWith_53 rfl (lv_at hl 1 rfl) ?_
          refine lv_iload_n hx hb dX1_bestWith_54 rfl (lv_at hl 2 rfl) ?_
          refine r_ast (N := 10) (f := wa2) (j := v) (x := f) (ws' := wU d a (n, ct, nNone, fc, ff, ft, bx, ub, fx, (updN wa2 v f), le, pa, qu)) hC hI 7 wU_g7 (by omega) (by decide) wU_s7 dX1_bestWith_55 (fun H locs hI => ?_)
          have hw3 : ∀ u, u < n → updN wa2 v f u ≤ 2 := fun u hu => by
            by_cases e : u = v
            · rw [e, updN_s]; omega
            · rw [updN_n _ _ e]; exact hw2 u hu
          refine lv_aload_n hx hb dX1_bestWith_56 rfl (lv_at hl 0 rfl) ?_
          refine go_i (rest := []) hC hA hI (mU_solve l D d a n ct nNone fc ff ft bx ub fx (updN wa2 v f) le pa qu hg hw3 (by decide)) (ci := 0) rfl rfl 0 (lw_V q117 q119 qs4 q18 q120) (by decide +kernel) ⟨Nat.le_of_ble_eq_true rfl, Nat.le_of_ble_eq_true rfl⟩ rfl rfl rfl hl.1 rfl (Nat.le_of_ble_eq_true rfl) dX1_bestWith_57 ⟨Nat.zero_le _, Nat.zero_le _⟩ (fun r_57 u_57 H locs hp hI => ?_)
          obtain ⟨T, le2, pa2, qu2, rfl, rfl, hsol⟩ := hp
          exact hE 60 ls H locs (nI T) (n, ct, nNone, fc, ff, ft, bx, ub, fx, (updN wa2 v f), le2, pa2, qu2) dX1_bestWith_60 (⟨⟨_, _, _, _, rfl⟩, Or.inr (Or.inr ⟨v, f, hv, hf, rfl, rfl, Or.inr ⟨T, rfl, isMin_iff (fun P _ => okP_set hwa hv hf hal P) (sol_min hg hw3 hsol)⟩⟩)⟩) hI
        · skip
          refine lv_bipush (v := (-3)) hx hb dX1_bestWith_42 (by decide +kernel) ?_
          exact hE 44 ls H locs ((-3)) (n, ct, nNone, fc, ff, ft, bx, ub, fx, wa, le, pa, qu) dX1_bestWith_44 (⟨⟨wa, le, pa, qu, rfl⟩, Or.inr (Or.inr ⟨v, f, hv, hf, rfl, rfl, Or.inl ⟨fun P _ q => okP_no hv c_29 c_39 q.1 q.2, rfl⟩⟩)⟩) hI
    · skip
      refine lv_iload_n hx hb dX1_bestWith_14 rfl (lv_at hl 2 rfl) ?_
      refine lv_iconst (v := nI 1) hx hb dX1_bestWith_15 (by decide +kernel) ?_
      refine lv_icmp_eq (tgt := 22) hx hb dX1_bestWith_16 (by decide) (fun c_16 => ?_) (fun c_16 => ?_)
      · skip
        obtain ⟨f, hf, rfl⟩ : inR y 2 := inR_2 (Or.inr c_16)
        refine lv_aload_n hx hb dX1_bestWith_22 rfl (lv_at hl 0 rfl) ?_
        refine r_getU (v := .ref (a 6)) hC hI 5 (by decide) q33 rfl rfl dX1_bestWith_23 ?_
        refine lv_iload_n hx hb dX1_bestWith_26 rfl (lv_at hl 1 rfl) ?_
        refine r_ald (N := 10) (f := fx) (j := v) hC hI 6 wU_g6 (by omega) (by decide) dX1_bestWith_27 ?_
        refine lv_iconst (v := nI 2) hx hb dX1_bestWith_28 (by decide +kernel) ?_
        refine r_eq (tgt := 45) hx hb dX1_bestWith_29 (by decide) (by omega) (by omega) (fun c_29 => ?_) (fun c_29 => ?_)
        · skip
          have hal : fx v = 2 ∨ fx v = f := Or.inl c_29
          refine lv_aload_n hx hb dX1_bestWith_45 rfl (lv_at hl 0 rfl) ?_
          refine go_v (rest := []) hC hA hI (mU_takeFixed l D d a n ct nNone fc ff ft bx ub fx wa le pa qu hn) (ci := 0) rfl rfl 0 (lw_V q113 q115 qs3 q18 q116) (by decide +kernel) ⟨Nat.le_of_ble_eq_true rfl, Nat.le_of_ble_eq_true rfl⟩ rfl rfl rfl hl.1 rfl (Nat.le_of_ble_eq_true rfl) dX1_bestWith_46 ⟨Nat.zero_le _, Nat.zero_le _⟩ (fun u_46 H locs hp hI => ?_)
          obtain ⟨wa2, rfl, hwa⟩ := hp
          have hw2 : ∀ v, v < n → wa2 v ≤ 2 := fun v hv => by rw [hwa v hv]; exact hfx v
          refine lv_aload_n hx hb dX1_bestWith_49 rfl (lv_at hl 0 rfl) ?_
          refine r_getU (v := .ref (a 7)) hC hI 6 (by decide) q34 rfl rfl dX1_bestWith_50 ?_
          refine lv_iload_n hx hb dX1_bestWith_53 rfl (lv_at hl 1 rfl) ?_
          refine lv_iload_n hx hb dX1_bestWith_54 rfl (lv_at hl 2 rfl) ?_
          refine r_ast (N := 10) (f := wa2) (j := v) (x := f) (ws' := wU d a (n, ct, nNone, fc, ff, ft, bx, ub, fx, (updN wa2 v f), le, pa, qu)) hC hI 7 wU_g7 (by omega) (by decide) wU_s7 dX1_bestWith_55 (fun H locs hI => ?_)
          have hw3 : ∀ u, u < n → updN wa2 v f u ≤ 2 := fun u hu => by
            by_cases e : u = v
            · rw [e, updN_s]; omega
            · rw [updN_n _ _ e]; exact hw2 u hu
          refine lv_aload_n hx hb dX1_bestWith_56 rfl (lv_at hl 0 rfl) ?_
          refine go_i (rest := []) hC hA hI (mU_solve l D d a n ct nNone fc ff ft bx ub fx (updN wa2 v f) le pa qu hg hw3 (by decide)) (ci := 0) rfl rfl 0 (lw_V q117 q119 qs4 q18 q120) (by decide +kernel) ⟨Nat.le_of_ble_eq_true rfl, Nat.le_of_ble_eq_true rfl⟩ rfl rfl rfl hl.1 rfl (Nat.le_of_ble_eq_true rfl) dX1_bestWith_57 ⟨Nat.zero_le _, Nat.zero_le _⟩ (fun r_57 u_57 H locs hp hI => ?_)
          obtain ⟨T, le2, pa2, qu2, rfl, rfl, hsol⟩ := hp
          exact hE 60 ls H locs (nI T) (n, ct, nNone, fc, ff, ft, bx, ub, fx, (updN wa2 v f), le2, pa2, qu2) dX1_bestWith_60 (⟨⟨_, _, _, _, rfl⟩, Or.inr (Or.inr ⟨v, f, hv, hf, rfl, rfl, Or.inr ⟨T, rfl, isMin_iff (fun P _ => okP_set hwa hv hf hal P) (sol_min hg hw3 hsol)⟩⟩)⟩) hI
        · skip
          refine lv_aload_n hx hb dX1_bestWith_32 rfl (lv_at hl 0 rfl) ?_
          refine r_getU (v := .ref (a 6)) hC hI 5 (by decide) q33 rfl rfl dX1_bestWith_33 ?_
          refine lv_iload_n hx hb dX1_bestWith_36 rfl (lv_at hl 1 rfl) ?_
          refine r_ald (N := 10) (f := fx) (j := v) hC hI 6 wU_g6 (by omega) (by decide) dX1_bestWith_37 ?_
          refine lv_iload_n hx hb dX1_bestWith_38 rfl (lv_at hl 2 rfl) ?_
          refine r_eq (tgt := 45) hx hb dX1_bestWith_39 (by decide) (by omega) (by omega) (fun c_39 => ?_) (fun c_39 => ?_)
          · skip
            have hal : fx v = 2 ∨ fx v = f := Or.inr c_39
            refine lv_aload_n hx hb dX1_bestWith_45 rfl (lv_at hl 0 rfl) ?_
            refine go_v (rest := []) hC hA hI (mU_takeFixed l D d a n ct nNone fc ff ft bx ub fx wa le pa qu hn) (ci := 0) rfl rfl 0 (lw_V q113 q115 qs3 q18 q116) (by decide +kernel) ⟨Nat.le_of_ble_eq_true rfl, Nat.le_of_ble_eq_true rfl⟩ rfl rfl rfl hl.1 rfl (Nat.le_of_ble_eq_true rfl) dX1_bestWith_46 ⟨Nat.zero_le _, Nat.zero_le _⟩ (fun u_46 H locs hp hI => ?_)
            obtain ⟨wa2, rfl, hwa⟩ := hp
            have hw2 : ∀ v, v < n → wa2 v ≤ 2 := fun v hv => by rw [hwa v hv]; exact hfx v
            refine lv_aload_n hx hb dX1_bestWith_49 rfl (lv_at hl 0 rfl) ?_
            refine r_getU (v := .ref (a 7)) hC hI 6 (by decide) q34 rfl rfl dX1_bestWith_50 ?_
            refine lv_iload_n hx hb dX1_bestWith_53 rfl (lv_at hl 1 rfl) ?_
            refine lv_iload_n hx hb dX1_bestWith_54 rfl (lv_at hl 2 rfl) ?_
            refine r_ast (N := 10) (f := wa2) (j := v) (x := f) (ws' := wU d a (n, ct, nNone, fc, ff, ft, bx, ub, fx, (updN wa2 v f), le, pa, qu)) hC hI 7 wU_g7 (by omega) (by decide) wU_s7 dX1_bestWith_55 (fun H locs hI => ?_)
            have hw3 : ∀ u, u < n → updN wa2 v f u ≤ 2 := fun u hu => by
              by_cases e : u = v
              · rw [e, updN_s]; omega
              · rw [updN_n _ _ e]; exact hw2 u hu
            refine lv_aload_n hx hb dX1_bestWith_56 rfl (lv_at hl 0 rfl) ?_
            refine go_i (rest := []) hC hA hI (mU_solve l D d a n ct nNone fc ff ft bx ub fx (updN wa2 v f) le pa qu hg hw3 (by decide)) (ci := 0) rfl rfl 0 (lw_V q117 q119 qs4 q18 q120) (by decide +kernel) ⟨Nat.le_of_ble_eq_true rfl, Nat.le_of_ble_eq_true rfl⟩ rfl rfl rfl hl.1 rfl (Nat.le_of_ble_eq_true rfl) dX1_bestWith_57 ⟨Nat.zero_le _, Nat.zero_le _⟩ (fun r_57 u_57 H locs hp hI => ?_)
            obtain ⟨T, le2, pa2, qu2, rfl, rfl, hsol⟩ := hp
            exact hE 60 ls H locs (nI T) (n, ct, nNone, fc, ff, ft, bx, ub, fx, (updN wa2 v f), le2, pa2, qu2) dX1_bestWith_60 (⟨⟨_, _, _, _, rfl⟩, Or.inr (Or.inr ⟨v, f, hv, hf, rfl, rfl, Or.inr ⟨T, rfl, isMin_iff (fun P _ => okP_set hwa hv hf hal P) (sol_min hg hw3 hsol)⟩⟩)⟩) hI
          · skip
            refine lv_bipush (v := (-3)) hx hb dX1_bestWith_42 (by decide +kernel) ?_
            exact hE 44 ls H locs ((-3)) (n, ct, nNone, fc, ff, ft, bx, ub, fx, wa, le, pa, qu) dX1_bestWith_44 (⟨⟨wa, le, pa, qu, rfl⟩, Or.inr (Or.inr ⟨v, f, hv, hf, rfl, rfl, Or.inl ⟨fun P _ q => okP_no hv c_29 c_39 q.1 q.2, rfl⟩⟩)⟩) hI
      · skip
        refine lv_bipush (v := (-2)) hx hb dX1_bestWith_19 (by decide +kernel) ?_
        exact hE 21 ls H locs ((-2)) (n, ct, nNone, fc, ff, ft, bx, ub, fx, wa, le, pa, qu) dX1_bestWith_21 (⟨⟨wa, le, pa, qu, rfl⟩, Or.inr (Or.inl ⟨inR_nI hv, inR_n2 c_11 c_16, rfl⟩)⟩) hI
  · skip
    refine lv_iconst (v := (-1)) hx hb dX1_bestWith_8 (by decide +kernel) ?_
    exact hE 9 ls H locs ((-1)) (n, ct, nNone, fc, ff, ft, bx, ub, fx, wa, le, pa, qu) dX1_bestWith_9 (⟨⟨wa, le, pa, qu, rfl⟩, Or.inl ⟨yesNo_eq hy c_5, rfl⟩⟩) hI
set_option maxHeartbeats 4000000 in
/-- saving -/
theorem mU_saving (l : Launch) (D : va_G) (d : ClassId) (a : Nat → Nat) (n ct : Nat) (fc ff ft bx ub fx wa le pa qu : Nat → Nat) (x : Int32) (hg : gOK (n, ct, fc, ff, ft, bx, ub)) (hfx : ∀ v, fx v ≤ 2) : qI l yX1_saving cX1_saving 4 .int ro2 D d (wU d a) (n, ct, nNone, fc, ff, ft, bx, ub, fx, wa, le, pa, qu) [.ref (a 0), .int x] (fun r u => (∃ wa' le' pa' qu' : Nat → Nat, u = (n, ct, nNone, fc, ff, ft, bx, ub, fx, wa', le', pa', qu')) ∧ sSav (n, ct, fc, ff, ft, bx, ub) fx x r) := by
  refine qI_of RX1 rfl (by decide) (Nat.le_of_ble_eq_true rfl) (fun _ _ _ => rfl) ?_
  intro p e s m below meth c0 A Q H locs ls hC hA hI hl hE
  have hx := hC.1.1
  have hb := hC.1.2.1
  have hown := hC.1.2.2.2.1
  have hts := hC.1.2.2.2.2
  have hl : lv_has ls 4 [(0, .ref (a 0)), (1, .int x)] := hl
  have hn : n ≤ 10 := hg.2.1
  have hn2 : 2 ≤ n := hg.1
  have hct : ct ≤ 20 := hg.2.2.1
  have hfc : ∀ j, fc j ≤ 60 := hg.2.2.2.1
  have hff : ∀ f, ff f < n := hg.2.2.2.2.1
  have hft : ∀ f, ft f < n := hg.2.2.2.2.2.1
  have hbx : ∀ f, bx f ≤ 30 := hg.2.2.2.2.2.2.1
  have hub : ∀ f, ub f ≤ 30 := hg.2.2.2.2.2.2.2
  have hp2 := pow10 hn
  refine lv_aload_n hx hb dX1_saving_0 rfl (lv_at hl 0 rfl) ?_
  refine lv_iload_n hx hb dX1_saving_1 rfl (lv_at hl 1 rfl) ?_
  refine go_i (rest := []) hC hA hI (mU_isFlow l D d a n ct nNone fc ff ft bx ub fx wa le pa qu x (by omega)) (ci := 0) rfl rfl 1 (lw_V q89 q91 qs1 q18 q92) (by decide +kernel) ⟨Nat.le_of_ble_eq_true rfl, Nat.le_of_ble_eq_true rfl⟩ rfl rfl rfl hl.1 rfl (Nat.le_of_ble_eq_true rfl) dX1_saving_2 ⟨Nat.zero_le _, Nat.zero_le _⟩ (fun r_2 u_2 H locs hp hI => ?_)
  obtain ⟨hy, rfl⟩ := hp
  refine lv_if_ne (tgt := 10) hx hb dX1_saving_5 (by decide) (fun c_5 => ?_) (fun c_5 => ?_)
  · skip
    obtain ⟨f, hf, rfl⟩ := yesNo_ne hy c_5
    refine lv_aload_n hx hb dX1_saving_10 rfl (lv_at hl 0 rfl) ?_
    refine go_v (rest := []) hC hA hI (mU_takeFixed l D d a n ct nNone fc ff ft bx ub fx wa le pa qu hn) (ci := 0) rfl rfl 0 (lw_V q113 q115 qs3 q18 q116) (by decide +kernel) ⟨Nat.le_of_ble_eq_true rfl, Nat.le_of_ble_eq_true rfl⟩ rfl rfl rfl hl.1 rfl (Nat.le_of_ble_eq_true rfl) dX1_saving_11 ⟨Nat.zero_le _, Nat.zero_le _⟩ (fun u_11 H locs hp hI => ?_)
    obtain ⟨wa2, rfl, hwa⟩ := hp
    have hw2 : ∀ v, v < n → wa2 v ≤ 2 := fun v hv => by rw [hwa v hv]; exact hfx v
    refine lv_aload_n hx hb dX1_saving_14 rfl (lv_at hl 0 rfl) ?_
    refine go_i (rest := []) hC hA hI (mU_solve l D d a n ct nNone fc ff ft bx ub fx wa2 le pa qu hg hw2 (by decide)) (ci := 0) rfl rfl 0 (lw_V q117 q119 qs4 q18 q120) (by decide +kernel) ⟨Nat.le_of_ble_eq_true rfl, Nat.le_of_ble_eq_true rfl⟩ rfl rfl rfl hl.1 rfl (Nat.le_of_ble_eq_true rfl) dX1_saving_15 ⟨Nat.zero_le _, Nat.zero_le _⟩ (fun r_15 u_15 H locs hp hI => ?_)
    obtain ⟨T, le2, pa2, qu2, rfl, rfl, hsol⟩ := hp
    refine lv_istore_n (lv' := [(2, .int (nI T)), (0, .ref (a 0)), (1, .int (nI f))]) hx hb dX1_saving_18 rfl hl (by decide) rfl (fun ls hl => ?_)
    refine lv_aload_n hx hb dX1_saving_19 rfl (lv_at hl 1 rfl) ?_
    refine lv_iload_n hx hb dX1_saving_20 rfl (lv_at hl 2 rfl) ?_
    refine r_putU (n, ct, f, fc, ff, ft, bx, ub, fx, wa2, le2, pa2, qu2) hC hI 12 (by decide) q40 rfl rfl (by decide +kernel) wU_p12 dX1_saving_21 (fun H locs hI => ?_)
    refine lv_aload_n hx hb dX1_saving_24 rfl (lv_at hl 1 rfl) ?_
    refine go_i (rest := []) hC hA hI (mU_solve l D d a n ct f fc ff ft bx ub fx wa2 le2 pa2 qu2 hg hw2 (show f < 2 ^ 32 by omega)) (ci := 0) rfl rfl 0 (lw_V q117 q119 qs4 q18 q120) (by decide +kernel) ⟨Nat.le_of_ble_eq_true rfl, Nat.le_of_ble_eq_true rfl⟩ rfl rfl rfl hl.1 rfl (Nat.le_of_ble_eq_true rfl) dX1_saving_25 ⟨Nat.zero_le _, Nat.zero_le _⟩ (fun r_25 u_25 H locs hp hI => ?_)
    obtain ⟨T2, le3, pa3, qu3, rfl, rfl, hsol2⟩ := hp
    refine lv_istore_n (lv' := [(3, .int (nI T2)), (2, .int (nI T)), (0, .ref (a 0)), (1, .int (nI f))]) hx hb dX1_saving_28 rfl hl (by decide) rfl (fun ls hl => ?_)
    refine lv_aload_n hx hb dX1_saving_29 rfl (lv_at hl 2 rfl) ?_
    refine lv_iconst (v := nI nNone) hx hb dX1_saving_30 (by decide +kernel) ?_
    refine r_putU (n, ct, nNone, fc, ff, ft, bx, ub, fx, wa2, le3, pa3, qu3) hC hI 12 (by decide) q40 rfl rfl (by decide +kernel) wU_p12 dX1_saving_31 (fun H locs hI => ?_)
    refine lv_iload_n hx hb dX1_saving_34 rfl (lv_at hl 1 rfl) ?_
    refine lv_iload_n hx hb dX1_saving_35 rfl (lv_at hl 0 rfl) ?_
    refine lv_isub hx hb dX1_saving_36 ?_
    exact hE 37 ls H locs (nI T - nI T2) (n, ct, nNone, fc, ff, ft, bx, ub, fx, wa2, le3, pa3, qu3) dX1_saving_37 (⟨⟨_, _, _, _, rfl⟩, Or.inr ⟨f, T, T2, hf, rfl, (isMin_iff (fun P _ => okP_cong hwa P) (sol_min hg hw2 hsol)), isMin_iff (fun P _ => okP_cong hwa P) (sol_min hg hw2 hsol2), rfl⟩⟩) hI
  · skip
    refine lv_iconst (v := (-1)) hx hb dX1_saving_8 (by decide +kernel) ?_
    exact hE 9 ls H locs ((-1)) (n, ct, nNone, fc, ff, ft, bx, ub, fx, wa, le, pa, qu) dX1_saving_9 (⟨⟨wa, le, pa, qu, rfl⟩, Or.inl ⟨yesNo_eq hy c_5, rfl⟩⟩) hI
set_option maxHeartbeats 4000000 in
/-- isBest -/
theorem mU_isBest (l : Launch) (D : va_G) (d : ClassId) (a : Nat → Nat) (n ct : Nat) (fc ff ft bx ub fx wa le pa qu : Nat → Nat) (x : Int32) (hg : gOK (n, ct, fc, ff, ft, bx, ub)) (hfx : ∀ v, fx v ≤ 2) : qI l yX1_isBest cX1_isBest 3 .int ro2 D d (wU d a) (n, ct, nNone, fc, ff, ft, bx, ub, fx, wa, le, pa, qu) [.ref (a 0), .int x] (fun r u => (∃ wa' le' pa' qu' : Nat → Nat, u = (n, ct, nNone, fc, ff, ft, bx, ub, fx, wa', le', pa', qu')) ∧ sIsB (n, ct, fc, ff, ft, bx, ub) fx x r) := by
  refine qI_of RX1 rfl (by decide) (Nat.le_of_ble_eq_true rfl) (fun _ _ _ => rfl) ?_
  intro p e s m below meth c0 A Q H locs ls hC hA hI hl hE
  have hx := hC.1.1
  have hb := hC.1.2.1
  have hown := hC.1.2.2.2.1
  have hts := hC.1.2.2.2.2
  have hl : lv_has ls 3 [(0, .ref (a 0)), (1, .int x)] := hl
  have hn : n ≤ 10 := hg.2.1
  have hn2 : 2 ≤ n := hg.1
  have hct : ct ≤ 20 := hg.2.2.1
  have hfc : ∀ j, fc j ≤ 60 := hg.2.2.2.1
  have hff : ∀ f, ff f < n := hg.2.2.2.2.1
  have hft : ∀ f, ft f < n := hg.2.2.2.2.2.1
  have hbx : ∀ f, bx f ≤ 30 := hg.2.2.2.2.2.2.1
  have hub : ∀ f, ub f ≤ 30 := hg.2.2.2.2.2.2.2
  have hp2 := pow10 hn
  refine lv_aload_n hx hb dX1_isBest_0 rfl (lv_at hl 0 rfl) ?_
  refine lv_iload_n hx hb dX1_isBest_1 rfl (lv_at hl 1 rfl) ?_
  refine go_i (rest := []) hC hA hI (mU_isPlan l D d a n ct nNone fc ff ft bx ub fx wa le pa qu x hn) (ci := 0) rfl rfl 1 (lw_V q105 q107 qs2 q18 q108) (by decide +kernel) ⟨Nat.le_of_ble_eq_true rfl, Nat.le_of_ble_eq_true rfl⟩ rfl rfl rfl hl.1 rfl (Nat.le_of_ble_eq_true rfl) dX1_isBest_2 ⟨Nat.zero_le _, Nat.zero_le _⟩ (fun r_2 u_2 H locs hp hI => ?_)
  obtain ⟨hy, rfl⟩ := hp
  refine lv_if_ne (tgt := 10) hx hb dX1_isBest_5 (by decide) (fun c_5 => ?_) (fun c_5 => ?_)
  · skip
    obtain ⟨P, hP, rfl⟩ := yesNo_ne hy c_5
    clear hy c_5
    have hP31 : P < 2 ^ 31 := by omega
    refine lv_iconst (v := nI 0) hx hb dX1_isBest_10 (by decide +kernel) ?_
    refine lv_istore_n (lv' := [(2, .int (nI 0)), (0, .ref (a 0)), (1, .int (nI P))]) hx hb dX1_isBest_11 rfl hl (by decide) rfl (fun ls hl => ?_)
    have hI0 := hI
    have hl0 := hl
    clear hI hl
    have L1 : ∀ (j : Nat) (i : Nat) (H : Heap) (locs : List Loc) (ls : Array Slot), (i ≤ n) → (n + 1 ≤ i + j) → (∀ v, v < i → fx v = 2 ∨ fx v = bq P v) → IW D A s.heap (wU d a (n, ct, nNone, fc, ff, ft, bx, ub, fx, wa, le, pa, qu)) H locs → lv_has ls 3 [(0, .ref (a 0)), (1, .int (nI P)), (2, .int (nI i))] → W p l e ro2 s m ([.ref (a 0), .int (nI P)] : List Value).toArray below meth c0 H locs 0 0 Q (F0 m 12 ls []) := by
      intro j
      induction j with
      | zero => intro i H locs ls hi hj hv hI hl; exact absurd hj (by omega)
      | succ j ih =>
        intro i H locs ls hi hj hv hI hl
        refine lv_iload_n hx hb dX1_isBest_12 rfl (lv_at hl 2 rfl) ?_
        refine lv_aload_n hx hb dX1_isBest_13 rfl (lv_at hl 0 rfl) ?_
        refine r_getU (v := .int (nI n)) hC hI 10 (by decide) q38 rfl rfl dX1_isBest_14 ?_
        refine r_ge (tgt := 52) hx hb dX1_isBest_17 (by decide) (by omega) (by omega) (fun c_17 => ?_) (fun c_17 => ?_)
        · skip
          have ei : i = n := by omega
          have hok : okP (n, ct, fc, ff, ft, bx, ub) fx P := fun v q => hv v (by rw [ei]; exact q)
          refine lv_aload_n hx hb dX1_isBest_52 rfl (lv_at hl 0 rfl) ?_
          refine go_v (rest := []) hC hA hI (mU_takeFixed l D d a n ct nNone fc ff ft bx ub fx wa le pa qu hn) (ci := 0) rfl rfl 0 (lw_V q113 q115 qs3 q18 q116) (by decide +kernel) ⟨Nat.le_of_ble_eq_true rfl, Nat.le_of_ble_eq_true rfl⟩ rfl rfl rfl hl.1 rfl (Nat.le_of_ble_eq_true rfl) dX1_isBest_53 ⟨Nat.zero_le _, Nat.zero_le _⟩ (fun u_53 H locs hp hI => ?_)
          obtain ⟨wa2, rfl, hwa⟩ := hp
          have hw2 : ∀ v, v < n → wa2 v ≤ 2 := fun v hv => by rw [hwa v hv]; exact hfx v
          refine lv_aload_n hx hb dX1_isBest_56 rfl (lv_at hl 0 rfl) ?_
          refine go_i (rest := []) hC hA hI (mU_solve l D d a n ct nNone fc ff ft bx ub fx wa2 le pa qu hg hw2 (by decide)) (ci := 0) rfl rfl 0 (lw_V q117 q119 qs4 q18 q120) (by decide +kernel) ⟨Nat.le_of_ble_eq_true rfl, Nat.le_of_ble_eq_true rfl⟩ rfl rfl rfl hl.1 rfl (Nat.le_of_ble_eq_true rfl) dX1_isBest_57 ⟨Nat.zero_le _, Nat.zero_le _⟩ (fun r_57 u_57 H locs hp hI => ?_)
          obtain ⟨T, le2, pa2, qu2, rfl, rfl, hsol⟩ := hp
          refine lv_istore_n (lv' := [(2, .int (nI T)), (0, .ref (a 0)), (1, .int (nI P))]) hx hb dX1_isBest_60 rfl hl (by decide) rfl (fun ls hl => ?_)
          refine lv_aload_n hx hb dX1_isBest_61 rfl (lv_at hl 1 rfl) ?_
          refine lv_iload_n hx hb dX1_isBest_62 rfl (lv_at hl 2 rfl) ?_
          refine go_i (rest := []) hC hA hI (mU_costOf l D d a n ct nNone fc ff ft bx ub fx wa2 le2 pa2 qu2 (nI P) hg) (ci := 0) rfl rfl 1 (lw_V q166 q102 q103 q18 q104) (by decide +kernel) ⟨Nat.le_of_ble_eq_true rfl, Nat.le_of_ble_eq_true rfl⟩ rfl rfl rfl hl.1 rfl (Nat.le_of_ble_eq_true rfl) dX1_isBest_63 ⟨Nat.zero_le _, Nat.zero_le _⟩ (fun r_63 u_63 H locs hp hI => ?_)
          obtain ⟨rfl, hco⟩ := hp
          have hco : r_63 = nI (tot (n, ct, fc, ff, ft, bx, ub) nNone P) := by
            rcases hco with ⟨q, _⟩ | ⟨P2, q1, q2, q3⟩
            · exact absurd (inR_nI hP) q
            · have q1 : P2 < 2 ^ n := q1
              have e : P = P2 := nI_inj (by omega) (by omega) q2
              rw [e]; exact q3
          subst hco
          have hmin := (isMin_iff (fun P _ => okP_cong hwa P) (sol_min hg hw2 hsol))
          have hT := isMin_lt hg hmin
          have hTP := tot_le hg nNone P
          refine lv_iload_n hx hb dX1_isBest_66 rfl (lv_at hl 0 rfl) ?_
          refine r_ne (tgt := 74) hx hb dX1_isBest_67 (by decide) (by omega) (by omega) (fun c_67 => ?_) (fun c_67 => ?_)
          · skip
            refine lv_iconst (v := nI 0) hx hb dX1_isBest_74 (by decide +kernel) ?_
            exact hE 75 ls H locs (nI 0) (n, ct, nNone, fc, ff, ft, bx, ub, fx, wa2, le2, pa2, qu2) dX1_isBest_75 (⟨⟨_, _, _, _, rfl⟩, Or.inr ⟨P, hP, rfl, Or.inr ⟨rfl, fun q => c_67 ((bestP_min hmin hP).mp q).2⟩⟩⟩) hI
          · skip
            refine lv_iconst (v := nI 1) hx hb dX1_isBest_70 (by decide +kernel) ?_
            refine lv_goto (tgt := 75) hx hb dX1_isBest_71 (by decide) ?_
            exact hE 75 ls H locs (nI 1) (n, ct, nNone, fc, ff, ft, bx, ub, fx, wa2, le2, pa2, qu2) dX1_isBest_75 (⟨⟨_, _, _, _, rfl⟩, Or.inr ⟨P, hP, rfl, Or.inl ⟨rfl, (bestP_min hmin hP).mpr ⟨hok, c_67⟩⟩⟩⟩) hI
        · skip
          have h1 := hfx i
          have h2 := bq_lt P i
          refine lv_aload_n hx hb dX1_isBest_20 rfl (lv_at hl 0 rfl) ?_
          refine r_getU (v := .ref (a 6)) hC hI 5 (by decide) q33 rfl rfl dX1_isBest_21 ?_
          refine lv_iload_n hx hb dX1_isBest_24 rfl (lv_at hl 2 rfl) ?_
          refine r_ald (N := 10) (f := fx) (j := i) hC hI 6 wU_g6 (by omega) (by decide) dX1_isBest_25 ?_
          refine lv_iconst (v := nI 2) hx hb dX1_isBest_26 (by decide +kernel) ?_
          refine r_eq (tgt := 46) hx hb dX1_isBest_27 (by decide) (by omega) (by omega) (fun c_27 => ?_) (fun c_27 => ?_)
          · skip
            refine lv_iinc (v := nI (i + 1)) (lv' := [(2, .int (nI (i + 1))), (0, .ref (a 0)), (1, .int (nI P))]) hx hb dX1_isBest_46 hl (k := 2) rfl (nI_1 i) (by decide) rfl (fun ls hl => ?_)
            refine lv_goto (tgt := 12) hx hb dX1_isBest_49 (by decide) ?_
            exact ih (i + 1) H locs ls (by omega) (by omega) (lt_s hv (Or.inl c_27)) hI (lv_sub hl [1, 2, 0] rfl)
          · skip
            refine lv_aload_n hx hb dX1_isBest_30 rfl (lv_at hl 0 rfl) ?_
            refine r_getU (v := .ref (a 6)) hC hI 5 (by decide) q33 rfl rfl dX1_isBest_31 ?_
            refine lv_iload_n hx hb dX1_isBest_34 rfl (lv_at hl 2 rfl) ?_
            refine r_ald (N := 10) (f := fx) (j := i) hC hI 6 wU_g6 (by omega) (by decide) dX1_isBest_35 ?_
            refine lv_iload_n hx hb dX1_isBest_36 rfl (lv_at hl 1 rfl) ?_
            refine lv_iload_n hx hb dX1_isBest_37 rfl (lv_at hl 2 rfl) ?_
            refine r_shr hx hb (by omega) (by omega) dX1_isBest_38 ?_
            refine lv_iconst (v := nI 1) hx hb dX1_isBest_39 (by decide +kernel) ?_
            refine r_and1 hx hb dX1_isBest_40 ?_
            refine r_eq (tgt := 46) hx hb dX1_isBest_41 (by decide) (by omega) (by omega) (fun c_41 => ?_) (fun c_41 => ?_)
            · skip
              refine lv_iinc (v := nI (i + 1)) (lv' := [(2, .int (nI (i + 1))), (0, .ref (a 0)), (1, .int (nI P))]) hx hb dX1_isBest_46 hl (k := 2) rfl (nI_1 i) (by decide) rfl (fun ls hl => ?_)
              refine lv_goto (tgt := 12) hx hb dX1_isBest_49 (by decide) ?_
              exact ih (i + 1) H locs ls (by omega) (by omega) (lt_s hv (Or.inr c_41)) hI (lv_sub hl [1, 2, 0] rfl)
            · skip
              refine lv_iconst (v := nI 0) hx hb dX1_isBest_44 (by decide +kernel) ?_
              exact hE 45 ls H locs (nI 0) (n, ct, nNone, fc, ff, ft, bx, ub, fx, wa, le, pa, qu) dX1_isBest_45 (⟨⟨wa, le, pa, qu, rfl⟩, Or.inr ⟨P, hP, rfl, Or.inr ⟨rfl, fun q => (q.2.1 i c_17).elim c_27 c_41⟩⟩⟩) hI
    exact L1 (n + 1) 0 H locs ls (by omega) (by omega) lt_0 hI0 (lv_sub hl0 [1, 2, 0] rfl)
  · skip
    refine lv_iconst (v := (-1)) hx hb dX1_isBest_8 (by decide +kernel) ?_
    exact hE 9 ls H locs ((-1)) (n, ct, nNone, fc, ff, ft, bx, ub, fx, wa, le, pa, qu) dX1_isBest_9 (⟨⟨wa, le, pa, qu, rfl⟩, Or.inl ⟨yesNo_eq hy c_5, rfl⟩⟩) hI
set_option maxHeartbeats 4000000 in
/-- settledCount -/
theorem mU_settledCount (l : Launch) (D : va_G) (d : ClassId) (a : Nat → Nat) (n ct : Nat) (fc ff ft bx ub fx wa le pa qu : Nat → Nat)  (hg : gOK (n, ct, fc, ff, ft, bx, ub)) (hfx : ∀ v, fx v ≤ 2) : qI l yX1_settledCount cX1_settledCount 4 .int ro2 D d (wU d a) (n, ct, nNone, fc, ff, ft, bx, ub, fx, wa, le, pa, qu) [.ref (a 0)] (fun r u => (∃ wa' le' pa' qu' : Nat → Nat, u = (n, ct, nNone, fc, ff, ft, bx, ub, fx, wa', le', pa', qu')) ∧ sCnt (n, ct, fc, ff, ft, bx, ub) fx r) := by
  refine qI_of RX1 rfl (by decide) (Nat.le_of_ble_eq_true rfl) (fun _ _ _ => rfl) ?_
  intro p e s m below meth c0 A Q H locs ls hC hA hI hl hE
  have hx := hC.1.1
  have hb := hC.1.2.1
  have hown := hC.1.2.2.2.1
  have hts := hC.1.2.2.2.2
  have hl : lv_has ls 4 [(0, .ref (a 0))] := hl
  have hn : n ≤ 10 := hg.2.1
  have hn2 : 2 ≤ n := hg.1
  have hct : ct ≤ 20 := hg.2.2.1
  have hfc : ∀ j, fc j ≤ 60 := hg.2.2.2.1
  have hff : ∀ f, ff f < n := hg.2.2.2.2.1
  have hft : ∀ f, ft f < n := hg.2.2.2.2.2.1
  have hbx : ∀ f, bx f ≤ 30 := hg.2.2.2.2.2.2.1
  have hub : ∀ f, ub f ≤ 30 := hg.2.2.2.2.2.2.2
  have hp2 := pow10 hn
  refine lv_aload_n hx hb dX1_settledCount_0 rfl (lv_at hl 0 rfl) ?_
  refine go_v (rest := []) hC hA hI (mU_takeFixed l D d a n ct nNone fc ff ft bx ub fx wa le pa qu hn) (ci := 0) rfl rfl 0 (lw_V q113 q115 qs3 q18 q116) (by decide +kernel) ⟨Nat.le_of_ble_eq_true rfl, Nat.le_of_ble_eq_true rfl⟩ rfl rfl rfl hl.1 rfl (Nat.le_of_ble_eq_true rfl) dX1_settledCount_1 ⟨Nat.zero_le _, Nat.zero_le _⟩ (fun u_1 H locs hp hI => ?_)
  obtain ⟨wa2, rfl, hwa⟩ := hp
  have hw2 : ∀ v, v < n → wa2 v ≤ 2 := fun v hv => by rw [hwa v hv]; exact hfx v
  refine lv_aload_n hx hb dX1_settledCount_4 rfl (lv_at hl 0 rfl) ?_
  refine go_i (rest := []) hC hA hI (mU_solve l D d a n ct nNone fc ff ft bx ub fx wa2 le pa qu hg hw2 (by decide)) (ci := 0) rfl rfl 0 (lw_V q117 q119 qs4 q18 q120) (by decide +kernel) ⟨Nat.le_of_ble_eq_true rfl, Nat.le_of_ble_eq_true rfl⟩ rfl rfl rfl hl.1 rfl (Nat.le_of_ble_eq_true rfl) dX1_settledCount_5 ⟨Nat.zero_le _, Nat.zero_le _⟩ (fun r_5 u_5 H locs hp hI => ?_)
  obtain ⟨T, le2, pa2, qu2, rfl, rfl, hsol⟩ := hp
  refine lv_pop hx hb dX1_settledCount_8 rfl ?_
  refine lv_aload_n hx hb dX1_settledCount_9 rfl (lv_at hl 0 rfl) ?_
  refine go_i (rest := []) hC hA hI (mU_notFromSource l D d a n ct nNone fc ff ft bx ub fx wa2 le2 pa2 qu2 hsol.2.1 hn) (ci := 0) rfl rfl 0 (lw_V q142 q144 qs8 q18 q145) (by decide +kernel) ⟨Nat.le_of_ble_eq_true rfl, Nat.le_of_ble_eq_true rfl⟩ rfl rfl rfl hl.1 rfl (Nat.le_of_ble_eq_true rfl) dX1_settledCount_10 ⟨Nat.zero_le _, Nat.zero_le _⟩ (fun r_10 u_10 H locs hp hI => ?_)
  obtain ⟨Ex, pa3, qu3, rfl, rfl, hse, hnf⟩ := hp
  have hsom := isSome_cong hwa (sol_some hg hw2 hsol hse hnf)
  have hel : Ex < 2 ^ n := hnf.1
  refine lv_aload_n hx hb dX1_settledCount_13 rfl (lv_at hl 0 rfl) ?_
  refine go_i (rest := [.int (nI Ex)]) hC hA hI (mU_reachingSink l D d a n ct nNone fc ff ft bx ub fx wa2 le2 pa3 qu3 hsol.2.1 hn) (ci := 0) rfl rfl 0 (lw_V q134 q136 qs7 q18 q137) (by decide +kernel) ⟨Nat.le_of_ble_eq_true rfl, Nat.le_of_ble_eq_true rfl⟩ rfl rfl rfl hl.1 rfl (Nat.le_of_ble_eq_true rfl) dX1_settledCount_14 ⟨Nat.zero_le _, Nat.zero_le _⟩ (fun r_14 u_14 H locs hp hI => ?_)
  obtain ⟨Sx, rfl, rfl, hb1, hb2⟩ := hp
  have hcom := isCommon_cong hwa (sol_common hg hw2 hsol hb1 hb2)
  have hcl : Sx &&& (2 ^ n - 1) < 2 ^ n := mask_lt _ _
  refine lv_iconst (v := nI nNone) hx hb dX1_settledCount_17 (by decide +kernel) ?_
  refine r_xor hx hb dX1_settledCount_18 ?_
  refine r_and hx hb dX1_settledCount_19 ?_
  have hO : (Ex &&& ((Sx &&& (2 ^ n - 1)) ^^^ nNone)) < 2 ^ n := Nat.lt_of_le_of_lt Nat.and_le_left hel
  have hmin := (isMin_iff (fun P _ => okP_cong hwa P) (sol_min hg hw2 hsol))
  refine lv_istore_n (lv' := [(1, .int (nI (Ex &&& ((Sx &&& (2 ^ n - 1)) ^^^ nNone)))), (0, .ref (a 0))]) hx hb dX1_settledCount_20 rfl hl (by decide) rfl (fun ls hl => ?_)
  generalize hOe : (Ex &&& ((Sx &&& (2 ^ n - 1)) ^^^ nNone)) = O at hO hl
  refine lv_aload_n hx hb dX1_settledCount_21 rfl (lv_at hl 1 rfl) ?_
  refine r_getU (v := .int (nI n)) hC hI 10 (by decide) q38 rfl rfl dX1_settledCount_22 ?_
  refine lv_istore_n (lv' := [(2, .int (nI n)), (1, .int (nI O)), (0, .ref (a 0))]) hx hb dX1_settledCount_25 rfl hl (by decide) rfl (fun ls hl => ?_)
  refine lv_iconst (v := nI 0) hx hb dX1_settledCount_26 (by decide +kernel) ?_
  refine lv_istore_n (lv' := [(3, .int (nI 0)), (2, .int (nI n)), (1, .int (nI O)), (0, .ref (a 0))]) hx hb dX1_settledCount_27 rfl hl (by decide) rfl (fun ls hl => ?_)
  have hI0 := hI
  have hl0 := hl
  clear hI hl
  have L1 : ∀ (j : Nat) (i : Nat) (sm : Nat) (H : Heap) (locs : List Loc) (ls : Array Slot), (i ≤ n) → (n + 1 ≤ i + j) → (sm + fb_ct (fun v => decide (bq O v = 1)) i = n) → IW D A s.heap (wU d a (n, ct, nNone, fc, ff, ft, bx, ub, fx, wa2, le2, pa3, qu3)) H locs → lv_has ls 4 [(0, .ref (a 0)), (1, .int (nI O)), (2, .int (nI sm)), (3, .int (nI i))] → W p l e ro2 s m ([.ref (a 0)] : List Value).toArray below meth c0 H locs 0 0 Q (F0 m 28 ls []) := by
    intro j
    induction j with
    | zero => intro i sm H locs ls hi hj hs hI hl; exact absurd hj (by omega)
    | succ j ih =>
      intro i sm H locs ls hi hj hs hI hl
      refine lv_iload_n hx hb dX1_settledCount_28 rfl (lv_at hl 3 rfl) ?_
      refine lv_aload_n hx hb dX1_settledCount_29 rfl (lv_at hl 0 rfl) ?_
      refine r_getU (v := .int (nI n)) hC hI 10 (by decide) q38 rfl rfl dX1_settledCount_30 ?_
      refine r_ge (tgt := 50) hx hb dX1_settledCount_33 (by decide) (by omega) (by omega) (fun c_33 => ?_) (fun c_33 => ?_)
      · skip
        have ei : i = n := by omega
        rw [ei] at hs
        refine lv_iload_n hx hb dX1_settledCount_50 rfl (lv_at hl 2 rfl) ?_
        exact hE 51 ls H locs (nI sm) (n, ct, nNone, fc, ff, ft, bx, ub, fx, wa2, le2, pa3, qu3) dX1_settledCount_51 (⟨⟨_, _, _, _, rfl⟩, _, _, hcom, hsom, by rw [← hOe] at hs; exact congrArg nI (open_ct hn hmin hcom hsom hs)⟩) hI
      · skip
        have h1 := bq_lt O i
        have h2 := fb_ct_le (fun v => decide (bq O v = 1)) i
        refine lv_iload_n hx hb dX1_settledCount_36 rfl (lv_at hl 2 rfl) ?_
        refine lv_iload_n hx hb dX1_settledCount_37 rfl (lv_at hl 1 rfl) ?_
        refine lv_iload_n hx hb dX1_settledCount_38 rfl (lv_at hl 3 rfl) ?_
        refine r_shr hx hb (by omega) (by omega) dX1_settledCount_39 ?_
        refine lv_iconst (v := nI 1) hx hb dX1_settledCount_40 (by decide +kernel) ?_
        refine r_and1 hx hb dX1_settledCount_41 ?_
        refine r_sub hx hb (by omega) dX1_settledCount_42 ?_
        refine lv_istore_n (lv' := [(2, .int (nI (sm - (bq O i)))), (0, .ref (a 0)), (1, .int (nI O)), (3, .int (nI i))]) hx hb dX1_settledCount_43 rfl hl (by decide) rfl (fun ls hl => ?_)
        refine lv_iinc (v := nI (i + 1)) (lv' := [(3, .int (nI (i + 1))), (2, .int (nI (sm - (bq O i)))), (0, .ref (a 0)), (1, .int (nI O))]) hx hb dX1_settledCount_44 hl (k := 3) rfl (nI_1 i) (by decide) rfl (fun ls hl => ?_)
        refine lv_goto (tgt := 28) hx hb dX1_settledCount_47 (by decide) ?_
        exact ih (i + 1) _ H locs ls (by omega) (by omega) (by rw [ct_bit]; omega) hI (lv_sub hl [2, 3, 1, 0] rfl)
  exact L1 (n + 1) 0 n H locs ls (by omega) (by omega) rfl hI0 (lv_sub hl0 [3, 2, 1, 0] rfl)
end
section
set_option maxRecDepth 100000
/-! UnboxPlanner: bestTied (printed by gen_u6.py) -/
set_option maxHeartbeats 4000000 in
/-- bestTied -/
theorem mU_bestTied (l : Launch) (D : va_G) (d : ClassId) (a : Nat → Nat) (n ct : Nat) (fc ff ft bx ub fx wa le pa qu : Nat → Nat) (x y z : Int32) (hg : gOK (n, ct, fc, ff, ft, bx, ub)) (hfx : ∀ v, fx v ≤ 2) : qI l yX1_bestTied cX1_bestTied 9 .int ro2 D d (wU d a) (n, ct, nNone, fc, ff, ft, bx, ub, fx, wa, le, pa, qu) [.ref (a 0), .int x, .int y, .int z] (fun r u => (∃ wa' le' pa' qu' : Nat → Nat, u = (n, ct, nNone, fc, ff, ft, bx, ub, fx, wa', le', pa', qu')) ∧ sTied (n, ct, fc, ff, ft, bx, ub) fx x y z r) := by
  refine qI_of RX1 rfl (by decide) (Nat.le_of_ble_eq_true rfl) (fun _ _ _ => rfl) ?_
  intro p e s m below meth c0 A Q H locs ls hC hA hI hl hE
  have hx := hC.1.1
  have hb := hC.1.2.1
  have hown := hC.1.2.2.2.1
  have hts := hC.1.2.2.2.2
  have hl : lv_has ls 9 [(0, .ref (a 0)), (1, .int x), (2, .int y), (3, .int z)] := hl
  have hn : n ≤ 10 := hg.2.1
  have hn2 : 2 ≤ n := hg.1
  have hct : ct ≤ 20 := hg.2.2.1
  have hfc : ∀ j, fc j ≤ 60 := hg.2.2.2.1
  have hff : ∀ f, ff f < n := hg.2.2.2.2.1
  have hft : ∀ f, ft f < n := hg.2.2.2.2.2.1
  have hbx : ∀ f, bx f ≤ 30 := hg.2.2.2.2.2.2.1
  have hub : ∀ f, ub f ≤ 30 := hg.2.2.2.2.2.2.2
  have hp2 := pow10 hn
  refine lv_aload_n hx hb dX1_bestTied_0 rfl (lv_at hl 0 rfl) ?_
  refine lv_iload_n hx hb dX1_bestTied_1 rfl (lv_at hl 1 rfl) ?_
  refine go_i (rest := []) hC hA hI (mU_isValue l D d a n ct nNone fc ff ft bx ub fx wa le pa qu x (by omega)) (ci := 0) rfl rfl 1 (lw_V q77 q79 qs0 q18 q80) (by decide +kernel) ⟨Nat.le_of_ble_eq_true rfl, Nat.le_of_ble_eq_true rfl⟩ rfl rfl rfl hl.1 rfl (Nat.le_of_ble_eq_true rfl) dX1_bestTied_2 ⟨Nat.zero_le _, Nat.zero_le _⟩ (fun r_2 u_2 H locs hp hI => ?_)
  obtain ⟨hy, rfl⟩ := hp
  refine lv_if_eq (tgt := 16) hx hb dX1_bestTied_5 (by decide) (fun c_5 => ?_) (fun c_5 => ?_)
  · skip
    refine lv_iconst (v := (-1)) hx hb dX1_bestTied_16 (by decide +kernel) ?_
    exact hE 17 ls H locs ((-1)) (n, ct, nNone, fc, ff, ft, bx, ub, fx, wa, le, pa, qu) dX1_bestTied_17 (⟨⟨wa, le, pa, qu, rfl⟩, Or.inl ⟨fun q => yesNo_eq hy c_5 q.1, rfl⟩⟩) hI
  · skip
    refine lv_aload_n hx hb dX1_bestTied_8 rfl (lv_at hl 0 rfl) ?_
    refine lv_iload_n hx hb dX1_bestTied_9 rfl (lv_at hl 2 rfl) ?_
    refine go_i (rest := []) hC hA hI (mU_isValue l D d a n ct nNone fc ff ft bx ub fx wa le pa qu y (by omega)) (ci := 0) rfl rfl 1 (lw_V q77 q79 qs0 q18 q80) (by decide +kernel) ⟨Nat.le_of_ble_eq_true rfl, Nat.le_of_ble_eq_true rfl⟩ rfl rfl rfl hl.1 rfl (Nat.le_of_ble_eq_true rfl) dX1_bestTied_10 ⟨Nat.zero_le _, Nat.zero_le _⟩ (fun r_10 u_10 H locs hp hI => ?_)
    obtain ⟨hz, rfl⟩ := hp
    refine lv_if_ne (tgt := 18) hx hb dX1_bestTied_13 (by decide) (fun c_13 => ?_) (fun c_13 => ?_)
    · skip
      obtain ⟨u, hu, rfl⟩ := yesNo_ne hy c_5
      obtain ⟨v, hv2, rfl⟩ := yesNo_ne hz c_13
      clear hy hz c_5 c_13
      have hfu := hfx u
      have hfv := hfx v
      refine lv_bipush (v := (-2)) hx hb dX1_bestTied_18 (by decide +kernel) ?_
      refine lv_istore (lv' := [(4, .int (-2)), (0, .ref (a 0)), (1, .int (nI u)), (2, .int (nI v)), (3, .int z)]) hx hb dX1_bestTied_20 hl (by decide) rfl (fun ls hl => ?_)
      refine lv_iconst (v := nI 0) hx hb dX1_bestTied_22 (by decide +kernel) ?_
      refine lv_istore (lv' := [(5, .int (nI 0)), (4, .int (-2)), (0, .ref (a 0)), (1, .int (nI u)), (2, .int (nI v)), (3, .int z)]) hx hb dX1_bestTied_23 hl (by decide) rfl (fun ls hl => ?_)
      have hI0 := hI
      have hl0 := hl
      clear hI hl
      have L1 : ∀ (j : Nat) (i : Nat) (lst : Int32) (wa : Nat → Nat) (le : Nat → Nat) (pa : Nat → Nat) (qu : Nat → Nat) (H : Heap) (locs : List Loc) (ls : Array Slot), (i ≤ 2) → (3 ≤ i + j) → (minOr (2 ^ n) (fun P => pTied (n, ct, fc, ff, ft, bx, ub) fx u v z P ∧ bq P u < i) (tot (n, ct, fc, ff, ft, bx, ub) nNone) (-2) lst) → IW D A s.heap (wU d a (n, ct, nNone, fc, ff, ft, bx, ub, fx, wa, le, pa, qu)) H locs → lv_has ls 9 [(0, .ref (a 0)), (1, .int (nI u)), (2, .int (nI v)), (3, .int z), (4, .int lst), (5, .int (nI i))] → W p l e ro2 s m ([.ref (a 0), .int (nI u), .int (nI v), .int z] : List Value).toArray below meth c0 H locs 0 0 Q (F0 m 25 ls []) := by
        intro j
        induction j with
        | zero => intro i lst wa le pa qu H locs ls hi hj hv hI hl; exact absurd hj (by omega)
        | succ j ih =>
          intro i lst wa le pa qu H locs ls hi hj hv hI hl
          refine lv_iload hx hb dX1_bestTied_25 (lv_at hl 5 rfl) ?_
          refine lv_iconst (v := nI 1) hx hb dX1_bestTied_27 (by decide +kernel) ?_
          refine r_gt (tgt := 160) hx hb dX1_bestTied_28 (by decide) (by omega) (by omega) (fun c_28 => ?_) (fun c_28 => ?_)
          · skip
            have ei : i = 2 := by omega
            rw [ei] at hv
            refine lv_iload hx hb dX1_bestTied_160 (lv_at hl 4 rfl) ?_
            exact hE 162 ls H locs (lst) (n, ct, nNone, fc, ff, ft, bx, ub, fx, wa, le, pa, qu) dX1_bestTied_162 (⟨⟨wa, le, pa, qu, rfl⟩, Or.inr ⟨u, v, hu, hv2, rfl, rfl, tied_end hv⟩⟩) hI
          · skip
            have hi2 : i < 2 := by omega
            have J46 : ∀ (o : Nat) (ls : Array Slot), o < 2 → (i = o ↔ ¬ z = 0) → lv_has ls 9 [(6, .int (nI o)), (0, .ref (a 0)), (1, .int (nI u)), (2, .int (nI v)), (3, .int z), (4, .int lst), (5, .int (nI i))] → W p l e ro2 s m ([.ref (a 0), .int (nI u), .int (nI v), .int z] : List Value).toArray below meth c0 H locs 0 0 Q (F0 m 46 ls []) := by
              intro o ls ho hz hl
              have hl0 := hl
              clear hl
              have K112 : ∀ (ls : Array Slot), (fx u = 2 ∨ fx u = i) → (fx v = 2 ∨ fx v = o) → (u = v → i = o) → lv_has ls 9 [(7, .int (nI 1)), (6, .int (nI o)), (0, .ref (a 0)), (1, .int (nI u)), (2, .int (nI v)), (3, .int z), (4, .int lst), (5, .int (nI i))] → W p l e ro2 s m ([.ref (a 0), .int (nI u), .int (nI v), .int z] : List Value).toArray below meth c0 H locs 0 0 Q (F0 m 112 ls []) := by
                intro ls hxu hxv hc hl
                refine lv_aload_n hx hb dX1_bestTied_112 rfl (lv_at hl 2 rfl) ?_
                refine go_v (rest := []) hC hA hI (mU_takeFixed l D d a n ct nNone fc ff ft bx ub fx wa le pa qu hn) (ci := 0) rfl rfl 0 (lw_V q113 q115 qs3 q18 q116) (by decide +kernel) ⟨Nat.le_of_ble_eq_true rfl, Nat.le_of_ble_eq_true rfl⟩ rfl rfl rfl hl.1 rfl (Nat.le_of_ble_eq_true rfl) dX1_bestTied_113 ⟨Nat.zero_le _, Nat.zero_le _⟩ (fun u_113 H locs hp hI => ?_)
                obtain ⟨wa2, rfl, hwa⟩ := hp
                have hw2 : ∀ v, v < n → wa2 v ≤ 2 := fun v hv => by rw [hwa v hv]; exact hfx v
                refine lv_aload_n hx hb dX1_bestTied_116 rfl (lv_at hl 2 rfl) ?_
                refine r_getU (v := .ref (a 7)) hC hI 6 (by decide) q34 rfl rfl dX1_bestTied_117 ?_
                refine lv_iload_n hx hb dX1_bestTied_120 rfl (lv_at hl 3 rfl) ?_
                refine lv_iload hx hb dX1_bestTied_121 (lv_at hl 7 rfl) ?_
                refine r_ast (N := 10) (f := wa2) (j := u) (x := i) (ws' := wU d a (n, ct, nNone, fc, ff, ft, bx, ub, fx, (updN wa2 u i), le, pa, qu)) hC hI 7 wU_g7 (by omega) (by decide) wU_s7 dX1_bestTied_123 (fun H locs hI => ?_)
                refine lv_aload_n hx hb dX1_bestTied_124 rfl (lv_at hl 2 rfl) ?_
                refine r_getU (v := .ref (a 7)) hC hI 6 (by decide) q34 rfl rfl dX1_bestTied_125 ?_
                refine lv_iload_n hx hb dX1_bestTied_128 rfl (lv_at hl 4 rfl) ?_
                refine lv_iload hx hb dX1_bestTied_129 (lv_at hl 1 rfl) ?_
                refine r_ast (N := 10) (f := (updN wa2 u i)) (j := v) (x := o) (ws' := wU d a (n, ct, nNone, fc, ff, ft, bx, ub, fx, (updN (updN wa2 u i) v o), le, pa, qu)) hC hI 7 wU_g7 (by omega) (by decide) wU_s7 dX1_bestTied_131 (fun H locs hI => ?_)
                have hw3 : ∀ x, x < n → updN (updN wa2 u i) v o x ≤ 2 := fun x hx => by
                  by_cases e : x = v
                  · rw [e, updN_s]; omega
                  · rw [updN_n _ _ e]
                    by_cases e2 : x = u
                    · rw [e2, updN_s]; omega
                    · rw [updN_n _ _ e2]; exact hw2 x hx
                refine lv_aload_n hx hb dX1_bestTied_132 rfl (lv_at hl 2 rfl) ?_
                refine go_i (rest := []) hC hA hI (mU_solve l D d a n ct nNone fc ff ft bx ub fx (updN (updN wa2 u i) v o) le pa qu hg hw3 (by decide)) (ci := 0) rfl rfl 0 (lw_V q117 q119 qs4 q18 q120) (by decide +kernel) ⟨Nat.le_of_ble_eq_true rfl, Nat.le_of_ble_eq_true rfl⟩ rfl rfl rfl hl.1 rfl (Nat.le_of_ble_eq_true rfl) dX1_bestTied_133 ⟨Nat.zero_le _, Nat.zero_le _⟩ (fun r_133 u_133 H locs hp hI => ?_)
                obtain ⟨T, le2, pa2, qu2, rfl, rfl, hsol⟩ := hp
                have hmin : isMin (2 ^ n) (fun P => okP (n, ct, fc, ff, ft, bx, ub) fx P ∧ bq P u = i ∧ bq P v = o) (tot (n, ct, fc, ff, ft, bx, ub) nNone) T := isMin_iff (fun P _ => okP_set2 hwa hu hv2 hi2 ho hxu hxv hc P) (sol_min hg hw3 hsol)
                have hT := isMin_lt hg hmin
                refine lv_istore (lv' := [(8, .int (nI T)), (7, .int (nI 1)), (6, .int (nI o)), (0, .ref (a 0)), (1, .int (nI u)), (2, .int (nI v)), (3, .int z), (4, .int lst), (5, .int (nI i))]) hx hb dX1_bestTied_136 hl (by decide) rfl (fun ls hl => ?_)
                refine lv_iload hx hb dX1_bestTied_138 (lv_at hl 7 rfl) ?_
                refine lv_if_lt (tgt := 150) hx hb dX1_bestTied_140 (by decide) (fun c_140 => ?_) (fun c_140 => ?_)
                · skip
                  refine lv_iload hx hb dX1_bestTied_150 (lv_at hl 0 rfl) ?_
                  refine lv_istore (lv' := [(4, .int (nI T)), (8, .int (nI T)), (7, .int (nI 1)), (6, .int (nI o)), (0, .ref (a 0)), (1, .int (nI u)), (2, .int (nI v)), (3, .int z), (5, .int (nI i))]) hx hb dX1_bestTied_152 hl (by decide) rfl (fun ls hl => ?_)
                  refine lv_iinc (v := nI (i + 1)) (lv' := [(5, .int (nI (i + 1))), (4, .int (nI T)), (8, .int (nI T)), (7, .int (nI 1)), (6, .int (nI o)), (0, .ref (a 0)), (1, .int (nI u)), (2, .int (nI v)), (3, .int z)]) hx hb dX1_bestTied_154 hl (k := 8) rfl (nI_1 i) (by decide) rfl (fun ls hl => ?_)
                  refine lv_goto (tgt := 25) hx hb dX1_bestTied_157 (by decide) ?_
                  exact ih (i + 1) (nI T) _ _ _ _ H locs ls (by omega) (by omega) (minOr_joinT (fun P _ => tied_split hi2 ho hz P) hv hmin (fun R e h => (minOr_neg hg c_140 e h).elim)) hI (lv_sub hl [5, 6, 7, 8, 1, 0] rfl)
                · skip
                  obtain ⟨R, rfl, hm⟩ := minOr_nn hg (by decide) hv c_140
                  have hR := isMin_lt hg hm
                  refine lv_iload hx hb dX1_bestTied_143 (lv_at hl 0 rfl) ?_
                  refine lv_iload hx hb dX1_bestTied_145 (lv_at hl 7 rfl) ?_
                  refine r_ge (tgt := 154) hx hb dX1_bestTied_147 (by decide) (by omega) (by omega) (fun c_147 => ?_) (fun c_147 => ?_)
                  · skip
                    refine lv_iinc (v := nI (i + 1)) (lv' := [(5, .int (nI (i + 1))), (8, .int (nI T)), (7, .int (nI 1)), (6, .int (nI o)), (0, .ref (a 0)), (1, .int (nI u)), (2, .int (nI v)), (3, .int z), (4, .int (nI R))]) hx hb dX1_bestTied_154 hl (k := 8) rfl (nI_1 i) (by decide) rfl (fun ls hl => ?_)
                    refine lv_goto (tgt := 25) hx hb dX1_bestTied_157 (by decide) ?_
                    exact ih (i + 1) (nI R) _ _ _ _ H locs ls (by omega) (by omega) (minOr_joinK (fun P _ => tied_split hi2 ho hz P) rfl hm hmin c_147) hI (lv_sub hl [4, 5, 6, 7, 8, 0] rfl)
                  · skip
                    refine lv_iload hx hb dX1_bestTied_150 (lv_at hl 0 rfl) ?_
                    refine lv_istore (lv' := [(4, .int (nI T)), (8, .int (nI T)), (7, .int (nI 1)), (6, .int (nI o)), (0, .ref (a 0)), (1, .int (nI u)), (2, .int (nI v)), (3, .int z), (5, .int (nI i))]) hx hb dX1_bestTied_152 hl (by decide) rfl (fun ls hl => ?_)
                    refine lv_iinc (v := nI (i + 1)) (lv' := [(5, .int (nI (i + 1))), (4, .int (nI T)), (8, .int (nI T)), (7, .int (nI 1)), (6, .int (nI o)), (0, .ref (a 0)), (1, .int (nI u)), (2, .int (nI v)), (3, .int z)]) hx hb dX1_bestTied_154 hl (k := 8) rfl (nI_1 i) (by decide) rfl (fun ls hl => ?_)
                    refine lv_goto (tgt := 25) hx hb dX1_bestTied_157 (by decide) ?_
                    exact ih (i + 1) (nI T) _ _ _ _ H locs ls (by omega) (by omega) (minOr_joinT (fun P _ => tied_split hi2 ho hz P) hv hmin (fun R2 _ h => by rw [isMin_one h hm]; omega)) hI (lv_sub hl [5, 6, 7, 8, 1, 0] rfl)
              have hl := hl0
              refine lv_aload_n hx hb dX1_bestTied_46 rfl (lv_at hl 1 rfl) ?_
              refine r_getU (v := .ref (a 6)) hC hI 5 (by decide) q33 rfl rfl dX1_bestTied_47 ?_
              refine lv_iload_n hx hb dX1_bestTied_50 rfl (lv_at hl 2 rfl) ?_
              refine r_ald (N := 10) (f := fx) (j := u) hC hI 6 wU_g6 (by omega) (by decide) dX1_bestTied_51 ?_
              refine lv_iconst (v := nI 2) hx hb dX1_bestTied_52 (by decide +kernel) ?_
              refine r_eq (tgt := 67) hx hb dX1_bestTied_53 (by decide) (by omega) (by omega) (fun c_53 => ?_) (fun c_53 => ?_)
              · skip
                refine lv_aload_n hx hb dX1_bestTied_67 rfl (lv_at hl 1 rfl) ?_
                refine r_getU (v := .ref (a 6)) hC hI 5 (by decide) q33 rfl rfl dX1_bestTied_68 ?_
                refine lv_iload_n hx hb dX1_bestTied_71 rfl (lv_at hl 3 rfl) ?_
                refine r_ald (N := 10) (f := fx) (j := v) hC hI 6 wU_g6 (by omega) (by decide) dX1_bestTied_72 ?_
                refine lv_iconst (v := nI 2) hx hb dX1_bestTied_73 (by decide +kernel) ?_
                refine r_eq (tgt := 88) hx hb dX1_bestTied_74 (by decide) (by omega) (by omega) (fun c_74 => ?_) (fun c_74 => ?_)
                · skip
                  refine lv_iconst (v := nI 1) hx hb dX1_bestTied_88 (by decide +kernel) ?_
                  refine lv_goto (tgt := 93) hx hb dX1_bestTied_89 (by decide) ?_
                  refine lv_istore (lv' := [(7, .int (nI 1)), (6, .int (nI o)), (0, .ref (a 0)), (1, .int (nI u)), (2, .int (nI v)), (3, .int z), (4, .int lst), (5, .int (nI i))]) hx hb dX1_bestTied_93 hl (by decide) rfl (fun ls hl => ?_)
                  refine lv_iload hx hb dX1_bestTied_95 (lv_at hl 0 rfl) ?_
                  refine r_if_eq (tgt := 154) hx hb dX1_bestTied_97 (by decide) (by omega) (fun c_97 => ?_) (fun c_97 => ?_)
                  · skip
                    exact absurd c_97 (by decide)
                  · skip
                    refine lv_iload_n hx hb dX1_bestTied_100 rfl (lv_at hl 3 rfl) ?_
                    refine lv_iload_n hx hb dX1_bestTied_101 rfl (lv_at hl 4 rfl) ?_
                    refine r_ne (tgt := 112) hx hb dX1_bestTied_102 (by decide) (by omega) (by omega) (fun c_102 => ?_) (fun c_102 => ?_)
                    · skip
                      exact K112 ls (Or.inl c_53) (Or.inl c_74) (fun e => absurd e c_102) (lv_sub hl [0, 1, 2, 3, 4, 5, 6, 7] rfl)
                    · skip
                      refine lv_iload hx hb dX1_bestTied_105 (lv_at hl 7 rfl) ?_
                      refine lv_iload hx hb dX1_bestTied_107 (lv_at hl 1 rfl) ?_
                      refine r_ne (tgt := 154) hx hb dX1_bestTied_109 (by decide) (by omega) (by omega) (fun c_109 => ?_) (fun c_109 => ?_)
                      · skip
                        refine lv_iinc (v := nI (i + 1)) (lv' := [(5, .int (nI (i + 1))), (7, .int (nI 1)), (6, .int (nI o)), (0, .ref (a 0)), (1, .int (nI u)), (2, .int (nI v)), (3, .int z), (4, .int lst)]) hx hb dX1_bestTied_154 hl (k := 7) rfl (nI_1 i) (by decide) rfl (fun ls hl => ?_)
                        refine lv_goto (tgt := 25) hx hb dX1_bestTied_157 (by decide) ?_
                        exact ih (i + 1) lst _ _ _ _ H locs ls (by omega) (by omega) (tied_no hi2 ho hz hv (fun P _ h2 h3 => c_109 (by rw [← h2, ← h3, c_102]))) hI (lv_sub hl [3, 4, 5, 6, 7, 0] rfl)
                      · skip
                        exact K112 ls (Or.inl c_53) (Or.inl c_74) (fun _ => c_109) (lv_sub hl [0, 1, 2, 3, 4, 5, 6, 7] rfl)
                · skip
                  refine lv_aload_n hx hb dX1_bestTied_77 rfl (lv_at hl 1 rfl) ?_
                  refine r_getU (v := .ref (a 6)) hC hI 5 (by decide) q33 rfl rfl dX1_bestTied_78 ?_
                  refine lv_iload_n hx hb dX1_bestTied_81 rfl (lv_at hl 3 rfl) ?_
                  refine r_ald (N := 10) (f := fx) (j := v) hC hI 6 wU_g6 (by omega) (by decide) dX1_bestTied_82 ?_
                  refine lv_iload hx hb dX1_bestTied_83 (lv_at hl 0 rfl) ?_
                  refine r_ne (tgt := 92) hx hb dX1_bestTied_85 (by decide) (by omega) (by omega) (fun c_85 => ?_) (fun c_85 => ?_)
                  · skip
                    refine lv_iconst (v := nI 0) hx hb dX1_bestTied_92 (by decide +kernel) ?_
                    refine lv_istore (lv' := [(7, .int (nI 0)), (6, .int (nI o)), (0, .ref (a 0)), (1, .int (nI u)), (2, .int (nI v)), (3, .int z), (4, .int lst), (5, .int (nI i))]) hx hb dX1_bestTied_93 hl (by decide) rfl (fun ls hl => ?_)
                    refine lv_iload hx hb dX1_bestTied_95 (lv_at hl 0 rfl) ?_
                    refine r_if_eq (tgt := 154) hx hb dX1_bestTied_97 (by decide) (by omega) (fun c_97 => ?_) (fun c_97 => ?_)
                    · skip
                      refine lv_iinc (v := nI (i + 1)) (lv' := [(5, .int (nI (i + 1))), (7, .int (nI 0)), (6, .int (nI o)), (0, .ref (a 0)), (1, .int (nI u)), (2, .int (nI v)), (3, .int z), (4, .int lst)]) hx hb dX1_bestTied_154 hl (k := 7) rfl (nI_1 i) (by decide) rfl (fun ls hl => ?_)
                      refine lv_goto (tgt := 25) hx hb dX1_bestTied_157 (by decide) ?_
                      exact ih (i + 1) lst _ _ _ _ H locs ls (by omega) (by omega) (tied_no hi2 ho hz hv (fun P h1 _ h2 => okP_no hv2 c_74 c_85 h1 h2)) hI (lv_sub hl [3, 4, 5, 6, 7, 0] rfl)
                    · skip
                      exact absurd rfl c_97
                  · skip
                    refine lv_iconst (v := nI 1) hx hb dX1_bestTied_88 (by decide +kernel) ?_
                    refine lv_goto (tgt := 93) hx hb dX1_bestTied_89 (by decide) ?_
                    refine lv_istore (lv' := [(7, .int (nI 1)), (6, .int (nI o)), (0, .ref (a 0)), (1, .int (nI u)), (2, .int (nI v)), (3, .int z), (4, .int lst), (5, .int (nI i))]) hx hb dX1_bestTied_93 hl (by decide) rfl (fun ls hl => ?_)
                    refine lv_iload hx hb dX1_bestTied_95 (lv_at hl 0 rfl) ?_
                    refine r_if_eq (tgt := 154) hx hb dX1_bestTied_97 (by decide) (by omega) (fun c_97 => ?_) (fun c_97 => ?_)
                    · skip
                      exact absurd c_97 (by decide)
                    · skip
                      refine lv_iload_n hx hb dX1_bestTied_100 rfl (lv_at hl 3 rfl) ?_
                      refine lv_iload_n hx hb dX1_bestTied_101 rfl (lv_at hl 4 rfl) ?_
                      refine r_ne (tgt := 112) hx hb dX1_bestTied_102 (by decide) (by omega) (by omega) (fun c_102 => ?_) (fun c_102 => ?_)
                      · skip
                        exact K112 ls (Or.inl c_53) (Or.inr c_85) (fun e => absurd e c_102) (lv_sub hl [0, 1, 2, 3, 4, 5, 6, 7] rfl)
                      · skip
                        refine lv_iload hx hb dX1_bestTied_105 (lv_at hl 7 rfl) ?_
                        refine lv_iload hx hb dX1_bestTied_107 (lv_at hl 1 rfl) ?_
                        refine r_ne (tgt := 154) hx hb dX1_bestTied_109 (by decide) (by omega) (by omega) (fun c_109 => ?_) (fun c_109 => ?_)
                        · skip
                          refine lv_iinc (v := nI (i + 1)) (lv' := [(5, .int (nI (i + 1))), (7, .int (nI 1)), (6, .int (nI o)), (0, .ref (a 0)), (1, .int (nI u)), (2, .int (nI v)), (3, .int z), (4, .int lst)]) hx hb dX1_bestTied_154 hl (k := 7) rfl (nI_1 i) (by decide) rfl (fun ls hl => ?_)
                          refine lv_goto (tgt := 25) hx hb dX1_bestTied_157 (by decide) ?_
                          exact ih (i + 1) lst _ _ _ _ H locs ls (by omega) (by omega) (tied_no hi2 ho hz hv (fun P _ h2 h3 => c_109 (by rw [← h2, ← h3, c_102]))) hI (lv_sub hl [3, 4, 5, 6, 7, 0] rfl)
                        · skip
                          exact K112 ls (Or.inl c_53) (Or.inr c_85) (fun _ => c_109) (lv_sub hl [0, 1, 2, 3, 4, 5, 6, 7] rfl)
              · skip
                refine lv_aload_n hx hb dX1_bestTied_56 rfl (lv_at hl 1 rfl) ?_
                refine r_getU (v := .ref (a 6)) hC hI 5 (by decide) q33 rfl rfl dX1_bestTied_57 ?_
                refine lv_iload_n hx hb dX1_bestTied_60 rfl (lv_at hl 2 rfl) ?_
                refine r_ald (N := 10) (f := fx) (j := u) hC hI 6 wU_g6 (by omega) (by decide) dX1_bestTied_61 ?_
                refine lv_iload hx hb dX1_bestTied_62 (lv_at hl 6 rfl) ?_
                refine r_ne (tgt := 92) hx hb dX1_bestTied_64 (by decide) (by omega) (by omega) (fun c_64 => ?_) (fun c_64 => ?_)
                · skip
                  refine lv_iconst (v := nI 0) hx hb dX1_bestTied_92 (by decide +kernel) ?_
                  refine lv_istore (lv' := [(7, .int (nI 0)), (6, .int (nI o)), (0, .ref (a 0)), (1, .int (nI u)), (2, .int (nI v)), (3, .int z), (4, .int lst), (5, .int (nI i))]) hx hb dX1_bestTied_93 hl (by decide) rfl (fun ls hl => ?_)
                  refine lv_iload hx hb dX1_bestTied_95 (lv_at hl 0 rfl) ?_
                  refine r_if_eq (tgt := 154) hx hb dX1_bestTied_97 (by decide) (by omega) (fun c_97 => ?_) (fun c_97 => ?_)
                  · skip
                    refine lv_iinc (v := nI (i + 1)) (lv' := [(5, .int (nI (i + 1))), (7, .int (nI 0)), (6, .int (nI o)), (0, .ref (a 0)), (1, .int (nI u)), (2, .int (nI v)), (3, .int z), (4, .int lst)]) hx hb dX1_bestTied_154 hl (k := 7) rfl (nI_1 i) (by decide) rfl (fun ls hl => ?_)
                    refine lv_goto (tgt := 25) hx hb dX1_bestTied_157 (by decide) ?_
                    exact ih (i + 1) lst _ _ _ _ H locs ls (by omega) (by omega) (tied_no hi2 ho hz hv (fun P h1 h2 _ => okP_no hu c_53 c_64 h1 h2)) hI (lv_sub hl [3, 4, 5, 6, 7, 0] rfl)
                  · skip
                    exact absurd rfl c_97
                · skip
                  refine lv_aload_n hx hb dX1_bestTied_67 rfl (lv_at hl 1 rfl) ?_
                  refine r_getU (v := .ref (a 6)) hC hI 5 (by decide) q33 rfl rfl dX1_bestTied_68 ?_
                  refine lv_iload_n hx hb dX1_bestTied_71 rfl (lv_at hl 3 rfl) ?_
                  refine r_ald (N := 10) (f := fx) (j := v) hC hI 6 wU_g6 (by omega) (by decide) dX1_bestTied_72 ?_
                  refine lv_iconst (v := nI 2) hx hb dX1_bestTied_73 (by decide +kernel) ?_
                  refine r_eq (tgt := 88) hx hb dX1_bestTied_74 (by decide) (by omega) (by omega) (fun c_74 => ?_) (fun c_74 => ?_)
                  · skip
                    refine lv_iconst (v := nI 1) hx hb dX1_bestTied_88 (by decide +kernel) ?_
                    refine lv_goto (tgt := 93) hx hb dX1_bestTied_89 (by decide) ?_
                    refine lv_istore (lv' := [(7, .int (nI 1)), (6, .int (nI o)), (0, .ref (a 0)), (1, .int (nI u)), (2, .int (nI v)), (3, .int z), (4, .int lst), (5, .int (nI i))]) hx hb dX1_bestTied_93 hl (by decide) rfl (fun ls hl => ?_)
                    refine lv_iload hx hb dX1_bestTied_95 (lv_at hl 0 rfl) ?_
                    refine r_if_eq (tgt := 154) hx hb dX1_bestTied_97 (by decide) (by omega) (fun c_97 => ?_) (fun c_97 => ?_)
                    · skip
                      exact absurd c_97 (by decide)
                    · skip
                      refine lv_iload_n hx hb dX1_bestTied_100 rfl (lv_at hl 3 rfl) ?_
                      refine lv_iload_n hx hb dX1_bestTied_101 rfl (lv_at hl 4 rfl) ?_
                      refine r_ne (tgt := 112) hx hb dX1_bestTied_102 (by decide) (by omega) (by omega) (fun c_102 => ?_) (fun c_102 => ?_)
                      · skip
                        exact K112 ls (Or.inr c_64) (Or.inl c_74) (fun e => absurd e c_102) (lv_sub hl [0, 1, 2, 3, 4, 5, 6, 7] rfl)
                      · skip
                        refine lv_iload hx hb dX1_bestTied_105 (lv_at hl 7 rfl) ?_
                        refine lv_iload hx hb dX1_bestTied_107 (lv_at hl 1 rfl) ?_
                        refine r_ne (tgt := 154) hx hb dX1_bestTied_109 (by decide) (by omega) (by omega) (fun c_109 => ?_) (fun c_109 => ?_)
                        · skip
                          refine lv_iinc (v := nI (i + 1)) (lv' := [(5, .int (nI (i + 1))), (7, .int (nI 1)), (6, .int (nI o)), (0, .ref (a 0)), (1, .int (nI u)), (2, .int (nI v)), (3, .int z), (4, .int lst)]) hx hb dX1_bestTied_154 hl (k := 7) rfl (nI_1 i) (by decide) rfl (fun ls hl => ?_)
                          refine lv_goto (tgt := 25) hx hb dX1_bestTied_157 (by decide) ?_
                          exact ih (i + 1) lst _ _ _ _ H locs ls (by omega) (by omega) (tied_no hi2 ho hz hv (fun P _ h2 h3 => c_109 (by rw [← h2, ← h3, c_102]))) hI (lv_sub hl [3, 4, 5, 6, 7, 0] rfl)
                        · skip
                          exact K112 ls (Or.inr c_64) (Or.inl c_74) (fun _ => c_109) (lv_sub hl [0, 1, 2, 3, 4, 5, 6, 7] rfl)
                  · skip
                    refine lv_aload_n hx hb dX1_bestTied_77 rfl (lv_at hl 1 rfl) ?_
                    refine r_getU (v := .ref (a 6)) hC hI 5 (by decide) q33 rfl rfl dX1_bestTied_78 ?_
                    refine lv_iload_n hx hb dX1_bestTied_81 rfl (lv_at hl 3 rfl) ?_
                    refine r_ald (N := 10) (f := fx) (j := v) hC hI 6 wU_g6 (by omega) (by decide) dX1_bestTied_82 ?_
                    refine lv_iload hx hb dX1_bestTied_83 (lv_at hl 0 rfl) ?_
                    refine r_ne (tgt := 92) hx hb dX1_bestTied_85 (by decide) (by omega) (by omega) (fun c_85 => ?_) (fun c_85 => ?_)
                    · skip
                      refine lv_iconst (v := nI 0) hx hb dX1_bestTied_92 (by decide +kernel) ?_
                      refine lv_istore (lv' := [(7, .int (nI 0)), (6, .int (nI o)), (0, .ref (a 0)), (1, .int (nI u)), (2, .int (nI v)), (3, .int z), (4, .int lst), (5, .int (nI i))]) hx hb dX1_bestTied_93 hl (by decide) rfl (fun ls hl => ?_)
                      refine lv_iload hx hb dX1_bestTied_95 (lv_at hl 0 rfl) ?_
                      refine r_if_eq (tgt := 154) hx hb dX1_bestTied_97 (by decide) (by omega) (fun c_97 => ?_) (fun c_97 => ?_)
                      · skip
                        refine lv_iinc (v := nI (i + 1)) (lv' := [(5, .int (nI (i + 1))), (7, .int (nI 0)), (6, .int (nI o)), (0, .ref (a 0)), (1, .int (nI u)), (2, .int (nI v)), (3, .int z), (4, .int lst)]) hx hb dX1_bestTied_154 hl (k := 7) rfl (nI_1 i) (by decide) rfl (fun ls hl => ?_)
                        refine lv_goto (tgt := 25) hx hb dX1_bestTied_157 (by decide) ?_
                        exact ih (i + 1) lst _ _ _ _ H locs ls (by omega) (by omega) (tied_no hi2 ho hz hv (fun P h1 _ h2 => okP_no hv2 c_74 c_85 h1 h2)) hI (lv_sub hl [3, 4, 5, 6, 7, 0] rfl)
                      · skip
                        exact absurd rfl c_97
                    · skip
                      refine lv_iconst (v := nI 1) hx hb dX1_bestTied_88 (by decide +kernel) ?_
                      refine lv_goto (tgt := 93) hx hb dX1_bestTied_89 (by decide) ?_
                      refine lv_istore (lv' := [(7, .int (nI 1)), (6, .int (nI o)), (0, .ref (a 0)), (1, .int (nI u)), (2, .int (nI v)), (3, .int z), (4, .int lst), (5, .int (nI i))]) hx hb dX1_bestTied_93 hl (by decide) rfl (fun ls hl => ?_)
                      refine lv_iload hx hb dX1_bestTied_95 (lv_at hl 0 rfl) ?_
                      refine r_if_eq (tgt := 154) hx hb dX1_bestTied_97 (by decide) (by omega) (fun c_97 => ?_) (fun c_97 => ?_)
                      · skip
                        exact absurd c_97 (by decide)
                      · skip
                        refine lv_iload_n hx hb dX1_bestTied_100 rfl (lv_at hl 3 rfl) ?_
                        refine lv_iload_n hx hb dX1_bestTied_101 rfl (lv_at hl 4 rfl) ?_
                        refine r_ne (tgt := 112) hx hb dX1_bestTied_102 (by decide) (by omega) (by omega) (fun c_102 => ?_) (fun c_102 => ?_)
                        · skip
                          exact K112 ls (Or.inr c_64) (Or.inr c_85) (fun e => absurd e c_102) (lv_sub hl [0, 1, 2, 3, 4, 5, 6, 7] rfl)
                        · skip
                          refine lv_iload hx hb dX1_bestTied_105 (lv_at hl 7 rfl) ?_
                          refine lv_iload hx hb dX1_bestTied_107 (lv_at hl 1 rfl) ?_
                          refine r_ne (tgt := 154) hx hb dX1_bestTied_109 (by decide) (by omega) (by omega) (fun c_109 => ?_) (fun c_109 => ?_)
                          · skip
                            refine lv_iinc (v := nI (i + 1)) (lv' := [(5, .int (nI (i + 1))), (7, .int (nI 1)), (6, .int (nI o)), (0, .ref (a 0)), (1, .int (nI u)), (2, .int (nI v)), (3, .int z), (4, .int lst)]) hx hb dX1_bestTied_154 hl (k := 7) rfl (nI_1 i) (by decide) rfl (fun ls hl => ?_)
                            refine lv_goto (tgt := 25) hx hb dX1_bestTied_157 (by decide) ?_
                            exact ih (i + 1) lst _ _ _ _ H locs ls (by omega) (by omega) (tied_no hi2 ho hz hv (fun P _ h2 h3 => c_109 (by rw [← h2, ← h3, c_102]))) hI (lv_sub hl [3, 4, 5, 6, 7, 0] rfl)
                          · skip
                            exact K112 ls (Or.inr c_64) (Or.inr c_85) (fun _ => c_109) (lv_sub hl [0, 1, 2, 3, 4, 5, 6, 7] rfl)
            refine lv_iload_n hx hb dX1_bestTied_31 rfl (lv_at hl 3 rfl) ?_
            refine lv_if_eq (tgt := 40) hx hb dX1_bestTied_32 (by decide) (fun c_32 => ?_) (fun c_32 => ?_)
            · skip
              refine lv_iconst (v := nI 1) hx hb dX1_bestTied_40 (by decide +kernel) ?_
              refine lv_iload hx hb dX1_bestTied_41 (lv_at hl 5 rfl) ?_
              refine r_sub hx hb (by omega) dX1_bestTied_43 ?_
              refine lv_istore (lv' := [(6, .int (nI (1 - i))), (0, .ref (a 0)), (1, .int (nI u)), (2, .int (nI v)), (3, .int z), (4, .int lst), (5, .int (nI i))]) hx hb dX1_bestTied_44 hl (by decide) rfl (fun ls hl => ?_)
              exact J46 (1 - i) ls (by omega) ⟨fun q => absurd q (by omega), fun q => absurd c_32 q⟩ (lv_sub hl [0, 1, 2, 3, 4, 5, 6] rfl)
            · skip
              refine lv_iload hx hb dX1_bestTied_35 (lv_at hl 5 rfl) ?_
              refine lv_goto (tgt := 44) hx hb dX1_bestTied_37 (by decide) ?_
              refine lv_istore (lv' := [(6, .int (nI i)), (0, .ref (a 0)), (1, .int (nI u)), (2, .int (nI v)), (3, .int z), (4, .int lst), (5, .int (nI i))]) hx hb dX1_bestTied_44 hl (by decide) rfl (fun ls hl => ?_)
              exact J46 i ls (by omega) ⟨fun _ => c_32, fun _ => rfl⟩ (lv_sub hl [0, 1, 2, 3, 4, 5, 6] rfl)
      exact L1 3 0 (-2) wa le pa qu H locs ls (by omega) (by omega) (tied_0 _ _ _ _ _ _ _) hI0 (lv_sub hl0 [2, 3, 4, 5, 1, 0] rfl)
    · skip
      refine lv_iconst (v := (-1)) hx hb dX1_bestTied_16 (by decide +kernel) ?_
      exact hE 17 ls H locs ((-1)) (n, ct, nNone, fc, ff, ft, bx, ub, fx, wa, le, pa, qu) dX1_bestTied_17 (⟨⟨wa, le, pa, qu, rfl⟩, Or.inl ⟨fun q => yesNo_eq hz c_13 q.2, rfl⟩⟩) hI
end
section
set_option maxRecDepth 100000
/-! PLAIN LAW 4: what the model's loops add up -/
def noYes (r : Int32) (p : Prop) : Prop := (r = 1 ∧ ¬ p) ∨ (r = 0 ∧ p)
theorem noYes_bool {r : Int32} {p : Prop} (h : noYes r p) : narrow .boolean (.int r) = .int r := by
  rcases h with ⟨rfl, _⟩ | ⟨rfl, _⟩ <;> rfl
theorem noYes_ne {r : Int32} {p : Prop} (h : noYes r p) (hr : ¬ r = 0) : ¬ p := by
  rcases h with ⟨_, q⟩ | ⟨q, _⟩
  · exact q
  · exact absurd q hr
theorem noYes_eq {r : Int32} {p : Prop} (h : noYes r p) (hr : r = 0) : p := by
  rcases h with ⟨q, _⟩ | ⟨_, q⟩
  · rw [hr] at q; exact absurd q (by decide)
  · exact q
theorem inR_ofT {x : Int32} {n : Nat} (hn : n < 2 ^ 31) (h0 : ¬ x < 0) (h : x < nI n) : inR x n := by
  rcases pk_ix x hn with q | q | q
  · exact absurd q h0
  · exact (Int32.lt_irrefl (Int32.lt_of_lt_of_le h q)).elim
  · exact q
theorem inR_bigT {x : Int32} {n m : Nat} (hm : n ≤ m) (hn : m < 2 ^ 31) (h : ¬ x < nI m) : ¬ inR x n := by
  rintro ⟨v, hv, rfl⟩
  exact h (nI_lt (by omega) hn)
theorem fT_two (g : gD) (sk P f : Nat) : fTot g sk P (f + 1) = fTot g sk P f + (if f = sk then 0 else if bq P (gfr g f) = 0 ∧ bq P (gto g f) = 1 then gbx g f else 0) + (if f = sk then 0 else if bq P (gfr g f) = 1 ∧ bq P (gto g f) = 0 then gub g f else 0) := by
  have h1 := bq_lt P (gfr g f)
  have h2 := bq_lt P (gto g f)
  unfold fTot
  rw [fb_sm_succ]
  by_cases hs : f = sk
  · simp only [if_pos hs, Nat.add_zero]
  · simp only [if_neg hs]
    rcases (show bq P (gfr g f) = 0 ∨ bq P (gfr g f) = 1 by omega) with a | a <;> rcases (show bq P (gto g f) = 0 ∨ bq P (gto g f) = 1 by omega) with b | b <;> rw [a, b] <;> simp
theorem least_end {g : gD} {w : Nat → Nat} (hw : ∀ v, v < gn g → w v ≤ 2) {t : Nat → Nat} {neg r : Int32} (h : minOr (2 ^ gn g) (okP g w) t neg r) : ∃ T, r = nI T ∧ isMin (2 ^ gn g) (okP g w) t T := by
  rcases h with ⟨h, _⟩ | h
  · exact absurd (pW_ok hw) (h _ (pW_lt g w))
  · exact h
/-- common's loop: the plans below i seen -/
def cmI (g : gD) (w : Nat → Nat) (T A i : Nat) : Prop := A < 2 ^ gn g ∧ ∀ v, v < gn g → (bq A v = 1 ↔ ∀ P, P < i → okP g w P → tot g nNone P = T → bq P v = 1)
theorem cmI_0 (g : gD) (w : Nat → Nat) (T : Nat) : cmI g w T (2 ^ gn g - 1) 0 := ⟨by have := Nat.two_pow_pos (gn g); omega, fun v hv => ⟨fun _ P hP => absurd hP (Nat.not_lt_zero P), fun _ => bq_full hv⟩⟩
theorem cmI_no {g : gD} {w : Nat → Nat} {T A i : Nat} (h : cmI g w T A i) (hn : ¬ (okP g w i ∧ tot g nNone i = T)) : cmI g w T A (i + 1) := by
  refine ⟨h.1, fun v hv => ?_⟩
  rw [h.2 v hv]
  constructor
  · intro a P hP h1 h2
    by_cases e : P = i
    · rw [e] at h1 h2; exact absurd ⟨h1, h2⟩ hn
    · exact a P (by omega) h1 h2
  · intro a P hP h1 h2
    exact a P (by omega) h1 h2
theorem cmI_yes {g : gD} {w : Nat → Nat} {T A i : Nat} (h : cmI g w T A i) (h1 : okP g w i) (h2 : tot g nNone i = T) : cmI g w T (A &&& i) (i + 1) := by
  refine ⟨Nat.lt_of_le_of_lt Nat.and_le_left h.1, fun v hv => ?_⟩
  rw [bq_and, h.2 v hv]
  constructor
  · rintro ⟨a, b⟩ P hP q1 q2
    by_cases e : P = i
    · rw [e]; exact b
    · exact a P (by omega) q1 q2
  · intro a
    exact ⟨fun P hP q1 q2 => a P (by omega) q1 q2, a i (by omega) h1 h2⟩
theorem cmI_end {g : gD} {w : Nat → Nat} {T A : Nat} (hm : isMin (2 ^ gn g) (okP g w) (tot g nNone) T) (h : cmI g w T A (2 ^ gn g)) : isCommon g w A := by
  refine ⟨h.1, fun v hv => ?_⟩
  rw [h.2 v hv]
  constructor
  · intro a P hP
    have := (bestP_min hm hP.1).mp hP
    exact a P hP.1 this.1 this.2
  · intro a P hP q1 q2
    exact a P ((bestP_min hm hP).mpr ⟨q1, q2⟩)
/-- some's loop -/
def smI (g : gD) (w : Nat → Nat) (T A i : Nat) : Prop := A < 2 ^ gn g ∧ ∀ v, v < gn g → (bq A v = 1 ↔ ∃ P, P < i ∧ okP g w P ∧ tot g nNone P = T ∧ bq P v = 1)
theorem smI_0 (g : gD) (w : Nat → Nat) (T : Nat) : smI g w T 0 0 := ⟨Nat.two_pow_pos _, fun v _ => ⟨fun a => absurd a (bq_0 v), fun ⟨P, hP, _⟩ => absurd hP (Nat.not_lt_zero P)⟩⟩
theorem smI_no {g : gD} {w : Nat → Nat} {T A i : Nat} (h : smI g w T A i) (hn : ¬ (okP g w i ∧ tot g nNone i = T)) : smI g w T A (i + 1) := by
  refine ⟨h.1, fun v hv => ?_⟩
  rw [h.2 v hv]
  constructor
  · rintro ⟨P, a, b, c, e⟩
    exact ⟨P, by omega, b, c, e⟩
  · rintro ⟨P, a, b, c, e⟩
    by_cases q : P = i
    · rw [q] at b c; exact absurd ⟨b, c⟩ hn
    · exact ⟨P, by omega, b, c, e⟩
theorem smI_yes {g : gD} {w : Nat → Nat} {T A i : Nat} (hi : i < 2 ^ gn g) (h : smI g w T A i) (h1 : okP g w i) (h2 : tot g nNone i = T) : smI g w T (A ||| i) (i + 1) := by
  refine ⟨Nat.or_lt_two_pow h.1 hi, fun v hv => ?_⟩
  rw [bq_or2, h.2 v hv]
  constructor
  · rintro (⟨P, a, b, c, e⟩ | a)
    · exact ⟨P, by omega, b, c, e⟩
    · exact ⟨i, by omega, h1, h2, a⟩
  · rintro ⟨P, a, b, c, e⟩
    by_cases q : P = i
    · rw [q] at e; exact Or.inr e
    · exact Or.inl ⟨P, by omega, b, c, e⟩
theorem smI_end {g : gD} {w : Nat → Nat} {T A : Nat} (hm : isMin (2 ^ gn g) (okP g w) (tot g nNone) T) (h : smI g w T A (2 ^ gn g)) : isSome g w A := by
  refine ⟨h.1, fun v hv => ?_⟩
  rw [h.2 v hv]
  constructor
  · rintro ⟨P, a, b, c, e⟩
    exact ⟨P, (bestP_min hm a).mpr ⟨b, c⟩, e⟩
  · rintro ⟨P, a, e⟩
    have := (bestP_min hm a.1).mp a
    exact ⟨P, a.1, this.1, this.2, e⟩
theorem ct_same (C E i : Nat) : fb_ct (fun v => decide (bq C v = bq E v)) (i + 1) = fb_ct (fun v => decide (bq C v = bq E v)) i + (if bq C i = bq E i then 1 else 0) := by
  rw [fb_ct_succ]
  by_cases q : bq C i = bq E i
  · rw [if_pos q, if_pos (by rw [decide_eq_true_eq]; exact q)]
  · rw [if_neg q, if_neg (by rw [decide_eq_true_eq]; exact q)]
end
section
set_option maxRecDepth 100000
/-! UnboxPlannerModel (printed by gen_m1.py) -/
set_option maxHeartbeats 4000000 in
/-- bad -/
theorem mM_bad (l : Launch) (D : va_G) (d : ClassId) (a : Nat → Nat) (n ct : Nat) (fc fx ff ft bx ub : Nat → Nat) (x : Int32) (hn : n ≤ 10) : qI l yX2_bad cX2_bad 2 .boolean ro0 D d (wM d a) (n, (2 ^ n), ct, fc, fx, ff, ft, bx, ub) [.ref (a 0), .int x] (fun r u => noYes r (inR x n) ∧ u = (n, (2 ^ n), ct, fc, fx, ff, ft, bx, ub)) := by
  refine qI_of RX2 rfl (by decide) (Nat.le_of_ble_eq_true rfl) (fun _ _ h => noYes_bool h.1) ?_
  intro p e s m below meth c0 A Q H locs ls hC hA hI hl hE
  have hx := hC.1.1
  have hb := hC.1.2.1
  have hown := hC.1.2.2.2.1
  have hts := hC.1.2.2.2.2
  have hl : lv_has ls 2 [(0, .ref (a 0)), (1, .int x)] := hl
  refine lv_iload_n hx hb dX2_bad_0 rfl (lv_at hl 1 rfl) ?_
  refine lv_if_lt (tgt := 18) hx hb dX2_bad_1 (by decide) (fun c_1 => ?_) (fun c_1 => ?_)
  · skip
    refine lv_iconst (v := nI 1) hx hb dX2_bad_18 (by decide +kernel) ?_
    refine lv_goto (tgt := 23) hx hb dX2_bad_19 (by decide) ?_
    exact hE 23 ls H locs (nI 1) (n, (2 ^ n), ct, fc, fx, ff, ft, bx, ub) dX2_bad_23 (⟨Or.inl ⟨rfl, inR_neg (by omega) c_1⟩, rfl⟩) hI
  · skip
    refine lv_iload_n hx hb dX2_bad_4 rfl (lv_at hl 1 rfl) ?_
    refine lv_aload_n hx hb dX2_bad_5 rfl (lv_at hl 0 rfl) ?_
    refine r_getM (v := .int (nI n)) hC hI 0 (by decide) q180 rfl rfl dX2_bad_6 ?_
    refine lv_icmp_ge (tgt := 18) hx hb dX2_bad_9 (by decide) (fun c_9 => ?_) (fun c_9 => ?_)
    · skip
      refine lv_iconst (v := nI 1) hx hb dX2_bad_18 (by decide +kernel) ?_
      refine lv_goto (tgt := 23) hx hb dX2_bad_19 (by decide) ?_
      exact hE 23 ls H locs (nI 1) (n, (2 ^ n), ct, fc, fx, ff, ft, bx, ub) dX2_bad_23 (⟨Or.inl ⟨rfl, inR_big (by omega) c_9⟩, rfl⟩) hI
    · skip
      refine lv_iload_n hx hb dX2_bad_12 rfl (lv_at hl 1 rfl) ?_
      refine lv_bipush (v := nI 10) hx hb dX2_bad_13 (by decide +kernel) ?_
      refine lv_icmp_lt (tgt := 22) hx hb dX2_bad_15 (by decide) (fun c_15 => ?_) (fun c_15 => ?_)
      · skip
        refine lv_iconst (v := nI 0) hx hb dX2_bad_22 (by decide +kernel) ?_
        exact hE 23 ls H locs (nI 0) (n, (2 ^ n), ct, fc, fx, ff, ft, bx, ub) dX2_bad_23 (⟨Or.inr ⟨rfl, inR_of (by omega) c_1 c_9⟩, rfl⟩) hI
      · skip
        refine lv_iconst (v := nI 1) hx hb dX2_bad_18 (by decide +kernel) ?_
        refine lv_goto (tgt := 23) hx hb dX2_bad_19 (by decide) ?_
        exact hE 23 ls H locs (nI 1) (n, (2 ^ n), ct, fc, fx, ff, ft, bx, ub) dX2_bad_23 (⟨Or.inl ⟨rfl, inR_bigT hn (by decide) c_15⟩, rfl⟩) hI
set_option maxHeartbeats 4000000 in
/-- badFlow -/
theorem mM_badFlow (l : Launch) (D : va_G) (d : ClassId) (a : Nat → Nat) (n ct : Nat) (fc fx ff ft bx ub : Nat → Nat) (x : Int32) (hn : ct ≤ 20) : qI l yX2_badFlow cX2_badFlow 2 .boolean ro0 D d (wM d a) (n, (2 ^ n), ct, fc, fx, ff, ft, bx, ub) [.ref (a 0), .int x] (fun r u => noYes r (inR x ct) ∧ u = (n, (2 ^ n), ct, fc, fx, ff, ft, bx, ub)) := by
  refine qI_of RX2 rfl (by decide) (Nat.le_of_ble_eq_true rfl) (fun _ _ h => noYes_bool h.1) ?_
  intro p e s m below meth c0 A Q H locs ls hC hA hI hl hE
  have hx := hC.1.1
  have hb := hC.1.2.1
  have hown := hC.1.2.2.2.1
  have hts := hC.1.2.2.2.2
  have hl : lv_has ls 2 [(0, .ref (a 0)), (1, .int x)] := hl
  refine lv_iload_n hx hb dX2_badFlow_0 rfl (lv_at hl 1 rfl) ?_
  refine lv_if_lt (tgt := 18) hx hb dX2_badFlow_1 (by decide) (fun c_1 => ?_) (fun c_1 => ?_)
  · skip
    refine lv_iconst (v := nI 1) hx hb dX2_badFlow_18 (by decide +kernel) ?_
    refine lv_goto (tgt := 23) hx hb dX2_badFlow_19 (by decide) ?_
    exact hE 23 ls H locs (nI 1) (n, (2 ^ n), ct, fc, fx, ff, ft, bx, ub) dX2_badFlow_23 (⟨Or.inl ⟨rfl, inR_neg (by omega) c_1⟩, rfl⟩) hI
  · skip
    refine lv_iload_n hx hb dX2_badFlow_4 rfl (lv_at hl 1 rfl) ?_
    refine lv_aload_n hx hb dX2_badFlow_5 rfl (lv_at hl 0 rfl) ?_
    refine r_getM (v := .int (nI ct)) hC hI 4 (by decide) q184 rfl rfl dX2_badFlow_6 ?_
    refine lv_icmp_ge (tgt := 18) hx hb dX2_badFlow_9 (by decide) (fun c_9 => ?_) (fun c_9 => ?_)
    · skip
      refine lv_iconst (v := nI 1) hx hb dX2_badFlow_18 (by decide +kernel) ?_
      refine lv_goto (tgt := 23) hx hb dX2_badFlow_19 (by decide) ?_
      exact hE 23 ls H locs (nI 1) (n, (2 ^ n), ct, fc, fx, ff, ft, bx, ub) dX2_badFlow_23 (⟨Or.inl ⟨rfl, inR_big (by omega) c_9⟩, rfl⟩) hI
    · skip
      refine lv_iload_n hx hb dX2_badFlow_12 rfl (lv_at hl 1 rfl) ?_
      refine lv_bipush (v := nI 20) hx hb dX2_badFlow_13 (by decide +kernel) ?_
      refine lv_icmp_lt (tgt := 22) hx hb dX2_badFlow_15 (by decide) (fun c_15 => ?_) (fun c_15 => ?_)
      · skip
        refine lv_iconst (v := nI 0) hx hb dX2_badFlow_22 (by decide +kernel) ?_
        exact hE 23 ls H locs (nI 0) (n, (2 ^ n), ct, fc, fx, ff, ft, bx, ub) dX2_badFlow_23 (⟨Or.inr ⟨rfl, inR_of (by omega) c_1 c_9⟩, rfl⟩) hI
      · skip
        refine lv_iconst (v := nI 1) hx hb dX2_badFlow_18 (by decide +kernel) ?_
        refine lv_goto (tgt := 23) hx hb dX2_badFlow_19 (by decide) ?_
        exact hE 23 ls H locs (nI 1) (n, (2 ^ n), ct, fc, fx, ff, ft, bx, ub) dX2_badFlow_23 (⟨Or.inl ⟨rfl, inR_bigT hn (by decide) c_15⟩, rfl⟩) hI
set_option maxHeartbeats 4000000 in
/-- values -/
theorem mM_values (l : Launch) (D : va_G) (d : ClassId) (a : Nat → Nat) (n ct : Nat) (fc fx ff ft bx ub : Nat → Nat)   : qI l yX2_values cX2_values 1 .int ro0 D d (wM d a) (n, (2 ^ n), ct, fc, fx, ff, ft, bx, ub) [.ref (a 0)] (fun r u => r = nI n ∧ u = (n, (2 ^ n), ct, fc, fx, ff, ft, bx, ub)) := by
  refine qI_of RX2 rfl (by decide) (Nat.le_of_ble_eq_true rfl) (fun _ _ _ => rfl) ?_
  intro p e s m below meth c0 A Q H locs ls hC hA hI hl hE
  have hx := hC.1.1
  have hb := hC.1.2.1
  have hown := hC.1.2.2.2.1
  have hts := hC.1.2.2.2.2
  have hl : lv_has ls 1 [(0, .ref (a 0))] := hl
  refine lv_aload_n hx hb dX2_values_0 rfl (lv_at hl 0 rfl) ?_
  refine r_getM (v := .int (nI n)) hC hI 0 (by decide) q180 rfl rfl dX2_values_1 ?_
  exact hE 4 ls H locs (nI n) (n, (2 ^ n), ct, fc, fx, ff, ft, bx, ub) dX2_values_4 (⟨rfl, rfl⟩) hI
set_option maxHeartbeats 4000000 in
/-- flows -/
theorem mM_flows (l : Launch) (D : va_G) (d : ClassId) (a : Nat → Nat) (n ct : Nat) (fc fx ff ft bx ub : Nat → Nat)   : qI l yX2_flows cX2_flows 1 .int ro0 D d (wM d a) (n, (2 ^ n), ct, fc, fx, ff, ft, bx, ub) [.ref (a 0)] (fun r u => r = nI ct ∧ u = (n, (2 ^ n), ct, fc, fx, ff, ft, bx, ub)) := by
  refine qI_of RX2 rfl (by decide) (Nat.le_of_ble_eq_true rfl) (fun _ _ _ => rfl) ?_
  intro p e s m below meth c0 A Q H locs ls hC hA hI hl hE
  have hx := hC.1.1
  have hb := hC.1.2.1
  have hown := hC.1.2.2.2.1
  have hts := hC.1.2.2.2.2
  have hl : lv_has ls 1 [(0, .ref (a 0))] := hl
  refine lv_aload_n hx hb dX2_flows_0 rfl (lv_at hl 0 rfl) ?_
  refine r_getM (v := .int (nI ct)) hC hI 4 (by decide) q184 rfl rfl dX2_flows_1 ?_
  exact hE 4 ls H locs (nI ct) (n, (2 ^ n), ct, fc, fx, ff, ft, bx, ub) dX2_flows_4 (⟨rfl, rfl⟩) hI
set_option maxHeartbeats 4000000 in
/-- form -/
theorem mM_form (l : Launch) (D : va_G) (d : ClassId) (a : Nat → Nat) (n ct : Nat) (fc fx ff ft bx ub : Nat → Nat) (P v : Nat) (hP : P < 2 ^ 31) (hv : v < 32) : qI l yX2_form cX2_form 3 .int ro0 D d (wM d a) (n, (2 ^ n), ct, fc, fx, ff, ft, bx, ub) [.ref (a 0), .int (nI P), .int (nI v)] (fun r u => r = nI (bq P v) ∧ u = (n, (2 ^ n), ct, fc, fx, ff, ft, bx, ub)) := by
  refine qI_of RX2 rfl (by decide) (Nat.le_of_ble_eq_true rfl) (fun _ _ _ => rfl) ?_
  intro p e s m below meth c0 A Q H locs ls hC hA hI hl hE
  have hx := hC.1.1
  have hb := hC.1.2.1
  have hown := hC.1.2.2.2.1
  have hts := hC.1.2.2.2.2
  have hl : lv_has ls 3 [(0, .ref (a 0)), (1, .int (nI P)), (2, .int (nI v))] := hl
  refine lv_iload_n hx hb dX2_form_0 rfl (lv_at hl 1 rfl) ?_
  refine lv_iload_n hx hb dX2_form_1 rfl (lv_at hl 2 rfl) ?_
  refine r_shr hx hb (by omega) (by omega) dX2_form_2 ?_
  refine lv_iconst (v := nI 1) hx hb dX2_form_3 (by decide +kernel) ?_
  refine r_and1 hx hb dX2_form_4 ?_
  exact hE 5 ls H locs (nI (bq P v)) (n, (2 ^ n), ct, fc, fx, ff, ft, bx, ub) dX2_form_5 (⟨rfl, rfl⟩) hI
set_option maxHeartbeats 4000000 in
/-- cost -/
theorem mM_cost (l : Launch) (D : va_G) (d : ClassId) (a : Nat → Nat) (n ct : Nat) (fc fx ff ft bx ub : Nat → Nat) (x y z : Int32) (hn : n ≤ 10) : qI l yX2_cost cX2_cost 5 .int ro1 D d (wM d a) (n, (2 ^ n), ct, fc, fx, ff, ft, bx, ub) [.ref (a 0), .int x, .int y, .int z] (fun r u => ∃ fc' : Nat → Nat, u = (n, (2 ^ n), ct, fc', fx, ff, ft, bx, ub) ∧ sCost n fc x y z r fc') := by
  refine qI_of RX2 rfl (by decide) (Nat.le_of_ble_eq_true rfl) (fun _ _ _ => rfl) ?_
  intro p e s m below meth c0 A Q H locs ls hC hA hI hl hE
  have hx := hC.1.1
  have hb := hC.1.2.1
  have hown := hC.1.2.2.2.1
  have hts := hC.1.2.2.2.2
  have hl : lv_has ls 5 [(0, .ref (a 0)), (1, .int x), (2, .int y), (3, .int z)] := hl
  refine lv_aload_n hx hb dX2_cost_0 rfl (lv_at hl 0 rfl) ?_
  refine lv_iload_n hx hb dX2_cost_1 rfl (lv_at hl 1 rfl) ?_
  refine go_i (rest := []) hC hA hI (mM_bad l D d a n ct fc fx ff ft bx ub x hn) (ci := 1) rfl rfl 1 (lw_V q216 q218 qs9 q19 q219) (by decide +kernel) ⟨Nat.le_of_ble_eq_true rfl, Nat.le_of_ble_eq_true rfl⟩ rfl rfl rfl hl.1 rfl (Nat.le_of_ble_eq_true rfl) dX2_cost_2 ⟨Nat.zero_le _, Nat.zero_le _⟩ (fun r_2 u_2 H locs hp hI => ?_)
  obtain ⟨hy, rfl⟩ := hp
  refine lv_if_eq (tgt := 10) hx hb dX2_cost_5 (by decide) (fun c_5 => ?_) (fun c_5 => ?_)
  · skip
    obtain ⟨v, hv, rfl⟩ := noYes_eq hy c_5
    refine lv_iload_n hx hb dX2_cost_10 rfl (lv_at hl 2 rfl) ?_
    refine lv_if_eq (tgt := 22) hx hb dX2_cost_11 (by decide) (fun c_11 => ?_) (fun c_11 => ?_)
    · skip
      obtain ⟨f, hf, rfl⟩ : inR y 2 := inR_2 (Or.inl c_11)
      refine lv_iload_n hx hb dX2_cost_22 rfl (lv_at hl 3 rfl) ?_
      refine lv_if_lt (tgt := 32) hx hb dX2_cost_23 (by decide) (fun c_23 => ?_) (fun c_23 => ?_)
      · skip
        refine lv_bipush (v := (-3)) hx hb dX2_cost_32 (by decide +kernel) ?_
        exact hE 34 ls H locs ((-3)) (n, (2 ^ n), ct, fc, fx, ff, ft, bx, ub) dX2_cost_34 (⟨fc, rfl, Or.inr (Or.inr (Or.inl ⟨inR_nI hv, inR_nI hf, inR_neg (by decide) c_23, rfl, rfl⟩))⟩) hI
      · skip
        refine lv_iload_n hx hb dX2_cost_26 rfl (lv_at hl 3 rfl) ?_
        refine lv_bipush (v := nI 60) hx hb dX2_cost_27 (by decide +kernel) ?_
        refine lv_icmp_le (tgt := 35) hx hb dX2_cost_29 (by decide) (fun c_29 => ?_) (fun c_29 => ?_)
        · skip
          obtain ⟨q, hq, rfl⟩ : inR z 61 := inR_ofL (by decide) c_23 c_29
          refine lv_aload_n hx hb dX2_cost_35 rfl (lv_at hl 0 rfl) ?_
          refine r_getM (v := .ref (a 1)) hC hI 2 (by decide) q182 rfl rfl dX2_cost_36 ?_
          refine lv_iconst (v := nI 2) hx hb dX2_cost_39 (by decide +kernel) ?_
          refine lv_iload_n hx hb dX2_cost_40 rfl (lv_at hl 1 rfl) ?_
          refine r_mul hx hb dX2_cost_41 ?_
          refine lv_iload_n hx hb dX2_cost_42 rfl (lv_at hl 2 rfl) ?_
          refine r_add hx hb dX2_cost_43 ?_
          refine r_ald (N := 20) (f := fc) (j := (2 * v) + f) hC hI 1 wM_g1 (by omega) (by decide) dX2_cost_44 ?_
          refine lv_istore (lv' := [(4, .int (nI (fc ((2 * v) + f)))), (0, .ref (a 0)), (1, .int (nI v)), (2, .int (nI f)), (3, .int (nI q))]) hx hb dX2_cost_45 hl (by decide) rfl (fun ls hl => ?_)
          refine lv_aload_n hx hb dX2_cost_47 rfl (lv_at hl 1 rfl) ?_
          refine r_getM (v := .ref (a 1)) hC hI 2 (by decide) q182 rfl rfl dX2_cost_48 ?_
          refine lv_iconst (v := nI 2) hx hb dX2_cost_51 (by decide +kernel) ?_
          refine lv_iload_n hx hb dX2_cost_52 rfl (lv_at hl 2 rfl) ?_
          refine r_mul hx hb dX2_cost_53 ?_
          refine lv_iload_n hx hb dX2_cost_54 rfl (lv_at hl 3 rfl) ?_
          refine r_add hx hb dX2_cost_55 ?_
          refine lv_iload_n hx hb dX2_cost_56 rfl (lv_at hl 4 rfl) ?_
          refine r_ast (N := 20) (f := fc) (j := (2 * v) + f) (x := q) (ws' := wM d a (n, (2 ^ n), ct, (updN fc ((2 * v) + f) q), fx, ff, ft, bx, ub)) hC hI 1 wM_g1 (by omega) (by decide) wM_s1 dX2_cost_57 (fun H locs hI => ?_)
          refine lv_iload hx hb dX2_cost_58 (lv_at hl 0 rfl) ?_
          exact hE 60 ls H locs (nI (fc ((2 * v) + f))) (n, (2 ^ n), ct, (updN fc ((2 * v) + f) q), fx, ff, ft, bx, ub) dX2_cost_60 (⟨_, rfl, Or.inr (Or.inr (Or.inr ⟨v, f, q, hv, hf, hq, rfl, rfl, rfl, rfl, rfl⟩))⟩) hI
        · skip
          refine lv_bipush (v := (-3)) hx hb dX2_cost_32 (by decide +kernel) ?_
          exact hE 34 ls H locs ((-3)) (n, (2 ^ n), ct, fc, fx, ff, ft, bx, ub) dX2_cost_34 (⟨fc, rfl, Or.inr (Or.inr (Or.inl ⟨inR_nI hv, inR_nI hf, inR_bigL (by decide) c_29, rfl, rfl⟩))⟩) hI
    · skip
      refine lv_iload_n hx hb dX2_cost_14 rfl (lv_at hl 2 rfl) ?_
      refine lv_iconst (v := nI 1) hx hb dX2_cost_15 (by decide +kernel) ?_
      refine lv_icmp_eq (tgt := 22) hx hb dX2_cost_16 (by decide) (fun c_16 => ?_) (fun c_16 => ?_)
      · skip
        obtain ⟨f, hf, rfl⟩ : inR y 2 := inR_2 (Or.inr c_16)
        refine lv_iload_n hx hb dX2_cost_22 rfl (lv_at hl 3 rfl) ?_
        refine lv_if_lt (tgt := 32) hx hb dX2_cost_23 (by decide) (fun c_23 => ?_) (fun c_23 => ?_)
        · skip
          refine lv_bipush (v := (-3)) hx hb dX2_cost_32 (by decide +kernel) ?_
          exact hE 34 ls H locs ((-3)) (n, (2 ^ n), ct, fc, fx, ff, ft, bx, ub) dX2_cost_34 (⟨fc, rfl, Or.inr (Or.inr (Or.inl ⟨inR_nI hv, inR_nI hf, inR_neg (by decide) c_23, rfl, rfl⟩))⟩) hI
        · skip
          refine lv_iload_n hx hb dX2_cost_26 rfl (lv_at hl 3 rfl) ?_
          refine lv_bipush (v := nI 60) hx hb dX2_cost_27 (by decide +kernel) ?_
          refine lv_icmp_le (tgt := 35) hx hb dX2_cost_29 (by decide) (fun c_29 => ?_) (fun c_29 => ?_)
          · skip
            obtain ⟨q, hq, rfl⟩ : inR z 61 := inR_ofL (by decide) c_23 c_29
            refine lv_aload_n hx hb dX2_cost_35 rfl (lv_at hl 0 rfl) ?_
            refine r_getM (v := .ref (a 1)) hC hI 2 (by decide) q182 rfl rfl dX2_cost_36 ?_
            refine lv_iconst (v := nI 2) hx hb dX2_cost_39 (by decide +kernel) ?_
            refine lv_iload_n hx hb dX2_cost_40 rfl (lv_at hl 1 rfl) ?_
            refine r_mul hx hb dX2_cost_41 ?_
            refine lv_iload_n hx hb dX2_cost_42 rfl (lv_at hl 2 rfl) ?_
            refine r_add hx hb dX2_cost_43 ?_
            refine r_ald (N := 20) (f := fc) (j := (2 * v) + f) hC hI 1 wM_g1 (by omega) (by decide) dX2_cost_44 ?_
            refine lv_istore (lv' := [(4, .int (nI (fc ((2 * v) + f)))), (0, .ref (a 0)), (1, .int (nI v)), (2, .int (nI f)), (3, .int (nI q))]) hx hb dX2_cost_45 hl (by decide) rfl (fun ls hl => ?_)
            refine lv_aload_n hx hb dX2_cost_47 rfl (lv_at hl 1 rfl) ?_
            refine r_getM (v := .ref (a 1)) hC hI 2 (by decide) q182 rfl rfl dX2_cost_48 ?_
            refine lv_iconst (v := nI 2) hx hb dX2_cost_51 (by decide +kernel) ?_
            refine lv_iload_n hx hb dX2_cost_52 rfl (lv_at hl 2 rfl) ?_
            refine r_mul hx hb dX2_cost_53 ?_
            refine lv_iload_n hx hb dX2_cost_54 rfl (lv_at hl 3 rfl) ?_
            refine r_add hx hb dX2_cost_55 ?_
            refine lv_iload_n hx hb dX2_cost_56 rfl (lv_at hl 4 rfl) ?_
            refine r_ast (N := 20) (f := fc) (j := (2 * v) + f) (x := q) (ws' := wM d a (n, (2 ^ n), ct, (updN fc ((2 * v) + f) q), fx, ff, ft, bx, ub)) hC hI 1 wM_g1 (by omega) (by decide) wM_s1 dX2_cost_57 (fun H locs hI => ?_)
            refine lv_iload hx hb dX2_cost_58 (lv_at hl 0 rfl) ?_
            exact hE 60 ls H locs (nI (fc ((2 * v) + f))) (n, (2 ^ n), ct, (updN fc ((2 * v) + f) q), fx, ff, ft, bx, ub) dX2_cost_60 (⟨_, rfl, Or.inr (Or.inr (Or.inr ⟨v, f, q, hv, hf, hq, rfl, rfl, rfl, rfl, rfl⟩))⟩) hI
          · skip
            refine lv_bipush (v := (-3)) hx hb dX2_cost_32 (by decide +kernel) ?_
            exact hE 34 ls H locs ((-3)) (n, (2 ^ n), ct, fc, fx, ff, ft, bx, ub) dX2_cost_34 (⟨fc, rfl, Or.inr (Or.inr (Or.inl ⟨inR_nI hv, inR_nI hf, inR_bigL (by decide) c_29, rfl, rfl⟩))⟩) hI
      · skip
        refine lv_bipush (v := (-2)) hx hb dX2_cost_19 (by decide +kernel) ?_
        exact hE 21 ls H locs ((-2)) (n, (2 ^ n), ct, fc, fx, ff, ft, bx, ub) dX2_cost_21 (⟨fc, rfl, Or.inr (Or.inl ⟨inR_nI hv, inR_n2 c_11 c_16, rfl, rfl⟩)⟩) hI
  · skip
    refine lv_iconst (v := (-1)) hx hb dX2_cost_8 (by decide +kernel) ?_
    exact hE 9 ls H locs ((-1)) (n, (2 ^ n), ct, fc, fx, ff, ft, bx, ub) dX2_cost_9 (⟨fc, rfl, Or.inl ⟨noYes_ne hy c_5, rfl, rfl⟩⟩) hI
set_option maxHeartbeats 4000000 in
/-- fix -/
theorem mM_fix (l : Launch) (D : va_G) (d : ClassId) (a : Nat → Nat) (n ct : Nat) (fc fx ff ft bx ub : Nat → Nat) (x y : Int32) (hn : n ≤ 10) : qI l yX2_fix cX2_fix 4 .int ro1 D d (wM d a) (n, (2 ^ n), ct, fc, fx, ff, ft, bx, ub) [.ref (a 0), .int x, .int y] (fun r u => ∃ fx' : Nat → Nat, u = (n, (2 ^ n), ct, fc, fx', ff, ft, bx, ub) ∧ sFix n fx x y r fx') := by
  refine qI_of RX2 rfl (by decide) (Nat.le_of_ble_eq_true rfl) (fun _ _ _ => rfl) ?_
  intro p e s m below meth c0 A Q H locs ls hC hA hI hl hE
  have hx := hC.1.1
  have hb := hC.1.2.1
  have hown := hC.1.2.2.2.1
  have hts := hC.1.2.2.2.2
  have hl : lv_has ls 4 [(0, .ref (a 0)), (1, .int x), (2, .int y)] := hl
  refine lv_aload_n hx hb dX2_fix_0 rfl (lv_at hl 0 rfl) ?_
  refine lv_iload_n hx hb dX2_fix_1 rfl (lv_at hl 1 rfl) ?_
  refine go_i (rest := []) hC hA hI (mM_bad l D d a n ct fc fx ff ft bx ub x hn) (ci := 1) rfl rfl 1 (lw_V q216 q218 qs9 q19 q219) (by decide +kernel) ⟨Nat.le_of_ble_eq_true rfl, Nat.le_of_ble_eq_true rfl⟩ rfl rfl rfl hl.1 rfl (Nat.le_of_ble_eq_true rfl) dX2_fix_2 ⟨Nat.zero_le _, Nat.zero_le _⟩ (fun r_2 u_2 H locs hp hI => ?_)
  obtain ⟨hy, rfl⟩ := hp
  refine lv_if_eq (tgt := 10) hx hb dX2_fix_5 (by decide) (fun c_5 => ?_) (fun c_5 => ?_)
  · skip
    obtain ⟨v, hv, rfl⟩ := noYes_eq hy c_5
    refine lv_iload_n hx hb dX2_fix_10 rfl (lv_at hl 2 rfl) ?_
    refine lv_if_lt (tgt := 19) hx hb dX2_fix_11 (by decide) (fun c_11 => ?_) (fun c_11 => ?_)
    · skip
      refine lv_bipush (v := (-2)) hx hb dX2_fix_19 (by decide +kernel) ?_
      exact hE 21 ls H locs ((-2)) (n, (2 ^ n), ct, fc, fx, ff, ft, bx, ub) dX2_fix_21 (⟨fx, rfl, Or.inr (Or.inl ⟨inR_nI hv, inR_neg (by decide) c_11, rfl, rfl⟩)⟩) hI
    · skip
      refine lv_iload_n hx hb dX2_fix_14 rfl (lv_at hl 2 rfl) ?_
      refine lv_iconst (v := nI 2) hx hb dX2_fix_15 (by decide +kernel) ?_
      refine lv_icmp_le (tgt := 22) hx hb dX2_fix_16 (by decide) (fun c_16 => ?_) (fun c_16 => ?_)
      · skip
        obtain ⟨f, hf, rfl⟩ : inR y 3 := inR_ofL (by decide) c_11 c_16
        refine lv_aload_n hx hb dX2_fix_22 rfl (lv_at hl 0 rfl) ?_
        refine r_getM (v := .ref (a 2)) hC hI 3 (by decide) q183 rfl rfl dX2_fix_23 ?_
        refine lv_iload_n hx hb dX2_fix_26 rfl (lv_at hl 1 rfl) ?_
        refine r_ald (N := 10) (f := fx) (j := v) hC hI 2 wM_g2 (by omega) (by decide) dX2_fix_27 ?_
        refine lv_istore_n (lv' := [(3, .int (nI (fx v))), (0, .ref (a 0)), (1, .int (nI v)), (2, .int (nI f))]) hx hb dX2_fix_28 rfl hl (by decide) rfl (fun ls hl => ?_)
        refine lv_aload_n hx hb dX2_fix_29 rfl (lv_at hl 1 rfl) ?_
        refine r_getM (v := .ref (a 2)) hC hI 3 (by decide) q183 rfl rfl dX2_fix_30 ?_
        refine lv_iload_n hx hb dX2_fix_33 rfl (lv_at hl 2 rfl) ?_
        refine lv_iload_n hx hb dX2_fix_34 rfl (lv_at hl 3 rfl) ?_
        refine r_ast (N := 10) (f := fx) (j := v) (x := f) (ws' := wM d a (n, (2 ^ n), ct, fc, (updN fx v f), ff, ft, bx, ub)) hC hI 2 wM_g2 (by omega) (by decide) wM_s2 dX2_fix_35 (fun H locs hI => ?_)
        refine lv_iload_n hx hb dX2_fix_36 rfl (lv_at hl 0 rfl) ?_
        exact hE 37 ls H locs (nI (fx v)) (n, (2 ^ n), ct, fc, (updN fx v f), ff, ft, bx, ub) dX2_fix_37 (⟨_, rfl, Or.inr (Or.inr ⟨v, f, hv, hf, rfl, rfl, rfl, rfl⟩)⟩) hI
      · skip
        refine lv_bipush (v := (-2)) hx hb dX2_fix_19 (by decide +kernel) ?_
        exact hE 21 ls H locs ((-2)) (n, (2 ^ n), ct, fc, fx, ff, ft, bx, ub) dX2_fix_21 (⟨fx, rfl, Or.inr (Or.inl ⟨inR_nI hv, inR_bigL (by decide) c_16, rfl, rfl⟩)⟩) hI
  · skip
    refine lv_iconst (v := (-1)) hx hb dX2_fix_8 (by decide +kernel) ?_
    exact hE 9 ls H locs ((-1)) (n, (2 ^ n), ct, fc, fx, ff, ft, bx, ub) dX2_fix_9 (⟨fx, rfl, Or.inl ⟨noYes_ne hy c_5, rfl, rfl⟩⟩) hI
set_option maxHeartbeats 4000000 in
/-- flow -/
theorem mM_flow (l : Launch) (D : va_G) (d : ClassId) (a : Nat → Nat) (n ct : Nat) (fc fx ff ft bx ub : Nat → Nat) (x y z t : Int32) (hn : n ≤ 10) (hct : ct ≤ 20) : qI l yX2_flow cX2_flow 6 .int ro1 D d (wM d a) (n, (2 ^ n), ct, fc, fx, ff, ft, bx, ub) [.ref (a 0), .int x, .int y, .int z, .int t] (fun r u => ∃ (ct' : Nat) (ff' ft' bx' ub' : Nat → Nat), u = (n, (2 ^ n), ct', fc, fx, ff', ft', bx', ub') ∧ sFlow n ct ff ft bx ub x y z t r ct' ff' ft' bx' ub') := by
  refine qI_of RX2 rfl (by decide) (Nat.le_of_ble_eq_true rfl) (fun _ _ _ => rfl) ?_
  intro p e s m below meth c0 A Q H locs ls hC hA hI hl hE
  have hx := hC.1.1
  have hb := hC.1.2.1
  have hown := hC.1.2.2.2.1
  have hts := hC.1.2.2.2.2
  have hl : lv_has ls 6 [(0, .ref (a 0)), (1, .int x), (2, .int y), (3, .int z), (4, .int t)] := hl
  refine lv_aload_n hx hb dX2_flow_0 rfl (lv_at hl 0 rfl) ?_
  refine lv_iload_n hx hb dX2_flow_1 rfl (lv_at hl 1 rfl) ?_
  refine go_i (rest := []) hC hA hI (mM_bad l D d a n ct fc fx ff ft bx ub x hn) (ci := 1) rfl rfl 1 (lw_V q216 q218 qs9 q19 q219) (by decide +kernel) ⟨Nat.le_of_ble_eq_true rfl, Nat.le_of_ble_eq_true rfl⟩ rfl rfl rfl hl.1 rfl (Nat.le_of_ble_eq_true rfl) dX2_flow_2 ⟨Nat.zero_le _, Nat.zero_le _⟩ (fun r_2 u_2 H locs hp hI => ?_)
  obtain ⟨hy, rfl⟩ := hp
  refine lv_if_ne (tgt := 16) hx hb dX2_flow_5 (by decide) (fun c_5 => ?_) (fun c_5 => ?_)
  · skip
    refine lv_iconst (v := (-1)) hx hb dX2_flow_16 (by decide +kernel) ?_
    exact hE 17 ls H locs ((-1)) (n, (2 ^ n), ct, fc, fx, ff, ft, bx, ub) dX2_flow_17 (⟨ct, ff, ft, bx, ub, rfl, Or.inl ⟨Or.inl ⟨fun q => noYes_ne hy c_5 q.1, rfl⟩, rfl, rfl, rfl, rfl, rfl⟩⟩) hI
  · skip
    refine lv_aload_n hx hb dX2_flow_8 rfl (lv_at hl 0 rfl) ?_
    refine lv_iload_n hx hb dX2_flow_9 rfl (lv_at hl 2 rfl) ?_
    refine go_i (rest := []) hC hA hI (mM_bad l D d a n ct fc fx ff ft bx ub y hn) (ci := 1) rfl rfl 1 (lw_V q216 q218 qs9 q19 q219) (by decide +kernel) ⟨Nat.le_of_ble_eq_true rfl, Nat.le_of_ble_eq_true rfl⟩ rfl rfl rfl hl.1 rfl (Nat.le_of_ble_eq_true rfl) dX2_flow_10 ⟨Nat.zero_le _, Nat.zero_le _⟩ (fun r_10 u_10 H locs hp hI => ?_)
    obtain ⟨hz, rfl⟩ := hp
    refine lv_if_eq (tgt := 18) hx hb dX2_flow_13 (by decide) (fun c_13 => ?_) (fun c_13 => ?_)
    · skip
      have hxy : inR x n ∧ inR y n := ⟨noYes_eq hy c_5, noYes_eq hz c_13⟩
      refine lv_iload_n hx hb dX2_flow_18 rfl (lv_at hl 1 rfl) ?_
      refine lv_iload_n hx hb dX2_flow_19 rfl (lv_at hl 2 rfl) ?_
      refine lv_icmp_ne (tgt := 26) hx hb dX2_flow_20 (by decide) (fun c_20 => ?_) (fun c_20 => ?_)
      · skip
        refine lv_iload_n hx hb dX2_flow_26 rfl (lv_at hl 3 rfl) ?_
        refine lv_if_lt (tgt := 48) hx hb dX2_flow_27 (by decide) (fun c_27 => ?_) (fun c_27 => ?_)
        · skip
          refine lv_bipush (v := (-3)) hx hb dX2_flow_48 (by decide +kernel) ?_
          exact hE 50 ls H locs ((-3)) (n, (2 ^ n), ct, fc, fx, ff, ft, bx, ub) dX2_flow_50 (⟨ct, ff, ft, bx, ub, rfl, Or.inl ⟨Or.inr (Or.inr (Or.inl ⟨hxy, c_20, fun q => inR_neg (by decide) c_27 q.1, rfl⟩)), rfl, rfl, rfl, rfl, rfl⟩⟩) hI
        · skip
          refine lv_iload_n hx hb dX2_flow_30 rfl (lv_at hl 3 rfl) ?_
          refine lv_bipush (v := nI 30) hx hb dX2_flow_31 (by decide +kernel) ?_
          refine lv_icmp_gt (tgt := 48) hx hb dX2_flow_33 (by decide) (fun c_33 => ?_) (fun c_33 => ?_)
          · skip
            refine lv_bipush (v := (-3)) hx hb dX2_flow_48 (by decide +kernel) ?_
            exact hE 50 ls H locs ((-3)) (n, (2 ^ n), ct, fc, fx, ff, ft, bx, ub) dX2_flow_50 (⟨ct, ff, ft, bx, ub, rfl, Or.inl ⟨Or.inr (Or.inr (Or.inl ⟨hxy, c_20, fun q => inR_bigG (by decide) c_33 q.1, rfl⟩)), rfl, rfl, rfl, rfl, rfl⟩⟩) hI
          · skip
            refine lv_iload hx hb dX2_flow_36 (lv_at hl 4 rfl) ?_
            refine lv_if_lt (tgt := 48) hx hb dX2_flow_38 (by decide) (fun c_38 => ?_) (fun c_38 => ?_)
            · skip
              refine lv_bipush (v := (-3)) hx hb dX2_flow_48 (by decide +kernel) ?_
              exact hE 50 ls H locs ((-3)) (n, (2 ^ n), ct, fc, fx, ff, ft, bx, ub) dX2_flow_50 (⟨ct, ff, ft, bx, ub, rfl, Or.inl ⟨Or.inr (Or.inr (Or.inl ⟨hxy, c_20, fun q => inR_neg (by decide) c_38 q.2, rfl⟩)), rfl, rfl, rfl, rfl, rfl⟩⟩) hI
            · skip
              refine lv_iload hx hb dX2_flow_41 (lv_at hl 4 rfl) ?_
              refine lv_bipush (v := nI 30) hx hb dX2_flow_43 (by decide +kernel) ?_
              refine lv_icmp_le (tgt := 51) hx hb dX2_flow_45 (by decide) (fun c_45 => ?_) (fun c_45 => ?_)
              · skip
                have hzt : inR z 31 ∧ inR t 31 := ⟨inR_ofG (by decide) c_27 c_33, inR_ofL (by decide) c_38 c_45⟩
                refine lv_aload_n hx hb dX2_flow_51 rfl (lv_at hl 0 rfl) ?_
                refine r_getM (v := .int (nI ct)) hC hI 4 (by decide) q184 rfl rfl dX2_flow_52 ?_
                refine lv_istore (lv' := [(5, .int (nI ct)), (0, .ref (a 0)), (1, .int x), (2, .int y), (3, .int z), (4, .int t)]) hx hb dX2_flow_55 hl (by decide) rfl (fun ls hl => ?_)
                refine lv_iload hx hb dX2_flow_57 (lv_at hl 0 rfl) ?_
                refine lv_bipush (v := nI 20) hx hb dX2_flow_59 (by decide +kernel) ?_
                refine r_lt (tgt := 67) hx hb dX2_flow_61 (by decide) (by omega) (by omega) (fun c_61 => ?_) (fun c_61 => ?_)
                · skip
                  obtain ⟨⟨u, hu, rfl⟩, ⟨v, hv, rfl⟩⟩ := hxy
                  obtain ⟨⟨q, hq, rfl⟩, ⟨b, hb3, rfl⟩⟩ := hzt
                  refine lv_aload_n hx hb dX2_flow_67 rfl (lv_at hl 1 rfl) ?_
                  refine r_getM (v := .ref (a 3)) hC hI 5 (by decide) q185 rfl rfl dX2_flow_68 ?_
                  refine lv_iload hx hb dX2_flow_71 (lv_at hl 0 rfl) ?_
                  refine lv_iload_n hx hb dX2_flow_73 rfl (lv_at hl 2 rfl) ?_
                  refine r_ast (N := 20) (f := ff) (j := ct) (x := u) (ws' := wM d a (n, (2 ^ n), ct, fc, fx, (updN ff ct u), ft, bx, ub)) hC hI 3 wM_g3 (by omega) (by decide) wM_s3 dX2_flow_74 (fun H locs hI => ?_)
                  refine lv_aload_n hx hb dX2_flow_75 rfl (lv_at hl 1 rfl) ?_
                  refine r_getM (v := .ref (a 4)) hC hI 6 (by decide) q186 rfl rfl dX2_flow_76 ?_
                  refine lv_iload hx hb dX2_flow_79 (lv_at hl 0 rfl) ?_
                  refine lv_iload_n hx hb dX2_flow_81 rfl (lv_at hl 3 rfl) ?_
                  refine r_ast (N := 20) (f := ft) (j := ct) (x := v) (ws' := wM d a (n, (2 ^ n), ct, fc, fx, (updN ff ct u), (updN ft ct v), bx, ub)) hC hI 4 wM_g4 (by omega) (by decide) wM_s4 dX2_flow_82 (fun H locs hI => ?_)
                  refine lv_aload_n hx hb dX2_flow_83 rfl (lv_at hl 1 rfl) ?_
                  refine r_getM (v := .ref (a 5)) hC hI 7 (by decide) q187 rfl rfl dX2_flow_84 ?_
                  refine lv_iload hx hb dX2_flow_87 (lv_at hl 0 rfl) ?_
                  refine lv_iload_n hx hb dX2_flow_89 rfl (lv_at hl 4 rfl) ?_
                  refine r_ast (N := 20) (f := bx) (j := ct) (x := q) (ws' := wM d a (n, (2 ^ n), ct, fc, fx, (updN ff ct u), (updN ft ct v), (updN bx ct q), ub)) hC hI 5 wM_g5 (by omega) (by decide) wM_s5 dX2_flow_90 (fun H locs hI => ?_)
                  refine lv_aload_n hx hb dX2_flow_91 rfl (lv_at hl 1 rfl) ?_
                  refine r_getM (v := .ref (a 6)) hC hI 8 (by decide) q188 rfl rfl dX2_flow_92 ?_
                  refine lv_iload hx hb dX2_flow_95 (lv_at hl 0 rfl) ?_
                  refine lv_iload hx hb dX2_flow_97 (lv_at hl 5 rfl) ?_
                  refine r_ast (N := 20) (f := ub) (j := ct) (x := b) (ws' := wM d a (n, (2 ^ n), ct, fc, fx, (updN ff ct u), (updN ft ct v), (updN bx ct q), (updN ub ct b))) hC hI 6 wM_g6 (by omega) (by decide) wM_s6 dX2_flow_99 (fun H locs hI => ?_)
                  refine lv_aload_n hx hb dX2_flow_100 rfl (lv_at hl 1 rfl) ?_
                  refine lv_iload hx hb dX2_flow_101 (lv_at hl 0 rfl) ?_
                  refine lv_iconst (v := nI 1) hx hb dX2_flow_103 (by decide +kernel) ?_
                  refine r_add hx hb dX2_flow_104 ?_
                  refine r_putM (n, (2 ^ n), (ct + 1), fc, fx, (updN ff ct u), (updN ft ct v), (updN bx ct q), (updN ub ct b)) hC hI 4 (by decide) q184 rfl rfl (by decide +kernel) wM_p4 dX2_flow_105 (fun H locs hI => ?_)
                  refine lv_iload hx hb dX2_flow_108 (lv_at hl 0 rfl) ?_
                  exact hE 110 ls H locs (nI ct) (n, (2 ^ n), (ct + 1), fc, fx, (updN ff ct u), (updN ft ct v), (updN bx ct q), (updN ub ct b)) dX2_flow_110 (⟨_, _, _, _, _, rfl, Or.inr ⟨u, v, q, b, hu, hv, hq, hb3, rfl, rfl, rfl, rfl, c_20, by omega, rfl, rfl, rfl, rfl, rfl, rfl⟩⟩) hI
                · skip
                  refine lv_bipush (v := (-4)) hx hb dX2_flow_64 (by decide +kernel) ?_
                  exact hE 66 ls H locs ((-4)) (n, (2 ^ n), ct, fc, fx, ff, ft, bx, ub) dX2_flow_66 (⟨ct, ff, ft, bx, ub, rfl, Or.inl ⟨Or.inr (Or.inr (Or.inr ⟨hxy, c_20, hzt, by omega, rfl⟩)), rfl, rfl, rfl, rfl, rfl⟩⟩) hI
              · skip
                refine lv_bipush (v := (-3)) hx hb dX2_flow_48 (by decide +kernel) ?_
                exact hE 50 ls H locs ((-3)) (n, (2 ^ n), ct, fc, fx, ff, ft, bx, ub) dX2_flow_50 (⟨ct, ff, ft, bx, ub, rfl, Or.inl ⟨Or.inr (Or.inr (Or.inl ⟨hxy, c_20, fun q => inR_bigL (by decide) c_45 q.2, rfl⟩)), rfl, rfl, rfl, rfl, rfl⟩⟩) hI
      · skip
        refine lv_bipush (v := (-2)) hx hb dX2_flow_23 (by decide +kernel) ?_
        exact hE 25 ls H locs ((-2)) (n, (2 ^ n), ct, fc, fx, ff, ft, bx, ub) dX2_flow_25 (⟨ct, ff, ft, bx, ub, rfl, Or.inl ⟨Or.inr (Or.inl ⟨hxy, c_20, rfl⟩), rfl, rfl, rfl, rfl, rfl⟩⟩) hI
    · skip
      refine lv_iconst (v := (-1)) hx hb dX2_flow_16 (by decide +kernel) ?_
      exact hE 17 ls H locs ((-1)) (n, (2 ^ n), ct, fc, fx, ff, ft, bx, ub) dX2_flow_17 (⟨ct, ff, ft, bx, ub, rfl, Or.inl ⟨Or.inl ⟨fun q => noYes_ne hz c_13 q.2, rfl⟩, rfl, rfl, rfl, rfl, rfl⟩⟩) hI
set_option maxHeartbeats 4000000 in
/-- cut -/
theorem mM_cut (l : Launch) (D : va_G) (d : ClassId) (a : Nat → Nat) (n ct : Nat) (fc fx ff ft bx ub : Nat → Nat) (x : Int32) (hct : ct ≤ 20) : qI l yX2_cut cX2_cut 3 .int ro1 D d (wM d a) (n, (2 ^ n), ct, fc, fx, ff, ft, bx, ub) [.ref (a 0), .int x] (fun r u => ∃ (ct' : Nat) (ff' ft' bx' ub' : Nat → Nat), u = (n, (2 ^ n), ct', fc, fx, ff', ft', bx', ub') ∧ sCut ct ff ft bx ub x r ct' ff' ft' bx' ub') := by
  refine qI_of RX2 rfl (by decide) (Nat.le_of_ble_eq_true rfl) (fun _ _ _ => rfl) ?_
  intro p e s m below meth c0 A Q H locs ls hC hA hI hl hE
  have hx := hC.1.1
  have hb := hC.1.2.1
  have hown := hC.1.2.2.2.1
  have hts := hC.1.2.2.2.2
  have hl : lv_has ls 3 [(0, .ref (a 0)), (1, .int x)] := hl
  refine lv_aload_n hx hb dX2_cut_0 rfl (lv_at hl 0 rfl) ?_
  refine lv_iload_n hx hb dX2_cut_1 rfl (lv_at hl 1 rfl) ?_
  refine go_i (rest := []) hC hA hI (mM_badFlow l D d a n ct fc fx ff ft bx ub x hct) (ci := 1) rfl rfl 1 (lw_V q228 q230 qs10 q19 q231) (by decide +kernel) ⟨Nat.le_of_ble_eq_true rfl, Nat.le_of_ble_eq_true rfl⟩ rfl rfl rfl hl.1 rfl (Nat.le_of_ble_eq_true rfl) dX2_cut_2 ⟨Nat.zero_le _, Nat.zero_le _⟩ (fun r_2 u_2 H locs hp hI => ?_)
  obtain ⟨hy, rfl⟩ := hp
  refine lv_if_eq (tgt := 10) hx hb dX2_cut_5 (by decide) (fun c_5 => ?_) (fun c_5 => ?_)
  · skip
    obtain ⟨f, hf, rfl⟩ := noYes_eq hy c_5
    refine lv_iload_n hx hb dX2_cut_10 rfl (lv_at hl 1 rfl) ?_
    refine lv_istore_n (lv' := [(2, .int (nI f)), (0, .ref (a 0)), (1, .int (nI f))]) hx hb dX2_cut_11 rfl hl (by decide) rfl (fun ls hl => ?_)
    have hI0 := hI
    have hl0 := hl
    clear hI hl
    have L1 : ∀ (j : Nat) (i : Nat) (H : Heap) (locs : List Loc) (ls : Array Slot), (i + 1 ≤ ct) → (ct ≤ i + j) → (f ≤ i) → IW D A s.heap (wM d a (n, (2 ^ n), ct, fc, fx, (shf ff f (i + 1)), (shf ft f (i + 1)), (shf bx f (i + 1)), (shf ub f (i + 1)))) H locs → lv_has ls 3 [(0, .ref (a 0)), (2, .int (nI i))] → W p l e ro1 s m ([.ref (a 0), .int (nI f)] : List Value).toArray below meth c0 H locs 0 0 Q (F0 m 12 ls []) := by
      intro j
      induction j with
      | zero => intro i H locs ls hi hj hfi hI hl; exact absurd hj (by omega)
      | succ j ih =>
        intro i H locs ls hi hj hfi hI hl
        refine lv_iload_n hx hb dX2_cut_12 rfl (lv_at hl 1 rfl) ?_
        refine lv_aload_n hx hb dX2_cut_13 rfl (lv_at hl 0 rfl) ?_
        refine r_getM (v := .int (nI ct)) hC hI 4 (by decide) q184 rfl rfl dX2_cut_14 ?_
        refine lv_iconst (v := nI 1) hx hb dX2_cut_17 (by decide +kernel) ?_
        refine r_sub hx hb (by omega) dX2_cut_18 ?_
        refine r_ge (tgt := 90) hx hb dX2_cut_19 (by decide) (by omega) (by omega) (fun c_19 => ?_) (fun c_19 => ?_)
        · skip
          have ei : i + 1 = ct := by omega
          rw [ei] at hI
          refine lv_aload_n hx hb dX2_cut_90 rfl (lv_at hl 0 rfl) ?_
          refine lv_dup hx hb dX2_cut_91 rfl ?_
          refine r_getM (v := .int (nI ct)) hC hI 4 (by decide) q184 rfl rfl dX2_cut_92 ?_
          refine lv_iconst (v := nI 1) hx hb dX2_cut_95 (by decide +kernel) ?_
          refine r_sub hx hb (by omega) dX2_cut_96 ?_
          refine r_putM (n, (2 ^ n), (ct - 1), fc, fx, (shf ff f ct), (shf ft f ct), (shf bx f ct), (shf ub f ct)) hC hI 4 (by decide) q184 rfl rfl (by decide +kernel) wM_p4 dX2_cut_97 (fun H locs hI => ?_)
          refine lv_aload_n hx hb dX2_cut_100 rfl (lv_at hl 0 rfl) ?_
          refine r_getM (v := .int (nI (ct - 1))) hC hI 4 (by decide) q184 rfl rfl dX2_cut_101 ?_
          exact hE 104 ls H locs (nI (ct - 1)) (n, (2 ^ n), (ct - 1), fc, fx, (shf ff f ct), (shf ft f ct), (shf bx f ct), (shf ub f ct)) dX2_cut_104 (⟨_, _, _, _, _, rfl, Or.inr ⟨f, hf, rfl, rfl, rfl, rfl, rfl, rfl, rfl⟩⟩) hI
        · skip
          refine lv_iload_n hx hb dX2_cut_22 rfl (lv_at hl 1 rfl) ?_
          refine lv_bipush (v := nI 19) hx hb dX2_cut_23 (by decide +kernel) ?_
          refine r_ge (tgt := 90) hx hb dX2_cut_25 (by decide) (by omega) (by omega) (fun c_25 => ?_) (fun c_25 => ?_)
          · skip
            exact absurd c_25 (by omega)
          · skip
            refine lv_aload_n hx hb dX2_cut_28 rfl (lv_at hl 0 rfl) ?_
            refine r_getM (v := .ref (a 3)) hC hI 5 (by decide) q185 rfl rfl dX2_cut_29 ?_
            refine lv_iload_n hx hb dX2_cut_32 rfl (lv_at hl 1 rfl) ?_
            refine lv_aload_n hx hb dX2_cut_33 rfl (lv_at hl 0 rfl) ?_
            refine r_getM (v := .ref (a 3)) hC hI 5 (by decide) q185 rfl rfl dX2_cut_34 ?_
            refine lv_iload_n hx hb dX2_cut_37 rfl (lv_at hl 1 rfl) ?_
            refine lv_iconst (v := nI 1) hx hb dX2_cut_38 (by decide +kernel) ?_
            refine r_add hx hb dX2_cut_39 ?_
            refine r_ald (N := 20) (f := (shf ff f (i + 1))) (j := i + 1) hC hI 3 wM_g3 (by omega) (by decide) dX2_cut_40 ?_
            refine r_ast (N := 20) (f := (shf ff f (i + 1))) (j := i) (x := (shf ff f (i + 1)) (i + 1)) (ws' := wM d a (n, (2 ^ n), ct, fc, fx, (updN (shf ff f (i + 1)) i ((shf ff f (i + 1)) (i + 1))), (shf ft f (i + 1)), (shf bx f (i + 1)), (shf ub f (i + 1)))) hC hI 3 wM_g3 (by omega) (by decide) wM_s3 dX2_cut_41 (fun H locs hI => ?_)
            refine lv_aload_n hx hb dX2_cut_42 rfl (lv_at hl 0 rfl) ?_
            refine r_getM (v := .ref (a 4)) hC hI 6 (by decide) q186 rfl rfl dX2_cut_43 ?_
            refine lv_iload_n hx hb dX2_cut_46 rfl (lv_at hl 1 rfl) ?_
            refine lv_aload_n hx hb dX2_cut_47 rfl (lv_at hl 0 rfl) ?_
            refine r_getM (v := .ref (a 4)) hC hI 6 (by decide) q186 rfl rfl dX2_cut_48 ?_
            refine lv_iload_n hx hb dX2_cut_51 rfl (lv_at hl 1 rfl) ?_
            refine lv_iconst (v := nI 1) hx hb dX2_cut_52 (by decide +kernel) ?_
            refine r_add hx hb dX2_cut_53 ?_
            refine r_ald (N := 20) (f := (shf ft f (i + 1))) (j := i + 1) hC hI 4 wM_g4 (by omega) (by decide) dX2_cut_54 ?_
            refine r_ast (N := 20) (f := (shf ft f (i + 1))) (j := i) (x := (shf ft f (i + 1)) (i + 1)) (ws' := wM d a (n, (2 ^ n), ct, fc, fx, (updN (shf ff f (i + 1)) i ((shf ff f (i + 1)) (i + 1))), (updN (shf ft f (i + 1)) i ((shf ft f (i + 1)) (i + 1))), (shf bx f (i + 1)), (shf ub f (i + 1)))) hC hI 4 wM_g4 (by omega) (by decide) wM_s4 dX2_cut_55 (fun H locs hI => ?_)
            refine lv_aload_n hx hb dX2_cut_56 rfl (lv_at hl 0 rfl) ?_
            refine r_getM (v := .ref (a 5)) hC hI 7 (by decide) q187 rfl rfl dX2_cut_57 ?_
            refine lv_iload_n hx hb dX2_cut_60 rfl (lv_at hl 1 rfl) ?_
            refine lv_aload_n hx hb dX2_cut_61 rfl (lv_at hl 0 rfl) ?_
            refine r_getM (v := .ref (a 5)) hC hI 7 (by decide) q187 rfl rfl dX2_cut_62 ?_
            refine lv_iload_n hx hb dX2_cut_65 rfl (lv_at hl 1 rfl) ?_
            refine lv_iconst (v := nI 1) hx hb dX2_cut_66 (by decide +kernel) ?_
            refine r_add hx hb dX2_cut_67 ?_
            refine r_ald (N := 20) (f := (shf bx f (i + 1))) (j := i + 1) hC hI 5 wM_g5 (by omega) (by decide) dX2_cut_68 ?_
            refine r_ast (N := 20) (f := (shf bx f (i + 1))) (j := i) (x := (shf bx f (i + 1)) (i + 1)) (ws' := wM d a (n, (2 ^ n), ct, fc, fx, (updN (shf ff f (i + 1)) i ((shf ff f (i + 1)) (i + 1))), (updN (shf ft f (i + 1)) i ((shf ft f (i + 1)) (i + 1))), (updN (shf bx f (i + 1)) i ((shf bx f (i + 1)) (i + 1))), (shf ub f (i + 1)))) hC hI 5 wM_g5 (by omega) (by decide) wM_s5 dX2_cut_69 (fun H locs hI => ?_)
            refine lv_aload_n hx hb dX2_cut_70 rfl (lv_at hl 0 rfl) ?_
            refine r_getM (v := .ref (a 6)) hC hI 8 (by decide) q188 rfl rfl dX2_cut_71 ?_
            refine lv_iload_n hx hb dX2_cut_74 rfl (lv_at hl 1 rfl) ?_
            refine lv_aload_n hx hb dX2_cut_75 rfl (lv_at hl 0 rfl) ?_
            refine r_getM (v := .ref (a 6)) hC hI 8 (by decide) q188 rfl rfl dX2_cut_76 ?_
            refine lv_iload_n hx hb dX2_cut_79 rfl (lv_at hl 1 rfl) ?_
            refine lv_iconst (v := nI 1) hx hb dX2_cut_80 (by decide +kernel) ?_
            refine r_add hx hb dX2_cut_81 ?_
            refine r_ald (N := 20) (f := (shf ub f (i + 1))) (j := i + 1) hC hI 6 wM_g6 (by omega) (by decide) dX2_cut_82 ?_
            refine r_ast (N := 20) (f := (shf ub f (i + 1))) (j := i) (x := (shf ub f (i + 1)) (i + 1)) (ws' := wM d a (n, (2 ^ n), ct, fc, fx, (updN (shf ff f (i + 1)) i ((shf ff f (i + 1)) (i + 1))), (updN (shf ft f (i + 1)) i ((shf ft f (i + 1)) (i + 1))), (updN (shf bx f (i + 1)) i ((shf bx f (i + 1)) (i + 1))), (updN (shf ub f (i + 1)) i ((shf ub f (i + 1)) (i + 1))))) hC hI 6 wM_g6 (by omega) (by decide) wM_s6 dX2_cut_83 (fun H locs hI => ?_)
            rw [shf_s2 ff hfi, shf_s2 ft hfi, shf_s2 bx hfi, shf_s2 ub hfi] at hI
            refine lv_iinc (v := nI (i + 1)) (lv' := [(2, .int (nI (i + 1))), (0, .ref (a 0))]) hx hb dX2_cut_84 hl (k := 1) rfl (nI_1 i) (by decide) rfl (fun ls hl => ?_)
            refine lv_goto (tgt := 12) hx hb dX2_cut_87 (by decide) ?_
            exact ih (i + 1) H locs ls (by omega) (by omega) (by omega) hI (lv_sub hl [1, 0] rfl)
    exact L1 ct f H locs ls (by omega) (by omega) (Nat.le_refl f) (by rw [shf_0 ff, shf_0 ft, shf_0 bx, shf_0 ub]; exact hI0) (lv_sub hl0 [1, 0] rfl)
  · skip
    refine lv_iconst (v := (-1)) hx hb dX2_cut_8 (by decide +kernel) ?_
    exact hE 9 ls H locs ((-1)) (n, (2 ^ n), ct, fc, fx, ff, ft, bx, ub) dX2_cut_9 (⟨ct, ff, ft, bx, ub, rfl, Or.inl ⟨noYes_ne hy c_5, rfl, rfl, rfl, rfl, rfl, rfl⟩⟩) hI
set_option maxHeartbeats 4000000 in
/-- total -/
theorem mM_total (l : Launch) (D : va_G) (d : ClassId) (a : Nat → Nat) (n ct : Nat) (fc fx ff ft bx ub : Nat → Nat) (P k : Nat) (hg : gOK (n, ct, fc, ff, ft, bx, ub)) (hP : P < 2 ^ 31) (hk : k < 2 ^ 32) : qI l yX2_total cX2_total 7 .int ro1 D d (wM d a) (n, (2 ^ n), ct, fc, fx, ff, ft, bx, ub) [.ref (a 0), .int (nI P), .int (nI k)] (fun r u => r = nI (tot (n, ct, fc, ff, ft, bx, ub) k P) ∧ u = (n, (2 ^ n), ct, fc, fx, ff, ft, bx, ub)) := by
  refine qI_of RX2 rfl (by decide) (Nat.le_of_ble_eq_true rfl) (fun _ _ _ => rfl) ?_
  intro p e s m below meth c0 A Q H locs ls hC hA hI hl hE
  have hx := hC.1.1
  have hb := hC.1.2.1
  have hown := hC.1.2.2.2.1
  have hts := hC.1.2.2.2.2
  have hl : lv_has ls 7 [(0, .ref (a 0)), (1, .int (nI P)), (2, .int (nI k))] := hl
  have hn : n ≤ 10 := hg.2.1
  have hn2 : 2 ≤ n := hg.1
  have hct : ct ≤ 20 := hg.2.2.1
  have hfc : ∀ j, fc j ≤ 60 := hg.2.2.2.1
  have hff : ∀ f, ff f < n := hg.2.2.2.2.1
  have hft : ∀ f, ft f < n := hg.2.2.2.2.2.1
  have hbx : ∀ f, bx f ≤ 30 := hg.2.2.2.2.2.2.1
  have hub : ∀ f, ub f ≤ 30 := hg.2.2.2.2.2.2.2
  have hI0 := hI
  have hl0 := hl
  clear hI hl
  have L2 : ∀ (j : Nat) (f : Nat) (sm : Nat) (H : Heap) (locs : List Loc) (ls : Array Slot), (f ≤ ct) → (ct + 1 ≤ f + j) → (sm = vTot (n, ct, fc, ff, ft, bx, ub) P n + fTot (n, ct, fc, ff, ft, bx, ub) k P f) → IW D A s.heap (wM d a (n, (2 ^ n), ct, fc, fx, ff, ft, bx, ub)) H locs → lv_has ls 7 [(0, .ref (a 0)), (1, .int (nI P)), (2, .int (nI k)), (3, .int (nI sm)), (4, .int (nI f))] → W p l e ro1 s m ([.ref (a 0), .int (nI P), .int (nI k)] : List Value).toArray below meth c0 H locs 0 0 Q (F0 m 50 ls []) := by
    intro j
    induction j with
    | zero => intro f sm H locs ls hi hj hs hI hl; exact absurd hj (by omega)
    | succ j ih =>
      intro f sm H locs ls hi hj hs hI hl
      refine lv_iload hx hb dX2_total_50 (lv_at hl 4 rfl) ?_
      refine lv_aload_n hx hb dX2_total_52 rfl (lv_at hl 0 rfl) ?_
      refine r_getM (v := .int (nI ct)) hC hI 4 (by decide) q184 rfl rfl dX2_total_53 ?_
      refine r_ge (tgt := 154) hx hb dX2_total_56 (by decide) (by omega) (by omega) (fun c_56 => ?_) (fun c_56 => ?_)
      · skip
        have ei : f = ct := by omega
        rw [ei] at hs
        refine lv_iload_n hx hb dX2_total_154 rfl (lv_at hl 3 rfl) ?_
        exact hE 155 ls H locs (nI sm) (n, (2 ^ n), ct, fc, fx, ff, ft, bx, ub) dX2_total_155 (⟨by rw [hs]; rfl, rfl⟩) hI
      · skip
        have h1 := hff f
        have h2 := hft f
        have b1 := bq_lt P (ff f)
        have b2 := bq_lt P (ft f)
        refine lv_iload hx hb dX2_total_59 (lv_at hl 4 rfl) ?_
        refine lv_bipush (v := nI 20) hx hb dX2_total_61 (by decide +kernel) ?_
        refine r_ge (tgt := 154) hx hb dX2_total_63 (by decide) (by omega) (by omega) (fun c_63 => ?_) (fun c_63 => ?_)
        · skip
          exact absurd c_63 (by omega)
        · skip
          refine lv_aload_n hx hb dX2_total_66 rfl (lv_at hl 0 rfl) ?_
          refine lv_iload_n hx hb dX2_total_67 rfl (lv_at hl 1 rfl) ?_
          refine lv_aload_n hx hb dX2_total_68 rfl (lv_at hl 0 rfl) ?_
          refine r_getM (v := .ref (a 3)) hC hI 5 (by decide) q185 rfl rfl dX2_total_69 ?_
          refine lv_iload hx hb dX2_total_72 (lv_at hl 4 rfl) ?_
          refine r_ald (N := 20) (f := ff) (j := f) hC hI 3 wM_g3 (by omega) (by decide) dX2_total_74 ?_
          refine go_i (rest := []) hC hA hI (mM_form l D d a n ct fc fx ff ft bx ub P (ff f) hP (by omega)) (ci := 1) rfl rfl 2 (lw_V q248 q250 qs12 q19 q251) (by decide +kernel) ⟨Nat.le_of_ble_eq_true rfl, Nat.le_of_ble_eq_true rfl⟩ rfl rfl rfl hl.1 rfl (Nat.le_of_ble_eq_true rfl) dX2_total_75 ⟨Nat.zero_le _, Nat.zero_le _⟩ (fun r_75 u_75 H locs hp hI => ?_)
          obtain ⟨rfl, rfl⟩ := hp
          refine lv_istore (lv' := [(5, .int (nI (bq P (ff f)))), (0, .ref (a 0)), (1, .int (nI P)), (2, .int (nI k)), (3, .int (nI sm)), (4, .int (nI f))]) hx hb dX2_total_78 hl (by decide) rfl (fun ls hl => ?_)
          refine lv_aload_n hx hb dX2_total_80 rfl (lv_at hl 1 rfl) ?_
          refine lv_iload_n hx hb dX2_total_81 rfl (lv_at hl 2 rfl) ?_
          refine lv_aload_n hx hb dX2_total_82 rfl (lv_at hl 1 rfl) ?_
          refine r_getM (v := .ref (a 4)) hC hI 6 (by decide) q186 rfl rfl dX2_total_83 ?_
          refine lv_iload hx hb dX2_total_86 (lv_at hl 5 rfl) ?_
          refine r_ald (N := 20) (f := ft) (j := f) hC hI 4 wM_g4 (by omega) (by decide) dX2_total_88 ?_
          refine go_i (rest := []) hC hA hI (mM_form l D d a n ct fc fx ff ft bx ub P (ft f) hP (by omega)) (ci := 1) rfl rfl 2 (lw_V q248 q250 qs12 q19 q251) (by decide +kernel) ⟨Nat.le_of_ble_eq_true rfl, Nat.le_of_ble_eq_true rfl⟩ rfl rfl rfl hl.1 rfl (Nat.le_of_ble_eq_true rfl) dX2_total_89 ⟨Nat.zero_le _, Nat.zero_le _⟩ (fun r_89 u_89 H locs hp hI => ?_)
          obtain ⟨rfl, rfl⟩ := hp
          refine lv_istore (lv' := [(6, .int (nI (bq P (ft f)))), (5, .int (nI (bq P (ff f)))), (0, .ref (a 0)), (1, .int (nI P)), (2, .int (nI k)), (3, .int (nI sm)), (4, .int (nI f))]) hx hb dX2_total_92 hl (by decide) rfl (fun ls hl => ?_)
          have hl1 := hl
          clear hl
          have K121 : ∀ (s1 : Nat) (ls : Array Slot), s1 = sm + (if f = k then 0 else if bq P (ff f) = 0 ∧ bq P (ft f) = 1 then bx f else 0) → lv_has ls 7 [(0, .ref (a 0)), (1, .int (nI P)), (2, .int (nI k)), (3, .int (nI s1)), (4, .int (nI f)), (5, .int (nI (bq P (ff f)))), (6, .int (nI (bq P (ft f))))] → W p l e ro1 s m ([.ref (a 0), .int (nI P), .int (nI k)] : List Value).toArray below meth c0 H locs 0 0 Q (F0 m 121 ls []) := by
            intro s1 ls hs1 hl
            refine lv_iload hx hb dX2_total_121 (lv_at hl 4 rfl) ?_
            refine lv_iload_n hx hb dX2_total_123 rfl (lv_at hl 2 rfl) ?_
            refine r_eq (tgt := 148) hx hb dX2_total_124 (by decide) (by omega) (by omega) (fun c_124 => ?_) (fun c_124 => ?_)
            · skip
              refine lv_iinc (v := nI (f + 1)) (lv' := [(4, .int (nI (f + 1))), (0, .ref (a 0)), (1, .int (nI P)), (2, .int (nI k)), (3, .int (nI s1)), (5, .int (nI (bq P (ff f)))), (6, .int (nI (bq P (ft f))))]) hx hb dX2_total_148 hl (k := 4) rfl (nI_1 f) (by decide) rfl (fun ls hl => ?_)
              refine lv_goto (tgt := 50) hx hb dX2_total_151 (by decide) ?_
              have hd : (if f = k then 0 else if bq P (ff f) = 1 ∧ bq P (ft f) = 0 then ub f else 0) = 0 := (if_pos c_124)
              have hq : fTot (n, ct, fc, ff, ft, bx, ub) k P (f + 1) = fTot (n, ct, fc, ff, ft, bx, ub) k P f + (if f = k then 0 else if bq P (ff f) = 0 ∧ bq P (ft f) = 1 then bx f else 0) + (if f = k then 0 else if bq P (ff f) = 1 ∧ bq P (ft f) = 0 then ub f else 0) := fT_two (n, ct, fc, ff, ft, bx, ub) k P f
              exact ih (f + 1) _ H locs ls (by omega) (by omega) (by rw [hq, hd, hs1, hs]; omega) hI (lv_sub hl [1, 2, 3, 4, 0] rfl)
            · skip
              refine lv_iload hx hb dX2_total_127 (lv_at hl 5 rfl) ?_
              refine lv_iconst (v := nI 1) hx hb dX2_total_129 (by decide +kernel) ?_
              refine r_ne (tgt := 148) hx hb dX2_total_130 (by decide) (by omega) (by omega) (fun c_130 => ?_) (fun c_130 => ?_)
              · skip
                refine lv_iinc (v := nI (f + 1)) (lv' := [(4, .int (nI (f + 1))), (0, .ref (a 0)), (1, .int (nI P)), (2, .int (nI k)), (3, .int (nI s1)), (5, .int (nI (bq P (ff f)))), (6, .int (nI (bq P (ft f))))]) hx hb dX2_total_148 hl (k := 4) rfl (nI_1 f) (by decide) rfl (fun ls hl => ?_)
                refine lv_goto (tgt := 50) hx hb dX2_total_151 (by decide) ?_
                have hd : (if f = k then 0 else if bq P (ff f) = 1 ∧ bq P (ft f) = 0 then ub f else 0) = 0 := ((if_neg c_124).trans (if_neg (fun q => c_130 q.1)))
                have hq : fTot (n, ct, fc, ff, ft, bx, ub) k P (f + 1) = fTot (n, ct, fc, ff, ft, bx, ub) k P f + (if f = k then 0 else if bq P (ff f) = 0 ∧ bq P (ft f) = 1 then bx f else 0) + (if f = k then 0 else if bq P (ff f) = 1 ∧ bq P (ft f) = 0 then ub f else 0) := fT_two (n, ct, fc, ff, ft, bx, ub) k P f
                exact ih (f + 1) _ H locs ls (by omega) (by omega) (by rw [hq, hd, hs1, hs]; omega) hI (lv_sub hl [1, 2, 3, 4, 0] rfl)
              · skip
                refine lv_iload hx hb dX2_total_133 (lv_at hl 6 rfl) ?_
                refine r_if_ne (tgt := 148) hx hb dX2_total_135 (by decide) (by omega) (fun c_135 => ?_) (fun c_135 => ?_)
                · skip
                  refine lv_iinc (v := nI (f + 1)) (lv' := [(4, .int (nI (f + 1))), (0, .ref (a 0)), (1, .int (nI P)), (2, .int (nI k)), (3, .int (nI s1)), (5, .int (nI (bq P (ff f)))), (6, .int (nI (bq P (ft f))))]) hx hb dX2_total_148 hl (k := 4) rfl (nI_1 f) (by decide) rfl (fun ls hl => ?_)
                  refine lv_goto (tgt := 50) hx hb dX2_total_151 (by decide) ?_
                  have hd : (if f = k then 0 else if bq P (ff f) = 1 ∧ bq P (ft f) = 0 then ub f else 0) = 0 := ((if_neg c_124).trans (if_neg (fun q => c_135 q.2)))
                  have hq : fTot (n, ct, fc, ff, ft, bx, ub) k P (f + 1) = fTot (n, ct, fc, ff, ft, bx, ub) k P f + (if f = k then 0 else if bq P (ff f) = 0 ∧ bq P (ft f) = 1 then bx f else 0) + (if f = k then 0 else if bq P (ff f) = 1 ∧ bq P (ft f) = 0 then ub f else 0) := fT_two (n, ct, fc, ff, ft, bx, ub) k P f
                  exact ih (f + 1) _ H locs ls (by omega) (by omega) (by rw [hq, hd, hs1, hs]; omega) hI (lv_sub hl [1, 2, 3, 4, 0] rfl)
                · skip
                  refine lv_iload_n hx hb dX2_total_138 rfl (lv_at hl 3 rfl) ?_
                  refine lv_aload_n hx hb dX2_total_139 rfl (lv_at hl 0 rfl) ?_
                  refine r_getM (v := .ref (a 6)) hC hI 8 (by decide) q188 rfl rfl dX2_total_140 ?_
                  refine lv_iload hx hb dX2_total_143 (lv_at hl 4 rfl) ?_
                  refine r_ald (N := 20) (f := ub) (j := f) hC hI 6 wM_g6 (by omega) (by decide) dX2_total_145 ?_
                  refine r_add hx hb dX2_total_146 ?_
                  refine lv_istore_n (lv' := [(3, .int (nI (s1 + (ub f)))), (0, .ref (a 0)), (1, .int (nI P)), (2, .int (nI k)), (4, .int (nI f)), (5, .int (nI (bq P (ff f)))), (6, .int (nI (bq P (ft f))))]) hx hb dX2_total_147 rfl hl (by decide) rfl (fun ls hl => ?_)
                  refine lv_iinc (v := nI (f + 1)) (lv' := [(4, .int (nI (f + 1))), (3, .int (nI (s1 + (ub f)))), (0, .ref (a 0)), (1, .int (nI P)), (2, .int (nI k)), (5, .int (nI (bq P (ff f)))), (6, .int (nI (bq P (ft f))))]) hx hb dX2_total_148 hl (k := 4) rfl (nI_1 f) (by decide) rfl (fun ls hl => ?_)
                  refine lv_goto (tgt := 50) hx hb dX2_total_151 (by decide) ?_
                  have hd : (if f = k then 0 else if bq P (ff f) = 1 ∧ bq P (ft f) = 0 then ub f else 0) = ub f := ((if_neg c_124).trans (if_pos ⟨c_130, c_135⟩))
                  have hq : fTot (n, ct, fc, ff, ft, bx, ub) k P (f + 1) = fTot (n, ct, fc, ff, ft, bx, ub) k P f + (if f = k then 0 else if bq P (ff f) = 0 ∧ bq P (ft f) = 1 then bx f else 0) + (if f = k then 0 else if bq P (ff f) = 1 ∧ bq P (ft f) = 0 then ub f else 0) := fT_two (n, ct, fc, ff, ft, bx, ub) k P f
                  exact ih (f + 1) _ H locs ls (by omega) (by omega) (by rw [hq, hd, hs1, hs]; omega) hI (lv_sub hl [2, 3, 4, 1, 0] rfl)
          have hl := hl1
          refine lv_iload hx hb dX2_total_94 (lv_at hl 6 rfl) ?_
          refine lv_iload_n hx hb dX2_total_96 rfl (lv_at hl 4 rfl) ?_
          refine r_eq (tgt := 121) hx hb dX2_total_97 (by decide) (by omega) (by omega) (fun c_97 => ?_) (fun c_97 => ?_)
          · skip
            exact K121 _ ls (by rw [if_pos c_97]; rfl) (lv_sub hl [2, 3, 4, 5, 6, 1, 0] rfl)
          · skip
            refine lv_iload hx hb dX2_total_100 (lv_at hl 1 rfl) ?_
            refine r_if_ne (tgt := 121) hx hb dX2_total_102 (by decide) (by omega) (fun c_102 => ?_) (fun c_102 => ?_)
            · skip
              exact K121 _ ls (by rw [if_neg c_97, if_neg (fun q => c_102 q.1)]; rfl) (lv_sub hl [2, 3, 4, 5, 6, 1, 0] rfl)
            · skip
              refine lv_iload hx hb dX2_total_105 (lv_at hl 0 rfl) ?_
              refine lv_iconst (v := nI 1) hx hb dX2_total_107 (by decide +kernel) ?_
              refine r_ne (tgt := 121) hx hb dX2_total_108 (by decide) (by omega) (by omega) (fun c_108 => ?_) (fun c_108 => ?_)
              · skip
                exact K121 _ ls (by rw [if_neg c_97, if_neg (fun q => c_108 q.2)]; rfl) (lv_sub hl [2, 3, 4, 5, 6, 1, 0] rfl)
              · skip
                refine lv_iload_n hx hb dX2_total_111 rfl (lv_at hl 5 rfl) ?_
                refine lv_aload_n hx hb dX2_total_112 rfl (lv_at hl 2 rfl) ?_
                refine r_getM (v := .ref (a 5)) hC hI 7 (by decide) q187 rfl rfl dX2_total_113 ?_
                refine lv_iload hx hb dX2_total_116 (lv_at hl 6 rfl) ?_
                refine r_ald (N := 20) (f := bx) (j := f) hC hI 5 wM_g5 (by omega) (by decide) dX2_total_118 ?_
                refine r_add hx hb dX2_total_119 ?_
                refine lv_istore_n (lv' := [(3, .int (nI (sm + (bx f)))), (6, .int (nI (bq P (ft f)))), (5, .int (nI (bq P (ff f)))), (0, .ref (a 0)), (1, .int (nI P)), (2, .int (nI k)), (4, .int (nI f))]) hx hb dX2_total_120 rfl hl (by decide) rfl (fun ls hl => ?_)
                exact K121 _ ls (by rw [if_neg c_97, if_pos ⟨c_102, c_108⟩]) (lv_sub hl [3, 4, 5, 0, 6, 2, 1] rfl)
  have L1 : ∀ (j : Nat) (f : Nat) (sm : Nat) (H : Heap) (locs : List Loc) (ls : Array Slot), (f ≤ n) → (n + 1 ≤ f + j) → (sm = vTot (n, ct, fc, ff, ft, bx, ub) P f) → IW D A s.heap (wM d a (n, (2 ^ n), ct, fc, fx, ff, ft, bx, ub)) H locs → lv_has ls 7 [(0, .ref (a 0)), (1, .int (nI P)), (2, .int (nI k)), (3, .int (nI sm)), (4, .int (nI f))] → W p l e ro1 s m ([.ref (a 0), .int (nI P), .int (nI k)] : List Value).toArray below meth c0 H locs 0 0 Q (F0 m 5 ls []) := by
    intro j
    induction j with
    | zero => intro f sm H locs ls hi hj hs hI hl; exact absurd hj (by omega)
    | succ j ih =>
      intro f sm H locs ls hi hj hs hI hl
      refine lv_iload hx hb dX2_total_5 (lv_at hl 4 rfl) ?_
      refine lv_aload_n hx hb dX2_total_7 rfl (lv_at hl 0 rfl) ?_
      refine r_getM (v := .int (nI n)) hC hI 0 (by decide) q180 rfl rfl dX2_total_8 ?_
      refine r_ge (tgt := 47) hx hb dX2_total_11 (by decide) (by omega) (by omega) (fun c_11 => ?_) (fun c_11 => ?_)
      · skip
        have ei : f = n := by omega
        rw [ei] at hs
        refine lv_iconst (v := nI 0) hx hb dX2_total_47 (by decide +kernel) ?_
        refine lv_istore (lv' := [(4, .int (nI 0)), (0, .ref (a 0)), (1, .int (nI P)), (2, .int (nI k)), (3, .int (nI sm))]) hx hb dX2_total_48 hl (by decide) rfl (fun ls hl => ?_)
        exact L2 (ct + 1) 0 sm H locs ls (by omega) (by omega) (by rw [hs]; rfl) hI (lv_sub hl [1, 2, 3, 4, 0] rfl)
      · skip
        refine lv_iload hx hb dX2_total_14 (lv_at hl 4 rfl) ?_
        refine lv_bipush (v := nI 10) hx hb dX2_total_16 (by decide +kernel) ?_
        refine r_ge (tgt := 47) hx hb dX2_total_18 (by decide) (by omega) (by omega) (fun c_18 => ?_) (fun c_18 => ?_)
        · skip
          exact absurd c_18 (by omega)
        · skip
          have b1 := bq_lt P f
          refine lv_iload_n hx hb dX2_total_21 rfl (lv_at hl 3 rfl) ?_
          refine lv_aload_n hx hb dX2_total_22 rfl (lv_at hl 0 rfl) ?_
          refine r_getM (v := .ref (a 1)) hC hI 2 (by decide) q182 rfl rfl dX2_total_23 ?_
          refine lv_iconst (v := nI 2) hx hb dX2_total_26 (by decide +kernel) ?_
          refine lv_iload hx hb dX2_total_27 (lv_at hl 4 rfl) ?_
          refine r_mul hx hb dX2_total_29 ?_
          refine lv_aload_n hx hb dX2_total_30 rfl (lv_at hl 0 rfl) ?_
          refine lv_iload_n hx hb dX2_total_31 rfl (lv_at hl 1 rfl) ?_
          refine lv_iload hx hb dX2_total_32 (lv_at hl 4 rfl) ?_
          refine go_i (rest := [.int (nI (2 * f)), .ref (a 1), .int (nI sm)]) hC hA hI (mM_form l D d a n ct fc fx ff ft bx ub P f hP (by omega)) (ci := 1) rfl rfl 2 (lw_V q248 q250 qs12 q19 q251) (by decide +kernel) ⟨Nat.le_of_ble_eq_true rfl, Nat.le_of_ble_eq_true rfl⟩ rfl rfl rfl hl.1 rfl (Nat.le_of_ble_eq_true rfl) dX2_total_34 ⟨Nat.zero_le _, Nat.zero_le _⟩ (fun r_34 u_34 H locs hp hI => ?_)
          obtain ⟨rfl, rfl⟩ := hp
          refine r_add hx hb dX2_total_37 ?_
          refine r_ald (N := 20) (f := fc) (j := (2 * f) + (bq P f)) hC hI 1 wM_g1 (by omega) (by decide) dX2_total_38 ?_
          refine r_add hx hb dX2_total_39 ?_
          refine lv_istore_n (lv' := [(3, .int (nI (sm + (fc ((2 * f) + (bq P f)))))), (0, .ref (a 0)), (1, .int (nI P)), (2, .int (nI k)), (4, .int (nI f))]) hx hb dX2_total_40 rfl hl (by decide) rfl (fun ls hl => ?_)
          refine lv_iinc (v := nI (f + 1)) (lv' := [(4, .int (nI (f + 1))), (3, .int (nI (sm + (fc ((2 * f) + (bq P f)))))), (0, .ref (a 0)), (1, .int (nI P)), (2, .int (nI k))]) hx hb dX2_total_41 hl (k := 4) rfl (nI_1 f) (by decide) rfl (fun ls hl => ?_)
          refine lv_goto (tgt := 5) hx hb dX2_total_44 (by decide) ?_
          exact ih (f + 1) _ H locs ls (by omega) (by omega) (by rw [hs]; rfl) hI (lv_sub hl [2, 3, 4, 1, 0] rfl)
  have hI := hI0
  have hl := hl0
  refine lv_iconst (v := nI 0) hx hb dX2_total_0 (by decide +kernel) ?_
  refine lv_istore_n (lv' := [(3, .int (nI 0)), (0, .ref (a 0)), (1, .int (nI P)), (2, .int (nI k))]) hx hb dX2_total_1 rfl hl (by decide) rfl (fun ls hl => ?_)
  refine lv_iconst (v := nI 0) hx hb dX2_total_2 (by decide +kernel) ?_
  refine lv_istore (lv' := [(4, .int (nI 0)), (3, .int (nI 0)), (0, .ref (a 0)), (1, .int (nI P)), (2, .int (nI k))]) hx hb dX2_total_3 hl (by decide) rfl (fun ls hl => ?_)
  exact L1 (n + 1) 0 0 H locs ls (by omega) (by omega) rfl hI (lv_sub hl [2, 3, 4, 1, 0] rfl)
set_option maxHeartbeats 4000000 in
/-- allowed -/
theorem mM_allowed (l : Launch) (D : va_G) (d : ClassId) (a : Nat → Nat) (n ct : Nat) (fc fx ff ft bx ub : Nat → Nat) (P : Nat) (hn : n ≤ 10) (hfx : ∀ v, fx v ≤ 2) (hP : P < 2 ^ 31) : qI l yX2_allowed cX2_allowed 3 .boolean ro1 D d (wM d a) (n, (2 ^ n), ct, fc, fx, ff, ft, bx, ub) [.ref (a 0), .int (nI P)] (fun r u => yesNo r (okP (n, ct, fc, ff, ft, bx, ub) fx P) ∧ u = (n, (2 ^ n), ct, fc, fx, ff, ft, bx, ub)) := by
  refine qI_of RX2 rfl (by decide) (Nat.le_of_ble_eq_true rfl) (fun _ _ h => yesNo_bool h.1) ?_
  intro p e s m below meth c0 A Q H locs ls hC hA hI hl hE
  have hx := hC.1.1
  have hb := hC.1.2.1
  have hown := hC.1.2.2.2.1
  have hts := hC.1.2.2.2.2
  have hl : lv_has ls 3 [(0, .ref (a 0)), (1, .int (nI P))] := hl
  refine lv_iconst (v := nI 0) hx hb dX2_allowed_0 (by decide +kernel) ?_
  refine lv_istore_n (lv' := [(2, .int (nI 0)), (0, .ref (a 0)), (1, .int (nI P))]) hx hb dX2_allowed_1 rfl hl (by decide) rfl (fun ls hl => ?_)
  have hI0 := hI
  have hl0 := hl
  clear hI hl
  have L1 : ∀ (j : Nat) (i : Nat) (H : Heap) (locs : List Loc) (ls : Array Slot), (i ≤ n) → (n + 1 ≤ i + j) → (∀ v, v < i → fx v = 2 ∨ fx v = bq P v) → IW D A s.heap (wM d a (n, (2 ^ n), ct, fc, fx, ff, ft, bx, ub)) H locs → lv_has ls 3 [(0, .ref (a 0)), (1, .int (nI P)), (2, .int (nI i))] → W p l e ro1 s m ([.ref (a 0), .int (nI P)] : List Value).toArray below meth c0 H locs 0 0 Q (F0 m 2 ls []) := by
    intro j
    induction j with
    | zero => intro i H locs ls hi hj hv hI hl; exact absurd hj (by omega)
    | succ j ih =>
      intro i H locs ls hi hj hv hI hl
      refine lv_iload_n hx hb dX2_allowed_2 rfl (lv_at hl 2 rfl) ?_
      refine lv_aload_n hx hb dX2_allowed_3 rfl (lv_at hl 0 rfl) ?_
      refine r_getM (v := .int (nI n)) hC hI 0 (by decide) q180 rfl rfl dX2_allowed_4 ?_
      refine r_ge (tgt := 49) hx hb dX2_allowed_7 (by decide) (by omega) (by omega) (fun c_7 => ?_) (fun c_7 => ?_)
      · skip
        have ei : i = n := by omega
        have hok : okP (n, ct, fc, ff, ft, bx, ub) fx P := fun v q => hv v (by rw [ei]; exact q)
        refine lv_iconst (v := nI 1) hx hb dX2_allowed_49 (by decide +kernel) ?_
        exact hE 50 ls H locs (nI 1) (n, (2 ^ n), ct, fc, fx, ff, ft, bx, ub) dX2_allowed_50 (⟨Or.inl ⟨rfl, hok⟩, rfl⟩) hI
      · skip
        have h1 := hfx i
        have h2 := bq_lt P i
        refine lv_iload_n hx hb dX2_allowed_10 rfl (lv_at hl 2 rfl) ?_
        refine lv_bipush (v := nI 10) hx hb dX2_allowed_11 (by decide +kernel) ?_
        refine r_ge (tgt := 49) hx hb dX2_allowed_13 (by decide) (by omega) (by omega) (fun c_13 => ?_) (fun c_13 => ?_)
        · skip
          exact absurd c_13 (by omega)
        · skip
          refine lv_aload_n hx hb dX2_allowed_16 rfl (lv_at hl 0 rfl) ?_
          refine r_getM (v := .ref (a 2)) hC hI 3 (by decide) q183 rfl rfl dX2_allowed_17 ?_
          refine lv_iload_n hx hb dX2_allowed_20 rfl (lv_at hl 2 rfl) ?_
          refine r_ald (N := 10) (f := fx) (j := i) hC hI 2 wM_g2 (by omega) (by decide) dX2_allowed_21 ?_
          refine lv_iconst (v := nI 2) hx hb dX2_allowed_22 (by decide +kernel) ?_
          refine r_eq (tgt := 43) hx hb dX2_allowed_23 (by decide) (by omega) (by omega) (fun c_23 => ?_) (fun c_23 => ?_)
          · skip
            refine lv_iinc (v := nI (i + 1)) (lv' := [(2, .int (nI (i + 1))), (0, .ref (a 0)), (1, .int (nI P))]) hx hb dX2_allowed_43 hl (k := 2) rfl (nI_1 i) (by decide) rfl (fun ls hl => ?_)
            refine lv_goto (tgt := 2) hx hb dX2_allowed_46 (by decide) ?_
            exact ih (i + 1) H locs ls (by omega) (by omega) (lt_s hv (Or.inl c_23)) hI (lv_sub hl [1, 2, 0] rfl)
          · skip
            refine lv_aload_n hx hb dX2_allowed_26 rfl (lv_at hl 0 rfl) ?_
            refine r_getM (v := .ref (a 2)) hC hI 3 (by decide) q183 rfl rfl dX2_allowed_27 ?_
            refine lv_iload_n hx hb dX2_allowed_30 rfl (lv_at hl 2 rfl) ?_
            refine r_ald (N := 10) (f := fx) (j := i) hC hI 2 wM_g2 (by omega) (by decide) dX2_allowed_31 ?_
            refine lv_aload_n hx hb dX2_allowed_32 rfl (lv_at hl 0 rfl) ?_
            refine lv_iload_n hx hb dX2_allowed_33 rfl (lv_at hl 1 rfl) ?_
            refine lv_iload_n hx hb dX2_allowed_34 rfl (lv_at hl 2 rfl) ?_
            refine go_i (rest := [.int (nI (fx i))]) hC hA hI (mM_form l D d a n ct fc fx ff ft bx ub P i hP (by omega)) (ci := 1) rfl rfl 2 (lw_V q248 q250 qs12 q19 q251) (by decide +kernel) ⟨Nat.le_of_ble_eq_true rfl, Nat.le_of_ble_eq_true rfl⟩ rfl rfl rfl hl.1 rfl (Nat.le_of_ble_eq_true rfl) dX2_allowed_35 ⟨Nat.zero_le _, Nat.zero_le _⟩ (fun r_35 u_35 H locs hp hI => ?_)
            obtain ⟨rfl, rfl⟩ := hp
            refine r_eq (tgt := 43) hx hb dX2_allowed_38 (by decide) (by omega) (by omega) (fun c_38 => ?_) (fun c_38 => ?_)
            · skip
              refine lv_iinc (v := nI (i + 1)) (lv' := [(2, .int (nI (i + 1))), (0, .ref (a 0)), (1, .int (nI P))]) hx hb dX2_allowed_43 hl (k := 2) rfl (nI_1 i) (by decide) rfl (fun ls hl => ?_)
              refine lv_goto (tgt := 2) hx hb dX2_allowed_46 (by decide) ?_
              exact ih (i + 1) H locs ls (by omega) (by omega) (lt_s hv (Or.inr c_38)) hI (lv_sub hl [1, 2, 0] rfl)
            · skip
              refine lv_iconst (v := nI 0) hx hb dX2_allowed_41 (by decide +kernel) ?_
              exact hE 42 ls H locs (nI 0) (n, (2 ^ n), ct, fc, fx, ff, ft, bx, ub) dX2_allowed_42 (⟨Or.inr ⟨rfl, fun q => (q i c_7).elim c_23 c_38⟩, rfl⟩) hI
  exact L1 (n + 1) 0 H locs ls (by omega) (by omega) lt_0 hI0 (lv_sub hl0 [1, 2, 0] rfl)
set_option maxHeartbeats 4000000 in
/-- costOf -/
theorem mM_costOf (l : Launch) (D : va_G) (d : ClassId) (a : Nat → Nat) (n ct : Nat) (fc fx ff ft bx ub : Nat → Nat) (x : Int32) (hg : gOK (n, ct, fc, ff, ft, bx, ub)) : qI l yX2_costOf cX2_costOf 2 .int ro2 D d (wM d a) (n, (2 ^ n), ct, fc, fx, ff, ft, bx, ub) [.ref (a 0), .int x] (fun r u => u = (n, (2 ^ n), ct, fc, fx, ff, ft, bx, ub) ∧ sCostOf (n, ct, fc, ff, ft, bx, ub) x r) := by
  refine qI_of RX2 rfl (by decide) (Nat.le_of_ble_eq_true rfl) (fun _ _ _ => rfl) ?_
  intro p e s m below meth c0 A Q H locs ls hC hA hI hl hE
  have hx := hC.1.1
  have hb := hC.1.2.1
  have hown := hC.1.2.2.2.1
  have hts := hC.1.2.2.2.2
  have hl : lv_has ls 2 [(0, .ref (a 0)), (1, .int x)] := hl
  have hn : n ≤ 10 := hg.2.1
  have hn2 : 2 ≤ n := hg.1
  have hct : ct ≤ 20 := hg.2.2.1
  have hfc : ∀ j, fc j ≤ 60 := hg.2.2.2.1
  have hff : ∀ f, ff f < n := hg.2.2.2.2.1
  have hft : ∀ f, ft f < n := hg.2.2.2.2.2.1
  have hbx : ∀ f, bx f ≤ 30 := hg.2.2.2.2.2.2.1
  have hub : ∀ f, ub f ≤ 30 := hg.2.2.2.2.2.2.2
  have hp2 := pow10 hn
  refine lv_iload_n hx hb dX2_costOf_0 rfl (lv_at hl 1 rfl) ?_
  refine lv_if_lt (tgt := 12) hx hb dX2_costOf_1 (by decide) (fun c_1 => ?_) (fun c_1 => ?_)
  · skip
    refine lv_iconst (v := (-1)) hx hb dX2_costOf_12 (by decide +kernel) ?_
    refine lv_goto (tgt := 22) hx hb dX2_costOf_13 (by decide) ?_
    exact hE 22 ls H locs ((-1)) (n, (2 ^ n), ct, fc, fx, ff, ft, bx, ub) dX2_costOf_22 (⟨rfl, Or.inl ⟨inR_neg (show 2 ^ n < 2 ^ 31 by omega) c_1, rfl⟩⟩) hI
  · skip
    refine lv_iload_n hx hb dX2_costOf_4 rfl (lv_at hl 1 rfl) ?_
    refine lv_aload_n hx hb dX2_costOf_5 rfl (lv_at hl 0 rfl) ?_
    refine r_getM (v := .int (nI (2 ^ n))) hC hI 1 (by decide) q181 rfl rfl dX2_costOf_6 ?_
    refine lv_icmp_lt (tgt := 16) hx hb dX2_costOf_9 (by decide) (fun c_9 => ?_) (fun c_9 => ?_)
    · skip
      obtain ⟨P, hP, rfl⟩ : inR x (2 ^ n) := inR_ofT (by omega) c_1 c_9
      refine lv_aload_n hx hb dX2_costOf_16 rfl (lv_at hl 0 rfl) ?_
      refine lv_iload_n hx hb dX2_costOf_17 rfl (lv_at hl 1 rfl) ?_
      refine lv_iconst (v := nI nNone) hx hb dX2_costOf_18 (by decide +kernel) ?_
      refine go_i (rest := []) hC hA hI (mM_total l D d a n ct fc fx ff ft bx ub P nNone hg (by omega) (by decide)) (ci := 1) rfl rfl 2 (lw_V q244 q246 qs11 q19 q247) (by decide +kernel) ⟨Nat.le_of_ble_eq_true rfl, Nat.le_of_ble_eq_true rfl⟩ rfl rfl rfl hl.1 rfl (Nat.le_of_ble_eq_true rfl) dX2_costOf_19 ⟨Nat.zero_le _, Nat.zero_le _⟩ (fun r_19 u_19 H locs hp hI => ?_)
      obtain ⟨rfl, rfl⟩ := hp
      have ht_19 := tot_le hg nNone P
      exact hE 22 ls H locs (nI (tot (n, ct, fc, ff, ft, bx, ub) nNone P)) (n, (2 ^ n), ct, fc, fx, ff, ft, bx, ub) dX2_costOf_22 (⟨rfl, Or.inr ⟨P, hP, rfl, rfl⟩⟩) hI
    · skip
      refine lv_iconst (v := (-1)) hx hb dX2_costOf_12 (by decide +kernel) ?_
      refine lv_goto (tgt := 22) hx hb dX2_costOf_13 (by decide) ?_
      exact hE 22 ls H locs ((-1)) (n, (2 ^ n), ct, fc, fx, ff, ft, bx, ub) dX2_costOf_22 (⟨rfl, Or.inl ⟨inR_bigT (Nat.le_refl _) (show 2 ^ n < 2 ^ 31 by omega) c_9, rfl⟩⟩) hI
set_option maxHeartbeats 4000000 in
/-- least -/
theorem mM_least (l : Launch) (D : va_G) (d : ClassId) (a : Nat → Nat) (n ct : Nat) (fc fx ff ft bx ub : Nat → Nat) (k : Nat) (hg : gOK (n, ct, fc, ff, ft, bx, ub)) (hfx : ∀ v, fx v ≤ 2) (hk : k < 2 ^ 32) : qI l yX2_least cX2_least 5 .int ro2 D d (wM d a) (n, (2 ^ n), ct, fc, fx, ff, ft, bx, ub) [.ref (a 0), .int (nI k)] (fun r u => u = (n, (2 ^ n), ct, fc, fx, ff, ft, bx, ub) ∧ ∃ T, r = nI T ∧ isMin (2 ^ n) (okP (n, ct, fc, ff, ft, bx, ub) fx) (tot (n, ct, fc, ff, ft, bx, ub) k) T) := by
  refine qI_of RX2 rfl (by decide) (Nat.le_of_ble_eq_true rfl) (fun _ _ _ => rfl) ?_
  intro p e s m below meth c0 A Q H locs ls hC hA hI hl hE
  have hx := hC.1.1
  have hb := hC.1.2.1
  have hown := hC.1.2.2.2.1
  have hts := hC.1.2.2.2.2
  have hl : lv_has ls 5 [(0, .ref (a 0)), (1, .int (nI k))] := hl
  have hn : n ≤ 10 := hg.2.1
  have hn2 : 2 ≤ n := hg.1
  have hct : ct ≤ 20 := hg.2.2.1
  have hfc : ∀ j, fc j ≤ 60 := hg.2.2.2.1
  have hff : ∀ f, ff f < n := hg.2.2.2.2.1
  have hft : ∀ f, ft f < n := hg.2.2.2.2.2.1
  have hbx : ∀ f, bx f ≤ 30 := hg.2.2.2.2.2.2.1
  have hub : ∀ f, ub f ≤ 30 := hg.2.2.2.2.2.2.2
  have hp2 := pow10 hn
  have hp0 := Nat.two_pow_pos n
  refine lv_iconst (v := (-1)) hx hb dX2_least_0 (by decide +kernel) ?_
  refine lv_istore_n (lv' := [(2, .int (-1)), (0, .ref (a 0)), (1, .int (nI k))]) hx hb dX2_least_1 rfl hl (by decide) rfl (fun ls hl => ?_)
  refine lv_iconst (v := nI 0) hx hb dX2_least_2 (by decide +kernel) ?_
  refine lv_istore_n (lv' := [(3, .int (nI 0)), (2, .int (-1)), (0, .ref (a 0)), (1, .int (nI k))]) hx hb dX2_least_3 rfl hl (by decide) rfl (fun ls hl => ?_)
  have hI0 := hI
  have hl0 := hl
  clear hI hl
  have L1 : ∀ (j : Nat) (i : Nat) (lst : Int32) (H : Heap) (locs : List Loc) (ls : Array Slot), (i ≤ 2 ^ n) → (2 ^ n + 1 ≤ i + j) → (minOr i (okP (n, ct, fc, ff, ft, bx, ub) fx) (tot (n, ct, fc, ff, ft, bx, ub) k) (-1) lst) → IW D A s.heap (wM d a (n, (2 ^ n), ct, fc, fx, ff, ft, bx, ub)) H locs → lv_has ls 5 [(0, .ref (a 0)), (1, .int (nI k)), (2, .int lst), (3, .int (nI i))] → W p l e ro2 s m ([.ref (a 0), .int (nI k)] : List Value).toArray below meth c0 H locs 0 0 Q (F0 m 4 ls []) := by
    intro j
    induction j with
    | zero => intro i lst H locs ls hi hj hv hI hl; exact absurd hj (by omega)
    | succ j ih =>
      intro i lst H locs ls hi hj hv hI hl
      refine lv_iload_n hx hb dX2_least_4 rfl (lv_at hl 3 rfl) ?_
      refine lv_aload_n hx hb dX2_least_5 rfl (lv_at hl 0 rfl) ?_
      refine r_getM (v := .int (nI (2 ^ n))) hC hI 1 (by decide) q181 rfl rfl dX2_least_6 ?_
      refine r_ge (tgt := 47) hx hb dX2_least_9 (by decide) (by omega) (by omega) (fun c_9 => ?_) (fun c_9 => ?_)
      · skip
        have ei : i = 2 ^ n := by omega
        rw [ei] at hv
        refine lv_iload_n hx hb dX2_least_47 rfl (lv_at hl 2 rfl) ?_
        exact hE 48 ls H locs (lst) (n, (2 ^ n), ct, fc, fx, ff, ft, bx, ub) dX2_least_48 (⟨rfl, least_end (g := (n, ct, fc, ff, ft, bx, ub)) (fun v _ => hfx v) hv⟩) hI
      · skip
        refine lv_aload_n hx hb dX2_least_12 rfl (lv_at hl 0 rfl) ?_
        refine lv_iload_n hx hb dX2_least_13 rfl (lv_at hl 3 rfl) ?_
        refine go_i (rest := []) hC hA hI (mM_allowed l D d a n ct fc fx ff ft bx ub i hn hfx (by omega)) (ci := 1) rfl rfl 1 (lw_V q260 q262 qs14 q19 q263) (by decide +kernel) ⟨Nat.le_of_ble_eq_true rfl, Nat.le_of_ble_eq_true rfl⟩ rfl rfl rfl hl.1 rfl (Nat.le_of_ble_eq_true rfl) dX2_least_14 ⟨Nat.zero_le _, Nat.zero_le _⟩ (fun r_14 u_14 H locs hp hI => ?_)
        obtain ⟨hal, rfl⟩ := hp
        refine lv_if_eq (tgt := 41) hx hb dX2_least_17 (by decide) (fun c_17 => ?_) (fun c_17 => ?_)
        · skip
          refine lv_iinc (v := nI (i + 1)) (lv' := [(3, .int (nI (i + 1))), (0, .ref (a 0)), (1, .int (nI k)), (2, .int lst)]) hx hb dX2_least_41 hl (k := 3) rfl (nI_1 i) (by decide) rfl (fun ls hl => ?_)
          refine lv_goto (tgt := 4) hx hb dX2_least_44 (by decide) ?_
          exact ih (i + 1) _ H locs ls (by omega) (by omega) (minOr_no hv (yesNo_eq hal c_17)) hI (lv_sub hl [1, 2, 3, 0] rfl)
        · skip
          refine lv_aload_n hx hb dX2_least_20 rfl (lv_at hl 0 rfl) ?_
          refine lv_iload_n hx hb dX2_least_21 rfl (lv_at hl 3 rfl) ?_
          refine lv_iload_n hx hb dX2_least_22 rfl (lv_at hl 1 rfl) ?_
          refine go_i (rest := []) hC hA hI (mM_total l D d a n ct fc fx ff ft bx ub i k hg (by omega) hk) (ci := 1) rfl rfl 2 (lw_V q244 q246 qs11 q19 q247) (by decide +kernel) ⟨Nat.le_of_ble_eq_true rfl, Nat.le_of_ble_eq_true rfl⟩ rfl rfl rfl hl.1 rfl (Nat.le_of_ble_eq_true rfl) dX2_least_23 ⟨Nat.zero_le _, Nat.zero_le _⟩ (fun r_23 u_23 H locs hp hI => ?_)
          obtain ⟨rfl, rfl⟩ := hp
          have ht_23 := tot_le hg k i
          refine lv_istore (lv' := [(4, .int (nI (tot (n, ct, fc, ff, ft, bx, ub) k i))), (0, .ref (a 0)), (1, .int (nI k)), (2, .int lst), (3, .int (nI i))]) hx hb dX2_least_26 hl (by decide) rfl (fun ls hl => ?_)
          refine lv_iload_n hx hb dX2_least_28 rfl (lv_at hl 3 rfl) ?_
          refine lv_if_lt (tgt := 38) hx hb dX2_least_29 (by decide) (fun c_29 => ?_) (fun c_29 => ?_)
          · skip
            refine lv_iload hx hb dX2_least_38 (lv_at hl 0 rfl) ?_
            refine lv_istore_n (lv' := [(2, .int (nI (tot (n, ct, fc, ff, ft, bx, ub) k i))), (4, .int (nI (tot (n, ct, fc, ff, ft, bx, ub) k i))), (0, .ref (a 0)), (1, .int (nI k)), (3, .int (nI i))]) hx hb dX2_least_40 rfl hl (by decide) rfl (fun ls hl => ?_)
            refine lv_iinc (v := nI (i + 1)) (lv' := [(3, .int (nI (i + 1))), (2, .int (nI (tot (n, ct, fc, ff, ft, bx, ub) k i))), (4, .int (nI (tot (n, ct, fc, ff, ft, bx, ub) k i))), (0, .ref (a 0)), (1, .int (nI k))]) hx hb dX2_least_41 hl (k := 4) rfl (nI_1 i) (by decide) rfl (fun ls hl => ?_)
            refine lv_goto (tgt := 4) hx hb dX2_least_44 (by decide) ?_
            exact ih (i + 1) _ H locs ls (by omega) (by omega) (minOr_take hv (yesNo_ne hal c_17) (fun R e h => (minOr_neg hg c_29 e h).elim)) hI (lv_sub hl [3, 4, 1, 0] rfl)
          · skip
            obtain ⟨R, rfl, hm⟩ := minOr_nn hg (by decide) hv c_29
            have hR := isMin_lt hg hm
            refine lv_iload hx hb dX2_least_32 (lv_at hl 0 rfl) ?_
            refine lv_iload_n hx hb dX2_least_34 rfl (lv_at hl 3 rfl) ?_
            refine r_ge (tgt := 41) hx hb dX2_least_35 (by decide) (by omega) (by omega) (fun c_35 => ?_) (fun c_35 => ?_)
            · skip
              refine lv_iinc (v := nI (i + 1)) (lv' := [(3, .int (nI (i + 1))), (4, .int (nI (tot (n, ct, fc, ff, ft, bx, ub) k i))), (0, .ref (a 0)), (1, .int (nI k)), (2, .int (nI R))]) hx hb dX2_least_41 hl (k := 4) rfl (nI_1 i) (by decide) rfl (fun ls hl => ?_)
              refine lv_goto (tgt := 4) hx hb dX2_least_44 (by decide) ?_
              exact ih (i + 1) _ H locs ls (by omega) (by omega) (minOr_keep rfl hm c_35) hI (lv_sub hl [2, 3, 4, 0] rfl)
            · skip
              refine lv_iload hx hb dX2_least_38 (lv_at hl 0 rfl) ?_
              refine lv_istore_n (lv' := [(2, .int (nI (tot (n, ct, fc, ff, ft, bx, ub) k i))), (4, .int (nI (tot (n, ct, fc, ff, ft, bx, ub) k i))), (0, .ref (a 0)), (1, .int (nI k)), (3, .int (nI i))]) hx hb dX2_least_40 rfl hl (by decide) rfl (fun ls hl => ?_)
              refine lv_iinc (v := nI (i + 1)) (lv' := [(3, .int (nI (i + 1))), (2, .int (nI (tot (n, ct, fc, ff, ft, bx, ub) k i))), (4, .int (nI (tot (n, ct, fc, ff, ft, bx, ub) k i))), (0, .ref (a 0)), (1, .int (nI k))]) hx hb dX2_least_41 hl (k := 4) rfl (nI_1 i) (by decide) rfl (fun ls hl => ?_)
              refine lv_goto (tgt := 4) hx hb dX2_least_44 (by decide) ?_
              exact ih (i + 1) _ H locs ls (by omega) (by omega) (minOr_take hv (yesNo_ne hal c_17) (fun R2 _ h => by rw [isMin_one h hm]; omega)) hI (lv_sub hl [3, 4, 1, 0] rfl)
  exact L1 (2 ^ n + 1) 0 (-1) H locs ls (by omega) (by omega) (minOr_0 _ _ _) hI0 (lv_sub hl0 [2, 3, 1, 0] rfl)
set_option maxHeartbeats 4000000 in
/-- best -/
theorem mM_best (l : Launch) (D : va_G) (d : ClassId) (a : Nat → Nat) (n ct : Nat) (fc fx ff ft bx ub : Nat → Nat)  (hg : gOK (n, ct, fc, ff, ft, bx, ub)) (hfx : ∀ v, fx v ≤ 2) : qI l yX2_best cX2_best 1 .int ro3 D d (wM d a) (n, (2 ^ n), ct, fc, fx, ff, ft, bx, ub) [.ref (a 0)] (fun r u => u = (n, (2 ^ n), ct, fc, fx, ff, ft, bx, ub) ∧ sBest (n, ct, fc, ff, ft, bx, ub) fx r) := by
  refine qI_of RX2 rfl (by decide) (Nat.le_of_ble_eq_true rfl) (fun _ _ _ => rfl) ?_
  intro p e s m below meth c0 A Q H locs ls hC hA hI hl hE
  have hx := hC.1.1
  have hb := hC.1.2.1
  have hown := hC.1.2.2.2.1
  have hts := hC.1.2.2.2.2
  have hl : lv_has ls 1 [(0, .ref (a 0))] := hl
  refine lv_aload_n hx hb dX2_best_0 rfl (lv_at hl 0 rfl) ?_
  refine lv_iconst (v := nI nNone) hx hb dX2_best_1 (by decide +kernel) ?_
  refine go_i (rest := []) hC hA hI (mM_least l D d a n ct fc fx ff ft bx ub nNone hg hfx (by decide)) (ci := 1) rfl rfl 1 (lw_V q256 q258 qs13 q19 q259) (by decide +kernel) ⟨Nat.le_of_ble_eq_true rfl, Nat.le_of_ble_eq_true rfl⟩ rfl rfl rfl hl.1 rfl (Nat.le_of_ble_eq_true rfl) dX2_best_2 ⟨Nat.zero_le _, Nat.zero_le _⟩ (fun r_2 u_2 H locs hp hI => ?_)
  obtain ⟨rfl, T, rfl, hm⟩ := hp
  have hl_2 := isMin_lt hg hm
  exact hE 5 ls H locs (nI T) (n, (2 ^ n), ct, fc, fx, ff, ft, bx, ub) dX2_best_5 (⟨rfl, T, rfl, hm⟩) hI
set_option maxHeartbeats 4000000 in
/-- common -/
theorem mM_common (l : Launch) (D : va_G) (d : ClassId) (a : Nat → Nat) (n ct : Nat) (fc fx ff ft bx ub : Nat → Nat)  (hg : gOK (n, ct, fc, ff, ft, bx, ub)) (hfx : ∀ v, fx v ≤ 2) : qI l yX2_common cX2_common 4 .int ro3 D d (wM d a) (n, (2 ^ n), ct, fc, fx, ff, ft, bx, ub) [.ref (a 0)] (fun r u => u = (n, (2 ^ n), ct, fc, fx, ff, ft, bx, ub) ∧ ∃ C, r = nI C ∧ isCommon (n, ct, fc, ff, ft, bx, ub) fx C) := by
  refine qI_of RX2 rfl (by decide) (Nat.le_of_ble_eq_true rfl) (fun _ _ _ => rfl) ?_
  intro p e s m below meth c0 A Q H locs ls hC hA hI hl hE
  have hx := hC.1.1
  have hb := hC.1.2.1
  have hown := hC.1.2.2.2.1
  have hts := hC.1.2.2.2.2
  have hl : lv_has ls 4 [(0, .ref (a 0))] := hl
  have hn : n ≤ 10 := hg.2.1
  have hn2 : 2 ≤ n := hg.1
  have hct : ct ≤ 20 := hg.2.2.1
  have hfc : ∀ j, fc j ≤ 60 := hg.2.2.2.1
  have hff : ∀ f, ff f < n := hg.2.2.2.2.1
  have hft : ∀ f, ft f < n := hg.2.2.2.2.2.1
  have hbx : ∀ f, bx f ≤ 30 := hg.2.2.2.2.2.2.1
  have hub : ∀ f, ub f ≤ 30 := hg.2.2.2.2.2.2.2
  have hp2 := pow10 hn
  have hp0 := Nat.two_pow_pos n
  refine lv_aload_n hx hb dX2_common_0 rfl (lv_at hl 0 rfl) ?_
  refine lv_iconst (v := nI nNone) hx hb dX2_common_1 (by decide +kernel) ?_
  refine go_i (rest := []) hC hA hI (mM_least l D d a n ct fc fx ff ft bx ub nNone hg hfx (by decide)) (ci := 1) rfl rfl 1 (lw_V q256 q258 qs13 q19 q259) (by decide +kernel) ⟨Nat.le_of_ble_eq_true rfl, Nat.le_of_ble_eq_true rfl⟩ rfl rfl rfl hl.1 rfl (Nat.le_of_ble_eq_true rfl) dX2_common_2 ⟨Nat.zero_le _, Nat.zero_le _⟩ (fun r_2 u_2 H locs hp hI => ?_)
  obtain ⟨rfl, T, rfl, hm⟩ := hp
  have hl_2 := isMin_lt hg hm
  refine lv_istore_n (lv' := [(1, .int (nI T)), (0, .ref (a 0))]) hx hb dX2_common_5 rfl hl (by decide) rfl (fun ls hl => ?_)
  refine lv_aload_n hx hb dX2_common_6 rfl (lv_at hl 1 rfl) ?_
  refine r_getM (v := .int (nI (2 ^ n))) hC hI 1 (by decide) q181 rfl rfl dX2_common_7 ?_
  refine lv_iconst (v := nI 1) hx hb dX2_common_10 (by decide +kernel) ?_
  refine r_sub hx hb (by omega) dX2_common_11 ?_
  refine lv_istore_n (lv' := [(2, .int (nI ((2 ^ n) - 1))), (1, .int (nI T)), (0, .ref (a 0))]) hx hb dX2_common_12 rfl hl (by decide) rfl (fun ls hl => ?_)
  refine lv_iconst (v := nI 0) hx hb dX2_common_13 (by decide +kernel) ?_
  refine lv_istore_n (lv' := [(3, .int (nI 0)), (2, .int (nI ((2 ^ n) - 1))), (1, .int (nI T)), (0, .ref (a 0))]) hx hb dX2_common_14 rfl hl (by decide) rfl (fun ls hl => ?_)
  have hI0 := hI
  have hl0 := hl
  clear hI hl
  have L1 : ∀ (j : Nat) (i : Nat) (C : Nat) (H : Heap) (locs : List Loc) (ls : Array Slot), (i ≤ 2 ^ n) → (2 ^ n + 1 ≤ i + j) → (cmI (n, ct, fc, ff, ft, bx, ub) fx T C i) → IW D A s.heap (wM d a (n, (2 ^ n), ct, fc, fx, ff, ft, bx, ub)) H locs → lv_has ls 4 [(0, .ref (a 0)), (1, .int (nI T)), (2, .int (nI C)), (3, .int (nI i))] → W p l e ro3 s m ([.ref (a 0)] : List Value).toArray below meth c0 H locs 0 0 Q (F0 m 15 ls []) := by
    intro j
    induction j with
    | zero => intro i C H locs ls hi hj hv hI hl; exact absurd hj (by omega)
    | succ j ih =>
      intro i C H locs ls hi hj hv hI hl
      refine lv_iload_n hx hb dX2_common_15 rfl (lv_at hl 3 rfl) ?_
      refine lv_aload_n hx hb dX2_common_16 rfl (lv_at hl 0 rfl) ?_
      refine r_getM (v := .int (nI (2 ^ n))) hC hI 1 (by decide) q181 rfl rfl dX2_common_17 ?_
      refine r_ge (tgt := 51) hx hb dX2_common_20 (by decide) (by omega) (by omega) (fun c_20 => ?_) (fun c_20 => ?_)
      · skip
        have ei : i = 2 ^ n := by omega
        rw [ei] at hv
        refine lv_iload_n hx hb dX2_common_51 rfl (lv_at hl 2 rfl) ?_
        exact hE 52 ls H locs (nI C) (n, (2 ^ n), ct, fc, fx, ff, ft, bx, ub) dX2_common_52 (⟨rfl, C, rfl, cmI_end hm hv⟩) hI
      · skip
        refine lv_aload_n hx hb dX2_common_23 rfl (lv_at hl 0 rfl) ?_
        refine lv_iload_n hx hb dX2_common_24 rfl (lv_at hl 3 rfl) ?_
        refine go_i (rest := []) hC hA hI (mM_allowed l D d a n ct fc fx ff ft bx ub i hn hfx (by omega)) (ci := 1) rfl rfl 1 (lw_V q260 q262 qs14 q19 q263) (by decide +kernel) ⟨Nat.le_of_ble_eq_true rfl, Nat.le_of_ble_eq_true rfl⟩ rfl rfl rfl hl.1 rfl (Nat.le_of_ble_eq_true rfl) dX2_common_25 ⟨Nat.zero_le _, Nat.zero_le _⟩ (fun r_25 u_25 H locs hp hI => ?_)
        obtain ⟨hal, rfl⟩ := hp
        refine lv_if_eq (tgt := 45) hx hb dX2_common_28 (by decide) (fun c_28 => ?_) (fun c_28 => ?_)
        · skip
          refine lv_iinc (v := nI (i + 1)) (lv' := [(3, .int (nI (i + 1))), (0, .ref (a 0)), (1, .int (nI T)), (2, .int (nI C))]) hx hb dX2_common_45 hl (k := 3) rfl (nI_1 i) (by decide) rfl (fun ls hl => ?_)
          refine lv_goto (tgt := 15) hx hb dX2_common_48 (by decide) ?_
          exact ih (i + 1) _ H locs ls (by omega) (by omega) (cmI_no hv (fun q => yesNo_eq hal c_28 q.1)) hI (lv_sub hl [1, 2, 3, 0] rfl)
        · skip
          refine lv_aload_n hx hb dX2_common_31 rfl (lv_at hl 0 rfl) ?_
          refine lv_iload_n hx hb dX2_common_32 rfl (lv_at hl 3 rfl) ?_
          refine lv_iconst (v := nI nNone) hx hb dX2_common_33 (by decide +kernel) ?_
          refine go_i (rest := []) hC hA hI (mM_total l D d a n ct fc fx ff ft bx ub i nNone hg (by omega) (by decide)) (ci := 1) rfl rfl 2 (lw_V q244 q246 qs11 q19 q247) (by decide +kernel) ⟨Nat.le_of_ble_eq_true rfl, Nat.le_of_ble_eq_true rfl⟩ rfl rfl rfl hl.1 rfl (Nat.le_of_ble_eq_true rfl) dX2_common_34 ⟨Nat.zero_le _, Nat.zero_le _⟩ (fun r_34 u_34 H locs hp hI => ?_)
          obtain ⟨rfl, rfl⟩ := hp
          have ht_34 := tot_le hg nNone i
          refine lv_iload_n hx hb dX2_common_37 rfl (lv_at hl 1 rfl) ?_
          refine r_ne (tgt := 45) hx hb dX2_common_38 (by decide) (by omega) (by omega) (fun c_38 => ?_) (fun c_38 => ?_)
          · skip
            refine lv_iinc (v := nI (i + 1)) (lv' := [(3, .int (nI (i + 1))), (0, .ref (a 0)), (1, .int (nI T)), (2, .int (nI C))]) hx hb dX2_common_45 hl (k := 3) rfl (nI_1 i) (by decide) rfl (fun ls hl => ?_)
            refine lv_goto (tgt := 15) hx hb dX2_common_48 (by decide) ?_
            exact ih (i + 1) _ H locs ls (by omega) (by omega) (cmI_no hv (fun q => c_38 q.2)) hI (lv_sub hl [1, 2, 3, 0] rfl)
          · skip
            refine lv_iload_n hx hb dX2_common_41 rfl (lv_at hl 2 rfl) ?_
            refine lv_iload_n hx hb dX2_common_42 rfl (lv_at hl 3 rfl) ?_
            refine r_and hx hb dX2_common_43 ?_
            refine lv_istore_n (lv' := [(2, .int (nI (C &&& i))), (0, .ref (a 0)), (1, .int (nI T)), (3, .int (nI i))]) hx hb dX2_common_44 rfl hl (by decide) rfl (fun ls hl => ?_)
            refine lv_iinc (v := nI (i + 1)) (lv' := [(3, .int (nI (i + 1))), (2, .int (nI (C &&& i))), (0, .ref (a 0)), (1, .int (nI T))]) hx hb dX2_common_45 hl (k := 3) rfl (nI_1 i) (by decide) rfl (fun ls hl => ?_)
            refine lv_goto (tgt := 15) hx hb dX2_common_48 (by decide) ?_
            exact ih (i + 1) _ H locs ls (by omega) (by omega) (cmI_yes hv (yesNo_ne hal c_28) c_38) hI (lv_sub hl [2, 3, 1, 0] rfl)
  exact L1 (2 ^ n + 1) 0 (2 ^ n - 1) H locs ls (by omega) (by omega) (cmI_0 (n, ct, fc, ff, ft, bx, ub) fx T) hI0 (lv_sub hl0 [3, 2, 1, 0] rfl)
set_option maxHeartbeats 4000000 in
/-- some -/
theorem mM_some (l : Launch) (D : va_G) (d : ClassId) (a : Nat → Nat) (n ct : Nat) (fc fx ff ft bx ub : Nat → Nat)  (hg : gOK (n, ct, fc, ff, ft, bx, ub)) (hfx : ∀ v, fx v ≤ 2) : qI l yX2_some cX2_some 4 .int ro3 D d (wM d a) (n, (2 ^ n), ct, fc, fx, ff, ft, bx, ub) [.ref (a 0)] (fun r u => u = (n, (2 ^ n), ct, fc, fx, ff, ft, bx, ub) ∧ ∃ C, r = nI C ∧ isSome (n, ct, fc, ff, ft, bx, ub) fx C) := by
  refine qI_of RX2 rfl (by decide) (Nat.le_of_ble_eq_true rfl) (fun _ _ _ => rfl) ?_
  intro p e s m below meth c0 A Q H locs ls hC hA hI hl hE
  have hx := hC.1.1
  have hb := hC.1.2.1
  have hown := hC.1.2.2.2.1
  have hts := hC.1.2.2.2.2
  have hl : lv_has ls 4 [(0, .ref (a 0))] := hl
  have hn : n ≤ 10 := hg.2.1
  have hn2 : 2 ≤ n := hg.1
  have hct : ct ≤ 20 := hg.2.2.1
  have hfc : ∀ j, fc j ≤ 60 := hg.2.2.2.1
  have hff : ∀ f, ff f < n := hg.2.2.2.2.1
  have hft : ∀ f, ft f < n := hg.2.2.2.2.2.1
  have hbx : ∀ f, bx f ≤ 30 := hg.2.2.2.2.2.2.1
  have hub : ∀ f, ub f ≤ 30 := hg.2.2.2.2.2.2.2
  have hp2 := pow10 hn
  have hp0 := Nat.two_pow_pos n
  refine lv_aload_n hx hb dX2_some_0 rfl (lv_at hl 0 rfl) ?_
  refine lv_iconst (v := nI nNone) hx hb dX2_some_1 (by decide +kernel) ?_
  refine go_i (rest := []) hC hA hI (mM_least l D d a n ct fc fx ff ft bx ub nNone hg hfx (by decide)) (ci := 1) rfl rfl 1 (lw_V q256 q258 qs13 q19 q259) (by decide +kernel) ⟨Nat.le_of_ble_eq_true rfl, Nat.le_of_ble_eq_true rfl⟩ rfl rfl rfl hl.1 rfl (Nat.le_of_ble_eq_true rfl) dX2_some_2 ⟨Nat.zero_le _, Nat.zero_le _⟩ (fun r_2 u_2 H locs hp hI => ?_)
  obtain ⟨rfl, T, rfl, hm⟩ := hp
  have hl_2 := isMin_lt hg hm
  refine lv_istore_n (lv' := [(1, .int (nI T)), (0, .ref (a 0))]) hx hb dX2_some_5 rfl hl (by decide) rfl (fun ls hl => ?_)
  refine lv_iconst (v := nI 0) hx hb dX2_some_6 (by decide +kernel) ?_
  refine lv_istore_n (lv' := [(2, .int (nI 0)), (1, .int (nI T)), (0, .ref (a 0))]) hx hb dX2_some_7 rfl hl (by decide) rfl (fun ls hl => ?_)
  refine lv_iconst (v := nI 0) hx hb dX2_some_8 (by decide +kernel) ?_
  refine lv_istore_n (lv' := [(3, .int (nI 0)), (2, .int (nI 0)), (1, .int (nI T)), (0, .ref (a 0))]) hx hb dX2_some_9 rfl hl (by decide) rfl (fun ls hl => ?_)
  have hI0 := hI
  have hl0 := hl
  clear hI hl
  have L1 : ∀ (j : Nat) (i : Nat) (C : Nat) (H : Heap) (locs : List Loc) (ls : Array Slot), (i ≤ 2 ^ n) → (2 ^ n + 1 ≤ i + j) → (smI (n, ct, fc, ff, ft, bx, ub) fx T C i) → IW D A s.heap (wM d a (n, (2 ^ n), ct, fc, fx, ff, ft, bx, ub)) H locs → lv_has ls 4 [(0, .ref (a 0)), (1, .int (nI T)), (2, .int (nI C)), (3, .int (nI i))] → W p l e ro3 s m ([.ref (a 0)] : List Value).toArray below meth c0 H locs 0 0 Q (F0 m 10 ls []) := by
    intro j
    induction j with
    | zero => intro i C H locs ls hi hj hv hI hl; exact absurd hj (by omega)
    | succ j ih =>
      intro i C H locs ls hi hj hv hI hl
      refine lv_iload_n hx hb dX2_some_10 rfl (lv_at hl 3 rfl) ?_
      refine lv_aload_n hx hb dX2_some_11 rfl (lv_at hl 0 rfl) ?_
      refine r_getM (v := .int (nI (2 ^ n))) hC hI 1 (by decide) q181 rfl rfl dX2_some_12 ?_
      refine r_ge (tgt := 46) hx hb dX2_some_15 (by decide) (by omega) (by omega) (fun c_15 => ?_) (fun c_15 => ?_)
      · skip
        have ei : i = 2 ^ n := by omega
        rw [ei] at hv
        refine lv_iload_n hx hb dX2_some_46 rfl (lv_at hl 2 rfl) ?_
        exact hE 47 ls H locs (nI C) (n, (2 ^ n), ct, fc, fx, ff, ft, bx, ub) dX2_some_47 (⟨rfl, C, rfl, smI_end hm hv⟩) hI
      · skip
        refine lv_aload_n hx hb dX2_some_18 rfl (lv_at hl 0 rfl) ?_
        refine lv_iload_n hx hb dX2_some_19 rfl (lv_at hl 3 rfl) ?_
        refine go_i (rest := []) hC hA hI (mM_allowed l D d a n ct fc fx ff ft bx ub i hn hfx (by omega)) (ci := 1) rfl rfl 1 (lw_V q260 q262 qs14 q19 q263) (by decide +kernel) ⟨Nat.le_of_ble_eq_true rfl, Nat.le_of_ble_eq_true rfl⟩ rfl rfl rfl hl.1 rfl (Nat.le_of_ble_eq_true rfl) dX2_some_20 ⟨Nat.zero_le _, Nat.zero_le _⟩ (fun r_20 u_20 H locs hp hI => ?_)
        obtain ⟨hal, rfl⟩ := hp
        refine lv_if_eq (tgt := 40) hx hb dX2_some_23 (by decide) (fun c_23 => ?_) (fun c_23 => ?_)
        · skip
          refine lv_iinc (v := nI (i + 1)) (lv' := [(3, .int (nI (i + 1))), (0, .ref (a 0)), (1, .int (nI T)), (2, .int (nI C))]) hx hb dX2_some_40 hl (k := 3) rfl (nI_1 i) (by decide) rfl (fun ls hl => ?_)
          refine lv_goto (tgt := 10) hx hb dX2_some_43 (by decide) ?_
          exact ih (i + 1) _ H locs ls (by omega) (by omega) (smI_no hv (fun q => yesNo_eq hal c_23 q.1)) hI (lv_sub hl [1, 2, 3, 0] rfl)
        · skip
          refine lv_aload_n hx hb dX2_some_26 rfl (lv_at hl 0 rfl) ?_
          refine lv_iload_n hx hb dX2_some_27 rfl (lv_at hl 3 rfl) ?_
          refine lv_iconst (v := nI nNone) hx hb dX2_some_28 (by decide +kernel) ?_
          refine go_i (rest := []) hC hA hI (mM_total l D d a n ct fc fx ff ft bx ub i nNone hg (by omega) (by decide)) (ci := 1) rfl rfl 2 (lw_V q244 q246 qs11 q19 q247) (by decide +kernel) ⟨Nat.le_of_ble_eq_true rfl, Nat.le_of_ble_eq_true rfl⟩ rfl rfl rfl hl.1 rfl (Nat.le_of_ble_eq_true rfl) dX2_some_29 ⟨Nat.zero_le _, Nat.zero_le _⟩ (fun r_29 u_29 H locs hp hI => ?_)
          obtain ⟨rfl, rfl⟩ := hp
          have ht_29 := tot_le hg nNone i
          refine lv_iload_n hx hb dX2_some_32 rfl (lv_at hl 1 rfl) ?_
          refine r_ne (tgt := 40) hx hb dX2_some_33 (by decide) (by omega) (by omega) (fun c_33 => ?_) (fun c_33 => ?_)
          · skip
            refine lv_iinc (v := nI (i + 1)) (lv' := [(3, .int (nI (i + 1))), (0, .ref (a 0)), (1, .int (nI T)), (2, .int (nI C))]) hx hb dX2_some_40 hl (k := 3) rfl (nI_1 i) (by decide) rfl (fun ls hl => ?_)
            refine lv_goto (tgt := 10) hx hb dX2_some_43 (by decide) ?_
            exact ih (i + 1) _ H locs ls (by omega) (by omega) (smI_no hv (fun q => c_33 q.2)) hI (lv_sub hl [1, 2, 3, 0] rfl)
          · skip
            refine lv_iload_n hx hb dX2_some_36 rfl (lv_at hl 2 rfl) ?_
            refine lv_iload_n hx hb dX2_some_37 rfl (lv_at hl 3 rfl) ?_
            refine r_or hx hb dX2_some_38 ?_
            refine lv_istore_n (lv' := [(2, .int (nI (C ||| i))), (0, .ref (a 0)), (1, .int (nI T)), (3, .int (nI i))]) hx hb dX2_some_39 rfl hl (by decide) rfl (fun ls hl => ?_)
            refine lv_iinc (v := nI (i + 1)) (lv' := [(3, .int (nI (i + 1))), (2, .int (nI (C ||| i))), (0, .ref (a 0)), (1, .int (nI T))]) hx hb dX2_some_40 hl (k := 3) rfl (nI_1 i) (by decide) rfl (fun ls hl => ?_)
            refine lv_goto (tgt := 10) hx hb dX2_some_43 (by decide) ?_
            exact ih (i + 1) _ H locs ls (by omega) (by omega) (smI_yes (show i < 2 ^ n by omega) hv (yesNo_ne hal c_23) c_33) hI (lv_sub hl [2, 3, 1, 0] rfl)
  exact L1 (2 ^ n + 1) 0 0 H locs ls (by omega) (by omega) (smI_0 (n, ct, fc, ff, ft, bx, ub) fx T) hI0 (lv_sub hl0 [3, 2, 1, 0] rfl)
end
section
set_option maxRecDepth 100000
/-! UnboxPlannerModel: the questions (printed by gen_m2.py) -/
set_option maxHeartbeats 4000000 in
/-- fewestBoxed -/
theorem mM_fewestBoxed (l : Launch) (D : va_G) (d : ClassId) (a : Nat → Nat) (n ct : Nat) (fc fx ff ft bx ub : Nat → Nat)  (hg : gOK (n, ct, fc, ff, ft, bx, ub)) (hfx : ∀ v, fx v ≤ 2) : qI l yX2_fewestBoxed cX2_fewestBoxed 1 .int ro4 D d (wM d a) (n, (2 ^ n), ct, fc, fx, ff, ft, bx, ub) [.ref (a 0)] (fun r u => u = (n, (2 ^ n), ct, fc, fx, ff, ft, bx, ub) ∧ sCom (n, ct, fc, ff, ft, bx, ub) fx r) := by
  refine qI_of RX2 rfl (by decide) (Nat.le_of_ble_eq_true rfl) (fun _ _ _ => rfl) ?_
  intro p e s m below meth c0 A Q H locs ls hC hA hI hl hE
  have hx := hC.1.1
  have hb := hC.1.2.1
  have hown := hC.1.2.2.2.1
  have hts := hC.1.2.2.2.2
  have hl : lv_has ls 1 [(0, .ref (a 0))] := hl
  have hn : n ≤ 10 := hg.2.1
  have hn2 : 2 ≤ n := hg.1
  have hct : ct ≤ 20 := hg.2.2.1
  have hfc : ∀ j, fc j ≤ 60 := hg.2.2.2.1
  have hff : ∀ f, ff f < n := hg.2.2.2.2.1
  have hft : ∀ f, ft f < n := hg.2.2.2.2.2.1
  have hbx : ∀ f, bx f ≤ 30 := hg.2.2.2.2.2.2.1
  have hub : ∀ f, ub f ≤ 30 := hg.2.2.2.2.2.2.2
  have hp2 := pow10 hn
  have hp0 := Nat.two_pow_pos n
  refine lv_aload_n hx hb dX2_fewestBoxed_0 rfl (lv_at hl 0 rfl) ?_
  refine go_i (rest := []) hC hA hI (mM_common l D d a n ct fc fx ff ft bx ub  hg hfx) (ci := 1) rfl rfl 0 (lw_V q268 q270 qs15 q19 q271) (by decide +kernel) ⟨Nat.le_of_ble_eq_true rfl, Nat.le_of_ble_eq_true rfl⟩ rfl rfl rfl hl.1 rfl (Nat.le_of_ble_eq_true rfl) dX2_fewestBoxed_1 ⟨Nat.zero_le _, Nat.zero_le _⟩ (fun r_1 u_1 H locs hp hI => ?_)
  obtain ⟨rfl, C, rfl, hcom⟩ := hp
  have hltC : C < 2 ^ n := hcom.1
  exact hE 4 ls H locs (nI C) (n, (2 ^ n), ct, fc, fx, ff, ft, bx, ub) dX2_fewestBoxed_4 (⟨rfl, C, rfl, hcom⟩) hI
set_option maxHeartbeats 4000000 in
/-- mostBoxed -/
theorem mM_mostBoxed (l : Launch) (D : va_G) (d : ClassId) (a : Nat → Nat) (n ct : Nat) (fc fx ff ft bx ub : Nat → Nat)  (hg : gOK (n, ct, fc, ff, ft, bx, ub)) (hfx : ∀ v, fx v ≤ 2) : qI l yX2_mostBoxed cX2_mostBoxed 1 .int ro4 D d (wM d a) (n, (2 ^ n), ct, fc, fx, ff, ft, bx, ub) [.ref (a 0)] (fun r u => u = (n, (2 ^ n), ct, fc, fx, ff, ft, bx, ub) ∧ sSom (n, ct, fc, ff, ft, bx, ub) fx r) := by
  refine qI_of RX2 rfl (by decide) (Nat.le_of_ble_eq_true rfl) (fun _ _ _ => rfl) ?_
  intro p e s m below meth c0 A Q H locs ls hC hA hI hl hE
  have hx := hC.1.1
  have hb := hC.1.2.1
  have hown := hC.1.2.2.2.1
  have hts := hC.1.2.2.2.2
  have hl : lv_has ls 1 [(0, .ref (a 0))] := hl
  have hn : n ≤ 10 := hg.2.1
  have hn2 : 2 ≤ n := hg.1
  have hct : ct ≤ 20 := hg.2.2.1
  have hfc : ∀ j, fc j ≤ 60 := hg.2.2.2.1
  have hff : ∀ f, ff f < n := hg.2.2.2.2.1
  have hft : ∀ f, ft f < n := hg.2.2.2.2.2.1
  have hbx : ∀ f, bx f ≤ 30 := hg.2.2.2.2.2.2.1
  have hub : ∀ f, ub f ≤ 30 := hg.2.2.2.2.2.2.2
  have hp2 := pow10 hn
  have hp0 := Nat.two_pow_pos n
  refine lv_aload_n hx hb dX2_mostBoxed_0 rfl (lv_at hl 0 rfl) ?_
  refine go_i (rest := []) hC hA hI (mM_some l D d a n ct fc fx ff ft bx ub  hg hfx) (ci := 1) rfl rfl 0 (lw_V q276 q278 qs16 q19 q279) (by decide +kernel) ⟨Nat.le_of_ble_eq_true rfl, Nat.le_of_ble_eq_true rfl⟩ rfl rfl rfl hl.1 rfl (Nat.le_of_ble_eq_true rfl) dX2_mostBoxed_1 ⟨Nat.zero_le _, Nat.zero_le _⟩ (fun r_1 u_1 H locs hp hI => ?_)
  obtain ⟨rfl, E, rfl, hsom⟩ := hp
  have hltE : E < 2 ^ n := hsom.1
  exact hE 4 ls H locs (nI E) (n, (2 ^ n), ct, fc, fx, ff, ft, bx, ub) dX2_mostBoxed_4 (⟨rfl, E, rfl, hsom⟩) hI
set_option maxHeartbeats 4000000 in
/-- settled -/
theorem mM_settled (l : Launch) (D : va_G) (d : ClassId) (a : Nat → Nat) (n ct : Nat) (fc fx ff ft bx ub : Nat → Nat) (x : Int32) (hg : gOK (n, ct, fc, ff, ft, bx, ub)) (hfx : ∀ v, fx v ≤ 2) : qI l yX2_settled cX2_settled 4 .int ro4 D d (wM d a) (n, (2 ^ n), ct, fc, fx, ff, ft, bx, ub) [.ref (a 0), .int x] (fun r u => u = (n, (2 ^ n), ct, fc, fx, ff, ft, bx, ub) ∧ sSet (n, ct, fc, ff, ft, bx, ub) fx x r) := by
  refine qI_of RX2 rfl (by decide) (Nat.le_of_ble_eq_true rfl) (fun _ _ _ => rfl) ?_
  intro p e s m below meth c0 A Q H locs ls hC hA hI hl hE
  have hx := hC.1.1
  have hb := hC.1.2.1
  have hown := hC.1.2.2.2.1
  have hts := hC.1.2.2.2.2
  have hl : lv_has ls 4 [(0, .ref (a 0)), (1, .int x)] := hl
  have hn : n ≤ 10 := hg.2.1
  have hn2 : 2 ≤ n := hg.1
  have hct : ct ≤ 20 := hg.2.2.1
  have hfc : ∀ j, fc j ≤ 60 := hg.2.2.2.1
  have hff : ∀ f, ff f < n := hg.2.2.2.2.1
  have hft : ∀ f, ft f < n := hg.2.2.2.2.2.1
  have hbx : ∀ f, bx f ≤ 30 := hg.2.2.2.2.2.2.1
  have hub : ∀ f, ub f ≤ 30 := hg.2.2.2.2.2.2.2
  have hp2 := pow10 hn
  have hp0 := Nat.two_pow_pos n
  refine lv_aload_n hx hb dX2_settled_0 rfl (lv_at hl 0 rfl) ?_
  refine lv_iload_n hx hb dX2_settled_1 rfl (lv_at hl 1 rfl) ?_
  refine go_i (rest := []) hC hA hI (mM_bad l D d a n ct fc fx ff ft bx ub x hn) (ci := 1) rfl rfl 1 (lw_V q216 q218 qs9 q19 q219) (by decide +kernel) ⟨Nat.le_of_ble_eq_true rfl, Nat.le_of_ble_eq_true rfl⟩ rfl rfl rfl hl.1 rfl (Nat.le_of_ble_eq_true rfl) dX2_settled_2 ⟨Nat.zero_le _, Nat.zero_le _⟩ (fun r_2 u_2 H locs hp hI => ?_)
  obtain ⟨hy, rfl⟩ := hp
  refine lv_if_eq (tgt := 10) hx hb dX2_settled_5 (by decide) (fun c_5 => ?_) (fun c_5 => ?_)
  · skip
    obtain ⟨v, hv, rfl⟩ := noYes_eq hy c_5
    refine lv_aload_n hx hb dX2_settled_10 rfl (lv_at hl 0 rfl) ?_
    refine go_i (rest := []) hC hA hI (mM_common l D d a n ct fc fx ff ft bx ub  hg hfx) (ci := 1) rfl rfl 0 (lw_V q268 q270 qs15 q19 q271) (by decide +kernel) ⟨Nat.le_of_ble_eq_true rfl, Nat.le_of_ble_eq_true rfl⟩ rfl rfl rfl hl.1 rfl (Nat.le_of_ble_eq_true rfl) dX2_settled_11 ⟨Nat.zero_le _, Nat.zero_le _⟩ (fun r_11 u_11 H locs hp hI => ?_)
    obtain ⟨rfl, C, rfl, hcom⟩ := hp
    have hltC : C < 2 ^ n := hcom.1
    refine lv_istore_n (lv' := [(2, .int (nI C)), (0, .ref (a 0)), (1, .int (nI v))]) hx hb dX2_settled_14 rfl hl (by decide) rfl (fun ls hl => ?_)
    refine lv_aload_n hx hb dX2_settled_15 rfl (lv_at hl 1 rfl) ?_
    refine go_i (rest := []) hC hA hI (mM_some l D d a n ct fc fx ff ft bx ub  hg hfx) (ci := 1) rfl rfl 0 (lw_V q276 q278 qs16 q19 q279) (by decide +kernel) ⟨Nat.le_of_ble_eq_true rfl, Nat.le_of_ble_eq_true rfl⟩ rfl rfl rfl hl.1 rfl (Nat.le_of_ble_eq_true rfl) dX2_settled_16 ⟨Nat.zero_le _, Nat.zero_le _⟩ (fun r_16 u_16 H locs hp hI => ?_)
    obtain ⟨rfl, E, rfl, hsom⟩ := hp
    have hltE : E < 2 ^ n := hsom.1
    refine lv_istore_n (lv' := [(3, .int (nI E)), (2, .int (nI C)), (0, .ref (a 0)), (1, .int (nI v))]) hx hb dX2_settled_19 rfl hl (by decide) rfl (fun ls hl => ?_)
    refine lv_aload_n hx hb dX2_settled_20 rfl (lv_at hl 2 rfl) ?_
    refine lv_iload_n hx hb dX2_settled_21 rfl (lv_at hl 1 rfl) ?_
    refine lv_iload_n hx hb dX2_settled_22 rfl (lv_at hl 3 rfl) ?_
    refine go_i (rest := []) hC hA hI (mM_form l D d a n ct fc fx ff ft bx ub C v (by omega) (by omega)) (ci := 1) rfl rfl 2 (lw_V q248 q250 qs12 q19 q251) (by decide +kernel) ⟨Nat.le_of_ble_eq_true rfl, Nat.le_of_ble_eq_true rfl⟩ rfl rfl rfl hl.1 rfl (Nat.le_of_ble_eq_true rfl) dX2_settled_23 ⟨Nat.zero_le _, Nat.zero_le _⟩ (fun r_23 u_23 H locs hp hI => ?_)
    obtain ⟨rfl, rfl⟩ := hp
    have hb3 := bq_lt C v
    have hb4 := bq_lt E v
    refine lv_iconst (v := nI 1) hx hb dX2_settled_26 (by decide +kernel) ?_
    refine r_ne (tgt := 32) hx hb dX2_settled_27 (by decide) (by omega) (by omega) (fun c_27 => ?_) (fun c_27 => ?_)
    · skip
      have hnc : ¬ comV (n, ct, fc, ff, ft, bx, ub) fx v := fun q => c_27 ((hcom.2 v hv).mpr q)
      refine lv_aload_n hx hb dX2_settled_32 rfl (lv_at hl 2 rfl) ?_
      refine lv_iload_n hx hb dX2_settled_33 rfl (lv_at hl 0 rfl) ?_
      refine lv_iload_n hx hb dX2_settled_34 rfl (lv_at hl 3 rfl) ?_
      refine go_i (rest := []) hC hA hI (mM_form l D d a n ct fc fx ff ft bx ub E v (by omega) (by omega)) (ci := 1) rfl rfl 2 (lw_V q248 q250 qs12 q19 q251) (by decide +kernel) ⟨Nat.le_of_ble_eq_true rfl, Nat.le_of_ble_eq_true rfl⟩ rfl rfl rfl hl.1 rfl (Nat.le_of_ble_eq_true rfl) dX2_settled_35 ⟨Nat.zero_le _, Nat.zero_le _⟩ (fun r_35 u_35 H locs hp hI => ?_)
      obtain ⟨rfl, rfl⟩ := hp
      refine r_if_ne (tgt := 45) hx hb dX2_settled_38 (by decide) (by omega) (fun c_38 => ?_) (fun c_38 => ?_)
      · skip
        refine lv_iconst (v := nI 2) hx hb dX2_settled_45 (by decide +kernel) ?_
        exact hE 46 ls H locs (nI 2) (n, (2 ^ n), ct, fc, fx, ff, ft, bx, ub) dX2_settled_46 (⟨rfl, Or.inr ⟨v, hv, rfl, Or.inr (Or.inl ⟨hnc, (hsom.2 v hv).mp (by omega), rfl⟩)⟩⟩) hI
      · skip
        refine lv_iconst (v := nI 0) hx hb dX2_settled_41 (by decide +kernel) ?_
        refine lv_goto (tgt := 46) hx hb dX2_settled_42 (by decide) ?_
        exact hE 46 ls H locs (nI 0) (n, (2 ^ n), ct, fc, fx, ff, ft, bx, ub) dX2_settled_46 (⟨rfl, Or.inr ⟨v, hv, rfl, Or.inr (Or.inr ⟨hnc, fun q => by have := (hsom.2 v hv).mpr q; omega, rfl⟩)⟩⟩) hI
    · skip
      refine lv_iconst (v := nI 1) hx hb dX2_settled_30 (by decide +kernel) ?_
      exact hE 31 ls H locs (nI 1) (n, (2 ^ n), ct, fc, fx, ff, ft, bx, ub) dX2_settled_31 (⟨rfl, Or.inr ⟨v, hv, rfl, Or.inl ⟨(hcom.2 v hv).mp c_27, rfl⟩⟩⟩) hI
  · skip
    refine lv_iconst (v := (-1)) hx hb dX2_settled_8 (by decide +kernel) ?_
    exact hE 9 ls H locs ((-1)) (n, (2 ^ n), ct, fc, fx, ff, ft, bx, ub) dX2_settled_9 (⟨rfl, Or.inl ⟨noYes_ne hy c_5, rfl⟩⟩) hI
set_option maxHeartbeats 4000000 in
/-- bestWith -/
theorem mM_bestWith (l : Launch) (D : va_G) (d : ClassId) (a : Nat → Nat) (n ct : Nat) (fc fx ff ft bx ub : Nat → Nat) (x y : Int32) (hg : gOK (n, ct, fc, ff, ft, bx, ub)) (hfx : ∀ v, fx v ≤ 2) : qI l yX2_bestWith cX2_bestWith 6 .int ro2 D d (wM d a) (n, (2 ^ n), ct, fc, fx, ff, ft, bx, ub) [.ref (a 0), .int x, .int y] (fun r u => u = (n, (2 ^ n), ct, fc, fx, ff, ft, bx, ub) ∧ sWith (n, ct, fc, ff, ft, bx, ub) fx x y r) := by
  refine qI_of RX2 rfl (by decide) (Nat.le_of_ble_eq_true rfl) (fun _ _ _ => rfl) ?_
  intro p e s m below meth c0 A Q H locs ls hC hA hI hl hE
  have hx := hC.1.1
  have hb := hC.1.2.1
  have hown := hC.1.2.2.2.1
  have hts := hC.1.2.2.2.2
  have hl : lv_has ls 6 [(0, .ref (a 0)), (1, .int x), (2, .int y)] := hl
  have hn : n ≤ 10 := hg.2.1
  have hn2 : 2 ≤ n := hg.1
  have hct : ct ≤ 20 := hg.2.2.1
  have hfc : ∀ j, fc j ≤ 60 := hg.2.2.2.1
  have hff : ∀ f, ff f < n := hg.2.2.2.2.1
  have hft : ∀ f, ft f < n := hg.2.2.2.2.2.1
  have hbx : ∀ f, bx f ≤ 30 := hg.2.2.2.2.2.2.1
  have hub : ∀ f, ub f ≤ 30 := hg.2.2.2.2.2.2.2
  have hp2 := pow10 hn
  have hp0 := Nat.two_pow_pos n
  refine lv_aload_n hx hb dX2_bestWith_0 rfl (lv_at hl 0 rfl) ?_
  refine lv_iload_n hx hb dX2_bestWith_1 rfl (lv_at hl 1 rfl) ?_
  refine go_i (rest := []) hC hA hI (mM_bad l D d a n ct fc fx ff ft bx ub x hn) (ci := 1) rfl rfl 1 (lw_V q216 q218 qs9 q19 q219) (by decide +kernel) ⟨Nat.le_of_ble_eq_true rfl, Nat.le_of_ble_eq_true rfl⟩ rfl rfl rfl hl.1 rfl (Nat.le_of_ble_eq_true rfl) dX2_bestWith_2 ⟨Nat.zero_le _, Nat.zero_le _⟩ (fun r_2 u_2 H locs hp hI => ?_)
  obtain ⟨hy, rfl⟩ := hp
  refine lv_if_eq (tgt := 10) hx hb dX2_bestWith_5 (by decide) (fun c_5 => ?_) (fun c_5 => ?_)
  · skip
    obtain ⟨v, hv2, rfl⟩ := noYes_eq hy c_5
    refine lv_iload_n hx hb dX2_bestWith_10 rfl (lv_at hl 2 rfl) ?_
    refine lv_if_eq (tgt := 22) hx hb dX2_bestWith_11 (by decide) (fun c_11 => ?_) (fun c_11 => ?_)
    · skip
      obtain ⟨f, hf, rfl⟩ : inR y 2 := inR_2 (Or.inl c_11)
      refine lv_bipush (v := (-3)) hx hb dX2_bestWith_22 (by decide +kernel) ?_
      refine lv_istore_n (lv' := [(3, .int (-3)), (0, .ref (a 0)), (1, .int (nI v)), (2, .int (nI f))]) hx hb dX2_bestWith_24 rfl hl (by decide) rfl (fun ls hl => ?_)
      refine lv_iconst (v := nI 0) hx hb dX2_bestWith_25 (by decide +kernel) ?_
      refine lv_istore (lv' := [(4, .int (nI 0)), (3, .int (-3)), (0, .ref (a 0)), (1, .int (nI v)), (2, .int (nI f))]) hx hb dX2_bestWith_26 hl (by decide) rfl (fun ls hl => ?_)
      have hI0 := hI
      have hl0 := hl
      clear hI hl
      have L1 : ∀ (j : Nat) (i : Nat) (lst : Int32) (H : Heap) (locs : List Loc) (ls : Array Slot), (i ≤ 2 ^ n) → (2 ^ n + 1 ≤ i + j) → (minOr i (fun P => okP (n, ct, fc, ff, ft, bx, ub) fx P ∧ bq P v = f) (tot (n, ct, fc, ff, ft, bx, ub) nNone) (-3) lst) → IW D A s.heap (wM d a (n, (2 ^ n), ct, fc, fx, ff, ft, bx, ub)) H locs → lv_has ls 6 [(0, .ref (a 0)), (1, .int (nI v)), (2, .int (nI f)), (3, .int lst), (4, .int (nI i))] → W p l e ro2 s m ([.ref (a 0), .int (nI v), .int (nI f)] : List Value).toArray below meth c0 H locs 0 0 Q (F0 m 28 ls []) := by
        intro j
        induction j with
        | zero => intro i lst H locs ls hi hj hv hI hl; exact absurd hj (by omega)
        | succ j ih =>
          intro i lst H locs ls hi hj hv hI hl
          refine lv_iload hx hb dX2_bestWith_28 (lv_at hl 4 rfl) ?_
          refine lv_aload_n hx hb dX2_bestWith_30 rfl (lv_at hl 0 rfl) ?_
          refine r_getM (v := .int (nI (2 ^ n))) hC hI 1 (by decide) q181 rfl rfl dX2_bestWith_31 ?_
          refine r_ge (tgt := 85) hx hb dX2_bestWith_34 (by decide) (by omega) (by omega) (fun c_34 => ?_) (fun c_34 => ?_)
          · skip
            have ei : i = 2 ^ n := by omega
            rw [ei] at hv
            refine lv_iload_n hx hb dX2_bestWith_85 rfl (lv_at hl 3 rfl) ?_
            exact hE 86 ls H locs (lst) (n, (2 ^ n), ct, fc, fx, ff, ft, bx, ub) dX2_bestWith_86 (⟨rfl, Or.inr (Or.inr ⟨v, f, hv2, hf, rfl, rfl, hv⟩)⟩) hI
          · skip
            refine lv_aload_n hx hb dX2_bestWith_37 rfl (lv_at hl 0 rfl) ?_
            refine lv_iload hx hb dX2_bestWith_38 (lv_at hl 4 rfl) ?_
            refine go_i (rest := []) hC hA hI (mM_allowed l D d a n ct fc fx ff ft bx ub i hn hfx (by omega)) (ci := 1) rfl rfl 1 (lw_V q260 q262 qs14 q19 q263) (by decide +kernel) ⟨Nat.le_of_ble_eq_true rfl, Nat.le_of_ble_eq_true rfl⟩ rfl rfl rfl hl.1 rfl (Nat.le_of_ble_eq_true rfl) dX2_bestWith_40 ⟨Nat.zero_le _, Nat.zero_le _⟩ (fun r_40 u_40 H locs hp hI => ?_)
            obtain ⟨hal, rfl⟩ := hp
            refine lv_if_eq (tgt := 79) hx hb dX2_bestWith_43 (by decide) (fun c_43 => ?_) (fun c_43 => ?_)
            · skip
              refine lv_iinc (v := nI (i + 1)) (lv' := [(4, .int (nI (i + 1))), (0, .ref (a 0)), (1, .int (nI v)), (2, .int (nI f)), (3, .int lst)]) hx hb dX2_bestWith_79 hl (k := 4) rfl (nI_1 i) (by decide) rfl (fun ls hl => ?_)
              refine lv_goto (tgt := 28) hx hb dX2_bestWith_82 (by decide) ?_
              exact ih (i + 1) _ H locs ls (by omega) (by omega) (minOr_no hv (fun q => yesNo_eq hal c_43 q.1)) hI (lv_sub hl [1, 2, 3, 4, 0] rfl)
            · skip
              have hb5 := bq_lt i v
              refine lv_aload_n hx hb dX2_bestWith_46 rfl (lv_at hl 0 rfl) ?_
              refine lv_iload hx hb dX2_bestWith_47 (lv_at hl 4 rfl) ?_
              refine lv_iload_n hx hb dX2_bestWith_49 rfl (lv_at hl 1 rfl) ?_
              refine go_i (rest := []) hC hA hI (mM_form l D d a n ct fc fx ff ft bx ub i v (by omega) (by omega)) (ci := 1) rfl rfl 2 (lw_V q248 q250 qs12 q19 q251) (by decide +kernel) ⟨Nat.le_of_ble_eq_true rfl, Nat.le_of_ble_eq_true rfl⟩ rfl rfl rfl hl.1 rfl (Nat.le_of_ble_eq_true rfl) dX2_bestWith_50 ⟨Nat.zero_le _, Nat.zero_le _⟩ (fun r_50 u_50 H locs hp hI => ?_)
              obtain ⟨rfl, rfl⟩ := hp
              refine lv_iload_n hx hb dX2_bestWith_53 rfl (lv_at hl 2 rfl) ?_
              refine r_ne (tgt := 79) hx hb dX2_bestWith_54 (by decide) (by omega) (by omega) (fun c_54 => ?_) (fun c_54 => ?_)
              · skip
                refine lv_iinc (v := nI (i + 1)) (lv' := [(4, .int (nI (i + 1))), (0, .ref (a 0)), (1, .int (nI v)), (2, .int (nI f)), (3, .int lst)]) hx hb dX2_bestWith_79 hl (k := 4) rfl (nI_1 i) (by decide) rfl (fun ls hl => ?_)
                refine lv_goto (tgt := 28) hx hb dX2_bestWith_82 (by decide) ?_
                exact ih (i + 1) _ H locs ls (by omega) (by omega) (minOr_no hv (fun q => c_54 q.2)) hI (lv_sub hl [1, 2, 3, 4, 0] rfl)
              · skip
                refine lv_aload_n hx hb dX2_bestWith_57 rfl (lv_at hl 0 rfl) ?_
                refine lv_iload hx hb dX2_bestWith_58 (lv_at hl 4 rfl) ?_
                refine lv_iconst (v := nI nNone) hx hb dX2_bestWith_60 (by decide +kernel) ?_
                refine go_i (rest := []) hC hA hI (mM_total l D d a n ct fc fx ff ft bx ub i nNone hg (by omega) (by decide)) (ci := 1) rfl rfl 2 (lw_V q244 q246 qs11 q19 q247) (by decide +kernel) ⟨Nat.le_of_ble_eq_true rfl, Nat.le_of_ble_eq_true rfl⟩ rfl rfl rfl hl.1 rfl (Nat.le_of_ble_eq_true rfl) dX2_bestWith_61 ⟨Nat.zero_le _, Nat.zero_le _⟩ (fun r_61 u_61 H locs hp hI => ?_)
                obtain ⟨rfl, rfl⟩ := hp
                have ht_61 := tot_le hg nNone i
                refine lv_istore (lv' := [(5, .int (nI (tot (n, ct, fc, ff, ft, bx, ub) nNone i))), (0, .ref (a 0)), (1, .int (nI v)), (2, .int (nI f)), (3, .int lst), (4, .int (nI i))]) hx hb dX2_bestWith_64 hl (by decide) rfl (fun ls hl => ?_)
                refine lv_iload_n hx hb dX2_bestWith_66 rfl (lv_at hl 4 rfl) ?_
                refine lv_if_lt (tgt := 76) hx hb dX2_bestWith_67 (by decide) (fun c_67 => ?_) (fun c_67 => ?_)
                · skip
                  refine lv_iload hx hb dX2_bestWith_76 (lv_at hl 0 rfl) ?_
                  refine lv_istore_n (lv' := [(3, .int (nI (tot (n, ct, fc, ff, ft, bx, ub) nNone i))), (5, .int (nI (tot (n, ct, fc, ff, ft, bx, ub) nNone i))), (0, .ref (a 0)), (1, .int (nI v)), (2, .int (nI f)), (4, .int (nI i))]) hx hb dX2_bestWith_78 rfl hl (by decide) rfl (fun ls hl => ?_)
                  refine lv_iinc (v := nI (i + 1)) (lv' := [(4, .int (nI (i + 1))), (3, .int (nI (tot (n, ct, fc, ff, ft, bx, ub) nNone i))), (5, .int (nI (tot (n, ct, fc, ff, ft, bx, ub) nNone i))), (0, .ref (a 0)), (1, .int (nI v)), (2, .int (nI f))]) hx hb dX2_bestWith_79 hl (k := 5) rfl (nI_1 i) (by decide) rfl (fun ls hl => ?_)
                  refine lv_goto (tgt := 28) hx hb dX2_bestWith_82 (by decide) ?_
                  exact ih (i + 1) _ H locs ls (by omega) (by omega) (minOr_take hv ⟨yesNo_ne hal c_43, c_54⟩ (fun R e h => (minOr_neg hg c_67 e h).elim)) hI (lv_sub hl [3, 4, 5, 1, 0] rfl)
                · skip
                  obtain ⟨R, rfl, hm⟩ := minOr_nn hg (by decide) hv c_67
                  have hR := isMin_lt hg hm
                  refine lv_iload hx hb dX2_bestWith_70 (lv_at hl 0 rfl) ?_
                  refine lv_iload_n hx hb dX2_bestWith_72 rfl (lv_at hl 4 rfl) ?_
                  refine r_ge (tgt := 79) hx hb dX2_bestWith_73 (by decide) (by omega) (by omega) (fun c_73 => ?_) (fun c_73 => ?_)
                  · skip
                    refine lv_iinc (v := nI (i + 1)) (lv' := [(4, .int (nI (i + 1))), (5, .int (nI (tot (n, ct, fc, ff, ft, bx, ub) nNone i))), (0, .ref (a 0)), (1, .int (nI v)), (2, .int (nI f)), (3, .int (nI R))]) hx hb dX2_bestWith_79 hl (k := 5) rfl (nI_1 i) (by decide) rfl (fun ls hl => ?_)
                    refine lv_goto (tgt := 28) hx hb dX2_bestWith_82 (by decide) ?_
                    exact ih (i + 1) _ H locs ls (by omega) (by omega) (minOr_keep rfl hm c_73) hI (lv_sub hl [2, 3, 4, 5, 0] rfl)
                  · skip
                    refine lv_iload hx hb dX2_bestWith_76 (lv_at hl 0 rfl) ?_
                    refine lv_istore_n (lv' := [(3, .int (nI (tot (n, ct, fc, ff, ft, bx, ub) nNone i))), (5, .int (nI (tot (n, ct, fc, ff, ft, bx, ub) nNone i))), (0, .ref (a 0)), (1, .int (nI v)), (2, .int (nI f)), (4, .int (nI i))]) hx hb dX2_bestWith_78 rfl hl (by decide) rfl (fun ls hl => ?_)
                    refine lv_iinc (v := nI (i + 1)) (lv' := [(4, .int (nI (i + 1))), (3, .int (nI (tot (n, ct, fc, ff, ft, bx, ub) nNone i))), (5, .int (nI (tot (n, ct, fc, ff, ft, bx, ub) nNone i))), (0, .ref (a 0)), (1, .int (nI v)), (2, .int (nI f))]) hx hb dX2_bestWith_79 hl (k := 5) rfl (nI_1 i) (by decide) rfl (fun ls hl => ?_)
                    refine lv_goto (tgt := 28) hx hb dX2_bestWith_82 (by decide) ?_
                    exact ih (i + 1) _ H locs ls (by omega) (by omega) (minOr_take hv ⟨yesNo_ne hal c_43, c_54⟩ (fun R2 _ h => by rw [isMin_one h hm]; omega)) hI (lv_sub hl [3, 4, 5, 1, 0] rfl)
      exact L1 (2 ^ n + 1) 0 (-3) H locs ls (by omega) (by omega) (minOr_0 _ _ _) hI0 (lv_sub hl0 [2, 3, 4, 1, 0] rfl)
    · skip
      refine lv_iload_n hx hb dX2_bestWith_14 rfl (lv_at hl 2 rfl) ?_
      refine lv_iconst (v := nI 1) hx hb dX2_bestWith_15 (by decide +kernel) ?_
      refine lv_icmp_eq (tgt := 22) hx hb dX2_bestWith_16 (by decide) (fun c_16 => ?_) (fun c_16 => ?_)
      · skip
        obtain ⟨f, hf, rfl⟩ : inR y 2 := inR_2 (Or.inr c_16)
        refine lv_bipush (v := (-3)) hx hb dX2_bestWith_22 (by decide +kernel) ?_
        refine lv_istore_n (lv' := [(3, .int (-3)), (0, .ref (a 0)), (1, .int (nI v)), (2, .int (nI f))]) hx hb dX2_bestWith_24 rfl hl (by decide) rfl (fun ls hl => ?_)
        refine lv_iconst (v := nI 0) hx hb dX2_bestWith_25 (by decide +kernel) ?_
        refine lv_istore (lv' := [(4, .int (nI 0)), (3, .int (-3)), (0, .ref (a 0)), (1, .int (nI v)), (2, .int (nI f))]) hx hb dX2_bestWith_26 hl (by decide) rfl (fun ls hl => ?_)
        have hI0 := hI
        have hl0 := hl
        clear hI hl
        have L1 : ∀ (j : Nat) (i : Nat) (lst : Int32) (H : Heap) (locs : List Loc) (ls : Array Slot), (i ≤ 2 ^ n) → (2 ^ n + 1 ≤ i + j) → (minOr i (fun P => okP (n, ct, fc, ff, ft, bx, ub) fx P ∧ bq P v = f) (tot (n, ct, fc, ff, ft, bx, ub) nNone) (-3) lst) → IW D A s.heap (wM d a (n, (2 ^ n), ct, fc, fx, ff, ft, bx, ub)) H locs → lv_has ls 6 [(0, .ref (a 0)), (1, .int (nI v)), (2, .int (nI f)), (3, .int lst), (4, .int (nI i))] → W p l e ro2 s m ([.ref (a 0), .int (nI v), .int (nI f)] : List Value).toArray below meth c0 H locs 0 0 Q (F0 m 28 ls []) := by
          intro j
          induction j with
          | zero => intro i lst H locs ls hi hj hv hI hl; exact absurd hj (by omega)
          | succ j ih =>
            intro i lst H locs ls hi hj hv hI hl
            refine lv_iload hx hb dX2_bestWith_28 (lv_at hl 4 rfl) ?_
            refine lv_aload_n hx hb dX2_bestWith_30 rfl (lv_at hl 0 rfl) ?_
            refine r_getM (v := .int (nI (2 ^ n))) hC hI 1 (by decide) q181 rfl rfl dX2_bestWith_31 ?_
            refine r_ge (tgt := 85) hx hb dX2_bestWith_34 (by decide) (by omega) (by omega) (fun c_34 => ?_) (fun c_34 => ?_)
            · skip
              have ei : i = 2 ^ n := by omega
              rw [ei] at hv
              refine lv_iload_n hx hb dX2_bestWith_85 rfl (lv_at hl 3 rfl) ?_
              exact hE 86 ls H locs (lst) (n, (2 ^ n), ct, fc, fx, ff, ft, bx, ub) dX2_bestWith_86 (⟨rfl, Or.inr (Or.inr ⟨v, f, hv2, hf, rfl, rfl, hv⟩)⟩) hI
            · skip
              refine lv_aload_n hx hb dX2_bestWith_37 rfl (lv_at hl 0 rfl) ?_
              refine lv_iload hx hb dX2_bestWith_38 (lv_at hl 4 rfl) ?_
              refine go_i (rest := []) hC hA hI (mM_allowed l D d a n ct fc fx ff ft bx ub i hn hfx (by omega)) (ci := 1) rfl rfl 1 (lw_V q260 q262 qs14 q19 q263) (by decide +kernel) ⟨Nat.le_of_ble_eq_true rfl, Nat.le_of_ble_eq_true rfl⟩ rfl rfl rfl hl.1 rfl (Nat.le_of_ble_eq_true rfl) dX2_bestWith_40 ⟨Nat.zero_le _, Nat.zero_le _⟩ (fun r_40 u_40 H locs hp hI => ?_)
              obtain ⟨hal, rfl⟩ := hp
              refine lv_if_eq (tgt := 79) hx hb dX2_bestWith_43 (by decide) (fun c_43 => ?_) (fun c_43 => ?_)
              · skip
                refine lv_iinc (v := nI (i + 1)) (lv' := [(4, .int (nI (i + 1))), (0, .ref (a 0)), (1, .int (nI v)), (2, .int (nI f)), (3, .int lst)]) hx hb dX2_bestWith_79 hl (k := 4) rfl (nI_1 i) (by decide) rfl (fun ls hl => ?_)
                refine lv_goto (tgt := 28) hx hb dX2_bestWith_82 (by decide) ?_
                exact ih (i + 1) _ H locs ls (by omega) (by omega) (minOr_no hv (fun q => yesNo_eq hal c_43 q.1)) hI (lv_sub hl [1, 2, 3, 4, 0] rfl)
              · skip
                have hb5 := bq_lt i v
                refine lv_aload_n hx hb dX2_bestWith_46 rfl (lv_at hl 0 rfl) ?_
                refine lv_iload hx hb dX2_bestWith_47 (lv_at hl 4 rfl) ?_
                refine lv_iload_n hx hb dX2_bestWith_49 rfl (lv_at hl 1 rfl) ?_
                refine go_i (rest := []) hC hA hI (mM_form l D d a n ct fc fx ff ft bx ub i v (by omega) (by omega)) (ci := 1) rfl rfl 2 (lw_V q248 q250 qs12 q19 q251) (by decide +kernel) ⟨Nat.le_of_ble_eq_true rfl, Nat.le_of_ble_eq_true rfl⟩ rfl rfl rfl hl.1 rfl (Nat.le_of_ble_eq_true rfl) dX2_bestWith_50 ⟨Nat.zero_le _, Nat.zero_le _⟩ (fun r_50 u_50 H locs hp hI => ?_)
                obtain ⟨rfl, rfl⟩ := hp
                refine lv_iload_n hx hb dX2_bestWith_53 rfl (lv_at hl 2 rfl) ?_
                refine r_ne (tgt := 79) hx hb dX2_bestWith_54 (by decide) (by omega) (by omega) (fun c_54 => ?_) (fun c_54 => ?_)
                · skip
                  refine lv_iinc (v := nI (i + 1)) (lv' := [(4, .int (nI (i + 1))), (0, .ref (a 0)), (1, .int (nI v)), (2, .int (nI f)), (3, .int lst)]) hx hb dX2_bestWith_79 hl (k := 4) rfl (nI_1 i) (by decide) rfl (fun ls hl => ?_)
                  refine lv_goto (tgt := 28) hx hb dX2_bestWith_82 (by decide) ?_
                  exact ih (i + 1) _ H locs ls (by omega) (by omega) (minOr_no hv (fun q => c_54 q.2)) hI (lv_sub hl [1, 2, 3, 4, 0] rfl)
                · skip
                  refine lv_aload_n hx hb dX2_bestWith_57 rfl (lv_at hl 0 rfl) ?_
                  refine lv_iload hx hb dX2_bestWith_58 (lv_at hl 4 rfl) ?_
                  refine lv_iconst (v := nI nNone) hx hb dX2_bestWith_60 (by decide +kernel) ?_
                  refine go_i (rest := []) hC hA hI (mM_total l D d a n ct fc fx ff ft bx ub i nNone hg (by omega) (by decide)) (ci := 1) rfl rfl 2 (lw_V q244 q246 qs11 q19 q247) (by decide +kernel) ⟨Nat.le_of_ble_eq_true rfl, Nat.le_of_ble_eq_true rfl⟩ rfl rfl rfl hl.1 rfl (Nat.le_of_ble_eq_true rfl) dX2_bestWith_61 ⟨Nat.zero_le _, Nat.zero_le _⟩ (fun r_61 u_61 H locs hp hI => ?_)
                  obtain ⟨rfl, rfl⟩ := hp
                  have ht_61 := tot_le hg nNone i
                  refine lv_istore (lv' := [(5, .int (nI (tot (n, ct, fc, ff, ft, bx, ub) nNone i))), (0, .ref (a 0)), (1, .int (nI v)), (2, .int (nI f)), (3, .int lst), (4, .int (nI i))]) hx hb dX2_bestWith_64 hl (by decide) rfl (fun ls hl => ?_)
                  refine lv_iload_n hx hb dX2_bestWith_66 rfl (lv_at hl 4 rfl) ?_
                  refine lv_if_lt (tgt := 76) hx hb dX2_bestWith_67 (by decide) (fun c_67 => ?_) (fun c_67 => ?_)
                  · skip
                    refine lv_iload hx hb dX2_bestWith_76 (lv_at hl 0 rfl) ?_
                    refine lv_istore_n (lv' := [(3, .int (nI (tot (n, ct, fc, ff, ft, bx, ub) nNone i))), (5, .int (nI (tot (n, ct, fc, ff, ft, bx, ub) nNone i))), (0, .ref (a 0)), (1, .int (nI v)), (2, .int (nI f)), (4, .int (nI i))]) hx hb dX2_bestWith_78 rfl hl (by decide) rfl (fun ls hl => ?_)
                    refine lv_iinc (v := nI (i + 1)) (lv' := [(4, .int (nI (i + 1))), (3, .int (nI (tot (n, ct, fc, ff, ft, bx, ub) nNone i))), (5, .int (nI (tot (n, ct, fc, ff, ft, bx, ub) nNone i))), (0, .ref (a 0)), (1, .int (nI v)), (2, .int (nI f))]) hx hb dX2_bestWith_79 hl (k := 5) rfl (nI_1 i) (by decide) rfl (fun ls hl => ?_)
                    refine lv_goto (tgt := 28) hx hb dX2_bestWith_82 (by decide) ?_
                    exact ih (i + 1) _ H locs ls (by omega) (by omega) (minOr_take hv ⟨yesNo_ne hal c_43, c_54⟩ (fun R e h => (minOr_neg hg c_67 e h).elim)) hI (lv_sub hl [3, 4, 5, 1, 0] rfl)
                  · skip
                    obtain ⟨R, rfl, hm⟩ := minOr_nn hg (by decide) hv c_67
                    have hR := isMin_lt hg hm
                    refine lv_iload hx hb dX2_bestWith_70 (lv_at hl 0 rfl) ?_
                    refine lv_iload_n hx hb dX2_bestWith_72 rfl (lv_at hl 4 rfl) ?_
                    refine r_ge (tgt := 79) hx hb dX2_bestWith_73 (by decide) (by omega) (by omega) (fun c_73 => ?_) (fun c_73 => ?_)
                    · skip
                      refine lv_iinc (v := nI (i + 1)) (lv' := [(4, .int (nI (i + 1))), (5, .int (nI (tot (n, ct, fc, ff, ft, bx, ub) nNone i))), (0, .ref (a 0)), (1, .int (nI v)), (2, .int (nI f)), (3, .int (nI R))]) hx hb dX2_bestWith_79 hl (k := 5) rfl (nI_1 i) (by decide) rfl (fun ls hl => ?_)
                      refine lv_goto (tgt := 28) hx hb dX2_bestWith_82 (by decide) ?_
                      exact ih (i + 1) _ H locs ls (by omega) (by omega) (minOr_keep rfl hm c_73) hI (lv_sub hl [2, 3, 4, 5, 0] rfl)
                    · skip
                      refine lv_iload hx hb dX2_bestWith_76 (lv_at hl 0 rfl) ?_
                      refine lv_istore_n (lv' := [(3, .int (nI (tot (n, ct, fc, ff, ft, bx, ub) nNone i))), (5, .int (nI (tot (n, ct, fc, ff, ft, bx, ub) nNone i))), (0, .ref (a 0)), (1, .int (nI v)), (2, .int (nI f)), (4, .int (nI i))]) hx hb dX2_bestWith_78 rfl hl (by decide) rfl (fun ls hl => ?_)
                      refine lv_iinc (v := nI (i + 1)) (lv' := [(4, .int (nI (i + 1))), (3, .int (nI (tot (n, ct, fc, ff, ft, bx, ub) nNone i))), (5, .int (nI (tot (n, ct, fc, ff, ft, bx, ub) nNone i))), (0, .ref (a 0)), (1, .int (nI v)), (2, .int (nI f))]) hx hb dX2_bestWith_79 hl (k := 5) rfl (nI_1 i) (by decide) rfl (fun ls hl => ?_)
                      refine lv_goto (tgt := 28) hx hb dX2_bestWith_82 (by decide) ?_
                      exact ih (i + 1) _ H locs ls (by omega) (by omega) (minOr_take hv ⟨yesNo_ne hal c_43, c_54⟩ (fun R2 _ h => by rw [isMin_one h hm]; omega)) hI (lv_sub hl [3, 4, 5, 1, 0] rfl)
        exact L1 (2 ^ n + 1) 0 (-3) H locs ls (by omega) (by omega) (minOr_0 _ _ _) hI0 (lv_sub hl0 [2, 3, 4, 1, 0] rfl)
      · skip
        refine lv_bipush (v := (-2)) hx hb dX2_bestWith_19 (by decide +kernel) ?_
        exact hE 21 ls H locs ((-2)) (n, (2 ^ n), ct, fc, fx, ff, ft, bx, ub) dX2_bestWith_21 (⟨rfl, Or.inr (Or.inl ⟨inR_nI hv2, inR_n2 c_11 c_16, rfl⟩)⟩) hI
  · skip
    refine lv_iconst (v := (-1)) hx hb dX2_bestWith_8 (by decide +kernel) ?_
    exact hE 9 ls H locs ((-1)) (n, (2 ^ n), ct, fc, fx, ff, ft, bx, ub) dX2_bestWith_9 (⟨rfl, Or.inl ⟨noYes_ne hy c_5, rfl⟩⟩) hI
set_option maxHeartbeats 4000000 in
/-- bestTied -/
theorem mM_bestTied (l : Launch) (D : va_G) (d : ClassId) (a : Nat → Nat) (n ct : Nat) (fc fx ff ft bx ub : Nat → Nat) (x y z : Int32) (hg : gOK (n, ct, fc, ff, ft, bx, ub)) (hfx : ∀ v, fx v ≤ 2) : qI l yX2_bestTied cX2_bestTied 8 .int ro2 D d (wM d a) (n, (2 ^ n), ct, fc, fx, ff, ft, bx, ub) [.ref (a 0), .int x, .int y, .int z] (fun r u => u = (n, (2 ^ n), ct, fc, fx, ff, ft, bx, ub) ∧ sTied (n, ct, fc, ff, ft, bx, ub) fx x y z r) := by
  refine qI_of RX2 rfl (by decide) (Nat.le_of_ble_eq_true rfl) (fun _ _ _ => rfl) ?_
  intro p e s m below meth c0 A Q H locs ls hC hA hI hl hE
  have hx := hC.1.1
  have hb := hC.1.2.1
  have hown := hC.1.2.2.2.1
  have hts := hC.1.2.2.2.2
  have hl : lv_has ls 8 [(0, .ref (a 0)), (1, .int x), (2, .int y), (3, .int z)] := hl
  have hn : n ≤ 10 := hg.2.1
  have hn2 : 2 ≤ n := hg.1
  have hct : ct ≤ 20 := hg.2.2.1
  have hfc : ∀ j, fc j ≤ 60 := hg.2.2.2.1
  have hff : ∀ f, ff f < n := hg.2.2.2.2.1
  have hft : ∀ f, ft f < n := hg.2.2.2.2.2.1
  have hbx : ∀ f, bx f ≤ 30 := hg.2.2.2.2.2.2.1
  have hub : ∀ f, ub f ≤ 30 := hg.2.2.2.2.2.2.2
  have hp2 := pow10 hn
  have hp0 := Nat.two_pow_pos n
  refine lv_aload_n hx hb dX2_bestTied_0 rfl (lv_at hl 0 rfl) ?_
  refine lv_iload_n hx hb dX2_bestTied_1 rfl (lv_at hl 1 rfl) ?_
  refine go_i (rest := []) hC hA hI (mM_bad l D d a n ct fc fx ff ft bx ub x hn) (ci := 1) rfl rfl 1 (lw_V q216 q218 qs9 q19 q219) (by decide +kernel) ⟨Nat.le_of_ble_eq_true rfl, Nat.le_of_ble_eq_true rfl⟩ rfl rfl rfl hl.1 rfl (Nat.le_of_ble_eq_true rfl) dX2_bestTied_2 ⟨Nat.zero_le _, Nat.zero_le _⟩ (fun r_2 u_2 H locs hp hI => ?_)
  obtain ⟨hy, rfl⟩ := hp
  refine lv_if_ne (tgt := 16) hx hb dX2_bestTied_5 (by decide) (fun c_5 => ?_) (fun c_5 => ?_)
  · skip
    refine lv_iconst (v := (-1)) hx hb dX2_bestTied_16 (by decide +kernel) ?_
    exact hE 17 ls H locs ((-1)) (n, (2 ^ n), ct, fc, fx, ff, ft, bx, ub) dX2_bestTied_17 (⟨rfl, Or.inl ⟨fun q => noYes_ne hy c_5 q.1, rfl⟩⟩) hI
  · skip
    refine lv_aload_n hx hb dX2_bestTied_8 rfl (lv_at hl 0 rfl) ?_
    refine lv_iload_n hx hb dX2_bestTied_9 rfl (lv_at hl 2 rfl) ?_
    refine go_i (rest := []) hC hA hI (mM_bad l D d a n ct fc fx ff ft bx ub y hn) (ci := 1) rfl rfl 1 (lw_V q216 q218 qs9 q19 q219) (by decide +kernel) ⟨Nat.le_of_ble_eq_true rfl, Nat.le_of_ble_eq_true rfl⟩ rfl rfl rfl hl.1 rfl (Nat.le_of_ble_eq_true rfl) dX2_bestTied_10 ⟨Nat.zero_le _, Nat.zero_le _⟩ (fun r_10 u_10 H locs hp hI => ?_)
    obtain ⟨hz, rfl⟩ := hp
    refine lv_if_eq (tgt := 18) hx hb dX2_bestTied_13 (by decide) (fun c_13 => ?_) (fun c_13 => ?_)
    · skip
      obtain ⟨u, hu, rfl⟩ := noYes_eq hy c_5
      obtain ⟨v, hv2, rfl⟩ := noYes_eq hz c_13
      clear hy hz c_5 c_13
      refine lv_bipush (v := (-2)) hx hb dX2_bestTied_18 (by decide +kernel) ?_
      refine lv_istore (lv' := [(4, .int (-2)), (0, .ref (a 0)), (1, .int (nI u)), (2, .int (nI v)), (3, .int z)]) hx hb dX2_bestTied_20 hl (by decide) rfl (fun ls hl => ?_)
      refine lv_iconst (v := nI 0) hx hb dX2_bestTied_22 (by decide +kernel) ?_
      refine lv_istore (lv' := [(5, .int (nI 0)), (4, .int (-2)), (0, .ref (a 0)), (1, .int (nI u)), (2, .int (nI v)), (3, .int z)]) hx hb dX2_bestTied_23 hl (by decide) rfl (fun ls hl => ?_)
      have hI0 := hI
      have hl0 := hl
      clear hI hl
      have L1 : ∀ (j : Nat) (i : Nat) (lst : Int32) (H : Heap) (locs : List Loc) (ls : Array Slot), (i ≤ 2 ^ n) → (2 ^ n + 1 ≤ i + j) → (minOr i (fun P => okP (n, ct, fc, ff, ft, bx, ub) fx P ∧ (bq P u = bq P v ↔ ¬ z = 0)) (tot (n, ct, fc, ff, ft, bx, ub) nNone) (-2) lst) → IW D A s.heap (wM d a (n, (2 ^ n), ct, fc, fx, ff, ft, bx, ub)) H locs → lv_has ls 8 [(0, .ref (a 0)), (1, .int (nI u)), (2, .int (nI v)), (3, .int z), (4, .int lst), (5, .int (nI i))] → W p l e ro2 s m ([.ref (a 0), .int (nI u), .int (nI v), .int z] : List Value).toArray below meth c0 H locs 0 0 Q (F0 m 25 ls []) := by
        intro j
        induction j with
        | zero => intro i lst H locs ls hi hj hv hI hl; exact absurd hj (by omega)
        | succ j ih =>
          intro i lst H locs ls hi hj hv hI hl
          refine lv_iload hx hb dX2_bestTied_25 (lv_at hl 5 rfl) ?_
          refine lv_aload_n hx hb dX2_bestTied_27 rfl (lv_at hl 0 rfl) ?_
          refine r_getM (v := .int (nI (2 ^ n))) hC hI 1 (by decide) q181 rfl rfl dX2_bestTied_28 ?_
          refine r_ge (tgt := 112) hx hb dX2_bestTied_31 (by decide) (by omega) (by omega) (fun c_31 => ?_) (fun c_31 => ?_)
          · skip
            have ei : i = 2 ^ n := by omega
            rw [ei] at hv
            refine lv_iload hx hb dX2_bestTied_112 (lv_at hl 4 rfl) ?_
            exact hE 114 ls H locs (lst) (n, (2 ^ n), ct, fc, fx, ff, ft, bx, ub) dX2_bestTied_114 (⟨rfl, Or.inr ⟨u, v, hu, hv2, rfl, rfl, hv⟩⟩) hI
          · skip
            have b1 := bq_lt i u
            have b2 := bq_lt i v
            refine lv_aload_n hx hb dX2_bestTied_34 rfl (lv_at hl 0 rfl) ?_
            refine lv_iload hx hb dX2_bestTied_35 (lv_at hl 5 rfl) ?_
            refine lv_iload_n hx hb dX2_bestTied_37 rfl (lv_at hl 1 rfl) ?_
            refine go_i (rest := []) hC hA hI (mM_form l D d a n ct fc fx ff ft bx ub i u (by omega) (by omega)) (ci := 1) rfl rfl 2 (lw_V q248 q250 qs12 q19 q251) (by decide +kernel) ⟨Nat.le_of_ble_eq_true rfl, Nat.le_of_ble_eq_true rfl⟩ rfl rfl rfl hl.1 rfl (Nat.le_of_ble_eq_true rfl) dX2_bestTied_38 ⟨Nat.zero_le _, Nat.zero_le _⟩ (fun r_38 u_38 H locs hp hI => ?_)
            obtain ⟨rfl, rfl⟩ := hp
            refine lv_aload_n hx hb dX2_bestTied_41 rfl (lv_at hl 0 rfl) ?_
            refine lv_iload hx hb dX2_bestTied_42 (lv_at hl 5 rfl) ?_
            refine lv_iload_n hx hb dX2_bestTied_44 rfl (lv_at hl 2 rfl) ?_
            refine go_i (rest := [.int (nI (bq i u))]) hC hA hI (mM_form l D d a n ct fc fx ff ft bx ub i v (by omega) (by omega)) (ci := 1) rfl rfl 2 (lw_V q248 q250 qs12 q19 q251) (by decide +kernel) ⟨Nat.le_of_ble_eq_true rfl, Nat.le_of_ble_eq_true rfl⟩ rfl rfl rfl hl.1 rfl (Nat.le_of_ble_eq_true rfl) dX2_bestTied_45 ⟨Nat.zero_le _, Nat.zero_le _⟩ (fun r_45 u_45 H locs hp hI => ?_)
            obtain ⟨rfl, rfl⟩ := hp
            refine r_ne (tgt := 55) hx hb dX2_bestTied_48 (by decide) (by omega) (by omega) (fun c_48 => ?_) (fun c_48 => ?_)
            · skip
              refine lv_iconst (v := nI 0) hx hb dX2_bestTied_55 (by decide +kernel) ?_
              refine lv_istore (lv' := [(6, .int (nI 0)), (0, .ref (a 0)), (1, .int (nI u)), (2, .int (nI v)), (3, .int z), (4, .int lst), (5, .int (nI i))]) hx hb dX2_bestTied_56 hl (by decide) rfl (fun ls hl => ?_)
              refine lv_aload_n hx hb dX2_bestTied_58 rfl (lv_at hl 1 rfl) ?_
              refine lv_iload hx hb dX2_bestTied_59 (lv_at hl 6 rfl) ?_
              refine go_i (rest := []) hC hA hI (mM_allowed l D d a n ct fc fx ff ft bx ub i hn hfx (by omega)) (ci := 1) rfl rfl 1 (lw_V q260 q262 qs14 q19 q263) (by decide +kernel) ⟨Nat.le_of_ble_eq_true rfl, Nat.le_of_ble_eq_true rfl⟩ rfl rfl rfl hl.1 rfl (Nat.le_of_ble_eq_true rfl) dX2_bestTied_61 ⟨Nat.zero_le _, Nat.zero_le _⟩ (fun r_61 u_61 H locs hp hI => ?_)
              obtain ⟨hal, rfl⟩ := hp
              refine lv_if_eq (tgt := 106) hx hb dX2_bestTied_64 (by decide) (fun c_64 => ?_) (fun c_64 => ?_)
              · skip
                refine lv_iinc (v := nI (i + 1)) (lv' := [(5, .int (nI (i + 1))), (6, .int (nI 0)), (0, .ref (a 0)), (1, .int (nI u)), (2, .int (nI v)), (3, .int z), (4, .int lst)]) hx hb dX2_bestTied_106 hl (k := 6) rfl (nI_1 i) (by decide) rfl (fun ls hl => ?_)
                refine lv_goto (tgt := 25) hx hb dX2_bestTied_109 (by decide) ?_
                exact ih (i + 1) _ H locs ls (by omega) (by omega) (minOr_no hv (fun q => yesNo_eq hal c_64 q.1)) hI (lv_sub hl [2, 3, 4, 5, 6, 0] rfl)
              · skip
                refine lv_iload hx hb dX2_bestTied_67 (lv_at hl 0 rfl) ?_
                refine lv_iload_n hx hb dX2_bestTied_69 rfl (lv_at hl 4 rfl) ?_
                refine lv_if_eq (tgt := 77) hx hb dX2_bestTied_70 (by decide) (fun c_70 => ?_) (fun c_70 => ?_)
                · skip
                  refine lv_iconst (v := nI 0) hx hb dX2_bestTied_77 (by decide +kernel) ?_
                  refine r_ne (tgt := 106) hx hb dX2_bestTied_78 (by decide) (by omega) (by omega) (fun c_78 => ?_) (fun c_78 => ?_)
                  · skip
                    exact absurd rfl c_78
                  · skip
                    refine lv_aload_n hx hb dX2_bestTied_81 rfl (lv_at hl 1 rfl) ?_
                    refine lv_iload hx hb dX2_bestTied_82 (lv_at hl 6 rfl) ?_
                    refine lv_iconst (v := nI nNone) hx hb dX2_bestTied_84 (by decide +kernel) ?_
                    refine go_i (rest := []) hC hA hI (mM_total l D d a n ct fc fx ff ft bx ub i nNone hg (by omega) (by decide)) (ci := 1) rfl rfl 2 (lw_V q244 q246 qs11 q19 q247) (by decide +kernel) ⟨Nat.le_of_ble_eq_true rfl, Nat.le_of_ble_eq_true rfl⟩ rfl rfl rfl hl.1 rfl (Nat.le_of_ble_eq_true rfl) dX2_bestTied_85 ⟨Nat.zero_le _, Nat.zero_le _⟩ (fun r_85 u_85 H locs hp hI => ?_)
                    obtain ⟨rfl, rfl⟩ := hp
                    have ht_85 := tot_le hg nNone i
                    refine lv_istore (lv' := [(7, .int (nI (tot (n, ct, fc, ff, ft, bx, ub) nNone i))), (6, .int (nI 0)), (0, .ref (a 0)), (1, .int (nI u)), (2, .int (nI v)), (3, .int z), (4, .int lst), (5, .int (nI i))]) hx hb dX2_bestTied_88 hl (by decide) rfl (fun ls hl => ?_)
                    refine lv_iload hx hb dX2_bestTied_90 (lv_at hl 6 rfl) ?_
                    refine lv_if_lt (tgt := 102) hx hb dX2_bestTied_92 (by decide) (fun c_92 => ?_) (fun c_92 => ?_)
                    · skip
                      refine lv_iload hx hb dX2_bestTied_102 (lv_at hl 0 rfl) ?_
                      refine lv_istore (lv' := [(4, .int (nI (tot (n, ct, fc, ff, ft, bx, ub) nNone i))), (7, .int (nI (tot (n, ct, fc, ff, ft, bx, ub) nNone i))), (6, .int (nI 0)), (0, .ref (a 0)), (1, .int (nI u)), (2, .int (nI v)), (3, .int z), (5, .int (nI i))]) hx hb dX2_bestTied_104 hl (by decide) rfl (fun ls hl => ?_)
                      refine lv_iinc (v := nI (i + 1)) (lv' := [(5, .int (nI (i + 1))), (4, .int (nI (tot (n, ct, fc, ff, ft, bx, ub) nNone i))), (7, .int (nI (tot (n, ct, fc, ff, ft, bx, ub) nNone i))), (6, .int (nI 0)), (0, .ref (a 0)), (1, .int (nI u)), (2, .int (nI v)), (3, .int z)]) hx hb dX2_bestTied_106 hl (k := 7) rfl (nI_1 i) (by decide) rfl (fun ls hl => ?_)
                      refine lv_goto (tgt := 25) hx hb dX2_bestTied_109 (by decide) ?_
                      exact ih (i + 1) _ H locs ls (by omega) (by omega) (minOr_take hv ⟨yesNo_ne hal c_64, ⟨fun q => absurd q c_48, fun q => absurd c_70 q⟩⟩ (fun R e h => (minOr_neg hg c_92 e h).elim)) hI (lv_sub hl [4, 5, 6, 7, 1, 0] rfl)
                    · skip
                      obtain ⟨R, rfl, hm⟩ := minOr_nn hg (by decide) hv c_92
                      have hR := isMin_lt hg hm
                      refine lv_iload hx hb dX2_bestTied_95 (lv_at hl 0 rfl) ?_
                      refine lv_iload hx hb dX2_bestTied_97 (lv_at hl 6 rfl) ?_
                      refine r_ge (tgt := 106) hx hb dX2_bestTied_99 (by decide) (by omega) (by omega) (fun c_99 => ?_) (fun c_99 => ?_)
                      · skip
                        refine lv_iinc (v := nI (i + 1)) (lv' := [(5, .int (nI (i + 1))), (7, .int (nI (tot (n, ct, fc, ff, ft, bx, ub) nNone i))), (6, .int (nI 0)), (0, .ref (a 0)), (1, .int (nI u)), (2, .int (nI v)), (3, .int z), (4, .int (nI R))]) hx hb dX2_bestTied_106 hl (k := 7) rfl (nI_1 i) (by decide) rfl (fun ls hl => ?_)
                        refine lv_goto (tgt := 25) hx hb dX2_bestTied_109 (by decide) ?_
                        exact ih (i + 1) _ H locs ls (by omega) (by omega) (minOr_keep rfl hm c_99) hI (lv_sub hl [3, 4, 5, 6, 7, 0] rfl)
                      · skip
                        refine lv_iload hx hb dX2_bestTied_102 (lv_at hl 0 rfl) ?_
                        refine lv_istore (lv' := [(4, .int (nI (tot (n, ct, fc, ff, ft, bx, ub) nNone i))), (7, .int (nI (tot (n, ct, fc, ff, ft, bx, ub) nNone i))), (6, .int (nI 0)), (0, .ref (a 0)), (1, .int (nI u)), (2, .int (nI v)), (3, .int z), (5, .int (nI i))]) hx hb dX2_bestTied_104 hl (by decide) rfl (fun ls hl => ?_)
                        refine lv_iinc (v := nI (i + 1)) (lv' := [(5, .int (nI (i + 1))), (4, .int (nI (tot (n, ct, fc, ff, ft, bx, ub) nNone i))), (7, .int (nI (tot (n, ct, fc, ff, ft, bx, ub) nNone i))), (6, .int (nI 0)), (0, .ref (a 0)), (1, .int (nI u)), (2, .int (nI v)), (3, .int z)]) hx hb dX2_bestTied_106 hl (k := 7) rfl (nI_1 i) (by decide) rfl (fun ls hl => ?_)
                        refine lv_goto (tgt := 25) hx hb dX2_bestTied_109 (by decide) ?_
                        exact ih (i + 1) _ H locs ls (by omega) (by omega) (minOr_take hv ⟨yesNo_ne hal c_64, ⟨fun q => absurd q c_48, fun q => absurd c_70 q⟩⟩ (fun R2 _ h => by rw [isMin_one h hm]; omega)) hI (lv_sub hl [4, 5, 6, 7, 1, 0] rfl)
                · skip
                  refine lv_iconst (v := nI 1) hx hb dX2_bestTied_73 (by decide +kernel) ?_
                  refine lv_goto (tgt := 78) hx hb dX2_bestTied_74 (by decide) ?_
                  refine r_ne (tgt := 106) hx hb dX2_bestTied_78 (by decide) (by omega) (by omega) (fun c_78 => ?_) (fun c_78 => ?_)
                  · skip
                    refine lv_iinc (v := nI (i + 1)) (lv' := [(5, .int (nI (i + 1))), (6, .int (nI 0)), (0, .ref (a 0)), (1, .int (nI u)), (2, .int (nI v)), (3, .int z), (4, .int lst)]) hx hb dX2_bestTied_106 hl (k := 6) rfl (nI_1 i) (by decide) rfl (fun ls hl => ?_)
                    refine lv_goto (tgt := 25) hx hb dX2_bestTied_109 (by decide) ?_
                    exact ih (i + 1) _ H locs ls (by omega) (by omega) (minOr_no hv (fun q => c_48 (q.2.mpr c_70))) hI (lv_sub hl [2, 3, 4, 5, 6, 0] rfl)
                  · skip
                    exact absurd c_78 (by decide)
            · skip
              refine lv_iconst (v := nI 1) hx hb dX2_bestTied_51 (by decide +kernel) ?_
              refine lv_goto (tgt := 56) hx hb dX2_bestTied_52 (by decide) ?_
              refine lv_istore (lv' := [(6, .int (nI 1)), (0, .ref (a 0)), (1, .int (nI u)), (2, .int (nI v)), (3, .int z), (4, .int lst), (5, .int (nI i))]) hx hb dX2_bestTied_56 hl (by decide) rfl (fun ls hl => ?_)
              refine lv_aload_n hx hb dX2_bestTied_58 rfl (lv_at hl 1 rfl) ?_
              refine lv_iload hx hb dX2_bestTied_59 (lv_at hl 6 rfl) ?_
              refine go_i (rest := []) hC hA hI (mM_allowed l D d a n ct fc fx ff ft bx ub i hn hfx (by omega)) (ci := 1) rfl rfl 1 (lw_V q260 q262 qs14 q19 q263) (by decide +kernel) ⟨Nat.le_of_ble_eq_true rfl, Nat.le_of_ble_eq_true rfl⟩ rfl rfl rfl hl.1 rfl (Nat.le_of_ble_eq_true rfl) dX2_bestTied_61 ⟨Nat.zero_le _, Nat.zero_le _⟩ (fun r_61 u_61 H locs hp hI => ?_)
              obtain ⟨hal, rfl⟩ := hp
              refine lv_if_eq (tgt := 106) hx hb dX2_bestTied_64 (by decide) (fun c_64 => ?_) (fun c_64 => ?_)
              · skip
                refine lv_iinc (v := nI (i + 1)) (lv' := [(5, .int (nI (i + 1))), (6, .int (nI 1)), (0, .ref (a 0)), (1, .int (nI u)), (2, .int (nI v)), (3, .int z), (4, .int lst)]) hx hb dX2_bestTied_106 hl (k := 6) rfl (nI_1 i) (by decide) rfl (fun ls hl => ?_)
                refine lv_goto (tgt := 25) hx hb dX2_bestTied_109 (by decide) ?_
                exact ih (i + 1) _ H locs ls (by omega) (by omega) (minOr_no hv (fun q => yesNo_eq hal c_64 q.1)) hI (lv_sub hl [2, 3, 4, 5, 6, 0] rfl)
              · skip
                refine lv_iload hx hb dX2_bestTied_67 (lv_at hl 0 rfl) ?_
                refine lv_iload_n hx hb dX2_bestTied_69 rfl (lv_at hl 4 rfl) ?_
                refine lv_if_eq (tgt := 77) hx hb dX2_bestTied_70 (by decide) (fun c_70 => ?_) (fun c_70 => ?_)
                · skip
                  refine lv_iconst (v := nI 0) hx hb dX2_bestTied_77 (by decide +kernel) ?_
                  refine r_ne (tgt := 106) hx hb dX2_bestTied_78 (by decide) (by omega) (by omega) (fun c_78 => ?_) (fun c_78 => ?_)
                  · skip
                    refine lv_iinc (v := nI (i + 1)) (lv' := [(5, .int (nI (i + 1))), (6, .int (nI 1)), (0, .ref (a 0)), (1, .int (nI u)), (2, .int (nI v)), (3, .int z), (4, .int lst)]) hx hb dX2_bestTied_106 hl (k := 6) rfl (nI_1 i) (by decide) rfl (fun ls hl => ?_)
                    refine lv_goto (tgt := 25) hx hb dX2_bestTied_109 (by decide) ?_
                    exact ih (i + 1) _ H locs ls (by omega) (by omega) (minOr_no hv (fun q => absurd c_70 (q.2.mp c_48))) hI (lv_sub hl [2, 3, 4, 5, 6, 0] rfl)
                  · skip
                    exact absurd c_78 (by decide)
                · skip
                  refine lv_iconst (v := nI 1) hx hb dX2_bestTied_73 (by decide +kernel) ?_
                  refine lv_goto (tgt := 78) hx hb dX2_bestTied_74 (by decide) ?_
                  refine r_ne (tgt := 106) hx hb dX2_bestTied_78 (by decide) (by omega) (by omega) (fun c_78 => ?_) (fun c_78 => ?_)
                  · skip
                    exact absurd rfl c_78
                  · skip
                    refine lv_aload_n hx hb dX2_bestTied_81 rfl (lv_at hl 1 rfl) ?_
                    refine lv_iload hx hb dX2_bestTied_82 (lv_at hl 6 rfl) ?_
                    refine lv_iconst (v := nI nNone) hx hb dX2_bestTied_84 (by decide +kernel) ?_
                    refine go_i (rest := []) hC hA hI (mM_total l D d a n ct fc fx ff ft bx ub i nNone hg (by omega) (by decide)) (ci := 1) rfl rfl 2 (lw_V q244 q246 qs11 q19 q247) (by decide +kernel) ⟨Nat.le_of_ble_eq_true rfl, Nat.le_of_ble_eq_true rfl⟩ rfl rfl rfl hl.1 rfl (Nat.le_of_ble_eq_true rfl) dX2_bestTied_85 ⟨Nat.zero_le _, Nat.zero_le _⟩ (fun r_85 u_85 H locs hp hI => ?_)
                    obtain ⟨rfl, rfl⟩ := hp
                    have ht_85 := tot_le hg nNone i
                    refine lv_istore (lv' := [(7, .int (nI (tot (n, ct, fc, ff, ft, bx, ub) nNone i))), (6, .int (nI 1)), (0, .ref (a 0)), (1, .int (nI u)), (2, .int (nI v)), (3, .int z), (4, .int lst), (5, .int (nI i))]) hx hb dX2_bestTied_88 hl (by decide) rfl (fun ls hl => ?_)
                    refine lv_iload hx hb dX2_bestTied_90 (lv_at hl 6 rfl) ?_
                    refine lv_if_lt (tgt := 102) hx hb dX2_bestTied_92 (by decide) (fun c_92 => ?_) (fun c_92 => ?_)
                    · skip
                      refine lv_iload hx hb dX2_bestTied_102 (lv_at hl 0 rfl) ?_
                      refine lv_istore (lv' := [(4, .int (nI (tot (n, ct, fc, ff, ft, bx, ub) nNone i))), (7, .int (nI (tot (n, ct, fc, ff, ft, bx, ub) nNone i))), (6, .int (nI 1)), (0, .ref (a 0)), (1, .int (nI u)), (2, .int (nI v)), (3, .int z), (5, .int (nI i))]) hx hb dX2_bestTied_104 hl (by decide) rfl (fun ls hl => ?_)
                      refine lv_iinc (v := nI (i + 1)) (lv' := [(5, .int (nI (i + 1))), (4, .int (nI (tot (n, ct, fc, ff, ft, bx, ub) nNone i))), (7, .int (nI (tot (n, ct, fc, ff, ft, bx, ub) nNone i))), (6, .int (nI 1)), (0, .ref (a 0)), (1, .int (nI u)), (2, .int (nI v)), (3, .int z)]) hx hb dX2_bestTied_106 hl (k := 7) rfl (nI_1 i) (by decide) rfl (fun ls hl => ?_)
                      refine lv_goto (tgt := 25) hx hb dX2_bestTied_109 (by decide) ?_
                      exact ih (i + 1) _ H locs ls (by omega) (by omega) (minOr_take hv ⟨yesNo_ne hal c_64, ⟨fun _ => c_70, fun _ => c_48⟩⟩ (fun R e h => (minOr_neg hg c_92 e h).elim)) hI (lv_sub hl [4, 5, 6, 7, 1, 0] rfl)
                    · skip
                      obtain ⟨R, rfl, hm⟩ := minOr_nn hg (by decide) hv c_92
                      have hR := isMin_lt hg hm
                      refine lv_iload hx hb dX2_bestTied_95 (lv_at hl 0 rfl) ?_
                      refine lv_iload hx hb dX2_bestTied_97 (lv_at hl 6 rfl) ?_
                      refine r_ge (tgt := 106) hx hb dX2_bestTied_99 (by decide) (by omega) (by omega) (fun c_99 => ?_) (fun c_99 => ?_)
                      · skip
                        refine lv_iinc (v := nI (i + 1)) (lv' := [(5, .int (nI (i + 1))), (7, .int (nI (tot (n, ct, fc, ff, ft, bx, ub) nNone i))), (6, .int (nI 1)), (0, .ref (a 0)), (1, .int (nI u)), (2, .int (nI v)), (3, .int z), (4, .int (nI R))]) hx hb dX2_bestTied_106 hl (k := 7) rfl (nI_1 i) (by decide) rfl (fun ls hl => ?_)
                        refine lv_goto (tgt := 25) hx hb dX2_bestTied_109 (by decide) ?_
                        exact ih (i + 1) _ H locs ls (by omega) (by omega) (minOr_keep rfl hm c_99) hI (lv_sub hl [3, 4, 5, 6, 7, 0] rfl)
                      · skip
                        refine lv_iload hx hb dX2_bestTied_102 (lv_at hl 0 rfl) ?_
                        refine lv_istore (lv' := [(4, .int (nI (tot (n, ct, fc, ff, ft, bx, ub) nNone i))), (7, .int (nI (tot (n, ct, fc, ff, ft, bx, ub) nNone i))), (6, .int (nI 1)), (0, .ref (a 0)), (1, .int (nI u)), (2, .int (nI v)), (3, .int z), (5, .int (nI i))]) hx hb dX2_bestTied_104 hl (by decide) rfl (fun ls hl => ?_)
                        refine lv_iinc (v := nI (i + 1)) (lv' := [(5, .int (nI (i + 1))), (4, .int (nI (tot (n, ct, fc, ff, ft, bx, ub) nNone i))), (7, .int (nI (tot (n, ct, fc, ff, ft, bx, ub) nNone i))), (6, .int (nI 1)), (0, .ref (a 0)), (1, .int (nI u)), (2, .int (nI v)), (3, .int z)]) hx hb dX2_bestTied_106 hl (k := 7) rfl (nI_1 i) (by decide) rfl (fun ls hl => ?_)
                        refine lv_goto (tgt := 25) hx hb dX2_bestTied_109 (by decide) ?_
                        exact ih (i + 1) _ H locs ls (by omega) (by omega) (minOr_take hv ⟨yesNo_ne hal c_64, ⟨fun _ => c_70, fun _ => c_48⟩⟩ (fun R2 _ h => by rw [isMin_one h hm]; omega)) hI (lv_sub hl [4, 5, 6, 7, 1, 0] rfl)
      exact L1 (2 ^ n + 1) 0 (-2) H locs ls (by omega) (by omega) (minOr_0 _ _ _) hI0 (lv_sub hl0 [2, 3, 4, 5, 1, 0] rfl)
    · skip
      refine lv_iconst (v := (-1)) hx hb dX2_bestTied_16 (by decide +kernel) ?_
      exact hE 17 ls H locs ((-1)) (n, (2 ^ n), ct, fc, fx, ff, ft, bx, ub) dX2_bestTied_17 (⟨rfl, Or.inl ⟨fun q => noYes_ne hz c_13 q.2, rfl⟩⟩) hI
set_option maxHeartbeats 4000000 in
/-- saving -/
theorem mM_saving (l : Launch) (D : va_G) (d : ClassId) (a : Nat → Nat) (n ct : Nat) (fc fx ff ft bx ub : Nat → Nat) (x : Int32) (hg : gOK (n, ct, fc, ff, ft, bx, ub)) (hfx : ∀ v, fx v ≤ 2) : qI l yX2_saving cX2_saving 4 .int ro3 D d (wM d a) (n, (2 ^ n), ct, fc, fx, ff, ft, bx, ub) [.ref (a 0), .int x] (fun r u => u = (n, (2 ^ n), ct, fc, fx, ff, ft, bx, ub) ∧ sSav (n, ct, fc, ff, ft, bx, ub) fx x r) := by
  refine qI_of RX2 rfl (by decide) (Nat.le_of_ble_eq_true rfl) (fun _ _ _ => rfl) ?_
  intro p e s m below meth c0 A Q H locs ls hC hA hI hl hE
  have hx := hC.1.1
  have hb := hC.1.2.1
  have hown := hC.1.2.2.2.1
  have hts := hC.1.2.2.2.2
  have hl : lv_has ls 4 [(0, .ref (a 0)), (1, .int x)] := hl
  have hn : n ≤ 10 := hg.2.1
  have hn2 : 2 ≤ n := hg.1
  have hct : ct ≤ 20 := hg.2.2.1
  have hfc : ∀ j, fc j ≤ 60 := hg.2.2.2.1
  have hff : ∀ f, ff f < n := hg.2.2.2.2.1
  have hft : ∀ f, ft f < n := hg.2.2.2.2.2.1
  have hbx : ∀ f, bx f ≤ 30 := hg.2.2.2.2.2.2.1
  have hub : ∀ f, ub f ≤ 30 := hg.2.2.2.2.2.2.2
  have hp2 := pow10 hn
  have hp0 := Nat.two_pow_pos n
  refine lv_aload_n hx hb dX2_saving_0 rfl (lv_at hl 0 rfl) ?_
  refine lv_iload_n hx hb dX2_saving_1 rfl (lv_at hl 1 rfl) ?_
  refine go_i (rest := []) hC hA hI (mM_badFlow l D d a n ct fc fx ff ft bx ub x hct) (ci := 1) rfl rfl 1 (lw_V q228 q230 qs10 q19 q231) (by decide +kernel) ⟨Nat.le_of_ble_eq_true rfl, Nat.le_of_ble_eq_true rfl⟩ rfl rfl rfl hl.1 rfl (Nat.le_of_ble_eq_true rfl) dX2_saving_2 ⟨Nat.zero_le _, Nat.zero_le _⟩ (fun r_2 u_2 H locs hp hI => ?_)
  obtain ⟨hy, rfl⟩ := hp
  refine lv_if_eq (tgt := 10) hx hb dX2_saving_5 (by decide) (fun c_5 => ?_) (fun c_5 => ?_)
  · skip
    obtain ⟨f, hf, rfl⟩ := noYes_eq hy c_5
    refine lv_aload_n hx hb dX2_saving_10 rfl (lv_at hl 0 rfl) ?_
    refine lv_iconst (v := nI nNone) hx hb dX2_saving_11 (by decide +kernel) ?_
    refine go_i (rest := []) hC hA hI (mM_least l D d a n ct fc fx ff ft bx ub nNone hg hfx (by decide)) (ci := 1) rfl rfl 1 (lw_V q256 q258 qs13 q19 q259) (by decide +kernel) ⟨Nat.le_of_ble_eq_true rfl, Nat.le_of_ble_eq_true rfl⟩ rfl rfl rfl hl.1 rfl (Nat.le_of_ble_eq_true rfl) dX2_saving_12 ⟨Nat.zero_le _, Nat.zero_le _⟩ (fun r_12 u_12 H locs hp hI => ?_)
    obtain ⟨rfl, T, rfl, hm⟩ := hp
    have hl_12 := isMin_lt hg hm
    refine lv_istore_n (lv' := [(2, .int (nI T)), (0, .ref (a 0)), (1, .int (nI f))]) hx hb dX2_saving_15 rfl hl (by decide) rfl (fun ls hl => ?_)
    refine lv_aload_n hx hb dX2_saving_16 rfl (lv_at hl 1 rfl) ?_
    refine lv_iload_n hx hb dX2_saving_17 rfl (lv_at hl 2 rfl) ?_
    refine go_i (rest := []) hC hA hI (mM_least l D d a n ct fc fx ff ft bx ub f hg hfx (by omega)) (ci := 1) rfl rfl 1 (lw_V q256 q258 qs13 q19 q259) (by decide +kernel) ⟨Nat.le_of_ble_eq_true rfl, Nat.le_of_ble_eq_true rfl⟩ rfl rfl rfl hl.1 rfl (Nat.le_of_ble_eq_true rfl) dX2_saving_18 ⟨Nat.zero_le _, Nat.zero_le _⟩ (fun r_18 u_18 H locs hp hI => ?_)
    obtain ⟨rfl, T2, rfl, hm2⟩ := hp
    have hl_18 := isMin_lt hg hm2
    refine lv_istore_n (lv' := [(3, .int (nI T2)), (2, .int (nI T)), (0, .ref (a 0)), (1, .int (nI f))]) hx hb dX2_saving_21 rfl hl (by decide) rfl (fun ls hl => ?_)
    refine lv_iload_n hx hb dX2_saving_22 rfl (lv_at hl 1 rfl) ?_
    refine lv_iload_n hx hb dX2_saving_23 rfl (lv_at hl 0 rfl) ?_
    refine lv_isub hx hb dX2_saving_24 ?_
    exact hE 25 ls H locs (nI T - nI T2) (n, (2 ^ n), ct, fc, fx, ff, ft, bx, ub) dX2_saving_25 (⟨rfl, Or.inr ⟨f, T, T2, hf, rfl, hm, hm2, rfl⟩⟩) hI
  · skip
    refine lv_iconst (v := (-1)) hx hb dX2_saving_8 (by decide +kernel) ?_
    exact hE 9 ls H locs ((-1)) (n, (2 ^ n), ct, fc, fx, ff, ft, bx, ub) dX2_saving_9 (⟨rfl, Or.inl ⟨noYes_ne hy c_5, rfl⟩⟩) hI
set_option maxHeartbeats 4000000 in
/-- isBest -/
theorem mM_isBest (l : Launch) (D : va_G) (d : ClassId) (a : Nat → Nat) (n ct : Nat) (fc fx ff ft bx ub : Nat → Nat) (x : Int32) (hg : gOK (n, ct, fc, ff, ft, bx, ub)) (hfx : ∀ v, fx v ≤ 2) : qI l yX2_isBest cX2_isBest 3 .int ro3 D d (wM d a) (n, (2 ^ n), ct, fc, fx, ff, ft, bx, ub) [.ref (a 0), .int x] (fun r u => u = (n, (2 ^ n), ct, fc, fx, ff, ft, bx, ub) ∧ sIsB (n, ct, fc, ff, ft, bx, ub) fx x r) := by
  refine qI_of RX2 rfl (by decide) (Nat.le_of_ble_eq_true rfl) (fun _ _ _ => rfl) ?_
  intro p e s m below meth c0 A Q H locs ls hC hA hI hl hE
  have hx := hC.1.1
  have hb := hC.1.2.1
  have hown := hC.1.2.2.2.1
  have hts := hC.1.2.2.2.2
  have hl : lv_has ls 3 [(0, .ref (a 0)), (1, .int x)] := hl
  have hn : n ≤ 10 := hg.2.1
  have hn2 : 2 ≤ n := hg.1
  have hct : ct ≤ 20 := hg.2.2.1
  have hfc : ∀ j, fc j ≤ 60 := hg.2.2.2.1
  have hff : ∀ f, ff f < n := hg.2.2.2.2.1
  have hft : ∀ f, ft f < n := hg.2.2.2.2.2.1
  have hbx : ∀ f, bx f ≤ 30 := hg.2.2.2.2.2.2.1
  have hub : ∀ f, ub f ≤ 30 := hg.2.2.2.2.2.2.2
  have hp2 := pow10 hn
  have hp0 := Nat.two_pow_pos n
  refine lv_iload_n hx hb dX2_isBest_0 rfl (lv_at hl 1 rfl) ?_
  refine lv_if_lt (tgt := 12) hx hb dX2_isBest_1 (by decide) (fun c_1 => ?_) (fun c_1 => ?_)
  · skip
    refine lv_iconst (v := (-1)) hx hb dX2_isBest_12 (by decide +kernel) ?_
    exact hE 13 ls H locs ((-1)) (n, (2 ^ n), ct, fc, fx, ff, ft, bx, ub) dX2_isBest_13 (⟨rfl, Or.inl ⟨inR_neg (show 2 ^ n < 2 ^ 31 by omega) c_1, rfl⟩⟩) hI
  · skip
    refine lv_iload_n hx hb dX2_isBest_4 rfl (lv_at hl 1 rfl) ?_
    refine lv_aload_n hx hb dX2_isBest_5 rfl (lv_at hl 0 rfl) ?_
    refine r_getM (v := .int (nI (2 ^ n))) hC hI 1 (by decide) q181 rfl rfl dX2_isBest_6 ?_
    refine lv_icmp_lt (tgt := 14) hx hb dX2_isBest_9 (by decide) (fun c_9 => ?_) (fun c_9 => ?_)
    · skip
      obtain ⟨P, hP, rfl⟩ : inR x (2 ^ n) := inR_ofT (by omega) c_1 c_9
      refine lv_aload_n hx hb dX2_isBest_14 rfl (lv_at hl 0 rfl) ?_
      refine lv_iconst (v := nI nNone) hx hb dX2_isBest_15 (by decide +kernel) ?_
      refine go_i (rest := []) hC hA hI (mM_least l D d a n ct fc fx ff ft bx ub nNone hg hfx (by decide)) (ci := 1) rfl rfl 1 (lw_V q256 q258 qs13 q19 q259) (by decide +kernel) ⟨Nat.le_of_ble_eq_true rfl, Nat.le_of_ble_eq_true rfl⟩ rfl rfl rfl hl.1 rfl (Nat.le_of_ble_eq_true rfl) dX2_isBest_16 ⟨Nat.zero_le _, Nat.zero_le _⟩ (fun r_16 u_16 H locs hp hI => ?_)
      obtain ⟨rfl, T, rfl, hm⟩ := hp
      have hl_16 := isMin_lt hg hm
      refine lv_istore_n (lv' := [(2, .int (nI T)), (0, .ref (a 0)), (1, .int (nI P))]) hx hb dX2_isBest_19 rfl hl (by decide) rfl (fun ls hl => ?_)
      refine lv_aload_n hx hb dX2_isBest_20 rfl (lv_at hl 1 rfl) ?_
      refine lv_iload_n hx hb dX2_isBest_21 rfl (lv_at hl 2 rfl) ?_
      refine go_i (rest := []) hC hA hI (mM_allowed l D d a n ct fc fx ff ft bx ub P hn hfx (by omega)) (ci := 1) rfl rfl 1 (lw_V q260 q262 qs14 q19 q263) (by decide +kernel) ⟨Nat.le_of_ble_eq_true rfl, Nat.le_of_ble_eq_true rfl⟩ rfl rfl rfl hl.1 rfl (Nat.le_of_ble_eq_true rfl) dX2_isBest_22 ⟨Nat.zero_le _, Nat.zero_le _⟩ (fun r_22 u_22 H locs hp hI => ?_)
      obtain ⟨hal, rfl⟩ := hp
      refine lv_if_eq (tgt := 42) hx hb dX2_isBest_25 (by decide) (fun c_25 => ?_) (fun c_25 => ?_)
      · skip
        refine lv_iconst (v := nI 0) hx hb dX2_isBest_42 (by decide +kernel) ?_
        exact hE 43 ls H locs (nI 0) (n, (2 ^ n), ct, fc, fx, ff, ft, bx, ub) dX2_isBest_43 (⟨rfl, Or.inr ⟨P, hP, rfl, Or.inr ⟨rfl, fun q => yesNo_eq hal c_25 q.2.1⟩⟩⟩) hI
      · skip
        refine lv_aload_n hx hb dX2_isBest_28 rfl (lv_at hl 1 rfl) ?_
        refine lv_iload_n hx hb dX2_isBest_29 rfl (lv_at hl 2 rfl) ?_
        refine lv_iconst (v := nI nNone) hx hb dX2_isBest_30 (by decide +kernel) ?_
        refine go_i (rest := []) hC hA hI (mM_total l D d a n ct fc fx ff ft bx ub P nNone hg (by omega) (by decide)) (ci := 1) rfl rfl 2 (lw_V q244 q246 qs11 q19 q247) (by decide +kernel) ⟨Nat.le_of_ble_eq_true rfl, Nat.le_of_ble_eq_true rfl⟩ rfl rfl rfl hl.1 rfl (Nat.le_of_ble_eq_true rfl) dX2_isBest_31 ⟨Nat.zero_le _, Nat.zero_le _⟩ (fun r_31 u_31 H locs hp hI => ?_)
        obtain ⟨rfl, rfl⟩ := hp
        have ht_31 := tot_le hg nNone P
        refine lv_iload_n hx hb dX2_isBest_34 rfl (lv_at hl 0 rfl) ?_
        refine r_ne (tgt := 42) hx hb dX2_isBest_35 (by decide) (by omega) (by omega) (fun c_35 => ?_) (fun c_35 => ?_)
        · skip
          refine lv_iconst (v := nI 0) hx hb dX2_isBest_42 (by decide +kernel) ?_
          exact hE 43 ls H locs (nI 0) (n, (2 ^ n), ct, fc, fx, ff, ft, bx, ub) dX2_isBest_43 (⟨rfl, Or.inr ⟨P, hP, rfl, Or.inr ⟨rfl, fun q => c_35 ((bestP_min hm hP).mp q).2⟩⟩⟩) hI
        · skip
          refine lv_iconst (v := nI 1) hx hb dX2_isBest_38 (by decide +kernel) ?_
          refine lv_goto (tgt := 43) hx hb dX2_isBest_39 (by decide) ?_
          exact hE 43 ls H locs (nI 1) (n, (2 ^ n), ct, fc, fx, ff, ft, bx, ub) dX2_isBest_43 (⟨rfl, Or.inr ⟨P, hP, rfl, Or.inl ⟨rfl, (bestP_min hm hP).mpr ⟨yesNo_ne hal c_25, c_35⟩⟩⟩⟩) hI
    · skip
      refine lv_iconst (v := (-1)) hx hb dX2_isBest_12 (by decide +kernel) ?_
      exact hE 13 ls H locs ((-1)) (n, (2 ^ n), ct, fc, fx, ff, ft, bx, ub) dX2_isBest_13 (⟨rfl, Or.inl ⟨inR_bigT (Nat.le_refl _) (show 2 ^ n < 2 ^ 31 by omega) c_9, rfl⟩⟩) hI
set_option maxHeartbeats 4000000 in
/-- settledCount -/
theorem mM_settledCount (l : Launch) (D : va_G) (d : ClassId) (a : Nat → Nat) (n ct : Nat) (fc fx ff ft bx ub : Nat → Nat)  (hg : gOK (n, ct, fc, ff, ft, bx, ub)) (hfx : ∀ v, fx v ≤ 2) : qI l yX2_settledCount cX2_settledCount 5 .int ro4 D d (wM d a) (n, (2 ^ n), ct, fc, fx, ff, ft, bx, ub) [.ref (a 0)] (fun r u => u = (n, (2 ^ n), ct, fc, fx, ff, ft, bx, ub) ∧ sCnt (n, ct, fc, ff, ft, bx, ub) fx r) := by
  refine qI_of RX2 rfl (by decide) (Nat.le_of_ble_eq_true rfl) (fun _ _ _ => rfl) ?_
  intro p e s m below meth c0 A Q H locs ls hC hA hI hl hE
  have hx := hC.1.1
  have hb := hC.1.2.1
  have hown := hC.1.2.2.2.1
  have hts := hC.1.2.2.2.2
  have hl : lv_has ls 5 [(0, .ref (a 0))] := hl
  have hn : n ≤ 10 := hg.2.1
  have hn2 : 2 ≤ n := hg.1
  have hct : ct ≤ 20 := hg.2.2.1
  have hfc : ∀ j, fc j ≤ 60 := hg.2.2.2.1
  have hff : ∀ f, ff f < n := hg.2.2.2.2.1
  have hft : ∀ f, ft f < n := hg.2.2.2.2.2.1
  have hbx : ∀ f, bx f ≤ 30 := hg.2.2.2.2.2.2.1
  have hub : ∀ f, ub f ≤ 30 := hg.2.2.2.2.2.2.2
  have hp2 := pow10 hn
  have hp0 := Nat.two_pow_pos n
  refine lv_aload_n hx hb dX2_settledCount_0 rfl (lv_at hl 0 rfl) ?_
  refine go_i (rest := []) hC hA hI (mM_common l D d a n ct fc fx ff ft bx ub  hg hfx) (ci := 1) rfl rfl 0 (lw_V q268 q270 qs15 q19 q271) (by decide +kernel) ⟨Nat.le_of_ble_eq_true rfl, Nat.le_of_ble_eq_true rfl⟩ rfl rfl rfl hl.1 rfl (Nat.le_of_ble_eq_true rfl) dX2_settledCount_1 ⟨Nat.zero_le _, Nat.zero_le _⟩ (fun r_1 u_1 H locs hp hI => ?_)
  obtain ⟨rfl, C, rfl, hcom⟩ := hp
  have hltC : C < 2 ^ n := hcom.1
  refine lv_istore_n (lv' := [(1, .int (nI C)), (0, .ref (a 0))]) hx hb dX2_settledCount_4 rfl hl (by decide) rfl (fun ls hl => ?_)
  refine lv_aload_n hx hb dX2_settledCount_5 rfl (lv_at hl 1 rfl) ?_
  refine go_i (rest := []) hC hA hI (mM_some l D d a n ct fc fx ff ft bx ub  hg hfx) (ci := 1) rfl rfl 0 (lw_V q276 q278 qs16 q19 q279) (by decide +kernel) ⟨Nat.le_of_ble_eq_true rfl, Nat.le_of_ble_eq_true rfl⟩ rfl rfl rfl hl.1 rfl (Nat.le_of_ble_eq_true rfl) dX2_settledCount_6 ⟨Nat.zero_le _, Nat.zero_le _⟩ (fun r_6 u_6 H locs hp hI => ?_)
  obtain ⟨rfl, E, rfl, hsom⟩ := hp
  have hltE : E < 2 ^ n := hsom.1
  refine lv_istore_n (lv' := [(2, .int (nI E)), (1, .int (nI C)), (0, .ref (a 0))]) hx hb dX2_settledCount_9 rfl hl (by decide) rfl (fun ls hl => ?_)
  refine lv_iconst (v := nI 0) hx hb dX2_settledCount_10 (by decide +kernel) ?_
  refine lv_istore_n (lv' := [(3, .int (nI 0)), (2, .int (nI E)), (1, .int (nI C)), (0, .ref (a 0))]) hx hb dX2_settledCount_11 rfl hl (by decide) rfl (fun ls hl => ?_)
  refine lv_iconst (v := nI 0) hx hb dX2_settledCount_12 (by decide +kernel) ?_
  refine lv_istore (lv' := [(4, .int (nI 0)), (3, .int (nI 0)), (2, .int (nI E)), (1, .int (nI C)), (0, .ref (a 0))]) hx hb dX2_settledCount_13 hl (by decide) rfl (fun ls hl => ?_)
  have hI0 := hI
  have hl0 := hl
  clear hI hl
  have L1 : ∀ (j : Nat) (i : Nat) (sm : Nat) (H : Heap) (locs : List Loc) (ls : Array Slot), (i ≤ n) → (n + 1 ≤ i + j) → (sm = fb_ct (fun v => decide (bq C v = bq E v)) i) → IW D A s.heap (wM d a (n, (2 ^ n), ct, fc, fx, ff, ft, bx, ub)) H locs → lv_has ls 5 [(0, .ref (a 0)), (1, .int (nI C)), (2, .int (nI E)), (3, .int (nI sm)), (4, .int (nI i))] → W p l e ro4 s m ([.ref (a 0)] : List Value).toArray below meth c0 H locs 0 0 Q (F0 m 15 ls []) := by
    intro j
    induction j with
    | zero => intro i sm H locs ls hi hj hs hI hl; exact absurd hj (by omega)
    | succ j ih =>
      intro i sm H locs ls hi hj hs hI hl
      refine lv_iload hx hb dX2_settledCount_15 (lv_at hl 4 rfl) ?_
      refine lv_aload_n hx hb dX2_settledCount_17 rfl (lv_at hl 0 rfl) ?_
      refine r_getM (v := .int (nI n)) hC hI 0 (by decide) q180 rfl rfl dX2_settledCount_18 ?_
      refine r_ge (tgt := 50) hx hb dX2_settledCount_21 (by decide) (by omega) (by omega) (fun c_21 => ?_) (fun c_21 => ?_)
      · skip
        have ei : i = n := by omega
        rw [ei] at hs
        refine lv_iload_n hx hb dX2_settledCount_50 rfl (lv_at hl 3 rfl) ?_
        exact hE 51 ls H locs (nI sm) (n, (2 ^ n), ct, fc, fx, ff, ft, bx, ub) dX2_settledCount_51 (⟨rfl, C, E, hcom, hsom, by rw [hs]⟩) hI
      · skip
        have b1 := bq_lt C i
        have b2 := bq_lt E i
        refine lv_aload_n hx hb dX2_settledCount_24 rfl (lv_at hl 0 rfl) ?_
        refine lv_iload_n hx hb dX2_settledCount_25 rfl (lv_at hl 1 rfl) ?_
        refine lv_iload hx hb dX2_settledCount_26 (lv_at hl 4 rfl) ?_
        refine go_i (rest := []) hC hA hI (mM_form l D d a n ct fc fx ff ft bx ub C i (by omega) (by omega)) (ci := 1) rfl rfl 2 (lw_V q248 q250 qs12 q19 q251) (by decide +kernel) ⟨Nat.le_of_ble_eq_true rfl, Nat.le_of_ble_eq_true rfl⟩ rfl rfl rfl hl.1 rfl (Nat.le_of_ble_eq_true rfl) dX2_settledCount_28 ⟨Nat.zero_le _, Nat.zero_le _⟩ (fun r_28 u_28 H locs hp hI => ?_)
        obtain ⟨rfl, rfl⟩ := hp
        refine lv_aload_n hx hb dX2_settledCount_31 rfl (lv_at hl 0 rfl) ?_
        refine lv_iload_n hx hb dX2_settledCount_32 rfl (lv_at hl 2 rfl) ?_
        refine lv_iload hx hb dX2_settledCount_33 (lv_at hl 4 rfl) ?_
        refine go_i (rest := [.int (nI (bq C i))]) hC hA hI (mM_form l D d a n ct fc fx ff ft bx ub E i (by omega) (by omega)) (ci := 1) rfl rfl 2 (lw_V q248 q250 qs12 q19 q251) (by decide +kernel) ⟨Nat.le_of_ble_eq_true rfl, Nat.le_of_ble_eq_true rfl⟩ rfl rfl rfl hl.1 rfl (Nat.le_of_ble_eq_true rfl) dX2_settledCount_35 ⟨Nat.zero_le _, Nat.zero_le _⟩ (fun r_35 u_35 H locs hp hI => ?_)
        obtain ⟨rfl, rfl⟩ := hp
        refine r_ne (tgt := 44) hx hb dX2_settledCount_38 (by decide) (by omega) (by omega) (fun c_38 => ?_) (fun c_38 => ?_)
        · skip
          refine lv_iinc (v := nI (i + 1)) (lv' := [(4, .int (nI (i + 1))), (0, .ref (a 0)), (1, .int (nI C)), (2, .int (nI E)), (3, .int (nI sm))]) hx hb dX2_settledCount_44 hl (k := 4) rfl (nI_1 i) (by decide) rfl (fun ls hl => ?_)
          refine lv_goto (tgt := 15) hx hb dX2_settledCount_47 (by decide) ?_
          exact ih (i + 1) _ H locs ls (by omega) (by omega) (by rw [ct_same, if_neg c_38, ← hs]; rfl) hI (lv_sub hl [1, 2, 3, 4, 0] rfl)
        · skip
          refine lv_iinc (v := nI (sm + 1)) (lv' := [(3, .int (nI (sm + 1))), (0, .ref (a 0)), (1, .int (nI C)), (2, .int (nI E)), (4, .int (nI i))]) hx hb dX2_settledCount_41 hl (k := 3) rfl (nI_1 sm) (by decide) rfl (fun ls hl => ?_)
          refine lv_iinc (v := nI (i + 1)) (lv' := [(4, .int (nI (i + 1))), (3, .int (nI (sm + 1))), (0, .ref (a 0)), (1, .int (nI C)), (2, .int (nI E))]) hx hb dX2_settledCount_44 hl (k := 4) rfl (nI_1 i) (by decide) rfl (fun ls hl => ?_)
          refine lv_goto (tgt := 15) hx hb dX2_settledCount_47 (by decide) ?_
          exact ih (i + 1) _ H locs ls (by omega) (by omega) (by rw [ct_same, if_pos c_38, ← hs]) hI (lv_sub hl [2, 3, 4, 1, 0] rfl)
  exact L1 (n + 1) 0 0 H locs ls (by omega) (by omega) rfl hI0 (lv_sub hl0 [4, 3, 2, 1, 0] rfl)
end
section
set_option maxRecDepth 100000
/-! CONSTRUCTORS: the form of their contracts, what they start with -/
abbrev roU : Room := { frames := 1, cells := 10, slots := 288, locals := 30 }
abbrev roM : Room := { frames := 1, cells := 6, slots := 110, locals := 30 }
def isCl (x : Int32) (n : Nat) : Prop := (¬ nI 2 ≤ x ∧ n = 2) ∨ (nI 2 ≤ x ∧ ¬ x ≤ nI 10 ∧ n = 10) ∨ (nI 2 ≤ x ∧ x ≤ nI 10 ∧ x = nI n ∧ 2 ≤ n ∧ n ≤ 10)
theorem isCl_one {x : Int32} {n m : Nat} (h : isCl x n) (h' : isCl x m) : n = m := by
  rcases h with ⟨a, rfl⟩ | ⟨a, b, rfl⟩ | ⟨a, b, c, d, e⟩ <;> rcases h' with ⟨a', rfl⟩ | ⟨a', b', rfl⟩ | ⟨a', b', c', d', e'⟩
  · rfl
  · exact absurd a' a
  · exact absurd a' a
  · exact absurd a a'
  · rfl
  · exact absurd b' b
  · exact absurd a a'
  · exact absurd b b'
  · exact nI_inj (by omega) (by omega) (c.symm.trans c')
theorem isCl_in {x : Int32} {n : Nat} (h : isCl x n) : 2 ≤ n ∧ n ≤ 10 := by
  rcases h with ⟨a, rfl⟩ | ⟨a, b, rfl⟩ | ⟨a, b, c, d, e⟩
  · decide
  · decide
  · exact ⟨d, e⟩
theorem cl_nn {x : Int32} (h : nI 2 ≤ x) : ¬ x < 0 := fun q => absurd (Int32.lt_of_le_of_lt h q) (by decide)
def zF : Nat → Nat := fun _ => 0
def fxI (i : Nat) : Nat → Nat := fun j => if j < i then 2 else 0
theorem fxI_0 : fxI 0 = zF := by
  funext j
  simp [fxI, zF]
theorem fxI_s (i : Nat) : updN (fxI i) i 2 = fxI (i + 1) := by
  funext j
  unfold updN fxI
  by_cases e : j = i
  · rw [if_pos e, if_pos (by omega)]
  · rw [if_neg e]
    by_cases q : j < i
    · rw [if_pos q, if_pos (by omega)]
    · rw [if_neg q, if_neg (by omega)]
theorem fxI_le (i v : Nat) : fxI i v ≤ 2 := by
  unfold fxI
  split <;> omega
theorem va_K_same {D : va_G} {d cA : ClassId} {s : State} (h : va_K D vwCl ([(d, .int)] ++ [(cA, .int)]) s) : d = cA := by
  have e1 : s.vm.findClass ("[" ++ FieldType.int.toString) = some d := (h.2 0 _ rfl).2
  have e2 : s.vm.findClass ("[" ++ FieldType.int.toString) = some cA := (h.2 1 _ rfl).2
  exact Option.some.inj (e1.symm.trans e2)
def qN {σ : Type} (l : Launch) (y : MethodName) (cc : ByteArray) (L : Nat) (rm : Room) (D : va_G) (tys0 : List (ClassId × FieldType)) (w0 : va_W) (WF : σ → va_W) (dF : σ → ClassId) (av : List Value) (post : σ → Prop) (mc ms : Nat) : Prop :=
  ∀ sz : Nat, Met l y (ws_ y cc L none) rm (va_Pc av (fun U => U.heap.size = sz ∧ va_P D vwCl w0 U.heap ∧ va_K D vwCl tys0 U ∧ va_D (fun _ => True) w0)) (va_Qv post (fun u t => va_P D vwCl (WF u) t.heap ∧ va_K D vwCl [(dF u, .int)] t ∧ va_D (va_A w0 sz) (WF u)) (va_A w0 sz)) mc ms (va_A w0 sz)
set_option maxHeartbeats 4000000 in
theorem qN_of {σ : Type} {l : Launch} {y : MethodName} {cc : ByteArray} {L : Nat} {rm : Room} {D : va_G} {tys0 : List (ClassId × FieldType)} {w0 : va_W} {WF : σ → va_W} {dF : σ → ClassId} {av : List Value} {post : σ → Prop} {mc ms : Nat} (own : String) (ho : y.cls = own) (hy : plainName y.cls = true) (hL : (lg_sl av).length ≤ L)
    (body : ∀ (p : Program) (e : Env) (s : State) (m : MethodId) (below : List Frame) (meth : Method) (c : Code) (A : Nat → Prop) (Q : State → Prop) (H : Heap) (locs : List Loc) (ls : Array Slot),
      CallFix p m c cc L s av.toArray lw_all own → meth.name = y.name → va_K D vwCl tys0 s → (∀ q : Nat, s.heap.size ≤ q → A q) → IW D A s.heap w0 H locs → lv_has ls L (lv_args 0 av) →
      (∀ (pc : Nat) (ls : Array Slot) (H : Heap) (locs : List Loc) (u : σ), decode cc pc = .ok (.return_, 1) → post u → IW D A s.heap (WF u) H locs → va_K D vwCl [(dF u, .int)] s → W p l e rm s m av.toArray below meth c H locs mc ms Q (F0 m pc ls [])) →
      W p l e rm s m av.toArray below meth c H locs 0 0 Q (F0 m 0 ls [])) : qN l y cc L rm D tys0 w0 WF dF av post mc ms := by
  subst ho
  intro sz
  refine Met.ofW (cc := cc) (maxL := L) (ret := none) hy rfl ?_
  intro p e s m args below meth c s₁ B hml hv
  obtain ⟨rfl, hsz, hP, hK, hD0⟩ := hv
  have hts := atoms_spec (ws := ws_ y cc L none) B.pre
  have hts : ∀ w ∈ lw_all, w.before _ s = true := fun w h => hts w (List.mem_cons_of_mem _ h)
  have hown : s.vm.findClass y.cls = some m.cls := findClass_of_methodNamed B.named
  have hlocks := B.notSynchronized
  have hin : meth.name = y.name := (name_of_methodNamed B.named B.method).1
  subst hsz
  have hD := hD0.self (sz := s.heap.size)
  have hl := lv_entry av (n := L) hL
  rw [lg_entry_eq]
  refine body p e s m below meth c (va_A w0 s.heap.size) _ s.heap [] _ ⟨B.exec, B.bytes, hml, hown, hts⟩ hin hK (fun q h => Or.inr h) ⟨hP, hD, va_S.rf⟩ hl ?_
  intro pc ls H locs u hdg hp hI hK2
  exact W.vret B.exec B.bytes B.returns (fun t ht hW => ⟨⟨u, rfl, hp, by rw [ht]; exact hI.1, va_K.moved hW.alike hK2, hI.2.1⟩, hI.2.2.F ht⟩) hI.2.2.2.2 hdg
end
section
set_option maxRecDepth 100000
/-! the constructors (printed by gen_init.py) -/
set_option maxHeartbeats 4000000 in
theorem mU_init (l : Launch) (D : va_G) (h0 : Nat) (x : Int32) : qN (σ := ClassId × (Nat → Nat) × sgU) l yX1_init cX1_init 3 roU D [] [(h0, .inr (0, [.null, .null, .null, .null, .null, .null, .null, .null, .null, .null, .int 0, .int 0, .int 0]))] (fun u => wU u.1 u.2.1 u.2.2) (fun u => u.1) [.ref h0, .int x] (fun u => u.2.1 0 = h0 ∧ ∃ n, isCl x n ∧ u.2.2 = (n, 0, nNone, zF, zF, zF, zF, zF, fxI 10, zF, zF, zF, zF)) 10 288 := by
  refine qN_of RX1 rfl (by decide) (Nat.le_of_ble_eq_true rfl) ?_
  intro p e s m below meth c0 A Q H locs ls hC0 hin hK hA hI hl hE
  have hx := hC0.1
  have hb := hC0.2.1
  have hml := hC0.2.2.1
  have hown := hC0.2.2.2.1
  have hts := hC0.2.2.2.2
  have hl : lv_has ls 3 [(0, .ref h0), (1, .int x)] := hl
  obtain ⟨hP, hD, hS⟩ := hI
  refine lv_aload_n hx hb dX1_init_0 rfl (lv_at hl 0 rfl) ?_
  refine W.objInit hx hb hown (hts _ q25) (hts _ q26) (hts _ q27) rfl (by rw [hml]; exact hl.1) rfl dX1_init_1 (Nat.le_of_ble_eq_true rfl) (Nat.le_of_ble_eq_true rfl) ?_
  refine W.eq (g2 := F0 m 4 ls []) rfl ?_
  refine lv_aload_n hx hb dX1_init_4 rfl (lv_at hl 0 rfl) ?_
  refine lv_bipush (v := nI 20) hx hb dX1_init_5 (by decide +kernel) ?_
  refine va_newa (atype := .int) (a0 := (20, .inl (nF zF))) hx hb (hts _ q68) rfl hK hP hD hS hA (fun _ => rfl) (by decide +kernel) (by decide +kernel) (by decide +kernel) (Nat.le_of_ble_eq_true rfl) (Nat.le_of_ble_eq_true rfl) dX1_init_7 (fun q_1 d H hK hP hD hS => ?_)
  refine W.widen (k := 1) (n := 20) (Nat.le_of_ble_eq_true rfl) (Nat.le_of_ble_eq_true rfl) ?_
  have hK : va_K D vwCl [(d, .int)] s := hK
  have hP : va_P D vwCl [(h0, .inr (0, [.null, .null, .null, .null, .null, .null, .null, .null, .null, .null, .int 0, .int 0, .int 0])), (q_1, .inl (d, 20, .inl (nF zF)))] H := hP
  have hD : va_D A [(h0, .inr (0, [.null, .null, .null, .null, .null, .null, .null, .null, .null, .null, .int 0, .int 0, .int 0])), (q_1, .inl (d, 20, .inl (nF zF)))] := hD
  refine va_putF (D := D) (ci := 0) (v := .ref q_1) (ty := .array .int) (C := RX1) (T := TX1) (N := 13) hx hb hts in_X1 tyX1 tyX1_ok nmX1 hown hK hP hD hS 0 rfl rfl 0 (by decide) (hts _ q28) (fun _ h9 => h9) rfl hin rfl (by decide +kernel) rfl rfl (Nat.le_of_ble_eq_true rfl) dX1_init_9 (fun H locs hP hD hS => ?_)
  have hP : va_P D vwCl [(h0, .inr (0, [.ref q_1, .null, .null, .null, .null, .null, .null, .null, .null, .null, .int 0, .int 0, .int 0])), (q_1, .inl (d, 20, .inl (nF zF)))] H := hP
  have hD : va_D A [(h0, .inr (0, [.ref q_1, .null, .null, .null, .null, .null, .null, .null, .null, .null, .int 0, .int 0, .int 0])), (q_1, .inl (d, 20, .inl (nF zF)))] := hD
  refine lv_aload_n hx hb dX1_init_12 rfl (lv_at hl 0 rfl) ?_
  refine lv_bipush (v := nI 20) hx hb dX1_init_13 (by decide +kernel) ?_
  refine va_newa (atype := .int) (a0 := (20, .inl (nF zF))) hx hb (hts _ q68) rfl hK hP hD hS hA (fun _ => rfl) (by decide +kernel) (by decide +kernel) (by decide +kernel) (Nat.le_of_ble_eq_true rfl) (Nat.le_of_ble_eq_true rfl) dX1_init_15 (fun q_2 cA H hK2 hP hD hS => ?_)
  refine W.widen (k := 2) (n := 40) (Nat.le_of_ble_eq_true rfl) (Nat.le_of_ble_eq_true rfl) ?_
  have e_d := va_K_same hK2
  subst e_d
  clear hK2
  have hP : va_P D vwCl [(h0, .inr (0, [.ref q_1, .null, .null, .null, .null, .null, .null, .null, .null, .null, .int 0, .int 0, .int 0])), (q_1, .inl (d, 20, .inl (nF zF))), (q_2, .inl (d, 20, .inl (nF zF)))] H := hP
  have hD : va_D A [(h0, .inr (0, [.ref q_1, .null, .null, .null, .null, .null, .null, .null, .null, .null, .int 0, .int 0, .int 0])), (q_1, .inl (d, 20, .inl (nF zF))), (q_2, .inl (d, 20, .inl (nF zF)))] := hD
  refine va_putF (D := D) (ci := 0) (v := .ref q_2) (ty := .array .int) (C := RX1) (T := TX1) (N := 13) hx hb hts in_X1 tyX1 tyX1_ok nmX1 hown hK hP hD hS 0 rfl rfl 1 (by decide) (hts _ q29) (fun _ h9 => h9) rfl hin rfl (by decide +kernel) rfl rfl (Nat.le_of_ble_eq_true rfl) dX1_init_17 (fun H locs hP hD hS => ?_)
  have hP : va_P D vwCl [(h0, .inr (0, [.ref q_1, .ref q_2, .null, .null, .null, .null, .null, .null, .null, .null, .int 0, .int 0, .int 0])), (q_1, .inl (d, 20, .inl (nF zF))), (q_2, .inl (d, 20, .inl (nF zF)))] H := hP
  have hD : va_D A [(h0, .inr (0, [.ref q_1, .ref q_2, .null, .null, .null, .null, .null, .null, .null, .null, .int 0, .int 0, .int 0])), (q_1, .inl (d, 20, .inl (nF zF))), (q_2, .inl (d, 20, .inl (nF zF)))] := hD
  refine lv_aload_n hx hb dX1_init_20 rfl (lv_at hl 0 rfl) ?_
  refine lv_bipush (v := nI 20) hx hb dX1_init_21 (by decide +kernel) ?_
  refine va_newa (atype := .int) (a0 := (20, .inl (nF zF))) hx hb (hts _ q68) rfl hK hP hD hS hA (fun _ => rfl) (by decide +kernel) (by decide +kernel) (by decide +kernel) (Nat.le_of_ble_eq_true rfl) (Nat.le_of_ble_eq_true rfl) dX1_init_23 (fun q_3 cA H hK2 hP hD hS => ?_)
  refine W.widen (k := 3) (n := 60) (Nat.le_of_ble_eq_true rfl) (Nat.le_of_ble_eq_true rfl) ?_
  have e_d := va_K_same hK2
  subst e_d
  clear hK2
  have hP : va_P D vwCl [(h0, .inr (0, [.ref q_1, .ref q_2, .null, .null, .null, .null, .null, .null, .null, .null, .int 0, .int 0, .int 0])), (q_1, .inl (d, 20, .inl (nF zF))), (q_2, .inl (d, 20, .inl (nF zF))), (q_3, .inl (d, 20, .inl (nF zF)))] H := hP
  have hD : va_D A [(h0, .inr (0, [.ref q_1, .ref q_2, .null, .null, .null, .null, .null, .null, .null, .null, .int 0, .int 0, .int 0])), (q_1, .inl (d, 20, .inl (nF zF))), (q_2, .inl (d, 20, .inl (nF zF))), (q_3, .inl (d, 20, .inl (nF zF)))] := hD
  refine va_putF (D := D) (ci := 0) (v := .ref q_3) (ty := .array .int) (C := RX1) (T := TX1) (N := 13) hx hb hts in_X1 tyX1 tyX1_ok nmX1 hown hK hP hD hS 0 rfl rfl 2 (by decide) (hts _ q30) (fun _ h9 => h9) rfl hin rfl (by decide +kernel) rfl rfl (Nat.le_of_ble_eq_true rfl) dX1_init_25 (fun H locs hP hD hS => ?_)
  have hP : va_P D vwCl [(h0, .inr (0, [.ref q_1, .ref q_2, .ref q_3, .null, .null, .null, .null, .null, .null, .null, .int 0, .int 0, .int 0])), (q_1, .inl (d, 20, .inl (nF zF))), (q_2, .inl (d, 20, .inl (nF zF))), (q_3, .inl (d, 20, .inl (nF zF)))] H := hP
  have hD : va_D A [(h0, .inr (0, [.ref q_1, .ref q_2, .ref q_3, .null, .null, .null, .null, .null, .null, .null, .int 0, .int 0, .int 0])), (q_1, .inl (d, 20, .inl (nF zF))), (q_2, .inl (d, 20, .inl (nF zF))), (q_3, .inl (d, 20, .inl (nF zF)))] := hD
  refine lv_aload_n hx hb dX1_init_28 rfl (lv_at hl 0 rfl) ?_
  refine lv_bipush (v := nI 20) hx hb dX1_init_29 (by decide +kernel) ?_
  refine va_newa (atype := .int) (a0 := (20, .inl (nF zF))) hx hb (hts _ q68) rfl hK hP hD hS hA (fun _ => rfl) (by decide +kernel) (by decide +kernel) (by decide +kernel) (Nat.le_of_ble_eq_true rfl) (Nat.le_of_ble_eq_true rfl) dX1_init_31 (fun q_4 cA H hK2 hP hD hS => ?_)
  refine W.widen (k := 4) (n := 80) (Nat.le_of_ble_eq_true rfl) (Nat.le_of_ble_eq_true rfl) ?_
  have e_d := va_K_same hK2
  subst e_d
  clear hK2
  have hP : va_P D vwCl [(h0, .inr (0, [.ref q_1, .ref q_2, .ref q_3, .null, .null, .null, .null, .null, .null, .null, .int 0, .int 0, .int 0])), (q_1, .inl (d, 20, .inl (nF zF))), (q_2, .inl (d, 20, .inl (nF zF))), (q_3, .inl (d, 20, .inl (nF zF))), (q_4, .inl (d, 20, .inl (nF zF)))] H := hP
  have hD : va_D A [(h0, .inr (0, [.ref q_1, .ref q_2, .ref q_3, .null, .null, .null, .null, .null, .null, .null, .int 0, .int 0, .int 0])), (q_1, .inl (d, 20, .inl (nF zF))), (q_2, .inl (d, 20, .inl (nF zF))), (q_3, .inl (d, 20, .inl (nF zF))), (q_4, .inl (d, 20, .inl (nF zF)))] := hD
  refine va_putF (D := D) (ci := 0) (v := .ref q_4) (ty := .array .int) (C := RX1) (T := TX1) (N := 13) hx hb hts in_X1 tyX1 tyX1_ok nmX1 hown hK hP hD hS 0 rfl rfl 3 (by decide) (hts _ q31) (fun _ h9 => h9) rfl hin rfl (by decide +kernel) rfl rfl (Nat.le_of_ble_eq_true rfl) dX1_init_33 (fun H locs hP hD hS => ?_)
  have hP : va_P D vwCl [(h0, .inr (0, [.ref q_1, .ref q_2, .ref q_3, .ref q_4, .null, .null, .null, .null, .null, .null, .int 0, .int 0, .int 0])), (q_1, .inl (d, 20, .inl (nF zF))), (q_2, .inl (d, 20, .inl (nF zF))), (q_3, .inl (d, 20, .inl (nF zF))), (q_4, .inl (d, 20, .inl (nF zF)))] H := hP
  have hD : va_D A [(h0, .inr (0, [.ref q_1, .ref q_2, .ref q_3, .ref q_4, .null, .null, .null, .null, .null, .null, .int 0, .int 0, .int 0])), (q_1, .inl (d, 20, .inl (nF zF))), (q_2, .inl (d, 20, .inl (nF zF))), (q_3, .inl (d, 20, .inl (nF zF))), (q_4, .inl (d, 20, .inl (nF zF)))] := hD
  refine lv_aload_n hx hb dX1_init_36 rfl (lv_at hl 0 rfl) ?_
  refine lv_bipush (v := nI 20) hx hb dX1_init_37 (by decide +kernel) ?_
  refine va_newa (atype := .int) (a0 := (20, .inl (nF zF))) hx hb (hts _ q68) rfl hK hP hD hS hA (fun _ => rfl) (by decide +kernel) (by decide +kernel) (by decide +kernel) (Nat.le_of_ble_eq_true rfl) (Nat.le_of_ble_eq_true rfl) dX1_init_39 (fun q_5 cA H hK2 hP hD hS => ?_)
  refine W.widen (k := 5) (n := 100) (Nat.le_of_ble_eq_true rfl) (Nat.le_of_ble_eq_true rfl) ?_
  have e_d := va_K_same hK2
  subst e_d
  clear hK2
  have hP : va_P D vwCl [(h0, .inr (0, [.ref q_1, .ref q_2, .ref q_3, .ref q_4, .null, .null, .null, .null, .null, .null, .int 0, .int 0, .int 0])), (q_1, .inl (d, 20, .inl (nF zF))), (q_2, .inl (d, 20, .inl (nF zF))), (q_3, .inl (d, 20, .inl (nF zF))), (q_4, .inl (d, 20, .inl (nF zF))), (q_5, .inl (d, 20, .inl (nF zF)))] H := hP
  have hD : va_D A [(h0, .inr (0, [.ref q_1, .ref q_2, .ref q_3, .ref q_4, .null, .null, .null, .null, .null, .null, .int 0, .int 0, .int 0])), (q_1, .inl (d, 20, .inl (nF zF))), (q_2, .inl (d, 20, .inl (nF zF))), (q_3, .inl (d, 20, .inl (nF zF))), (q_4, .inl (d, 20, .inl (nF zF))), (q_5, .inl (d, 20, .inl (nF zF)))] := hD
  refine va_putF (D := D) (ci := 0) (v := .ref q_5) (ty := .array .int) (C := RX1) (T := TX1) (N := 13) hx hb hts in_X1 tyX1 tyX1_ok nmX1 hown hK hP hD hS 0 rfl rfl 4 (by decide) (hts _ q32) (fun _ h9 => h9) rfl hin rfl (by decide +kernel) rfl rfl (Nat.le_of_ble_eq_true rfl) dX1_init_41 (fun H locs hP hD hS => ?_)
  have hP : va_P D vwCl [(h0, .inr (0, [.ref q_1, .ref q_2, .ref q_3, .ref q_4, .ref q_5, .null, .null, .null, .null, .null, .int 0, .int 0, .int 0])), (q_1, .inl (d, 20, .inl (nF zF))), (q_2, .inl (d, 20, .inl (nF zF))), (q_3, .inl (d, 20, .inl (nF zF))), (q_4, .inl (d, 20, .inl (nF zF))), (q_5, .inl (d, 20, .inl (nF zF)))] H := hP
  have hD : va_D A [(h0, .inr (0, [.ref q_1, .ref q_2, .ref q_3, .ref q_4, .ref q_5, .null, .null, .null, .null, .null, .int 0, .int 0, .int 0])), (q_1, .inl (d, 20, .inl (nF zF))), (q_2, .inl (d, 20, .inl (nF zF))), (q_3, .inl (d, 20, .inl (nF zF))), (q_4, .inl (d, 20, .inl (nF zF))), (q_5, .inl (d, 20, .inl (nF zF)))] := hD
  refine lv_aload_n hx hb dX1_init_44 rfl (lv_at hl 0 rfl) ?_
  refine lv_bipush (v := nI 10) hx hb dX1_init_45 (by decide +kernel) ?_
  refine va_newa (atype := .int) (a0 := (10, .inl (nF zF))) hx hb (hts _ q68) rfl hK hP hD hS hA (fun _ => rfl) (by decide +kernel) (by decide +kernel) (by decide +kernel) (Nat.le_of_ble_eq_true rfl) (Nat.le_of_ble_eq_true rfl) dX1_init_47 (fun q_6 cA H hK2 hP hD hS => ?_)
  refine W.widen (k := 6) (n := 110) (Nat.le_of_ble_eq_true rfl) (Nat.le_of_ble_eq_true rfl) ?_
  have e_d := va_K_same hK2
  subst e_d
  clear hK2
  have hP : va_P D vwCl [(h0, .inr (0, [.ref q_1, .ref q_2, .ref q_3, .ref q_4, .ref q_5, .null, .null, .null, .null, .null, .int 0, .int 0, .int 0])), (q_1, .inl (d, 20, .inl (nF zF))), (q_2, .inl (d, 20, .inl (nF zF))), (q_3, .inl (d, 20, .inl (nF zF))), (q_4, .inl (d, 20, .inl (nF zF))), (q_5, .inl (d, 20, .inl (nF zF))), (q_6, .inl (d, 10, .inl (nF zF)))] H := hP
  have hD : va_D A [(h0, .inr (0, [.ref q_1, .ref q_2, .ref q_3, .ref q_4, .ref q_5, .null, .null, .null, .null, .null, .int 0, .int 0, .int 0])), (q_1, .inl (d, 20, .inl (nF zF))), (q_2, .inl (d, 20, .inl (nF zF))), (q_3, .inl (d, 20, .inl (nF zF))), (q_4, .inl (d, 20, .inl (nF zF))), (q_5, .inl (d, 20, .inl (nF zF))), (q_6, .inl (d, 10, .inl (nF zF)))] := hD
  refine va_putF (D := D) (ci := 0) (v := .ref q_6) (ty := .array .int) (C := RX1) (T := TX1) (N := 13) hx hb hts in_X1 tyX1 tyX1_ok nmX1 hown hK hP hD hS 0 rfl rfl 5 (by decide) (hts _ q33) (fun _ h9 => h9) rfl hin rfl (by decide +kernel) rfl rfl (Nat.le_of_ble_eq_true rfl) dX1_init_49 (fun H locs hP hD hS => ?_)
  have hP : va_P D vwCl [(h0, .inr (0, [.ref q_1, .ref q_2, .ref q_3, .ref q_4, .ref q_5, .ref q_6, .null, .null, .null, .null, .int 0, .int 0, .int 0])), (q_1, .inl (d, 20, .inl (nF zF))), (q_2, .inl (d, 20, .inl (nF zF))), (q_3, .inl (d, 20, .inl (nF zF))), (q_4, .inl (d, 20, .inl (nF zF))), (q_5, .inl (d, 20, .inl (nF zF))), (q_6, .inl (d, 10, .inl (nF zF)))] H := hP
  have hD : va_D A [(h0, .inr (0, [.ref q_1, .ref q_2, .ref q_3, .ref q_4, .ref q_5, .ref q_6, .null, .null, .null, .null, .int 0, .int 0, .int 0])), (q_1, .inl (d, 20, .inl (nF zF))), (q_2, .inl (d, 20, .inl (nF zF))), (q_3, .inl (d, 20, .inl (nF zF))), (q_4, .inl (d, 20, .inl (nF zF))), (q_5, .inl (d, 20, .inl (nF zF))), (q_6, .inl (d, 10, .inl (nF zF)))] := hD
  refine lv_aload_n hx hb dX1_init_52 rfl (lv_at hl 0 rfl) ?_
  refine lv_bipush (v := nI 10) hx hb dX1_init_53 (by decide +kernel) ?_
  refine va_newa (atype := .int) (a0 := (10, .inl (nF zF))) hx hb (hts _ q68) rfl hK hP hD hS hA (fun _ => rfl) (by decide +kernel) (by decide +kernel) (by decide +kernel) (Nat.le_of_ble_eq_true rfl) (Nat.le_of_ble_eq_true rfl) dX1_init_55 (fun q_7 cA H hK2 hP hD hS => ?_)
  refine W.widen (k := 7) (n := 120) (Nat.le_of_ble_eq_true rfl) (Nat.le_of_ble_eq_true rfl) ?_
  have e_d := va_K_same hK2
  subst e_d
  clear hK2
  have hP : va_P D vwCl [(h0, .inr (0, [.ref q_1, .ref q_2, .ref q_3, .ref q_4, .ref q_5, .ref q_6, .null, .null, .null, .null, .int 0, .int 0, .int 0])), (q_1, .inl (d, 20, .inl (nF zF))), (q_2, .inl (d, 20, .inl (nF zF))), (q_3, .inl (d, 20, .inl (nF zF))), (q_4, .inl (d, 20, .inl (nF zF))), (q_5, .inl (d, 20, .inl (nF zF))), (q_6, .inl (d, 10, .inl (nF zF))), (q_7, .inl (d, 10, .inl (nF zF)))] H := hP
  have hD : va_D A [(h0, .inr (0, [.ref q_1, .ref q_2, .ref q_3, .ref q_4, .ref q_5, .ref q_6, .null, .null, .null, .null, .int 0, .int 0, .int 0])), (q_1, .inl (d, 20, .inl (nF zF))), (q_2, .inl (d, 20, .inl (nF zF))), (q_3, .inl (d, 20, .inl (nF zF))), (q_4, .inl (d, 20, .inl (nF zF))), (q_5, .inl (d, 20, .inl (nF zF))), (q_6, .inl (d, 10, .inl (nF zF))), (q_7, .inl (d, 10, .inl (nF zF)))] := hD
  refine va_putF (D := D) (ci := 0) (v := .ref q_7) (ty := .array .int) (C := RX1) (T := TX1) (N := 13) hx hb hts in_X1 tyX1 tyX1_ok nmX1 hown hK hP hD hS 0 rfl rfl 6 (by decide) (hts _ q34) (fun _ h9 => h9) rfl hin rfl (by decide +kernel) rfl rfl (Nat.le_of_ble_eq_true rfl) dX1_init_57 (fun H locs hP hD hS => ?_)
  have hP : va_P D vwCl [(h0, .inr (0, [.ref q_1, .ref q_2, .ref q_3, .ref q_4, .ref q_5, .ref q_6, .ref q_7, .null, .null, .null, .int 0, .int 0, .int 0])), (q_1, .inl (d, 20, .inl (nF zF))), (q_2, .inl (d, 20, .inl (nF zF))), (q_3, .inl (d, 20, .inl (nF zF))), (q_4, .inl (d, 20, .inl (nF zF))), (q_5, .inl (d, 20, .inl (nF zF))), (q_6, .inl (d, 10, .inl (nF zF))), (q_7, .inl (d, 10, .inl (nF zF)))] H := hP
  have hD : va_D A [(h0, .inr (0, [.ref q_1, .ref q_2, .ref q_3, .ref q_4, .ref q_5, .ref q_6, .ref q_7, .null, .null, .null, .int 0, .int 0, .int 0])), (q_1, .inl (d, 20, .inl (nF zF))), (q_2, .inl (d, 20, .inl (nF zF))), (q_3, .inl (d, 20, .inl (nF zF))), (q_4, .inl (d, 20, .inl (nF zF))), (q_5, .inl (d, 20, .inl (nF zF))), (q_6, .inl (d, 10, .inl (nF zF))), (q_7, .inl (d, 10, .inl (nF zF)))] := hD
  refine lv_aload_n hx hb dX1_init_60 rfl (lv_at hl 0 rfl) ?_
  refine lv_sipush (v := nI 144) hx hb dX1_init_61 (by decide +kernel) ?_
  refine va_newa (atype := .int) (a0 := (144, .inl (nF zF))) hx hb (hts _ q68) rfl hK hP hD hS hA (fun _ => rfl) (by decide +kernel) (by decide +kernel) (by decide +kernel) (Nat.le_of_ble_eq_true rfl) (Nat.le_of_ble_eq_true rfl) dX1_init_64 (fun q_8 cA H hK2 hP hD hS => ?_)
  refine W.widen (k := 8) (n := 264) (Nat.le_of_ble_eq_true rfl) (Nat.le_of_ble_eq_true rfl) ?_
  have e_d := va_K_same hK2
  subst e_d
  clear hK2
  have hP : va_P D vwCl [(h0, .inr (0, [.ref q_1, .ref q_2, .ref q_3, .ref q_4, .ref q_5, .ref q_6, .ref q_7, .null, .null, .null, .int 0, .int 0, .int 0])), (q_1, .inl (d, 20, .inl (nF zF))), (q_2, .inl (d, 20, .inl (nF zF))), (q_3, .inl (d, 20, .inl (nF zF))), (q_4, .inl (d, 20, .inl (nF zF))), (q_5, .inl (d, 20, .inl (nF zF))), (q_6, .inl (d, 10, .inl (nF zF))), (q_7, .inl (d, 10, .inl (nF zF))), (q_8, .inl (d, 144, .inl (nF zF)))] H := hP
  have hD : va_D A [(h0, .inr (0, [.ref q_1, .ref q_2, .ref q_3, .ref q_4, .ref q_5, .ref q_6, .ref q_7, .null, .null, .null, .int 0, .int 0, .int 0])), (q_1, .inl (d, 20, .inl (nF zF))), (q_2, .inl (d, 20, .inl (nF zF))), (q_3, .inl (d, 20, .inl (nF zF))), (q_4, .inl (d, 20, .inl (nF zF))), (q_5, .inl (d, 20, .inl (nF zF))), (q_6, .inl (d, 10, .inl (nF zF))), (q_7, .inl (d, 10, .inl (nF zF))), (q_8, .inl (d, 144, .inl (nF zF)))] := hD
  refine va_putF (D := D) (ci := 0) (v := .ref q_8) (ty := .array .int) (C := RX1) (T := TX1) (N := 13) hx hb hts in_X1 tyX1 tyX1_ok nmX1 hown hK hP hD hS 0 rfl rfl 7 (by decide) (hts _ q35) (fun _ h9 => h9) rfl hin rfl (by decide +kernel) rfl rfl (Nat.le_of_ble_eq_true rfl) dX1_init_66 (fun H locs hP hD hS => ?_)
  have hP : va_P D vwCl [(h0, .inr (0, [.ref q_1, .ref q_2, .ref q_3, .ref q_4, .ref q_5, .ref q_6, .ref q_7, .ref q_8, .null, .null, .int 0, .int 0, .int 0])), (q_1, .inl (d, 20, .inl (nF zF))), (q_2, .inl (d, 20, .inl (nF zF))), (q_3, .inl (d, 20, .inl (nF zF))), (q_4, .inl (d, 20, .inl (nF zF))), (q_5, .inl (d, 20, .inl (nF zF))), (q_6, .inl (d, 10, .inl (nF zF))), (q_7, .inl (d, 10, .inl (nF zF))), (q_8, .inl (d, 144, .inl (nF zF)))] H := hP
  have hD : va_D A [(h0, .inr (0, [.ref q_1, .ref q_2, .ref q_3, .ref q_4, .ref q_5, .ref q_6, .ref q_7, .ref q_8, .null, .null, .int 0, .int 0, .int 0])), (q_1, .inl (d, 20, .inl (nF zF))), (q_2, .inl (d, 20, .inl (nF zF))), (q_3, .inl (d, 20, .inl (nF zF))), (q_4, .inl (d, 20, .inl (nF zF))), (q_5, .inl (d, 20, .inl (nF zF))), (q_6, .inl (d, 10, .inl (nF zF))), (q_7, .inl (d, 10, .inl (nF zF))), (q_8, .inl (d, 144, .inl (nF zF)))] := hD
  refine lv_aload_n hx hb dX1_init_69 rfl (lv_at hl 0 rfl) ?_
  refine lv_bipush (v := nI 12) hx hb dX1_init_70 (by decide +kernel) ?_
  refine va_newa (atype := .int) (a0 := (12, .inl (nF zF))) hx hb (hts _ q68) rfl hK hP hD hS hA (fun _ => rfl) (by decide +kernel) (by decide +kernel) (by decide +kernel) (Nat.le_of_ble_eq_true rfl) (Nat.le_of_ble_eq_true rfl) dX1_init_72 (fun q_9 cA H hK2 hP hD hS => ?_)
  refine W.widen (k := 9) (n := 276) (Nat.le_of_ble_eq_true rfl) (Nat.le_of_ble_eq_true rfl) ?_
  have e_d := va_K_same hK2
  subst e_d
  clear hK2
  have hP : va_P D vwCl [(h0, .inr (0, [.ref q_1, .ref q_2, .ref q_3, .ref q_4, .ref q_5, .ref q_6, .ref q_7, .ref q_8, .null, .null, .int 0, .int 0, .int 0])), (q_1, .inl (d, 20, .inl (nF zF))), (q_2, .inl (d, 20, .inl (nF zF))), (q_3, .inl (d, 20, .inl (nF zF))), (q_4, .inl (d, 20, .inl (nF zF))), (q_5, .inl (d, 20, .inl (nF zF))), (q_6, .inl (d, 10, .inl (nF zF))), (q_7, .inl (d, 10, .inl (nF zF))), (q_8, .inl (d, 144, .inl (nF zF))), (q_9, .inl (d, 12, .inl (nF zF)))] H := hP
  have hD : va_D A [(h0, .inr (0, [.ref q_1, .ref q_2, .ref q_3, .ref q_4, .ref q_5, .ref q_6, .ref q_7, .ref q_8, .null, .null, .int 0, .int 0, .int 0])), (q_1, .inl (d, 20, .inl (nF zF))), (q_2, .inl (d, 20, .inl (nF zF))), (q_3, .inl (d, 20, .inl (nF zF))), (q_4, .inl (d, 20, .inl (nF zF))), (q_5, .inl (d, 20, .inl (nF zF))), (q_6, .inl (d, 10, .inl (nF zF))), (q_7, .inl (d, 10, .inl (nF zF))), (q_8, .inl (d, 144, .inl (nF zF))), (q_9, .inl (d, 12, .inl (nF zF)))] := hD
  refine va_putF (D := D) (ci := 0) (v := .ref q_9) (ty := .array .int) (C := RX1) (T := TX1) (N := 13) hx hb hts in_X1 tyX1 tyX1_ok nmX1 hown hK hP hD hS 0 rfl rfl 8 (by decide) (hts _ q36) (fun _ h9 => h9) rfl hin rfl (by decide +kernel) rfl rfl (Nat.le_of_ble_eq_true rfl) dX1_init_74 (fun H locs hP hD hS => ?_)
  have hP : va_P D vwCl [(h0, .inr (0, [.ref q_1, .ref q_2, .ref q_3, .ref q_4, .ref q_5, .ref q_6, .ref q_7, .ref q_8, .ref q_9, .null, .int 0, .int 0, .int 0])), (q_1, .inl (d, 20, .inl (nF zF))), (q_2, .inl (d, 20, .inl (nF zF))), (q_3, .inl (d, 20, .inl (nF zF))), (q_4, .inl (d, 20, .inl (nF zF))), (q_5, .inl (d, 20, .inl (nF zF))), (q_6, .inl (d, 10, .inl (nF zF))), (q_7, .inl (d, 10, .inl (nF zF))), (q_8, .inl (d, 144, .inl (nF zF))), (q_9, .inl (d, 12, .inl (nF zF)))] H := hP
  have hD : va_D A [(h0, .inr (0, [.ref q_1, .ref q_2, .ref q_3, .ref q_4, .ref q_5, .ref q_6, .ref q_7, .ref q_8, .ref q_9, .null, .int 0, .int 0, .int 0])), (q_1, .inl (d, 20, .inl (nF zF))), (q_2, .inl (d, 20, .inl (nF zF))), (q_3, .inl (d, 20, .inl (nF zF))), (q_4, .inl (d, 20, .inl (nF zF))), (q_5, .inl (d, 20, .inl (nF zF))), (q_6, .inl (d, 10, .inl (nF zF))), (q_7, .inl (d, 10, .inl (nF zF))), (q_8, .inl (d, 144, .inl (nF zF))), (q_9, .inl (d, 12, .inl (nF zF)))] := hD
  refine lv_aload_n hx hb dX1_init_77 rfl (lv_at hl 0 rfl) ?_
  refine lv_bipush (v := nI 12) hx hb dX1_init_78 (by decide +kernel) ?_
  refine va_newa (atype := .int) (a0 := (12, .inl (nF zF))) hx hb (hts _ q68) rfl hK hP hD hS hA (fun _ => rfl) (by decide +kernel) (by decide +kernel) (by decide +kernel) (Nat.le_of_ble_eq_true rfl) (Nat.le_of_ble_eq_true rfl) dX1_init_80 (fun q_10 cA H hK2 hP hD hS => ?_)
  refine W.widen (k := 10) (n := 288) (Nat.le_of_ble_eq_true rfl) (Nat.le_of_ble_eq_true rfl) ?_
  have e_d := va_K_same hK2
  subst e_d
  clear hK2
  have hP : va_P D vwCl [(h0, .inr (0, [.ref q_1, .ref q_2, .ref q_3, .ref q_4, .ref q_5, .ref q_6, .ref q_7, .ref q_8, .ref q_9, .null, .int 0, .int 0, .int 0])), (q_1, .inl (d, 20, .inl (nF zF))), (q_2, .inl (d, 20, .inl (nF zF))), (q_3, .inl (d, 20, .inl (nF zF))), (q_4, .inl (d, 20, .inl (nF zF))), (q_5, .inl (d, 20, .inl (nF zF))), (q_6, .inl (d, 10, .inl (nF zF))), (q_7, .inl (d, 10, .inl (nF zF))), (q_8, .inl (d, 144, .inl (nF zF))), (q_9, .inl (d, 12, .inl (nF zF))), (q_10, .inl (d, 12, .inl (nF zF)))] H := hP
  have hD : va_D A [(h0, .inr (0, [.ref q_1, .ref q_2, .ref q_3, .ref q_4, .ref q_5, .ref q_6, .ref q_7, .ref q_8, .ref q_9, .null, .int 0, .int 0, .int 0])), (q_1, .inl (d, 20, .inl (nF zF))), (q_2, .inl (d, 20, .inl (nF zF))), (q_3, .inl (d, 20, .inl (nF zF))), (q_4, .inl (d, 20, .inl (nF zF))), (q_5, .inl (d, 20, .inl (nF zF))), (q_6, .inl (d, 10, .inl (nF zF))), (q_7, .inl (d, 10, .inl (nF zF))), (q_8, .inl (d, 144, .inl (nF zF))), (q_9, .inl (d, 12, .inl (nF zF))), (q_10, .inl (d, 12, .inl (nF zF)))] := hD
  refine va_putF (D := D) (ci := 0) (v := .ref q_10) (ty := .array .int) (C := RX1) (T := TX1) (N := 13) hx hb hts in_X1 tyX1 tyX1_ok nmX1 hown hK hP hD hS 0 rfl rfl 9 (by decide) (hts _ q37) (fun _ h9 => h9) rfl hin rfl (by decide +kernel) rfl rfl (Nat.le_of_ble_eq_true rfl) dX1_init_82 (fun H locs hP hD hS => ?_)
  have hP : va_P D vwCl [(h0, .inr (0, [.ref q_1, .ref q_2, .ref q_3, .ref q_4, .ref q_5, .ref q_6, .ref q_7, .ref q_8, .ref q_9, .ref q_10, .int 0, .int 0, .int 0])), (q_1, .inl (d, 20, .inl (nF zF))), (q_2, .inl (d, 20, .inl (nF zF))), (q_3, .inl (d, 20, .inl (nF zF))), (q_4, .inl (d, 20, .inl (nF zF))), (q_5, .inl (d, 20, .inl (nF zF))), (q_6, .inl (d, 10, .inl (nF zF))), (q_7, .inl (d, 10, .inl (nF zF))), (q_8, .inl (d, 144, .inl (nF zF))), (q_9, .inl (d, 12, .inl (nF zF))), (q_10, .inl (d, 12, .inl (nF zF)))] H := hP
  have hD : va_D A [(h0, .inr (0, [.ref q_1, .ref q_2, .ref q_3, .ref q_4, .ref q_5, .ref q_6, .ref q_7, .ref q_8, .ref q_9, .ref q_10, .int 0, .int 0, .int 0])), (q_1, .inl (d, 20, .inl (nF zF))), (q_2, .inl (d, 20, .inl (nF zF))), (q_3, .inl (d, 20, .inl (nF zF))), (q_4, .inl (d, 20, .inl (nF zF))), (q_5, .inl (d, 20, .inl (nF zF))), (q_6, .inl (d, 10, .inl (nF zF))), (q_7, .inl (d, 10, .inl (nF zF))), (q_8, .inl (d, 144, .inl (nF zF))), (q_9, .inl (d, 12, .inl (nF zF))), (q_10, .inl (d, 12, .inl (nF zF)))] := hD
  obtain ⟨a, ha0, hI⟩ : ∃ a : Nat → Nat, a 0 = h0 ∧ IW D A s.heap (wU d a (0, 0, 0, zF, zF, zF, zF, zF, zF, zF, zF, zF, zF)) H locs := ⟨(fun k => [h0, q_1, q_2, q_3, q_4, q_5, q_6, q_7, q_8, q_9, q_10].getD k 0), rfl, hP, hD, hS⟩
  subst ha0
  clear hP hD hS
  have hC : cx RX1 p s m c0 ([.ref (a 0), .int x] : List Value).toArray cX1_init 3 D d := ⟨hC0, hK⟩
  have hl : lv_has ls 3 [(0, .ref (a 0)), (1, .int x)] := hl
  have hI0 := hI
  have hl0 := hl
  clear hI hl
  have L1 : ∀ (j : Nat) (n : Nat) (i : Nat) (H : Heap) (locs : List Loc) (ls : Array Slot), (isCl x n) → (i ≤ 10) → (11 ≤ i + j) → IW D A s.heap (wU d a (n, 0, 0, zF, zF, zF, zF, zF, (fxI i), zF, zF, zF, zF)) H locs → lv_has ls 3 [(0, .ref (a 0)), (2, .int (nI i))] → W p l e roU s m ([.ref (a 0), .int x] : List Value).toArray below meth c0 H locs 10 288 Q (F0 m 116 ls []) := by
    intro j
    induction j with
    | zero => intro n i H locs ls hn hi hj hI hl; exact absurd hj (by omega)
    | succ j ih =>
      intro n i H locs ls hn hi hj hI hl
      refine lv_iload_n hx hb dX1_init_116 rfl (lv_at hl 1 rfl) ?_
      refine lv_bipush (v := nI 10) hx hb dX1_init_117 (by decide +kernel) ?_
      refine r_ge (tgt := 135) hx hb dX1_init_119 (by decide) (by omega) (by omega) (fun c_119 => ?_) (fun c_119 => ?_)
      · skip
        have ei : i = 10 := by omega
        rw [ei] at hI
        refine lv_aload_n hx hb dX1_init_135 rfl (lv_at hl 0 rfl) ?_
        refine lv_iconst (v := nI nNone) hx hb dX1_init_136 (by decide +kernel) ?_
        refine r_putU (n, 0, nNone, zF, zF, zF, zF, zF, (fxI 10), zF, zF, zF, zF) hC hI 12 (by decide) q40 rfl rfl (by decide +kernel) wU_p12 dX1_init_137 (fun H locs hI => ?_)
        exact hE 140 ls H locs (d, a, (n, 0, nNone, zF, zF, zF, zF, zF, (fxI 10), zF, zF, zF, zF)) dX1_init_140 ⟨rfl, n, hn, rfl⟩ hI hK
      · skip
        refine lv_aload_n hx hb dX1_init_122 rfl (lv_at hl 0 rfl) ?_
        refine r_getU (v := .ref (a 6)) hC hI 5 (by decide) q33 rfl rfl dX1_init_123 ?_
        refine lv_iload_n hx hb dX1_init_126 rfl (lv_at hl 1 rfl) ?_
        refine lv_iconst (v := nI 2) hx hb dX1_init_127 (by decide +kernel) ?_
        refine r_ast (N := 10) (f := (fxI i)) (j := i) (x := 2) (ws' := wU d a (n, 0, 0, zF, zF, zF, zF, zF, (updN (fxI i) i 2), zF, zF, zF, zF)) hC hI 6 wU_g6 (by omega) (by decide) wU_s6 dX1_init_128 (fun H locs hI => ?_)
        rw [fxI_s] at hI
        refine lv_iinc (v := nI (i + 1)) (lv' := [(2, .int (nI (i + 1))), (0, .ref (a 0))]) hx hb dX1_init_129 hl (k := 1) rfl (nI_1 i) (by decide) rfl (fun ls hl => ?_)
        refine lv_goto (tgt := 116) hx hb dX1_init_132 (by decide) ?_
        exact ih n (i + 1) H locs ls hn (by omega) (by omega) hI (lv_sub hl [1, 0] rfl)
  have hI := hI0
  have hl := hl0
  refine lv_aload_n hx hb dX1_init_85 rfl (lv_at hl 0 rfl) ?_
  refine lv_iload_n hx hb dX1_init_86 rfl (lv_at hl 1 rfl) ?_
  refine lv_iconst (v := nI 2) hx hb dX1_init_87 (by decide +kernel) ?_
  refine lv_icmp_ge (tgt := 95) hx hb dX1_init_88 (by decide) (fun c_88 => ?_) (fun c_88 => ?_)
  · skip
    have hx0 := cl_nn c_88
    obtain ⟨j, hj, rfl⟩ := nI_of hx0
    have h2j : 2 ≤ j := (nI_leI (by decide) hj).mp c_88
    refine lv_iload_n hx hb dX1_init_95 rfl (lv_at hl 1 rfl) ?_
    refine r_putU (j, 0, 0, zF, zF, zF, zF, zF, zF, zF, zF, zF, zF) hC hI 10 (by decide) q38 rfl rfl (by decide +kernel) wU_p10 dX1_init_96 (fun H locs hI => ?_)
    refine lv_aload_n hx hb dX1_init_99 rfl (lv_at hl 0 rfl) ?_
    refine r_getU (v := .int (nI j)) hC hI 10 (by decide) q38 rfl rfl dX1_init_100 ?_
    refine lv_bipush (v := nI 10) hx hb dX1_init_103 (by decide +kernel) ?_
    refine r_le (tgt := 114) hx hb dX1_init_105 (by decide) (by omega) (by omega) (fun c_105 => ?_) (fun c_105 => ?_)
    · skip
      refine lv_iconst (v := nI 0) hx hb dX1_init_114 (by decide +kernel) ?_
      refine lv_istore_n (lv' := [(2, .int (nI 0)), (0, .ref (a 0)), (1, .int (nI j))]) hx hb dX1_init_115 rfl hl (by decide) rfl (fun ls hl => ?_)
      exact L1 11 j 0 H locs ls (Or.inr (Or.inr ⟨c_88, nI_le c_105 (by decide), rfl, h2j, c_105⟩)) (by omega) (by omega) (by rw [fxI_0]; exact hI) (lv_sub hl [1, 0] rfl)
    · skip
      refine lv_aload_n hx hb dX1_init_108 rfl (lv_at hl 0 rfl) ?_
      refine lv_bipush (v := nI 10) hx hb dX1_init_109 (by decide +kernel) ?_
      refine r_putU (10, 0, 0, zF, zF, zF, zF, zF, zF, zF, zF, zF, zF) hC hI 10 (by decide) q38 rfl rfl (by decide +kernel) wU_p10 dX1_init_111 (fun H locs hI => ?_)
      refine lv_iconst (v := nI 0) hx hb dX1_init_114 (by decide +kernel) ?_
      refine lv_istore_n (lv' := [(2, .int (nI 0)), (0, .ref (a 0)), (1, .int (nI j))]) hx hb dX1_init_115 rfl hl (by decide) rfl (fun ls hl => ?_)
      exact L1 11 10 0 H locs ls (Or.inr (Or.inl ⟨c_88, nI_ge c_105 hj, rfl⟩)) (by omega) (by omega) (by rw [fxI_0]; exact hI) (lv_sub hl [1, 0] rfl)
  · skip
    refine lv_iconst (v := nI 2) hx hb dX1_init_91 (by decide +kernel) ?_
    refine lv_goto (tgt := 96) hx hb dX1_init_92 (by decide) ?_
    refine r_putU (2, 0, 0, zF, zF, zF, zF, zF, zF, zF, zF, zF, zF) hC hI 10 (by decide) q38 rfl rfl (by decide +kernel) wU_p10 dX1_init_96 (fun H locs hI => ?_)
    refine lv_aload_n hx hb dX1_init_99 rfl (lv_at hl 0 rfl) ?_
    refine r_getU (v := .int (nI 2)) hC hI 10 (by decide) q38 rfl rfl dX1_init_100 ?_
    refine lv_bipush (v := nI 10) hx hb dX1_init_103 (by decide +kernel) ?_
    refine r_le (tgt := 114) hx hb dX1_init_105 (by decide) (by omega) (by omega) (fun c_105 => ?_) (fun c_105 => ?_)
    · skip
      refine lv_iconst (v := nI 0) hx hb dX1_init_114 (by decide +kernel) ?_
      refine lv_istore_n (lv' := [(2, .int (nI 0)), (0, .ref (a 0)), (1, .int x)]) hx hb dX1_init_115 rfl hl (by decide) rfl (fun ls hl => ?_)
      exact L1 11 2 0 H locs ls (Or.inl ⟨c_88, rfl⟩) (by omega) (by omega) (by rw [fxI_0]; exact hI) (lv_sub hl [1, 0] rfl)
    · skip
      exact absurd c_105 (by decide)
set_option maxHeartbeats 4000000 in
theorem mM_init (l : Launch) (D : va_G) (d : ClassId) (h0 : Nat) (x : Int32) : qN (σ := (Nat → Nat) × sgM) l yX2_init cX2_init 3 roM D [(d, .int)] [(h0, .inr (1, [.int 0, .int 0, .null, .null, .int 0, .null, .null, .null, .null]))] (fun u => wM d u.1 u.2) (fun _ => d) [.ref h0, .int x] (fun u => u.1 0 = h0 ∧ ∃ n, isCl x n ∧ u.2 = (n, 2 ^ n, 0, zF, fxI 10, zF, zF, zF, zF)) 6 110 := by
  refine qN_of RX2 rfl (by decide) (Nat.le_of_ble_eq_true rfl) ?_
  intro p e s m below meth c0 A Q H locs ls hC0 hin hK hA hI hl hE
  have hx := hC0.1
  have hb := hC0.2.1
  have hml := hC0.2.2.1
  have hown := hC0.2.2.2.1
  have hts := hC0.2.2.2.2
  have hl : lv_has ls 3 [(0, .ref h0), (1, .int x)] := hl
  obtain ⟨hP, hD, hS⟩ := hI
  refine lv_aload_n hx hb dX2_init_0 rfl (lv_at hl 0 rfl) ?_
  refine W.objInit hx hb hown (hts _ q179) (hts _ q26) (hts _ q27) rfl (by rw [hml]; exact hl.1) rfl dX2_init_1 (Nat.le_of_ble_eq_true rfl) (Nat.le_of_ble_eq_true rfl) ?_
  refine W.eq (g2 := F0 m 4 ls []) rfl ?_
  refine lv_aload_n hx hb dX2_init_4 rfl (lv_at hl 0 rfl) ?_
  refine lv_bipush (v := nI 20) hx hb dX2_init_5 (by decide +kernel) ?_
  refine va_newa (atype := .int) (a0 := (20, .inl (nF zF))) hx hb (hts _ q68) rfl hK hP hD hS hA (fun _ => rfl) (by decide +kernel) (by decide +kernel) (by decide +kernel) (Nat.le_of_ble_eq_true rfl) (Nat.le_of_ble_eq_true rfl) dX2_init_7 (fun q_1 cA H hK2 hP hD hS => ?_)
  refine W.widen (k := 1) (n := 20) (Nat.le_of_ble_eq_true rfl) (Nat.le_of_ble_eq_true rfl) ?_
  have e_d := va_K_same hK2
  subst e_d
  clear hK2
  have hP : va_P D vwCl [(h0, .inr (1, [.int 0, .int 0, .null, .null, .int 0, .null, .null, .null, .null])), (q_1, .inl (d, 20, .inl (nF zF)))] H := hP
  have hD : va_D A [(h0, .inr (1, [.int 0, .int 0, .null, .null, .int 0, .null, .null, .null, .null])), (q_1, .inl (d, 20, .inl (nF zF)))] := hD
  refine va_put (D := D) (ci := 1) (v := .ref q_1) (ty := .array .int) (C := RX2) (T := TX2) (N := 9) hx hb hts in_X2 tyX2 tyX2_ok nmX2 hown hK hP hD hS 0 rfl rfl 2 (by decide) (hts _ q182) (fun _ h9 => h9) rfl (by decide +kernel) rfl rfl (Nat.le_of_ble_eq_true rfl) dX2_init_9 (fun H locs hP hD hS => ?_)
  have hP : va_P D vwCl [(h0, .inr (1, [.int 0, .int 0, .ref q_1, .null, .int 0, .null, .null, .null, .null])), (q_1, .inl (d, 20, .inl (nF zF)))] H := hP
  have hD : va_D A [(h0, .inr (1, [.int 0, .int 0, .ref q_1, .null, .int 0, .null, .null, .null, .null])), (q_1, .inl (d, 20, .inl (nF zF)))] := hD
  refine lv_aload_n hx hb dX2_init_12 rfl (lv_at hl 0 rfl) ?_
  refine lv_bipush (v := nI 10) hx hb dX2_init_13 (by decide +kernel) ?_
  refine va_newa (atype := .int) (a0 := (10, .inl (nF zF))) hx hb (hts _ q68) rfl hK hP hD hS hA (fun _ => rfl) (by decide +kernel) (by decide +kernel) (by decide +kernel) (Nat.le_of_ble_eq_true rfl) (Nat.le_of_ble_eq_true rfl) dX2_init_15 (fun q_2 cA H hK2 hP hD hS => ?_)
  refine W.widen (k := 2) (n := 30) (Nat.le_of_ble_eq_true rfl) (Nat.le_of_ble_eq_true rfl) ?_
  have e_d := va_K_same hK2
  subst e_d
  clear hK2
  have hP : va_P D vwCl [(h0, .inr (1, [.int 0, .int 0, .ref q_1, .null, .int 0, .null, .null, .null, .null])), (q_1, .inl (d, 20, .inl (nF zF))), (q_2, .inl (d, 10, .inl (nF zF)))] H := hP
  have hD : va_D A [(h0, .inr (1, [.int 0, .int 0, .ref q_1, .null, .int 0, .null, .null, .null, .null])), (q_1, .inl (d, 20, .inl (nF zF))), (q_2, .inl (d, 10, .inl (nF zF)))] := hD
  refine va_put (D := D) (ci := 1) (v := .ref q_2) (ty := .array .int) (C := RX2) (T := TX2) (N := 9) hx hb hts in_X2 tyX2 tyX2_ok nmX2 hown hK hP hD hS 0 rfl rfl 3 (by decide) (hts _ q183) (fun _ h9 => h9) rfl (by decide +kernel) rfl rfl (Nat.le_of_ble_eq_true rfl) dX2_init_17 (fun H locs hP hD hS => ?_)
  have hP : va_P D vwCl [(h0, .inr (1, [.int 0, .int 0, .ref q_1, .ref q_2, .int 0, .null, .null, .null, .null])), (q_1, .inl (d, 20, .inl (nF zF))), (q_2, .inl (d, 10, .inl (nF zF)))] H := hP
  have hD : va_D A [(h0, .inr (1, [.int 0, .int 0, .ref q_1, .ref q_2, .int 0, .null, .null, .null, .null])), (q_1, .inl (d, 20, .inl (nF zF))), (q_2, .inl (d, 10, .inl (nF zF)))] := hD
  refine lv_aload_n hx hb dX2_init_20 rfl (lv_at hl 0 rfl) ?_
  refine lv_bipush (v := nI 20) hx hb dX2_init_21 (by decide +kernel) ?_
  refine va_newa (atype := .int) (a0 := (20, .inl (nF zF))) hx hb (hts _ q68) rfl hK hP hD hS hA (fun _ => rfl) (by decide +kernel) (by decide +kernel) (by decide +kernel) (Nat.le_of_ble_eq_true rfl) (Nat.le_of_ble_eq_true rfl) dX2_init_23 (fun q_3 cA H hK2 hP hD hS => ?_)
  refine W.widen (k := 3) (n := 50) (Nat.le_of_ble_eq_true rfl) (Nat.le_of_ble_eq_true rfl) ?_
  have e_d := va_K_same hK2
  subst e_d
  clear hK2
  have hP : va_P D vwCl [(h0, .inr (1, [.int 0, .int 0, .ref q_1, .ref q_2, .int 0, .null, .null, .null, .null])), (q_1, .inl (d, 20, .inl (nF zF))), (q_2, .inl (d, 10, .inl (nF zF))), (q_3, .inl (d, 20, .inl (nF zF)))] H := hP
  have hD : va_D A [(h0, .inr (1, [.int 0, .int 0, .ref q_1, .ref q_2, .int 0, .null, .null, .null, .null])), (q_1, .inl (d, 20, .inl (nF zF))), (q_2, .inl (d, 10, .inl (nF zF))), (q_3, .inl (d, 20, .inl (nF zF)))] := hD
  refine va_put (D := D) (ci := 1) (v := .ref q_3) (ty := .array .int) (C := RX2) (T := TX2) (N := 9) hx hb hts in_X2 tyX2 tyX2_ok nmX2 hown hK hP hD hS 0 rfl rfl 5 (by decide) (hts _ q185) (fun _ h9 => h9) rfl (by decide +kernel) rfl rfl (Nat.le_of_ble_eq_true rfl) dX2_init_25 (fun H locs hP hD hS => ?_)
  have hP : va_P D vwCl [(h0, .inr (1, [.int 0, .int 0, .ref q_1, .ref q_2, .int 0, .ref q_3, .null, .null, .null])), (q_1, .inl (d, 20, .inl (nF zF))), (q_2, .inl (d, 10, .inl (nF zF))), (q_3, .inl (d, 20, .inl (nF zF)))] H := hP
  have hD : va_D A [(h0, .inr (1, [.int 0, .int 0, .ref q_1, .ref q_2, .int 0, .ref q_3, .null, .null, .null])), (q_1, .inl (d, 20, .inl (nF zF))), (q_2, .inl (d, 10, .inl (nF zF))), (q_3, .inl (d, 20, .inl (nF zF)))] := hD
  refine lv_aload_n hx hb dX2_init_28 rfl (lv_at hl 0 rfl) ?_
  refine lv_bipush (v := nI 20) hx hb dX2_init_29 (by decide +kernel) ?_
  refine va_newa (atype := .int) (a0 := (20, .inl (nF zF))) hx hb (hts _ q68) rfl hK hP hD hS hA (fun _ => rfl) (by decide +kernel) (by decide +kernel) (by decide +kernel) (Nat.le_of_ble_eq_true rfl) (Nat.le_of_ble_eq_true rfl) dX2_init_31 (fun q_4 cA H hK2 hP hD hS => ?_)
  refine W.widen (k := 4) (n := 70) (Nat.le_of_ble_eq_true rfl) (Nat.le_of_ble_eq_true rfl) ?_
  have e_d := va_K_same hK2
  subst e_d
  clear hK2
  have hP : va_P D vwCl [(h0, .inr (1, [.int 0, .int 0, .ref q_1, .ref q_2, .int 0, .ref q_3, .null, .null, .null])), (q_1, .inl (d, 20, .inl (nF zF))), (q_2, .inl (d, 10, .inl (nF zF))), (q_3, .inl (d, 20, .inl (nF zF))), (q_4, .inl (d, 20, .inl (nF zF)))] H := hP
  have hD : va_D A [(h0, .inr (1, [.int 0, .int 0, .ref q_1, .ref q_2, .int 0, .ref q_3, .null, .null, .null])), (q_1, .inl (d, 20, .inl (nF zF))), (q_2, .inl (d, 10, .inl (nF zF))), (q_3, .inl (d, 20, .inl (nF zF))), (q_4, .inl (d, 20, .inl (nF zF)))] := hD
  refine va_put (D := D) (ci := 1) (v := .ref q_4) (ty := .array .int) (C := RX2) (T := TX2) (N := 9) hx hb hts in_X2 tyX2 tyX2_ok nmX2 hown hK hP hD hS 0 rfl rfl 6 (by decide) (hts _ q186) (fun _ h9 => h9) rfl (by decide +kernel) rfl rfl (Nat.le_of_ble_eq_true rfl) dX2_init_33 (fun H locs hP hD hS => ?_)
  have hP : va_P D vwCl [(h0, .inr (1, [.int 0, .int 0, .ref q_1, .ref q_2, .int 0, .ref q_3, .ref q_4, .null, .null])), (q_1, .inl (d, 20, .inl (nF zF))), (q_2, .inl (d, 10, .inl (nF zF))), (q_3, .inl (d, 20, .inl (nF zF))), (q_4, .inl (d, 20, .inl (nF zF)))] H := hP
  have hD : va_D A [(h0, .inr (1, [.int 0, .int 0, .ref q_1, .ref q_2, .int 0, .ref q_3, .ref q_4, .null, .null])), (q_1, .inl (d, 20, .inl (nF zF))), (q_2, .inl (d, 10, .inl (nF zF))), (q_3, .inl (d, 20, .inl (nF zF))), (q_4, .inl (d, 20, .inl (nF zF)))] := hD
  refine lv_aload_n hx hb dX2_init_36 rfl (lv_at hl 0 rfl) ?_
  refine lv_bipush (v := nI 20) hx hb dX2_init_37 (by decide +kernel) ?_
  refine va_newa (atype := .int) (a0 := (20, .inl (nF zF))) hx hb (hts _ q68) rfl hK hP hD hS hA (fun _ => rfl) (by decide +kernel) (by decide +kernel) (by decide +kernel) (Nat.le_of_ble_eq_true rfl) (Nat.le_of_ble_eq_true rfl) dX2_init_39 (fun q_5 cA H hK2 hP hD hS => ?_)
  refine W.widen (k := 5) (n := 90) (Nat.le_of_ble_eq_true rfl) (Nat.le_of_ble_eq_true rfl) ?_
  have e_d := va_K_same hK2
  subst e_d
  clear hK2
  have hP : va_P D vwCl [(h0, .inr (1, [.int 0, .int 0, .ref q_1, .ref q_2, .int 0, .ref q_3, .ref q_4, .null, .null])), (q_1, .inl (d, 20, .inl (nF zF))), (q_2, .inl (d, 10, .inl (nF zF))), (q_3, .inl (d, 20, .inl (nF zF))), (q_4, .inl (d, 20, .inl (nF zF))), (q_5, .inl (d, 20, .inl (nF zF)))] H := hP
  have hD : va_D A [(h0, .inr (1, [.int 0, .int 0, .ref q_1, .ref q_2, .int 0, .ref q_3, .ref q_4, .null, .null])), (q_1, .inl (d, 20, .inl (nF zF))), (q_2, .inl (d, 10, .inl (nF zF))), (q_3, .inl (d, 20, .inl (nF zF))), (q_4, .inl (d, 20, .inl (nF zF))), (q_5, .inl (d, 20, .inl (nF zF)))] := hD
  refine va_put (D := D) (ci := 1) (v := .ref q_5) (ty := .array .int) (C := RX2) (T := TX2) (N := 9) hx hb hts in_X2 tyX2 tyX2_ok nmX2 hown hK hP hD hS 0 rfl rfl 7 (by decide) (hts _ q187) (fun _ h9 => h9) rfl (by decide +kernel) rfl rfl (Nat.le_of_ble_eq_true rfl) dX2_init_41 (fun H locs hP hD hS => ?_)
  have hP : va_P D vwCl [(h0, .inr (1, [.int 0, .int 0, .ref q_1, .ref q_2, .int 0, .ref q_3, .ref q_4, .ref q_5, .null])), (q_1, .inl (d, 20, .inl (nF zF))), (q_2, .inl (d, 10, .inl (nF zF))), (q_3, .inl (d, 20, .inl (nF zF))), (q_4, .inl (d, 20, .inl (nF zF))), (q_5, .inl (d, 20, .inl (nF zF)))] H := hP
  have hD : va_D A [(h0, .inr (1, [.int 0, .int 0, .ref q_1, .ref q_2, .int 0, .ref q_3, .ref q_4, .ref q_5, .null])), (q_1, .inl (d, 20, .inl (nF zF))), (q_2, .inl (d, 10, .inl (nF zF))), (q_3, .inl (d, 20, .inl (nF zF))), (q_4, .inl (d, 20, .inl (nF zF))), (q_5, .inl (d, 20, .inl (nF zF)))] := hD
  refine lv_aload_n hx hb dX2_init_44 rfl (lv_at hl 0 rfl) ?_
  refine lv_bipush (v := nI 20) hx hb dX2_init_45 (by decide +kernel) ?_
  refine va_newa (atype := .int) (a0 := (20, .inl (nF zF))) hx hb (hts _ q68) rfl hK hP hD hS hA (fun _ => rfl) (by decide +kernel) (by decide +kernel) (by decide +kernel) (Nat.le_of_ble_eq_true rfl) (Nat.le_of_ble_eq_true rfl) dX2_init_47 (fun q_6 cA H hK2 hP hD hS => ?_)
  refine W.widen (k := 6) (n := 110) (Nat.le_of_ble_eq_true rfl) (Nat.le_of_ble_eq_true rfl) ?_
  have e_d := va_K_same hK2
  subst e_d
  clear hK2
  have hP : va_P D vwCl [(h0, .inr (1, [.int 0, .int 0, .ref q_1, .ref q_2, .int 0, .ref q_3, .ref q_4, .ref q_5, .null])), (q_1, .inl (d, 20, .inl (nF zF))), (q_2, .inl (d, 10, .inl (nF zF))), (q_3, .inl (d, 20, .inl (nF zF))), (q_4, .inl (d, 20, .inl (nF zF))), (q_5, .inl (d, 20, .inl (nF zF))), (q_6, .inl (d, 20, .inl (nF zF)))] H := hP
  have hD : va_D A [(h0, .inr (1, [.int 0, .int 0, .ref q_1, .ref q_2, .int 0, .ref q_3, .ref q_4, .ref q_5, .null])), (q_1, .inl (d, 20, .inl (nF zF))), (q_2, .inl (d, 10, .inl (nF zF))), (q_3, .inl (d, 20, .inl (nF zF))), (q_4, .inl (d, 20, .inl (nF zF))), (q_5, .inl (d, 20, .inl (nF zF))), (q_6, .inl (d, 20, .inl (nF zF)))] := hD
  refine va_put (D := D) (ci := 1) (v := .ref q_6) (ty := .array .int) (C := RX2) (T := TX2) (N := 9) hx hb hts in_X2 tyX2 tyX2_ok nmX2 hown hK hP hD hS 0 rfl rfl 8 (by decide) (hts _ q188) (fun _ h9 => h9) rfl (by decide +kernel) rfl rfl (Nat.le_of_ble_eq_true rfl) dX2_init_49 (fun H locs hP hD hS => ?_)
  have hP : va_P D vwCl [(h0, .inr (1, [.int 0, .int 0, .ref q_1, .ref q_2, .int 0, .ref q_3, .ref q_4, .ref q_5, .ref q_6])), (q_1, .inl (d, 20, .inl (nF zF))), (q_2, .inl (d, 10, .inl (nF zF))), (q_3, .inl (d, 20, .inl (nF zF))), (q_4, .inl (d, 20, .inl (nF zF))), (q_5, .inl (d, 20, .inl (nF zF))), (q_6, .inl (d, 20, .inl (nF zF)))] H := hP
  have hD : va_D A [(h0, .inr (1, [.int 0, .int 0, .ref q_1, .ref q_2, .int 0, .ref q_3, .ref q_4, .ref q_5, .ref q_6])), (q_1, .inl (d, 20, .inl (nF zF))), (q_2, .inl (d, 10, .inl (nF zF))), (q_3, .inl (d, 20, .inl (nF zF))), (q_4, .inl (d, 20, .inl (nF zF))), (q_5, .inl (d, 20, .inl (nF zF))), (q_6, .inl (d, 20, .inl (nF zF)))] := hD
  obtain ⟨a, ha0, hI⟩ : ∃ a : Nat → Nat, a 0 = h0 ∧ IW D A s.heap (wM d a (0, 0, 0, zF, zF, zF, zF, zF, zF)) H locs := ⟨(fun k => [h0, q_1, q_2, q_3, q_4, q_5, q_6].getD k 0), rfl, hP, hD, hS⟩
  subst ha0
  clear hP hD hS
  have hC : cx RX2 p s m c0 ([.ref (a 0), .int x] : List Value).toArray cX2_init 3 D d := ⟨hC0, hK⟩
  have hl : lv_has ls 3 [(0, .ref (a 0)), (1, .int x)] := hl
  have hI0 := hI
  have hl0 := hl
  clear hI hl
  have L1 : ∀ (j : Nat) (n : Nat) (i : Nat) (H : Heap) (locs : List Loc) (ls : Array Slot), (isCl x n) → (i ≤ 10) → (11 ≤ i + j) → IW D A s.heap (wM d a (n, (2 ^ n), 0, zF, (fxI i), zF, zF, zF, zF)) H locs → lv_has ls 3 [(0, .ref (a 0)), (2, .int (nI i))] → W p l e roM s m ([.ref (a 0), .int x] : List Value).toArray below meth c0 H locs 6 110 Q (F0 m 89 ls []) := by
    intro j
    induction j with
    | zero => intro n i H locs ls hn hi hj hI hl; exact absurd hj (by omega)
    | succ j ih =>
      intro n i H locs ls hn hi hj hI hl
      refine lv_iload_n hx hb dX2_init_89 rfl (lv_at hl 1 rfl) ?_
      refine lv_bipush (v := nI 10) hx hb dX2_init_90 (by decide +kernel) ?_
      refine r_ge (tgt := 108) hx hb dX2_init_92 (by decide) (by omega) (by omega) (fun c_92 => ?_) (fun c_92 => ?_)
      · skip
        have ei : i = 10 := by omega
        rw [ei] at hI
        exact hE 108 ls H locs (a, (n, (2 ^ n), 0, zF, (fxI 10), zF, zF, zF, zF)) dX2_init_108 ⟨rfl, n, hn, rfl⟩ hI hK
      · skip
        refine lv_aload_n hx hb dX2_init_95 rfl (lv_at hl 0 rfl) ?_
        refine r_getM (v := .ref (a 2)) hC hI 3 (by decide) q183 rfl rfl dX2_init_96 ?_
        refine lv_iload_n hx hb dX2_init_99 rfl (lv_at hl 1 rfl) ?_
        refine lv_iconst (v := nI 2) hx hb dX2_init_100 (by decide +kernel) ?_
        refine r_ast (N := 10) (f := (fxI i)) (j := i) (x := 2) (ws' := wM d a (n, (2 ^ n), 0, zF, (updN (fxI i) i 2), zF, zF, zF, zF)) hC hI 2 wM_g2 (by omega) (by decide) wM_s2 dX2_init_101 (fun H locs hI => ?_)
        rw [fxI_s] at hI
        refine lv_iinc (v := nI (i + 1)) (lv' := [(2, .int (nI (i + 1))), (0, .ref (a 0))]) hx hb dX2_init_102 hl (k := 1) rfl (nI_1 i) (by decide) rfl (fun ls hl => ?_)
        refine lv_goto (tgt := 89) hx hb dX2_init_105 (by decide) ?_
        exact ih n (i + 1) H locs ls hn (by omega) (by omega) hI (lv_sub hl [1, 0] rfl)
  have hI := hI0
  have hl := hl0
  refine lv_aload_n hx hb dX2_init_52 rfl (lv_at hl 0 rfl) ?_
  refine lv_iload_n hx hb dX2_init_53 rfl (lv_at hl 1 rfl) ?_
  refine lv_iconst (v := nI 2) hx hb dX2_init_54 (by decide +kernel) ?_
  refine lv_icmp_ge (tgt := 62) hx hb dX2_init_55 (by decide) (fun c_55 => ?_) (fun c_55 => ?_)
  · skip
    have hx0 := cl_nn c_55
    obtain ⟨j, hj, rfl⟩ := nI_of hx0
    have h2j : 2 ≤ j := (nI_leI (by decide) hj).mp c_55
    refine lv_iload_n hx hb dX2_init_62 rfl (lv_at hl 1 rfl) ?_
    refine lv_bipush (v := nI 10) hx hb dX2_init_63 (by decide +kernel) ?_
    refine r_le (tgt := 73) hx hb dX2_init_65 (by decide) (by omega) (by omega) (fun c_65 => ?_) (fun c_65 => ?_)
    · skip
      refine lv_iload_n hx hb dX2_init_73 rfl (lv_at hl 1 rfl) ?_
      refine r_putM (j, 0, 0, zF, zF, zF, zF, zF, zF) hC hI 0 (by decide) q180 rfl rfl (by decide +kernel) wM_p0 dX2_init_74 (fun H locs hI => ?_)
      refine lv_aload_n hx hb dX2_init_77 rfl (lv_at hl 0 rfl) ?_
      refine lv_iconst (v := nI 1) hx hb dX2_init_78 (by decide +kernel) ?_
      refine lv_aload_n hx hb dX2_init_79 rfl (lv_at hl 0 rfl) ?_
      refine r_getM (v := .int (nI j)) hC hI 0 (by decide) q180 rfl rfl dX2_init_80 ?_
      refine r_shl1 hx hb (by omega) dX2_init_83 ?_
      refine r_putM (j, (2 ^ j), 0, zF, zF, zF, zF, zF, zF) hC hI 1 (by decide) q181 rfl rfl (by decide +kernel) wM_p1 dX2_init_84 (fun H locs hI => ?_)
      refine lv_iconst (v := nI 0) hx hb dX2_init_87 (by decide +kernel) ?_
      refine lv_istore_n (lv' := [(2, .int (nI 0)), (0, .ref (a 0)), (1, .int (nI j))]) hx hb dX2_init_88 rfl hl (by decide) rfl (fun ls hl => ?_)
      exact L1 11 j 0 H locs ls (Or.inr (Or.inr ⟨c_55, nI_le c_65 (by decide), rfl, h2j, c_65⟩)) (by omega) (by omega) (by rw [fxI_0]; exact hI) (lv_sub hl [1, 0] rfl)
    · skip
      refine lv_bipush (v := nI 10) hx hb dX2_init_68 (by decide +kernel) ?_
      refine lv_goto (tgt := 74) hx hb dX2_init_70 (by decide) ?_
      refine r_putM (10, 0, 0, zF, zF, zF, zF, zF, zF) hC hI 0 (by decide) q180 rfl rfl (by decide +kernel) wM_p0 dX2_init_74 (fun H locs hI => ?_)
      refine lv_aload_n hx hb dX2_init_77 rfl (lv_at hl 0 rfl) ?_
      refine lv_iconst (v := nI 1) hx hb dX2_init_78 (by decide +kernel) ?_
      refine lv_aload_n hx hb dX2_init_79 rfl (lv_at hl 0 rfl) ?_
      refine r_getM (v := .int (nI 10)) hC hI 0 (by decide) q180 rfl rfl dX2_init_80 ?_
      refine r_shl1 hx hb (by omega) dX2_init_83 ?_
      refine r_putM (10, (2 ^ 10), 0, zF, zF, zF, zF, zF, zF) hC hI 1 (by decide) q181 rfl rfl (by decide +kernel) wM_p1 dX2_init_84 (fun H locs hI => ?_)
      refine lv_iconst (v := nI 0) hx hb dX2_init_87 (by decide +kernel) ?_
      refine lv_istore_n (lv' := [(2, .int (nI 0)), (0, .ref (a 0)), (1, .int (nI j))]) hx hb dX2_init_88 rfl hl (by decide) rfl (fun ls hl => ?_)
      exact L1 11 10 0 H locs ls (Or.inr (Or.inl ⟨c_55, nI_ge c_65 hj, rfl⟩)) (by omega) (by omega) (by rw [fxI_0]; exact hI) (lv_sub hl [1, 0] rfl)
  · skip
    refine lv_iconst (v := nI 2) hx hb dX2_init_58 (by decide +kernel) ?_
    refine lv_goto (tgt := 74) hx hb dX2_init_59 (by decide) ?_
    refine r_putM (2, 0, 0, zF, zF, zF, zF, zF, zF) hC hI 0 (by decide) q180 rfl rfl (by decide +kernel) wM_p0 dX2_init_74 (fun H locs hI => ?_)
    refine lv_aload_n hx hb dX2_init_77 rfl (lv_at hl 0 rfl) ?_
    refine lv_iconst (v := nI 1) hx hb dX2_init_78 (by decide +kernel) ?_
    refine lv_aload_n hx hb dX2_init_79 rfl (lv_at hl 0 rfl) ?_
    refine r_getM (v := .int (nI 2)) hC hI 0 (by decide) q180 rfl rfl dX2_init_80 ?_
    refine r_shl1 hx hb (by omega) dX2_init_83 ?_
    refine r_putM (2, (2 ^ 2), 0, zF, zF, zF, zF, zF, zF) hC hI 1 (by decide) q181 rfl rfl (by decide +kernel) wM_p1 dX2_init_84 (fun H locs hI => ?_)
    refine lv_iconst (v := nI 0) hx hb dX2_init_87 (by decide +kernel) ?_
    refine lv_istore_n (lv' := [(2, .int (nI 0)), (0, .ref (a 0)), (1, .int x)]) hx hb dX2_init_88 rfl hl (by decide) rfl (fun ls hl => ?_)
    exact L1 11 2 0 H locs ls (Or.inl ⟨c_55, rfl⟩) (by omega) (by omega) (by rw [fxI_0]; exact hI) (lv_sub hl [1, 0] rfl)
end
section
set_option maxRecDepth 100000
/-! THE CLAIM OUT OF ONE WALK OF THE LAW'S BODY. Your part is whole_start (and what it stands on); all else here is the same for every law, but numbers. -/
def R_law : String := "UnboxPlannerLaw"
def lw_P (b : Addr) (xs : List Int32) (args : Array Value) (s : State) : Prop := args = #[.ref b] ∧ s.IntsAt b xs ∧ xs.length ≤ 321 ∧ (Jvm.Cond.and given_1 narrow_1).before args s = true
def lw_Q (_ : Array Value) (s : State) (o : Outcome) (t : State) : Prop := o = .returned (some (.int 1)) ∧ Framed s o t [] 600000 7290000
def lw_Z (below : List Frame) (a : Array Value) (s : State) : State → Prop := fun t => ∃ o, t.status = .running ∧ Ended t below o ∧ lw_Q a s o t
/-- the law's own end, with 1 on the stack, nothing written that was there before, its room as the claim has it -/
theorem lw_ret {p : Program} {l : Launch} {e : Env} {s : State} {m : MethodId} {below : List Frame} {meth : Method} {c : Code} {b : Nat} (hx : p.tables.exec = Jvm.exec) (hb : c.code = code) (hr : meth.sig.returnType = ret) (hlocks : meth.locks = false) {pc : Nat} {H : Heap} {ls : Array Slot} (hdg : decode code pc = .ok (.ireturn, 1)) : W p l e room_1 s m #[Value.ref b] below meth c H [] 600000 7290000 (lw_Z below #[Value.ref b] s) (F0 m pc ls [.int 1]) := by
  intro T hT X
  obtain ⟨fs, hret, hrun, hended, hW, hframe⟩ := X.leave (v := some (.int 1)) (hlocks := hlocks) (fun h => by rw [hr] at h; cases h)
  have hmeth' : T.vm.method? m = some meth := X.method'
  refine ⟨T.setFrames fs, ?_, .returned (some (.int 1)), hrun, hended, rfl, ⟨_, rfl⟩, hW, hframe⟩
  jvm_step X.here [X.here.top, hx, hb, hdg, hmeth', hr, ret, narrow_b1]
  (try refine ⟨rfl, ?_⟩); (try refine ⟨rfl, ?_⟩)
  first | (intro acts; rw [hret _ acts rfl rfl rfl]) | rw [hret _ _ rfl rfl rfl]
  exact Steps.refl _
/-- what holds at the law's entry: the machine, the code, the tables' words (any of lw_tbl by 'hts w (by decide +kernel)'), the script of L ints xs at the cell b, what the Statement gives of the start (any of its parts by flat_of_before) -/
def lw_At (p : Program) (s : State) (m : MethodId) (meth : Method) (c : Code) (b L : Nat) (xs : Nat → Int32) : Prop :=
  p.tables.exec = Jvm.exec ∧ c.code = code ∧ meth.sig.returnType = ret ∧ c.maxLocals = 4 ∧ s.vm.findClass R_law = some m.cls ∧ (∀ w ∈ lw_tbl, w.before #[Value.ref b] s = true) ∧ va_X b L xs s s.heap ∧ b < s.heap.size ∧ meth.locks = false ∧ (Jvm.Cond.and given_1 narrow_1).before #[Value.ref b] s = true
end
section
set_option maxRecDepth 100000
/-! THE LAW: what it keeps between its calls; the script's cell; rows -/
theorem sFlow_ok {n ct : Nat} {fc ff ft bx ub : Nat → Nat} {x y z w r : Int32} {c1 : Nat} {f1 t1 b1 u1 : Nat → Nat} (hg : gOK (n, ct, fc, ff, ft, bx, ub)) (h : sFlow n ct ff ft bx ub x y z w r c1 f1 t1 b1 u1) : gOK (n, c1, fc, f1, t1, b1, u1) := by
  rcases h with ⟨_, rfl, rfl, rfl, rfl, rfl⟩ | ⟨u, v, q, t, a1, a2, a3, a4, a5, a6, a7, a8, a9, a10, a11, rfl, rfl, rfl, rfl, rfl⟩
  · exact hg
  · obtain ⟨g1, g2, g3, g4, g5, g6, g7, g8⟩ := hg
    have g3 : ct ≤ 20 := g3
    have up : ∀ (f : Nat → Nat) (v k : Nat), (∀ j, f j < k) → v < k → ∀ j, updN f ct v j < k := by
      intro f v k hf hv j
      by_cases e : j = ct
      · rw [e, updN_s]; exact hv
      · rw [updN_n _ _ e]; exact hf j
    exact ⟨g1, g2, show ct + 1 ≤ 20 by omega, g4, up _ _ _ g5 a1, up _ _ _ g6 a2, fun j => Nat.le_of_lt_succ (up bx q 31 (fun j => Nat.lt_succ_of_le (g7 j)) a3 j), fun j => Nat.le_of_lt_succ (up ub t 31 (fun j => Nat.lt_succ_of_le (g8 j)) a4 j)⟩
theorem sCut_ok {n ct : Nat} {fc ff ft bx ub : Nat → Nat} {x r : Int32} {c1 : Nat} {f1 t1 b1 u1 : Nat → Nat} (hg : gOK (n, ct, fc, ff, ft, bx, ub)) (h : sCut ct ff ft bx ub x r c1 f1 t1 b1 u1) : gOK (n, c1, fc, f1, t1, b1, u1) := by
  rcases h with ⟨_, _, rfl, rfl, rfl, rfl, rfl⟩ | ⟨f, a1, a2, a3, rfl, rfl, rfl, rfl, rfl⟩
  · exact hg
  · obtain ⟨g1, g2, g3, g4, g5, g6, g7, g8⟩ := hg
    have g3 : ct ≤ 20 := g3
    have up : ∀ (h : Nat → Nat) (p : Nat → Prop), (∀ j, p (h j)) → ∀ j, p (shf h f ct j) := by
      intro h p hp j
      unfold shf
      split
      · exact hp _
      · exact hp _
    exact ⟨g1, g2, show ct - 1 ≤ 20 by omega, g4, up ff (fun z => z < n) g5, up ft (fun z => z < n) g6, up bx (fun z => z ≤ 30) g7, up ub (fun z => z ≤ 30) g8⟩
theorem sFix_ok {n : Nat} {fx : Nat → Nat} {x y r : Int32} {f1 : Nat → Nat} (hf : ∀ v, fx v ≤ 2) (h : sFix n fx x y r f1) : ∀ v, f1 v ≤ 2 := by
  rcases h with ⟨_, _, rfl⟩ | ⟨_, _, _, rfl⟩ | ⟨v, f, a1, a2, a3, a4, a5, rfl⟩
  · exact hf
  · exact hf
  · intro j
    by_cases e : j = v
    · rw [e, updN_s]; omega
    · rw [updN_n _ _ e]; exact hf j
theorem sCost_gOK {n ct : Nat} {fc ff ft bx ub : Nat → Nat} {x y z r : Int32} {f1 : Nat → Nat} (hg : gOK (n, ct, fc, ff, ft, bx, ub)) (h : sCost n fc x y z r f1) : gOK (n, ct, f1, ff, ft, bx, ub) := by
  obtain ⟨g1, g2, g3, g4, g5, g6, g7, g8⟩ := hg
  exact ⟨g1, g2, g3, sCost_ok h g4, g5, g6, g7, g8⟩
/-- both objects hold the same data -/
def lawS (D : va_G) (d : ClassId) (a a2 : Nat → Nat) (H0 H : Heap) (locs : List Loc) : Prop := ∃ (n ct : Nat) (fc ff ft bx ub fx wa le pa qu : Nat → Nat), gOK (n, ct, fc, ff, ft, bx, ub) ∧ (∀ v, fx v ≤ 2) ∧ IW D (fun q : Nat => H0.size ≤ q) H0 (wU d a (n, ct, nNone, fc, ff, ft, bx, ub, fx, wa, le, pa, qu) ++ wM d a2 (n, 2 ^ n, ct, fc, fx, ff, ft, bx, ub)) H locs
theorem r_sld {p : Program} {l : Launch} {e : Env} {R : Room} {s : State} {m : MethodId} {args : Array Value} {below : List Frame} {meth : Method} {c : Code} {H : Heap} {locs : List Loc} {cells slots : Nat} {Q : State → Prop} {cc : ByteArray} {pc : Nat} {ls : Array Slot} {rest : List Value} {A : Nat → Prop} (hx : p.tables.exec = Jvm.exec) (hb : c.code = cc) {b L j : Nat} {xs : Nat → Int32} (hX : va_X b L xs s s.heap) (hbl : b < s.heap.size) (hbA : ¬ A b) (hS : va_S A s.heap H locs) (hj : j < L) (hL : L < 2 ^ 31) (hdg : decode cc pc = .ok (.iaload, 1)) (kk : W p l e R s m args below meth c H locs cells slots Q (F0 m (pc + 1) ls (.int (xs j) :: rest))) : W p l e R s m args below meth c H locs cells slots Q (F0 m pc ls (.int (nI j) :: .ref b :: rest)) := by
  refine va_sld hx hb hX hbl hbA hS (vp_in_nI hj hL) hdg ?_
  rw [nI_clamp (Nat.lt_trans hj hL)]
  exact kk
def cellV (L : Nat) (xs : Nat → Int32) : Int32 := if 0 < L then xs 0 else 0
set_option maxHeartbeats 4000000 in
theorem m_cell (l : Launch) (b L : Nat) (xs : Nat → Int32) (hL : L < 2 ^ 31) (sz : Nat) : Met l yX0_cell (ws_ yX0_cell cX0_cell 2 (some .int)) ro0 (va_Pc [.ref b, .int (nI 0)] (fun U => U.heap.size = sz ∧ va_X b L xs U U.heap)) (va_Qi (fun (r : Int32) (_ : Unit) => r = cellV L xs) (fun _ _ => True) (fun q => sz ≤ q)) 0 0 (fun q => sz ≤ q) := by
  refine Met.ofW (cc := cX0_cell) (maxL := 2) (ret := some .int) (by decide) rfl ?_
  intro p e s m args below meth c s₁ B hml hv
  obtain ⟨rfl, hsz, hX⟩ := hv
  have hx := B.exec
  have hb := B.bytes
  have hr := B.returns
  have hlocks := B.notSynchronized
  subst hsz
  have hbl : b < s.heap.size := by
    obtain ⟨scr, h1, _⟩ := hX
    exact (Array.getElem?_eq_some_iff.mp h1).1
  have hbA : ¬ (fun q : Nat => s.heap.size ≤ q) b := Nat.not_le.mpr hbl
  have hS : va_S (fun q : Nat => s.heap.size ≤ q) s.heap s.heap [] := va_S.rf
  have hl := lv_entry ([.ref b, .int (nI 0)]) (n := 2) (Nat.le_of_ble_eq_true rfl)
  rw [lg_entry_eq]
  generalize (lg_sl ([.ref b, .int (nI 0)]) ++ List.replicate (2 - (lg_sl ([.ref b, .int (nI 0)])).length) Slot.unset).toArray = ls at hl ⊢
  have hl : lv_has ls 2 [(0, .ref b), (1, .int (nI 0))] := hl
  refine lv_iload_n hx hb dX0_cell_0 rfl (lv_at hl 1 rfl) ?_
  refine lv_aload_n hx hb dX0_cell_1 rfl (lv_at hl 0 rfl) ?_
  refine va_slen hx hb hX hbl hbA hS dX0_cell_2 ?_
  refine r_ge (b := L) (tgt := 12) hx hb dX0_cell_3 (by decide) (by decide) hL (fun c_3 => ?_) (fun c_3 => ?_)
  · refine lv_iconst (v := 0) hx hb dX0_cell_12 (by decide) ?_
    exact W.iret (v := 0) hx hb hr (fun t ht hW => ⟨⟨0, (), rfl, by unfold cellV; rw [if_neg (by omega)], trivial⟩, hS.F ht⟩) hS.2.2 dX0_cell_13
  · refine lv_aload_n hx hb dX0_cell_6 rfl (lv_at hl 0 rfl) ?_
    refine lv_iload_n hx hb dX0_cell_7 rfl (lv_at hl 1 rfl) ?_
    refine r_sld hx hb hX hbl hbA hS c_3 hL dX0_cell_8 ?_
    refine lv_goto (tgt := 13) hx hb dX0_cell_9 (by decide) ?_
    exact W.iret (v := xs 0) hx hb hr (fun t ht hW => ⟨⟨xs 0, (), rfl, by unfold cellV; rw [if_pos c_3], trivial⟩, hS.F ht⟩) hS.2.2 dX0_cell_13
end
section
set_option maxRecDepth 100000
/-! the law: its sixteen cases (printed by gen_law.py) -/
set_option maxHeartbeats 4000000 in
/-- case 0: values -/
theorem case_values {p : Program} {l : Launch} {e : Env} {s : State} {m : MethodId} {below : List Frame} {meth : Method} {c : Code} {Q : State → Prop} {D : va_G} {d : ClassId} {a a2 : Nat → Nat} {b L : Nat} {xs : Nat → Int32} (hL : L ≤ 321) (C0 : lw_At p s m meth c b L xs) (hK : va_K D vwCl [(d, .int)] s) {i : Nat} (hi : i + 5 ≤ L) (next : ∀ (H : Heap) (locs : List Loc) (ls : Array Slot), lawS D d a a2 s.heap H locs → lv_has ls 4 [(0, .ref b), (1, .ref (a 0)), (2, .ref (a2 0)), (3, .int (nI i))] → W p l e room_1 s m #[Value.ref b] below meth c H locs 18 420 Q (F0 m 518 ls [])) (H : Heap) (locs : List Loc) (ls : Array Slot) (hs : lawS D d a a2 s.heap H locs) (hl : lv_has ls 4 [(0, .ref b), (1, .ref (a 0)), (2, .ref (a2 0)), (3, .int (nI i))]) : W p l e room_1 s m #[Value.ref b] below meth c H locs 18 420 Q (F0 m 120 ls []) := by
  obtain ⟨hx, hb, hr, hml, hown, hts0, hX, hbl, hlocks, hgv⟩ := C0
  have hts : ∀ w ∈ lw_all, w.before #[Value.ref b] s = true := fun w h => hts0 w (lw_all_tbl h)
  have hA : ∀ q : Nat, s.heap.size ≤ q → (fun q : Nat => s.heap.size ≤ q) q := fun _ h => h
  have hbA : ¬ (fun q : Nat => s.heap.size ≤ q) b := Nat.not_le.mpr hbl
  have hC : cx RX0 p s m c #[Value.ref b] cL_law 4 D d := ⟨⟨hx, hb, hml, hown, hts⟩, hK⟩
  obtain ⟨n, ct, fc, ff, ft, bx, ub, fx, wa, le, pa, qu, hg, hfx, hI⟩ := hs
  have hn : n ≤ 10 := hg.2.1
  have hct : ct ≤ 20 := hg.2.2.1
  refine lv_aload_n hx hb dL_law_120 rfl (lv_at hl 1 rfl) ?_
  refine go_iU (rest := []) hC hA hI (mU_values l D d a n ct nNone fc ff ft bx ub fx wa le pa qu ) (ci := 0) rfl rfl 0 (lw_V q69 q70 q71 q18 q72) (by decide +kernel) ⟨(Nat.le_of_ble_eq_true rfl), (Nat.le_of_ble_eq_true rfl)⟩ rfl rfl rfl hl.1 rfl (Nat.le_of_ble_eq_true rfl) dL_law_121 ⟨(Nat.le_of_ble_eq_true rfl), (Nat.le_of_ble_eq_true rfl)⟩ (fun r1 u1 H locs hp hI => ?_)
  obtain ⟨hs1, rfl⟩ := hp
  refine lv_aload_n hx hb dL_law_124 rfl (lv_at hl 2 rfl) ?_
  refine go_iM (rest := [.int r1]) hC hA hI (mM_values l D d a2 n ct fc fx ff ft bx ub ) (ci := 1) rfl rfl 0 (lw_V q208 q209 q210 q19 q211) (by decide +kernel) ⟨(Nat.le_of_ble_eq_true rfl), (Nat.le_of_ble_eq_true rfl)⟩ rfl rfl rfl hl.1 rfl (Nat.le_of_ble_eq_true rfl) dL_law_125 ⟨(Nat.le_of_ble_eq_true rfl), (Nat.le_of_ble_eq_true rfl)⟩ (fun r2 u2 H locs hp hI => ?_)
  obtain ⟨hs2, rfl⟩ := hp
  refine lv_icmp_eq (tgt := 518) hx hb dL_law_128 (by decide) (fun _ => ?_) (fun cq => ?_)
  · exact next H locs ls ⟨n, ct, fc, ff, ft, bx, ub, fx, wa, le, pa, qu, hg, hfx, hI⟩ hl
  · exact absurd (hs1.trans hs2.symm) cq
set_option maxHeartbeats 4000000 in
/-- case 1: cost -/
theorem case_cost {p : Program} {l : Launch} {e : Env} {s : State} {m : MethodId} {below : List Frame} {meth : Method} {c : Code} {Q : State → Prop} {D : va_G} {d : ClassId} {a a2 : Nat → Nat} {b L : Nat} {xs : Nat → Int32} (hL : L ≤ 321) (C0 : lw_At p s m meth c b L xs) (hK : va_K D vwCl [(d, .int)] s) {i : Nat} (hi : i + 5 ≤ L) (next : ∀ (H : Heap) (locs : List Loc) (ls : Array Slot), lawS D d a a2 s.heap H locs → lv_has ls 4 [(0, .ref b), (1, .ref (a 0)), (2, .ref (a2 0)), (3, .int (nI i))] → W p l e room_1 s m #[Value.ref b] below meth c H locs 18 420 Q (F0 m 518 ls [])) (H : Heap) (locs : List Loc) (ls : Array Slot) (hs : lawS D d a a2 s.heap H locs) (hl : lv_has ls 4 [(0, .ref b), (1, .ref (a 0)), (2, .ref (a2 0)), (3, .int (nI i))]) : W p l e room_1 s m #[Value.ref b] below meth c H locs 18 420 Q (F0 m 133 ls []) := by
  obtain ⟨hx, hb, hr, hml, hown, hts0, hX, hbl, hlocks, hgv⟩ := C0
  have hts : ∀ w ∈ lw_all, w.before #[Value.ref b] s = true := fun w h => hts0 w (lw_all_tbl h)
  have hA : ∀ q : Nat, s.heap.size ≤ q → (fun q : Nat => s.heap.size ≤ q) q := fun _ h => h
  have hbA : ¬ (fun q : Nat => s.heap.size ≤ q) b := Nat.not_le.mpr hbl
  have hC : cx RX0 p s m c #[Value.ref b] cL_law 4 D d := ⟨⟨hx, hb, hml, hown, hts⟩, hK⟩
  obtain ⟨n, ct, fc, ff, ft, bx, ub, fx, wa, le, pa, qu, hg, hfx, hI⟩ := hs
  have hn : n ≤ 10 := hg.2.1
  have hct : ct ≤ 20 := hg.2.2.1
  refine lv_aload_n hx hb dL_law_133 rfl (lv_at hl 1 rfl) ?_
  refine lv_aload_n hx hb dL_law_134 rfl (lv_at hl 0 rfl) ?_
  refine lv_iload_n hx hb dL_law_135 rfl (lv_at hl 3 rfl) ?_
  refine lv_iconst (v := nI 1) hx hb dL_law_136 (by decide +kernel) ?_
  refine r_add hx hb dL_law_137 ?_
  refine r_sld hx hb hX hbl hbA hI.2.2 (show i + 1 < L by omega) (by omega) dL_law_138 ?_
  refine lv_aload_n hx hb dL_law_139 rfl (lv_at hl 0 rfl) ?_
  refine lv_iload_n hx hb dL_law_140 rfl (lv_at hl 3 rfl) ?_
  refine lv_iconst (v := nI 2) hx hb dL_law_141 (by decide +kernel) ?_
  refine r_add hx hb dL_law_142 ?_
  refine r_sld hx hb hX hbl hbA hI.2.2 (show i + 2 < L by omega) (by omega) dL_law_143 ?_
  refine lv_aload_n hx hb dL_law_144 rfl (lv_at hl 0 rfl) ?_
  refine lv_iload_n hx hb dL_law_145 rfl (lv_at hl 3 rfl) ?_
  refine lv_iconst (v := nI 3) hx hb dL_law_146 (by decide +kernel) ?_
  refine r_add hx hb dL_law_147 ?_
  refine r_sld hx hb hX hbl hbA hI.2.2 (show i + 3 < L by omega) (by omega) dL_law_148 ?_
  refine go_iU (rest := []) hC hA hI (mU_cost l D d a n ct nNone fc ff ft bx ub fx wa le pa qu (xs (i + 1)) (xs (i + 2)) (xs (i + 3)) hn) (ci := 0) rfl rfl 3 (lw_V q73 q74 q75 q18 q76) (by decide +kernel) ⟨(Nat.le_of_ble_eq_true rfl), (Nat.le_of_ble_eq_true rfl)⟩ rfl rfl rfl hl.1 rfl (Nat.le_of_ble_eq_true rfl) dL_law_149 ⟨(Nat.le_of_ble_eq_true rfl), (Nat.le_of_ble_eq_true rfl)⟩ (fun r1 u1 H locs hp hI => ?_)
  obtain ⟨fc2, rfl, hs1⟩ := hp
  refine lv_aload_n hx hb dL_law_152 rfl (lv_at hl 2 rfl) ?_
  refine lv_aload_n hx hb dL_law_153 rfl (lv_at hl 0 rfl) ?_
  refine lv_iload_n hx hb dL_law_154 rfl (lv_at hl 3 rfl) ?_
  refine lv_iconst (v := nI 1) hx hb dL_law_155 (by decide +kernel) ?_
  refine r_add hx hb dL_law_156 ?_
  refine r_sld hx hb hX hbl hbA hI.2.2 (show i + 1 < L by omega) (by omega) dL_law_157 ?_
  refine lv_aload_n hx hb dL_law_158 rfl (lv_at hl 0 rfl) ?_
  refine lv_iload_n hx hb dL_law_159 rfl (lv_at hl 3 rfl) ?_
  refine lv_iconst (v := nI 2) hx hb dL_law_160 (by decide +kernel) ?_
  refine r_add hx hb dL_law_161 ?_
  refine r_sld hx hb hX hbl hbA hI.2.2 (show i + 2 < L by omega) (by omega) dL_law_162 ?_
  refine lv_aload_n hx hb dL_law_163 rfl (lv_at hl 0 rfl) ?_
  refine lv_iload_n hx hb dL_law_164 rfl (lv_at hl 3 rfl) ?_
  refine lv_iconst (v := nI 3) hx hb dL_law_165 (by decide +kernel) ?_
  refine r_add hx hb dL_law_166 ?_
  refine r_sld hx hb hX hbl hbA hI.2.2 (show i + 3 < L by omega) (by omega) dL_law_167 ?_
  refine go_iM (rest := [.int r1]) hC hA hI (mM_cost l D d a2 n ct fc fx ff ft bx ub (xs (i + 1)) (xs (i + 2)) (xs (i + 3)) hn) (ci := 1) rfl rfl 3 (lw_V q212 q213 q214 q19 q215) (by decide +kernel) ⟨(Nat.le_of_ble_eq_true rfl), (Nat.le_of_ble_eq_true rfl)⟩ rfl rfl rfl hl.1 rfl (Nat.le_of_ble_eq_true rfl) dL_law_168 ⟨(Nat.le_of_ble_eq_true rfl), (Nat.le_of_ble_eq_true rfl)⟩ (fun r2 u2 H locs hp hI => ?_)
  obtain ⟨fc3, rfl, hs2⟩ := hp
  obtain ⟨er, ef⟩ := sCost_one (by omega) hs1 hs2
  subst ef
  refine lv_icmp_eq (tgt := 518) hx hb dL_law_171 (by decide) (fun _ => ?_) (fun cq => ?_)
  · exact next H locs ls ⟨n, ct, fc2, ff, ft, bx, ub, fx, wa, le, pa, qu, (sCost_gOK hg hs1), hfx, hI⟩ hl
  · exact absurd er cq
set_option maxHeartbeats 4000000 in
/-- case 2: flow -/
theorem case_flow {p : Program} {l : Launch} {e : Env} {s : State} {m : MethodId} {below : List Frame} {meth : Method} {c : Code} {Q : State → Prop} {D : va_G} {d : ClassId} {a a2 : Nat → Nat} {b L : Nat} {xs : Nat → Int32} (hL : L ≤ 321) (C0 : lw_At p s m meth c b L xs) (hK : va_K D vwCl [(d, .int)] s) {i : Nat} (hi : i + 5 ≤ L) (next : ∀ (H : Heap) (locs : List Loc) (ls : Array Slot), lawS D d a a2 s.heap H locs → lv_has ls 4 [(0, .ref b), (1, .ref (a 0)), (2, .ref (a2 0)), (3, .int (nI i))] → W p l e room_1 s m #[Value.ref b] below meth c H locs 18 420 Q (F0 m 518 ls [])) (H : Heap) (locs : List Loc) (ls : Array Slot) (hs : lawS D d a a2 s.heap H locs) (hl : lv_has ls 4 [(0, .ref b), (1, .ref (a 0)), (2, .ref (a2 0)), (3, .int (nI i))]) : W p l e room_1 s m #[Value.ref b] below meth c H locs 18 420 Q (F0 m 176 ls []) := by
  obtain ⟨hx, hb, hr, hml, hown, hts0, hX, hbl, hlocks, hgv⟩ := C0
  have hts : ∀ w ∈ lw_all, w.before #[Value.ref b] s = true := fun w h => hts0 w (lw_all_tbl h)
  have hA : ∀ q : Nat, s.heap.size ≤ q → (fun q : Nat => s.heap.size ≤ q) q := fun _ h => h
  have hbA : ¬ (fun q : Nat => s.heap.size ≤ q) b := Nat.not_le.mpr hbl
  have hC : cx RX0 p s m c #[Value.ref b] cL_law 4 D d := ⟨⟨hx, hb, hml, hown, hts⟩, hK⟩
  obtain ⟨n, ct, fc, ff, ft, bx, ub, fx, wa, le, pa, qu, hg, hfx, hI⟩ := hs
  have hn : n ≤ 10 := hg.2.1
  have hct : ct ≤ 20 := hg.2.2.1
  refine lv_aload_n hx hb dL_law_176 rfl (lv_at hl 1 rfl) ?_
  refine lv_aload_n hx hb dL_law_177 rfl (lv_at hl 0 rfl) ?_
  refine lv_iload_n hx hb dL_law_178 rfl (lv_at hl 3 rfl) ?_
  refine lv_iconst (v := nI 1) hx hb dL_law_179 (by decide +kernel) ?_
  refine r_add hx hb dL_law_180 ?_
  refine r_sld hx hb hX hbl hbA hI.2.2 (show i + 1 < L by omega) (by omega) dL_law_181 ?_
  refine lv_aload_n hx hb dL_law_182 rfl (lv_at hl 0 rfl) ?_
  refine lv_iload_n hx hb dL_law_183 rfl (lv_at hl 3 rfl) ?_
  refine lv_iconst (v := nI 2) hx hb dL_law_184 (by decide +kernel) ?_
  refine r_add hx hb dL_law_185 ?_
  refine r_sld hx hb hX hbl hbA hI.2.2 (show i + 2 < L by omega) (by omega) dL_law_186 ?_
  refine lv_aload_n hx hb dL_law_187 rfl (lv_at hl 0 rfl) ?_
  refine lv_iload_n hx hb dL_law_188 rfl (lv_at hl 3 rfl) ?_
  refine lv_iconst (v := nI 3) hx hb dL_law_189 (by decide +kernel) ?_
  refine r_add hx hb dL_law_190 ?_
  refine r_sld hx hb hX hbl hbA hI.2.2 (show i + 3 < L by omega) (by omega) dL_law_191 ?_
  refine lv_aload_n hx hb dL_law_192 rfl (lv_at hl 0 rfl) ?_
  refine lv_iload_n hx hb dL_law_193 rfl (lv_at hl 3 rfl) ?_
  refine lv_iconst (v := nI 4) hx hb dL_law_194 (by decide +kernel) ?_
  refine r_add hx hb dL_law_195 ?_
  refine r_sld hx hb hX hbl hbA hI.2.2 (show i + 4 < L by omega) (by omega) dL_law_196 ?_
  refine go_iU (rest := []) hC hA hI (mU_flow l D d a n ct nNone fc ff ft bx ub fx wa le pa qu (xs (i + 1)) (xs (i + 2)) (xs (i + 3)) (xs (i + 4)) hn hct) (ci := 0) rfl rfl 4 (lw_V q81 q82 q83 q18 q84) (by decide +kernel) ⟨(Nat.le_of_ble_eq_true rfl), (Nat.le_of_ble_eq_true rfl)⟩ rfl rfl rfl hl.1 rfl (Nat.le_of_ble_eq_true rfl) dL_law_197 ⟨(Nat.le_of_ble_eq_true rfl), (Nat.le_of_ble_eq_true rfl)⟩ (fun r1 u1 H locs hp hI => ?_)
  obtain ⟨ct2, ff2, ft2, bx2, ub2, rfl, hs1⟩ := hp
  refine lv_aload_n hx hb dL_law_200 rfl (lv_at hl 2 rfl) ?_
  refine lv_aload_n hx hb dL_law_201 rfl (lv_at hl 0 rfl) ?_
  refine lv_iload_n hx hb dL_law_202 rfl (lv_at hl 3 rfl) ?_
  refine lv_iconst (v := nI 1) hx hb dL_law_203 (by decide +kernel) ?_
  refine r_add hx hb dL_law_204 ?_
  refine r_sld hx hb hX hbl hbA hI.2.2 (show i + 1 < L by omega) (by omega) dL_law_205 ?_
  refine lv_aload_n hx hb dL_law_206 rfl (lv_at hl 0 rfl) ?_
  refine lv_iload_n hx hb dL_law_207 rfl (lv_at hl 3 rfl) ?_
  refine lv_iconst (v := nI 2) hx hb dL_law_208 (by decide +kernel) ?_
  refine r_add hx hb dL_law_209 ?_
  refine r_sld hx hb hX hbl hbA hI.2.2 (show i + 2 < L by omega) (by omega) dL_law_210 ?_
  refine lv_aload_n hx hb dL_law_211 rfl (lv_at hl 0 rfl) ?_
  refine lv_iload_n hx hb dL_law_212 rfl (lv_at hl 3 rfl) ?_
  refine lv_iconst (v := nI 3) hx hb dL_law_213 (by decide +kernel) ?_
  refine r_add hx hb dL_law_214 ?_
  refine r_sld hx hb hX hbl hbA hI.2.2 (show i + 3 < L by omega) (by omega) dL_law_215 ?_
  refine lv_aload_n hx hb dL_law_216 rfl (lv_at hl 0 rfl) ?_
  refine lv_iload_n hx hb dL_law_217 rfl (lv_at hl 3 rfl) ?_
  refine lv_iconst (v := nI 4) hx hb dL_law_218 (by decide +kernel) ?_
  refine r_add hx hb dL_law_219 ?_
  refine r_sld hx hb hX hbl hbA hI.2.2 (show i + 4 < L by omega) (by omega) dL_law_220 ?_
  refine go_iM (rest := [.int r1]) hC hA hI (mM_flow l D d a2 n ct fc fx ff ft bx ub (xs (i + 1)) (xs (i + 2)) (xs (i + 3)) (xs (i + 4)) hn hct) (ci := 1) rfl rfl 4 (lw_V q220 q221 q222 q19 q223) (by decide +kernel) ⟨(Nat.le_of_ble_eq_true rfl), (Nat.le_of_ble_eq_true rfl)⟩ rfl rfl rfl hl.1 rfl (Nat.le_of_ble_eq_true rfl) dL_law_221 ⟨(Nat.le_of_ble_eq_true rfl), (Nat.le_of_ble_eq_true rfl)⟩ (fun r2 u2 H locs hp hI => ?_)
  obtain ⟨ct3, ff3, ft3, bx3, ub3, rfl, hs2⟩ := hp
  obtain ⟨er, e1, e2, e3, e4, e5⟩ := sFlow_one (by omega) hs1 hs2
  subst e1 e2 e3 e4 e5
  refine lv_icmp_eq (tgt := 518) hx hb dL_law_224 (by decide) (fun _ => ?_) (fun cq => ?_)
  · exact next H locs ls ⟨n, ct2, fc, ff2, ft2, bx2, ub2, fx, wa, le, pa, qu, (sFlow_ok hg hs1), hfx, hI⟩ hl
  · exact absurd er cq
set_option maxHeartbeats 4000000 in
/-- case 3: cut -/
theorem case_cut {p : Program} {l : Launch} {e : Env} {s : State} {m : MethodId} {below : List Frame} {meth : Method} {c : Code} {Q : State → Prop} {D : va_G} {d : ClassId} {a a2 : Nat → Nat} {b L : Nat} {xs : Nat → Int32} (hL : L ≤ 321) (C0 : lw_At p s m meth c b L xs) (hK : va_K D vwCl [(d, .int)] s) {i : Nat} (hi : i + 5 ≤ L) (next : ∀ (H : Heap) (locs : List Loc) (ls : Array Slot), lawS D d a a2 s.heap H locs → lv_has ls 4 [(0, .ref b), (1, .ref (a 0)), (2, .ref (a2 0)), (3, .int (nI i))] → W p l e room_1 s m #[Value.ref b] below meth c H locs 18 420 Q (F0 m 518 ls [])) (H : Heap) (locs : List Loc) (ls : Array Slot) (hs : lawS D d a a2 s.heap H locs) (hl : lv_has ls 4 [(0, .ref b), (1, .ref (a 0)), (2, .ref (a2 0)), (3, .int (nI i))]) : W p l e room_1 s m #[Value.ref b] below meth c H locs 18 420 Q (F0 m 229 ls []) := by
  obtain ⟨hx, hb, hr, hml, hown, hts0, hX, hbl, hlocks, hgv⟩ := C0
  have hts : ∀ w ∈ lw_all, w.before #[Value.ref b] s = true := fun w h => hts0 w (lw_all_tbl h)
  have hA : ∀ q : Nat, s.heap.size ≤ q → (fun q : Nat => s.heap.size ≤ q) q := fun _ h => h
  have hbA : ¬ (fun q : Nat => s.heap.size ≤ q) b := Nat.not_le.mpr hbl
  have hC : cx RX0 p s m c #[Value.ref b] cL_law 4 D d := ⟨⟨hx, hb, hml, hown, hts⟩, hK⟩
  obtain ⟨n, ct, fc, ff, ft, bx, ub, fx, wa, le, pa, qu, hg, hfx, hI⟩ := hs
  have hn : n ≤ 10 := hg.2.1
  have hct : ct ≤ 20 := hg.2.2.1
  refine lv_aload_n hx hb dL_law_229 rfl (lv_at hl 1 rfl) ?_
  refine lv_aload_n hx hb dL_law_230 rfl (lv_at hl 0 rfl) ?_
  refine lv_iload_n hx hb dL_law_231 rfl (lv_at hl 3 rfl) ?_
  refine lv_iconst (v := nI 1) hx hb dL_law_232 (by decide +kernel) ?_
  refine r_add hx hb dL_law_233 ?_
  refine r_sld hx hb hX hbl hbA hI.2.2 (show i + 1 < L by omega) (by omega) dL_law_234 ?_
  refine go_iU (rest := []) hC hA hI (mU_cut l D d a n ct nNone fc ff ft bx ub fx wa le pa qu (xs (i + 1)) hct) (ci := 0) rfl rfl 1 (lw_V q85 q86 q87 q18 q88) (by decide +kernel) ⟨(Nat.le_of_ble_eq_true rfl), (Nat.le_of_ble_eq_true rfl)⟩ rfl rfl rfl hl.1 rfl (Nat.le_of_ble_eq_true rfl) dL_law_235 ⟨(Nat.le_of_ble_eq_true rfl), (Nat.le_of_ble_eq_true rfl)⟩ (fun r1 u1 H locs hp hI => ?_)
  obtain ⟨ct2, ff2, ft2, bx2, ub2, rfl, hs1⟩ := hp
  refine lv_aload_n hx hb dL_law_238 rfl (lv_at hl 2 rfl) ?_
  refine lv_aload_n hx hb dL_law_239 rfl (lv_at hl 0 rfl) ?_
  refine lv_iload_n hx hb dL_law_240 rfl (lv_at hl 3 rfl) ?_
  refine lv_iconst (v := nI 1) hx hb dL_law_241 (by decide +kernel) ?_
  refine r_add hx hb dL_law_242 ?_
  refine r_sld hx hb hX hbl hbA hI.2.2 (show i + 1 < L by omega) (by omega) dL_law_243 ?_
  refine go_iM (rest := [.int r1]) hC hA hI (mM_cut l D d a2 n ct fc fx ff ft bx ub (xs (i + 1)) hct) (ci := 1) rfl rfl 1 (lw_V q224 q225 q226 q19 q227) (by decide +kernel) ⟨(Nat.le_of_ble_eq_true rfl), (Nat.le_of_ble_eq_true rfl)⟩ rfl rfl rfl hl.1 rfl (Nat.le_of_ble_eq_true rfl) dL_law_244 ⟨(Nat.le_of_ble_eq_true rfl), (Nat.le_of_ble_eq_true rfl)⟩ (fun r2 u2 H locs hp hI => ?_)
  obtain ⟨ct3, ff3, ft3, bx3, ub3, rfl, hs2⟩ := hp
  obtain ⟨er, e1, e2, e3, e4, e5⟩ := sCut_one (by omega) hs1 hs2
  subst e1 e2 e3 e4 e5
  refine lv_icmp_eq (tgt := 518) hx hb dL_law_247 (by decide) (fun _ => ?_) (fun cq => ?_)
  · exact next H locs ls ⟨n, ct2, fc, ff2, ft2, bx2, ub2, fx, wa, le, pa, qu, (sCut_ok hg hs1), hfx, hI⟩ hl
  · exact absurd er cq
set_option maxHeartbeats 4000000 in
/-- case 4: fix -/
theorem case_fix {p : Program} {l : Launch} {e : Env} {s : State} {m : MethodId} {below : List Frame} {meth : Method} {c : Code} {Q : State → Prop} {D : va_G} {d : ClassId} {a a2 : Nat → Nat} {b L : Nat} {xs : Nat → Int32} (hL : L ≤ 321) (C0 : lw_At p s m meth c b L xs) (hK : va_K D vwCl [(d, .int)] s) {i : Nat} (hi : i + 5 ≤ L) (next : ∀ (H : Heap) (locs : List Loc) (ls : Array Slot), lawS D d a a2 s.heap H locs → lv_has ls 4 [(0, .ref b), (1, .ref (a 0)), (2, .ref (a2 0)), (3, .int (nI i))] → W p l e room_1 s m #[Value.ref b] below meth c H locs 18 420 Q (F0 m 518 ls [])) (H : Heap) (locs : List Loc) (ls : Array Slot) (hs : lawS D d a a2 s.heap H locs) (hl : lv_has ls 4 [(0, .ref b), (1, .ref (a 0)), (2, .ref (a2 0)), (3, .int (nI i))]) : W p l e room_1 s m #[Value.ref b] below meth c H locs 18 420 Q (F0 m 252 ls []) := by
  obtain ⟨hx, hb, hr, hml, hown, hts0, hX, hbl, hlocks, hgv⟩ := C0
  have hts : ∀ w ∈ lw_all, w.before #[Value.ref b] s = true := fun w h => hts0 w (lw_all_tbl h)
  have hA : ∀ q : Nat, s.heap.size ≤ q → (fun q : Nat => s.heap.size ≤ q) q := fun _ h => h
  have hbA : ¬ (fun q : Nat => s.heap.size ≤ q) b := Nat.not_le.mpr hbl
  have hC : cx RX0 p s m c #[Value.ref b] cL_law 4 D d := ⟨⟨hx, hb, hml, hown, hts⟩, hK⟩
  obtain ⟨n, ct, fc, ff, ft, bx, ub, fx, wa, le, pa, qu, hg, hfx, hI⟩ := hs
  have hn : n ≤ 10 := hg.2.1
  have hct : ct ≤ 20 := hg.2.2.1
  refine lv_aload_n hx hb dL_law_252 rfl (lv_at hl 1 rfl) ?_
  refine lv_aload_n hx hb dL_law_253 rfl (lv_at hl 0 rfl) ?_
  refine lv_iload_n hx hb dL_law_254 rfl (lv_at hl 3 rfl) ?_
  refine lv_iconst (v := nI 1) hx hb dL_law_255 (by decide +kernel) ?_
  refine r_add hx hb dL_law_256 ?_
  refine r_sld hx hb hX hbl hbA hI.2.2 (show i + 1 < L by omega) (by omega) dL_law_257 ?_
  refine lv_aload_n hx hb dL_law_258 rfl (lv_at hl 0 rfl) ?_
  refine lv_iload_n hx hb dL_law_259 rfl (lv_at hl 3 rfl) ?_
  refine lv_iconst (v := nI 2) hx hb dL_law_260 (by decide +kernel) ?_
  refine r_add hx hb dL_law_261 ?_
  refine r_sld hx hb hX hbl hbA hI.2.2 (show i + 2 < L by omega) (by omega) dL_law_262 ?_
  refine go_iU (rest := []) hC hA hI (mU_fix l D d a n ct nNone fc ff ft bx ub fx wa le pa qu (xs (i + 1)) (xs (i + 2)) hn) (ci := 0) rfl rfl 2 (lw_V q93 q94 q95 q18 q96) (by decide +kernel) ⟨(Nat.le_of_ble_eq_true rfl), (Nat.le_of_ble_eq_true rfl)⟩ rfl rfl rfl hl.1 rfl (Nat.le_of_ble_eq_true rfl) dL_law_263 ⟨(Nat.le_of_ble_eq_true rfl), (Nat.le_of_ble_eq_true rfl)⟩ (fun r1 u1 H locs hp hI => ?_)
  obtain ⟨fx2, rfl, hs1⟩ := hp
  refine lv_aload_n hx hb dL_law_266 rfl (lv_at hl 2 rfl) ?_
  refine lv_aload_n hx hb dL_law_267 rfl (lv_at hl 0 rfl) ?_
  refine lv_iload_n hx hb dL_law_268 rfl (lv_at hl 3 rfl) ?_
  refine lv_iconst (v := nI 1) hx hb dL_law_269 (by decide +kernel) ?_
  refine r_add hx hb dL_law_270 ?_
  refine r_sld hx hb hX hbl hbA hI.2.2 (show i + 1 < L by omega) (by omega) dL_law_271 ?_
  refine lv_aload_n hx hb dL_law_272 rfl (lv_at hl 0 rfl) ?_
  refine lv_iload_n hx hb dL_law_273 rfl (lv_at hl 3 rfl) ?_
  refine lv_iconst (v := nI 2) hx hb dL_law_274 (by decide +kernel) ?_
  refine r_add hx hb dL_law_275 ?_
  refine r_sld hx hb hX hbl hbA hI.2.2 (show i + 2 < L by omega) (by omega) dL_law_276 ?_
  refine go_iM (rest := [.int r1]) hC hA hI (mM_fix l D d a2 n ct fc fx ff ft bx ub (xs (i + 1)) (xs (i + 2)) hn) (ci := 1) rfl rfl 2 (lw_V q232 q233 q234 q19 q235) (by decide +kernel) ⟨(Nat.le_of_ble_eq_true rfl), (Nat.le_of_ble_eq_true rfl)⟩ rfl rfl rfl hl.1 rfl (Nat.le_of_ble_eq_true rfl) dL_law_277 ⟨(Nat.le_of_ble_eq_true rfl), (Nat.le_of_ble_eq_true rfl)⟩ (fun r2 u2 H locs hp hI => ?_)
  obtain ⟨fx3, rfl, hs2⟩ := hp
  obtain ⟨er, ef⟩ := sFix_one (by omega) hs1 hs2
  subst ef
  refine lv_icmp_eq (tgt := 518) hx hb dL_law_280 (by decide) (fun _ => ?_) (fun cq => ?_)
  · exact next H locs ls ⟨n, ct, fc, ff, ft, bx, ub, fx2, wa, le, pa, qu, hg, (sFix_ok hfx hs1), hI⟩ hl
  · exact absurd er cq
set_option maxHeartbeats 4000000 in
/-- case 5: flows -/
theorem case_flows {p : Program} {l : Launch} {e : Env} {s : State} {m : MethodId} {below : List Frame} {meth : Method} {c : Code} {Q : State → Prop} {D : va_G} {d : ClassId} {a a2 : Nat → Nat} {b L : Nat} {xs : Nat → Int32} (hL : L ≤ 321) (C0 : lw_At p s m meth c b L xs) (hK : va_K D vwCl [(d, .int)] s) {i : Nat} (hi : i + 5 ≤ L) (next : ∀ (H : Heap) (locs : List Loc) (ls : Array Slot), lawS D d a a2 s.heap H locs → lv_has ls 4 [(0, .ref b), (1, .ref (a 0)), (2, .ref (a2 0)), (3, .int (nI i))] → W p l e room_1 s m #[Value.ref b] below meth c H locs 18 420 Q (F0 m 518 ls [])) (H : Heap) (locs : List Loc) (ls : Array Slot) (hs : lawS D d a a2 s.heap H locs) (hl : lv_has ls 4 [(0, .ref b), (1, .ref (a 0)), (2, .ref (a2 0)), (3, .int (nI i))]) : W p l e room_1 s m #[Value.ref b] below meth c H locs 18 420 Q (F0 m 285 ls []) := by
  obtain ⟨hx, hb, hr, hml, hown, hts0, hX, hbl, hlocks, hgv⟩ := C0
  have hts : ∀ w ∈ lw_all, w.before #[Value.ref b] s = true := fun w h => hts0 w (lw_all_tbl h)
  have hA : ∀ q : Nat, s.heap.size ≤ q → (fun q : Nat => s.heap.size ≤ q) q := fun _ h => h
  have hbA : ¬ (fun q : Nat => s.heap.size ≤ q) b := Nat.not_le.mpr hbl
  have hC : cx RX0 p s m c #[Value.ref b] cL_law 4 D d := ⟨⟨hx, hb, hml, hown, hts⟩, hK⟩
  obtain ⟨n, ct, fc, ff, ft, bx, ub, fx, wa, le, pa, qu, hg, hfx, hI⟩ := hs
  have hn : n ≤ 10 := hg.2.1
  have hct : ct ≤ 20 := hg.2.2.1
  refine lv_aload_n hx hb dL_law_285 rfl (lv_at hl 1 rfl) ?_
  refine go_iU (rest := []) hC hA hI (mU_flows l D d a n ct nNone fc ff ft bx ub fx wa le pa qu ) (ci := 0) rfl rfl 0 (lw_V q97 q98 q99 q18 q100) (by decide +kernel) ⟨(Nat.le_of_ble_eq_true rfl), (Nat.le_of_ble_eq_true rfl)⟩ rfl rfl rfl hl.1 rfl (Nat.le_of_ble_eq_true rfl) dL_law_286 ⟨(Nat.le_of_ble_eq_true rfl), (Nat.le_of_ble_eq_true rfl)⟩ (fun r1 u1 H locs hp hI => ?_)
  obtain ⟨hs1, rfl⟩ := hp
  refine lv_aload_n hx hb dL_law_289 rfl (lv_at hl 2 rfl) ?_
  refine go_iM (rest := [.int r1]) hC hA hI (mM_flows l D d a2 n ct fc fx ff ft bx ub ) (ci := 1) rfl rfl 0 (lw_V q236 q237 q238 q19 q239) (by decide +kernel) ⟨(Nat.le_of_ble_eq_true rfl), (Nat.le_of_ble_eq_true rfl)⟩ rfl rfl rfl hl.1 rfl (Nat.le_of_ble_eq_true rfl) dL_law_290 ⟨(Nat.le_of_ble_eq_true rfl), (Nat.le_of_ble_eq_true rfl)⟩ (fun r2 u2 H locs hp hI => ?_)
  obtain ⟨hs2, rfl⟩ := hp
  refine lv_icmp_eq (tgt := 518) hx hb dL_law_293 (by decide) (fun _ => ?_) (fun cq => ?_)
  · exact next H locs ls ⟨n, ct, fc, ff, ft, bx, ub, fx, wa, le, pa, qu, hg, hfx, hI⟩ hl
  · exact absurd (hs1.trans hs2.symm) cq
set_option maxHeartbeats 4000000 in
/-- case 6: costOf -/
theorem case_costOf {p : Program} {l : Launch} {e : Env} {s : State} {m : MethodId} {below : List Frame} {meth : Method} {c : Code} {Q : State → Prop} {D : va_G} {d : ClassId} {a a2 : Nat → Nat} {b L : Nat} {xs : Nat → Int32} (hL : L ≤ 321) (C0 : lw_At p s m meth c b L xs) (hK : va_K D vwCl [(d, .int)] s) {i : Nat} (hi : i + 5 ≤ L) (next : ∀ (H : Heap) (locs : List Loc) (ls : Array Slot), lawS D d a a2 s.heap H locs → lv_has ls 4 [(0, .ref b), (1, .ref (a 0)), (2, .ref (a2 0)), (3, .int (nI i))] → W p l e room_1 s m #[Value.ref b] below meth c H locs 18 420 Q (F0 m 518 ls [])) (H : Heap) (locs : List Loc) (ls : Array Slot) (hs : lawS D d a a2 s.heap H locs) (hl : lv_has ls 4 [(0, .ref b), (1, .ref (a 0)), (2, .ref (a2 0)), (3, .int (nI i))]) : W p l e room_1 s m #[Value.ref b] below meth c H locs 18 420 Q (F0 m 298 ls []) := by
  obtain ⟨hx, hb, hr, hml, hown, hts0, hX, hbl, hlocks, hgv⟩ := C0
  have hts : ∀ w ∈ lw_all, w.before #[Value.ref b] s = true := fun w h => hts0 w (lw_all_tbl h)
  have hA : ∀ q : Nat, s.heap.size ≤ q → (fun q : Nat => s.heap.size ≤ q) q := fun _ h => h
  have hbA : ¬ (fun q : Nat => s.heap.size ≤ q) b := Nat.not_le.mpr hbl
  have hC : cx RX0 p s m c #[Value.ref b] cL_law 4 D d := ⟨⟨hx, hb, hml, hown, hts⟩, hK⟩
  obtain ⟨n, ct, fc, ff, ft, bx, ub, fx, wa, le, pa, qu, hg, hfx, hI⟩ := hs
  have hn : n ≤ 10 := hg.2.1
  have hct : ct ≤ 20 := hg.2.2.1
  refine lv_aload_n hx hb dL_law_298 rfl (lv_at hl 1 rfl) ?_
  refine lv_aload_n hx hb dL_law_299 rfl (lv_at hl 0 rfl) ?_
  refine lv_iload_n hx hb dL_law_300 rfl (lv_at hl 3 rfl) ?_
  refine lv_iconst (v := nI 1) hx hb dL_law_301 (by decide +kernel) ?_
  refine r_add hx hb dL_law_302 ?_
  refine r_sld hx hb hX hbl hbA hI.2.2 (show i + 1 < L by omega) (by omega) dL_law_303 ?_
  refine go_iU (rest := []) hC hA hI (mU_costOf l D d a n ct nNone fc ff ft bx ub fx wa le pa qu (xs (i + 1)) hg) (ci := 0) rfl rfl 1 (lw_V q101 q102 q103 q18 q104) (by decide +kernel) ⟨(Nat.le_of_ble_eq_true rfl), (Nat.le_of_ble_eq_true rfl)⟩ rfl rfl rfl hl.1 rfl (Nat.le_of_ble_eq_true rfl) dL_law_304 ⟨(Nat.le_of_ble_eq_true rfl), (Nat.le_of_ble_eq_true rfl)⟩ (fun r1 u1 H locs hp hI => ?_)
  obtain ⟨rfl, hs1⟩ := hp
  refine lv_aload_n hx hb dL_law_307 rfl (lv_at hl 2 rfl) ?_
  refine lv_aload_n hx hb dL_law_308 rfl (lv_at hl 0 rfl) ?_
  refine lv_iload_n hx hb dL_law_309 rfl (lv_at hl 3 rfl) ?_
  refine lv_iconst (v := nI 1) hx hb dL_law_310 (by decide +kernel) ?_
  refine r_add hx hb dL_law_311 ?_
  refine r_sld hx hb hX hbl hbA hI.2.2 (show i + 1 < L by omega) (by omega) dL_law_312 ?_
  refine go_iM (rest := [.int r1]) hC hA hI (mM_costOf l D d a2 n ct fc fx ff ft bx ub (xs (i + 1)) hg) (ci := 1) rfl rfl 1 (lw_V q240 q241 q242 q19 q243) (by decide +kernel) ⟨(Nat.le_of_ble_eq_true rfl), (Nat.le_of_ble_eq_true rfl)⟩ rfl rfl rfl hl.1 rfl (Nat.le_of_ble_eq_true rfl) dL_law_313 ⟨(Nat.le_of_ble_eq_true rfl), (Nat.le_of_ble_eq_true rfl)⟩ (fun r2 u2 H locs hp hI => ?_)
  obtain ⟨rfl, hs2⟩ := hp
  refine lv_icmp_eq (tgt := 518) hx hb dL_law_316 (by decide) (fun _ => ?_) (fun cq => ?_)
  · exact next H locs ls ⟨n, ct, fc, ff, ft, bx, ub, fx, wa, le, pa, qu, hg, hfx, hI⟩ hl
  · exact absurd (sCostOf_one hg hs1 hs2) cq
set_option maxHeartbeats 4000000 in
/-- case 7: best -/
theorem case_best {p : Program} {l : Launch} {e : Env} {s : State} {m : MethodId} {below : List Frame} {meth : Method} {c : Code} {Q : State → Prop} {D : va_G} {d : ClassId} {a a2 : Nat → Nat} {b L : Nat} {xs : Nat → Int32} (hL : L ≤ 321) (C0 : lw_At p s m meth c b L xs) (hK : va_K D vwCl [(d, .int)] s) {i : Nat} (hi : i + 5 ≤ L) (next : ∀ (H : Heap) (locs : List Loc) (ls : Array Slot), lawS D d a a2 s.heap H locs → lv_has ls 4 [(0, .ref b), (1, .ref (a 0)), (2, .ref (a2 0)), (3, .int (nI i))] → W p l e room_1 s m #[Value.ref b] below meth c H locs 18 420 Q (F0 m 518 ls [])) (H : Heap) (locs : List Loc) (ls : Array Slot) (hs : lawS D d a a2 s.heap H locs) (hl : lv_has ls 4 [(0, .ref b), (1, .ref (a 0)), (2, .ref (a2 0)), (3, .int (nI i))]) : W p l e room_1 s m #[Value.ref b] below meth c H locs 18 420 Q (F0 m 321 ls []) := by
  obtain ⟨hx, hb, hr, hml, hown, hts0, hX, hbl, hlocks, hgv⟩ := C0
  have hts : ∀ w ∈ lw_all, w.before #[Value.ref b] s = true := fun w h => hts0 w (lw_all_tbl h)
  have hA : ∀ q : Nat, s.heap.size ≤ q → (fun q : Nat => s.heap.size ≤ q) q := fun _ h => h
  have hbA : ¬ (fun q : Nat => s.heap.size ≤ q) b := Nat.not_le.mpr hbl
  have hC : cx RX0 p s m c #[Value.ref b] cL_law 4 D d := ⟨⟨hx, hb, hml, hown, hts⟩, hK⟩
  obtain ⟨n, ct, fc, ff, ft, bx, ub, fx, wa, le, pa, qu, hg, hfx, hI⟩ := hs
  have hn : n ≤ 10 := hg.2.1
  have hct : ct ≤ 20 := hg.2.2.1
  refine lv_aload_n hx hb dL_law_321 rfl (lv_at hl 1 rfl) ?_
  refine go_iU (rest := []) hC hA hI (mU_best l D d a n ct fc ff ft bx ub fx wa le pa qu hg hfx) (ci := 0) rfl rfl 0 (lw_V q109 q110 q111 q18 q112) (by decide +kernel) ⟨(Nat.le_of_ble_eq_true rfl), (Nat.le_of_ble_eq_true rfl)⟩ rfl rfl rfl hl.1 rfl (Nat.le_of_ble_eq_true rfl) dL_law_322 ⟨(Nat.le_of_ble_eq_true rfl), (Nat.le_of_ble_eq_true rfl)⟩ (fun r1 u1 H locs hp hI => ?_)
  obtain ⟨⟨wa2, le2, pa2, qu2, rfl⟩, hs1⟩ := hp
  refine lv_aload_n hx hb dL_law_325 rfl (lv_at hl 2 rfl) ?_
  refine go_iM (rest := [.int r1]) hC hA hI (mM_best l D d a2 n ct fc fx ff ft bx ub hg hfx) (ci := 1) rfl rfl 0 (lw_V q252 q253 q254 q19 q255) (by decide +kernel) ⟨(Nat.le_of_ble_eq_true rfl), (Nat.le_of_ble_eq_true rfl)⟩ rfl rfl rfl hl.1 rfl (Nat.le_of_ble_eq_true rfl) dL_law_326 ⟨(Nat.le_of_ble_eq_true rfl), (Nat.le_of_ble_eq_true rfl)⟩ (fun r2 u2 H locs hp hI => ?_)
  obtain ⟨rfl, hs2⟩ := hp
  refine lv_icmp_eq (tgt := 518) hx hb dL_law_329 (by decide) (fun _ => ?_) (fun cq => ?_)
  · exact next H locs ls ⟨n, ct, fc, ff, ft, bx, ub, fx, wa2, le2, pa2, qu2, hg, hfx, hI⟩ hl
  · exact absurd (sBest_one hs1 hs2) cq
set_option maxHeartbeats 4000000 in
/-- case 8: fewestBoxed -/
theorem case_fewestBoxed {p : Program} {l : Launch} {e : Env} {s : State} {m : MethodId} {below : List Frame} {meth : Method} {c : Code} {Q : State → Prop} {D : va_G} {d : ClassId} {a a2 : Nat → Nat} {b L : Nat} {xs : Nat → Int32} (hL : L ≤ 321) (C0 : lw_At p s m meth c b L xs) (hK : va_K D vwCl [(d, .int)] s) {i : Nat} (hi : i + 5 ≤ L) (next : ∀ (H : Heap) (locs : List Loc) (ls : Array Slot), lawS D d a a2 s.heap H locs → lv_has ls 4 [(0, .ref b), (1, .ref (a 0)), (2, .ref (a2 0)), (3, .int (nI i))] → W p l e room_1 s m #[Value.ref b] below meth c H locs 18 420 Q (F0 m 518 ls [])) (H : Heap) (locs : List Loc) (ls : Array Slot) (hs : lawS D d a a2 s.heap H locs) (hl : lv_has ls 4 [(0, .ref b), (1, .ref (a 0)), (2, .ref (a2 0)), (3, .int (nI i))]) : W p l e room_1 s m #[Value.ref b] below meth c H locs 18 420 Q (F0 m 334 ls []) := by
  obtain ⟨hx, hb, hr, hml, hown, hts0, hX, hbl, hlocks, hgv⟩ := C0
  have hts : ∀ w ∈ lw_all, w.before #[Value.ref b] s = true := fun w h => hts0 w (lw_all_tbl h)
  have hA : ∀ q : Nat, s.heap.size ≤ q → (fun q : Nat => s.heap.size ≤ q) q := fun _ h => h
  have hbA : ¬ (fun q : Nat => s.heap.size ≤ q) b := Nat.not_le.mpr hbl
  have hC : cx RX0 p s m c #[Value.ref b] cL_law 4 D d := ⟨⟨hx, hb, hml, hown, hts⟩, hK⟩
  obtain ⟨n, ct, fc, ff, ft, bx, ub, fx, wa, le, pa, qu, hg, hfx, hI⟩ := hs
  have hn : n ≤ 10 := hg.2.1
  have hct : ct ≤ 20 := hg.2.2.1
  refine lv_aload_n hx hb dL_law_334 rfl (lv_at hl 1 rfl) ?_
  refine go_iU (rest := []) hC hA hI (mU_fewestBoxed l D d a n ct fc ff ft bx ub fx wa le pa qu hg hfx) (ci := 0) rfl rfl 0 (lw_V q130 q131 q132 q18 q133) (by decide +kernel) ⟨(Nat.le_of_ble_eq_true rfl), (Nat.le_of_ble_eq_true rfl)⟩ rfl rfl rfl hl.1 rfl (Nat.le_of_ble_eq_true rfl) dL_law_335 ⟨(Nat.le_of_ble_eq_true rfl), (Nat.le_of_ble_eq_true rfl)⟩ (fun r1 u1 H locs hp hI => ?_)
  obtain ⟨⟨wa2, le2, pa2, qu2, rfl⟩, hs1⟩ := hp
  refine lv_aload_n hx hb dL_law_338 rfl (lv_at hl 2 rfl) ?_
  refine go_iM (rest := [.int r1]) hC hA hI (mM_fewestBoxed l D d a2 n ct fc fx ff ft bx ub hg hfx) (ci := 1) rfl rfl 0 (lw_V q264 q265 q266 q19 q267) (by decide +kernel) ⟨(Nat.le_of_ble_eq_true rfl), (Nat.le_of_ble_eq_true rfl)⟩ rfl rfl rfl hl.1 rfl (Nat.le_of_ble_eq_true rfl) dL_law_339 ⟨(Nat.le_of_ble_eq_true rfl), (Nat.le_of_ble_eq_true rfl)⟩ (fun r2 u2 H locs hp hI => ?_)
  obtain ⟨rfl, hs2⟩ := hp
  refine lv_icmp_eq (tgt := 518) hx hb dL_law_342 (by decide) (fun _ => ?_) (fun cq => ?_)
  · exact next H locs ls ⟨n, ct, fc, ff, ft, bx, ub, fx, wa2, le2, pa2, qu2, hg, hfx, hI⟩ hl
  · exact absurd (sCom_one hs1 hs2) cq
set_option maxHeartbeats 4000000 in
/-- case 9: mostBoxed -/
theorem case_mostBoxed {p : Program} {l : Launch} {e : Env} {s : State} {m : MethodId} {below : List Frame} {meth : Method} {c : Code} {Q : State → Prop} {D : va_G} {d : ClassId} {a a2 : Nat → Nat} {b L : Nat} {xs : Nat → Int32} (hL : L ≤ 321) (C0 : lw_At p s m meth c b L xs) (hK : va_K D vwCl [(d, .int)] s) {i : Nat} (hi : i + 5 ≤ L) (next : ∀ (H : Heap) (locs : List Loc) (ls : Array Slot), lawS D d a a2 s.heap H locs → lv_has ls 4 [(0, .ref b), (1, .ref (a 0)), (2, .ref (a2 0)), (3, .int (nI i))] → W p l e room_1 s m #[Value.ref b] below meth c H locs 18 420 Q (F0 m 518 ls [])) (H : Heap) (locs : List Loc) (ls : Array Slot) (hs : lawS D d a a2 s.heap H locs) (hl : lv_has ls 4 [(0, .ref b), (1, .ref (a 0)), (2, .ref (a2 0)), (3, .int (nI i))]) : W p l e room_1 s m #[Value.ref b] below meth c H locs 18 420 Q (F0 m 347 ls []) := by
  obtain ⟨hx, hb, hr, hml, hown, hts0, hX, hbl, hlocks, hgv⟩ := C0
  have hts : ∀ w ∈ lw_all, w.before #[Value.ref b] s = true := fun w h => hts0 w (lw_all_tbl h)
  have hA : ∀ q : Nat, s.heap.size ≤ q → (fun q : Nat => s.heap.size ≤ q) q := fun _ h => h
  have hbA : ¬ (fun q : Nat => s.heap.size ≤ q) b := Nat.not_le.mpr hbl
  have hC : cx RX0 p s m c #[Value.ref b] cL_law 4 D d := ⟨⟨hx, hb, hml, hown, hts⟩, hK⟩
  obtain ⟨n, ct, fc, ff, ft, bx, ub, fx, wa, le, pa, qu, hg, hfx, hI⟩ := hs
  have hn : n ≤ 10 := hg.2.1
  have hct : ct ≤ 20 := hg.2.2.1
  refine lv_aload_n hx hb dL_law_347 rfl (lv_at hl 1 rfl) ?_
  refine go_iU (rest := []) hC hA hI (mU_mostBoxed l D d a n ct fc ff ft bx ub fx wa le pa qu hg hfx) (ci := 0) rfl rfl 0 (lw_V q138 q139 q140 q18 q141) (by decide +kernel) ⟨(Nat.le_of_ble_eq_true rfl), (Nat.le_of_ble_eq_true rfl)⟩ rfl rfl rfl hl.1 rfl (Nat.le_of_ble_eq_true rfl) dL_law_348 ⟨(Nat.le_of_ble_eq_true rfl), (Nat.le_of_ble_eq_true rfl)⟩ (fun r1 u1 H locs hp hI => ?_)
  obtain ⟨⟨wa2, le2, pa2, qu2, rfl⟩, hs1⟩ := hp
  refine lv_aload_n hx hb dL_law_351 rfl (lv_at hl 2 rfl) ?_
  refine go_iM (rest := [.int r1]) hC hA hI (mM_mostBoxed l D d a2 n ct fc fx ff ft bx ub hg hfx) (ci := 1) rfl rfl 0 (lw_V q272 q273 q274 q19 q275) (by decide +kernel) ⟨(Nat.le_of_ble_eq_true rfl), (Nat.le_of_ble_eq_true rfl)⟩ rfl rfl rfl hl.1 rfl (Nat.le_of_ble_eq_true rfl) dL_law_352 ⟨(Nat.le_of_ble_eq_true rfl), (Nat.le_of_ble_eq_true rfl)⟩ (fun r2 u2 H locs hp hI => ?_)
  obtain ⟨rfl, hs2⟩ := hp
  refine lv_icmp_eq (tgt := 518) hx hb dL_law_355 (by decide) (fun _ => ?_) (fun cq => ?_)
  · exact next H locs ls ⟨n, ct, fc, ff, ft, bx, ub, fx, wa2, le2, pa2, qu2, hg, hfx, hI⟩ hl
  · exact absurd (sSom_one hs1 hs2) cq
set_option maxHeartbeats 4000000 in
/-- case 10: settled -/
theorem case_settled {p : Program} {l : Launch} {e : Env} {s : State} {m : MethodId} {below : List Frame} {meth : Method} {c : Code} {Q : State → Prop} {D : va_G} {d : ClassId} {a a2 : Nat → Nat} {b L : Nat} {xs : Nat → Int32} (hL : L ≤ 321) (C0 : lw_At p s m meth c b L xs) (hK : va_K D vwCl [(d, .int)] s) {i : Nat} (hi : i + 5 ≤ L) (next : ∀ (H : Heap) (locs : List Loc) (ls : Array Slot), lawS D d a a2 s.heap H locs → lv_has ls 4 [(0, .ref b), (1, .ref (a 0)), (2, .ref (a2 0)), (3, .int (nI i))] → W p l e room_1 s m #[Value.ref b] below meth c H locs 18 420 Q (F0 m 518 ls [])) (H : Heap) (locs : List Loc) (ls : Array Slot) (hs : lawS D d a a2 s.heap H locs) (hl : lv_has ls 4 [(0, .ref b), (1, .ref (a 0)), (2, .ref (a2 0)), (3, .int (nI i))]) : W p l e room_1 s m #[Value.ref b] below meth c H locs 18 420 Q (F0 m 360 ls []) := by
  obtain ⟨hx, hb, hr, hml, hown, hts0, hX, hbl, hlocks, hgv⟩ := C0
  have hts : ∀ w ∈ lw_all, w.before #[Value.ref b] s = true := fun w h => hts0 w (lw_all_tbl h)
  have hA : ∀ q : Nat, s.heap.size ≤ q → (fun q : Nat => s.heap.size ≤ q) q := fun _ h => h
  have hbA : ¬ (fun q : Nat => s.heap.size ≤ q) b := Nat.not_le.mpr hbl
  have hC : cx RX0 p s m c #[Value.ref b] cL_law 4 D d := ⟨⟨hx, hb, hml, hown, hts⟩, hK⟩
  obtain ⟨n, ct, fc, ff, ft, bx, ub, fx, wa, le, pa, qu, hg, hfx, hI⟩ := hs
  have hn : n ≤ 10 := hg.2.1
  have hct : ct ≤ 20 := hg.2.2.1
  refine lv_aload_n hx hb dL_law_360 rfl (lv_at hl 1 rfl) ?_
  refine lv_aload_n hx hb dL_law_361 rfl (lv_at hl 0 rfl) ?_
  refine lv_iload_n hx hb dL_law_362 rfl (lv_at hl 3 rfl) ?_
  refine lv_iconst (v := nI 1) hx hb dL_law_363 (by decide +kernel) ?_
  refine r_add hx hb dL_law_364 ?_
  refine r_sld hx hb hX hbl hbA hI.2.2 (show i + 1 < L by omega) (by omega) dL_law_365 ?_
  refine go_iU (rest := []) hC hA hI (mU_settled l D d a n ct fc ff ft bx ub fx wa le pa qu (xs (i + 1)) hg hfx) (ci := 0) rfl rfl 1 (lw_V q146 q147 q148 q18 q149) (by decide +kernel) ⟨(Nat.le_of_ble_eq_true rfl), (Nat.le_of_ble_eq_true rfl)⟩ rfl rfl rfl hl.1 rfl (Nat.le_of_ble_eq_true rfl) dL_law_366 ⟨(Nat.le_of_ble_eq_true rfl), (Nat.le_of_ble_eq_true rfl)⟩ (fun r1 u1 H locs hp hI => ?_)
  obtain ⟨⟨wa2, le2, pa2, qu2, rfl⟩, hs1⟩ := hp
  refine lv_aload_n hx hb dL_law_369 rfl (lv_at hl 2 rfl) ?_
  refine lv_aload_n hx hb dL_law_370 rfl (lv_at hl 0 rfl) ?_
  refine lv_iload_n hx hb dL_law_371 rfl (lv_at hl 3 rfl) ?_
  refine lv_iconst (v := nI 1) hx hb dL_law_372 (by decide +kernel) ?_
  refine r_add hx hb dL_law_373 ?_
  refine r_sld hx hb hX hbl hbA hI.2.2 (show i + 1 < L by omega) (by omega) dL_law_374 ?_
  refine go_iM (rest := [.int r1]) hC hA hI (mM_settled l D d a2 n ct fc fx ff ft bx ub (xs (i + 1)) hg hfx) (ci := 1) rfl rfl 1 (lw_V q280 q281 q282 q19 q283) (by decide +kernel) ⟨(Nat.le_of_ble_eq_true rfl), (Nat.le_of_ble_eq_true rfl)⟩ rfl rfl rfl hl.1 rfl (Nat.le_of_ble_eq_true rfl) dL_law_375 ⟨(Nat.le_of_ble_eq_true rfl), (Nat.le_of_ble_eq_true rfl)⟩ (fun r2 u2 H locs hp hI => ?_)
  obtain ⟨rfl, hs2⟩ := hp
  refine lv_icmp_eq (tgt := 518) hx hb dL_law_378 (by decide) (fun _ => ?_) (fun cq => ?_)
  · exact next H locs ls ⟨n, ct, fc, ff, ft, bx, ub, fx, wa2, le2, pa2, qu2, hg, hfx, hI⟩ hl
  · exact absurd (sSet_one hg hs1 hs2) cq
set_option maxHeartbeats 4000000 in
/-- case 11: bestWith -/
theorem case_bestWith {p : Program} {l : Launch} {e : Env} {s : State} {m : MethodId} {below : List Frame} {meth : Method} {c : Code} {Q : State → Prop} {D : va_G} {d : ClassId} {a a2 : Nat → Nat} {b L : Nat} {xs : Nat → Int32} (hL : L ≤ 321) (C0 : lw_At p s m meth c b L xs) (hK : va_K D vwCl [(d, .int)] s) {i : Nat} (hi : i + 5 ≤ L) (next : ∀ (H : Heap) (locs : List Loc) (ls : Array Slot), lawS D d a a2 s.heap H locs → lv_has ls 4 [(0, .ref b), (1, .ref (a 0)), (2, .ref (a2 0)), (3, .int (nI i))] → W p l e room_1 s m #[Value.ref b] below meth c H locs 18 420 Q (F0 m 518 ls [])) (H : Heap) (locs : List Loc) (ls : Array Slot) (hs : lawS D d a a2 s.heap H locs) (hl : lv_has ls 4 [(0, .ref b), (1, .ref (a 0)), (2, .ref (a2 0)), (3, .int (nI i))]) : W p l e room_1 s m #[Value.ref b] below meth c H locs 18 420 Q (F0 m 383 ls []) := by
  obtain ⟨hx, hb, hr, hml, hown, hts0, hX, hbl, hlocks, hgv⟩ := C0
  have hts : ∀ w ∈ lw_all, w.before #[Value.ref b] s = true := fun w h => hts0 w (lw_all_tbl h)
  have hA : ∀ q : Nat, s.heap.size ≤ q → (fun q : Nat => s.heap.size ≤ q) q := fun _ h => h
  have hbA : ¬ (fun q : Nat => s.heap.size ≤ q) b := Nat.not_le.mpr hbl
  have hC : cx RX0 p s m c #[Value.ref b] cL_law 4 D d := ⟨⟨hx, hb, hml, hown, hts⟩, hK⟩
  obtain ⟨n, ct, fc, ff, ft, bx, ub, fx, wa, le, pa, qu, hg, hfx, hI⟩ := hs
  have hn : n ≤ 10 := hg.2.1
  have hct : ct ≤ 20 := hg.2.2.1
  refine lv_aload_n hx hb dL_law_383 rfl (lv_at hl 1 rfl) ?_
  refine lv_aload_n hx hb dL_law_384 rfl (lv_at hl 0 rfl) ?_
  refine lv_iload_n hx hb dL_law_385 rfl (lv_at hl 3 rfl) ?_
  refine lv_iconst (v := nI 1) hx hb dL_law_386 (by decide +kernel) ?_
  refine r_add hx hb dL_law_387 ?_
  refine r_sld hx hb hX hbl hbA hI.2.2 (show i + 1 < L by omega) (by omega) dL_law_388 ?_
  refine lv_aload_n hx hb dL_law_389 rfl (lv_at hl 0 rfl) ?_
  refine lv_iload_n hx hb dL_law_390 rfl (lv_at hl 3 rfl) ?_
  refine lv_iconst (v := nI 2) hx hb dL_law_391 (by decide +kernel) ?_
  refine r_add hx hb dL_law_392 ?_
  refine r_sld hx hb hX hbl hbA hI.2.2 (show i + 2 < L by omega) (by omega) dL_law_393 ?_
  refine go_iU (rest := []) hC hA hI (mU_bestWith l D d a n ct fc ff ft bx ub fx wa le pa qu (xs (i + 1)) (xs (i + 2)) hg hfx) (ci := 0) rfl rfl 2 (lw_V q150 q151 q152 q18 q153) (by decide +kernel) ⟨(Nat.le_of_ble_eq_true rfl), (Nat.le_of_ble_eq_true rfl)⟩ rfl rfl rfl hl.1 rfl (Nat.le_of_ble_eq_true rfl) dL_law_394 ⟨(Nat.le_of_ble_eq_true rfl), (Nat.le_of_ble_eq_true rfl)⟩ (fun r1 u1 H locs hp hI => ?_)
  obtain ⟨⟨wa2, le2, pa2, qu2, rfl⟩, hs1⟩ := hp
  refine lv_aload_n hx hb dL_law_397 rfl (lv_at hl 2 rfl) ?_
  refine lv_aload_n hx hb dL_law_398 rfl (lv_at hl 0 rfl) ?_
  refine lv_iload_n hx hb dL_law_399 rfl (lv_at hl 3 rfl) ?_
  refine lv_iconst (v := nI 1) hx hb dL_law_400 (by decide +kernel) ?_
  refine r_add hx hb dL_law_401 ?_
  refine r_sld hx hb hX hbl hbA hI.2.2 (show i + 1 < L by omega) (by omega) dL_law_402 ?_
  refine lv_aload_n hx hb dL_law_403 rfl (lv_at hl 0 rfl) ?_
  refine lv_iload_n hx hb dL_law_404 rfl (lv_at hl 3 rfl) ?_
  refine lv_iconst (v := nI 2) hx hb dL_law_405 (by decide +kernel) ?_
  refine r_add hx hb dL_law_406 ?_
  refine r_sld hx hb hX hbl hbA hI.2.2 (show i + 2 < L by omega) (by omega) dL_law_407 ?_
  refine go_iM (rest := [.int r1]) hC hA hI (mM_bestWith l D d a2 n ct fc fx ff ft bx ub (xs (i + 1)) (xs (i + 2)) hg hfx) (ci := 1) rfl rfl 2 (lw_V q284 q285 q286 q19 q287) (by decide +kernel) ⟨(Nat.le_of_ble_eq_true rfl), (Nat.le_of_ble_eq_true rfl)⟩ rfl rfl rfl hl.1 rfl (Nat.le_of_ble_eq_true rfl) dL_law_408 ⟨(Nat.le_of_ble_eq_true rfl), (Nat.le_of_ble_eq_true rfl)⟩ (fun r2 u2 H locs hp hI => ?_)
  obtain ⟨rfl, hs2⟩ := hp
  refine lv_icmp_eq (tgt := 518) hx hb dL_law_411 (by decide) (fun _ => ?_) (fun cq => ?_)
  · exact next H locs ls ⟨n, ct, fc, ff, ft, bx, ub, fx, wa2, le2, pa2, qu2, hg, hfx, hI⟩ hl
  · exact absurd (sWith_one hg hs1 hs2) cq
set_option maxHeartbeats 4000000 in
/-- case 12: bestTied -/
theorem case_bestTied {p : Program} {l : Launch} {e : Env} {s : State} {m : MethodId} {below : List Frame} {meth : Method} {c : Code} {Q : State → Prop} {D : va_G} {d : ClassId} {a a2 : Nat → Nat} {b L : Nat} {xs : Nat → Int32} (hL : L ≤ 321) (C0 : lw_At p s m meth c b L xs) (hK : va_K D vwCl [(d, .int)] s) {i : Nat} (hi : i + 5 ≤ L) (next : ∀ (H : Heap) (locs : List Loc) (ls : Array Slot), lawS D d a a2 s.heap H locs → lv_has ls 4 [(0, .ref b), (1, .ref (a 0)), (2, .ref (a2 0)), (3, .int (nI i))] → W p l e room_1 s m #[Value.ref b] below meth c H locs 18 420 Q (F0 m 518 ls [])) (H : Heap) (locs : List Loc) (ls : Array Slot) (hs : lawS D d a a2 s.heap H locs) (hl : lv_has ls 4 [(0, .ref b), (1, .ref (a 0)), (2, .ref (a2 0)), (3, .int (nI i))]) : W p l e room_1 s m #[Value.ref b] below meth c H locs 18 420 Q (F0 m 416 ls []) := by
  obtain ⟨hx, hb, hr, hml, hown, hts0, hX, hbl, hlocks, hgv⟩ := C0
  have hts : ∀ w ∈ lw_all, w.before #[Value.ref b] s = true := fun w h => hts0 w (lw_all_tbl h)
  have hA : ∀ q : Nat, s.heap.size ≤ q → (fun q : Nat => s.heap.size ≤ q) q := fun _ h => h
  have hbA : ¬ (fun q : Nat => s.heap.size ≤ q) b := Nat.not_le.mpr hbl
  have hC : cx RX0 p s m c #[Value.ref b] cL_law 4 D d := ⟨⟨hx, hb, hml, hown, hts⟩, hK⟩
  obtain ⟨n, ct, fc, ff, ft, bx, ub, fx, wa, le, pa, qu, hg, hfx, hI⟩ := hs
  have hn : n ≤ 10 := hg.2.1
  have hct : ct ≤ 20 := hg.2.2.1
  refine lv_aload_n hx hb dL_law_416 rfl (lv_at hl 1 rfl) ?_
  refine lv_aload_n hx hb dL_law_417 rfl (lv_at hl 0 rfl) ?_
  refine lv_iload_n hx hb dL_law_418 rfl (lv_at hl 3 rfl) ?_
  refine lv_iconst (v := nI 1) hx hb dL_law_419 (by decide +kernel) ?_
  refine r_add hx hb dL_law_420 ?_
  refine r_sld hx hb hX hbl hbA hI.2.2 (show i + 1 < L by omega) (by omega) dL_law_421 ?_
  refine lv_aload_n hx hb dL_law_422 rfl (lv_at hl 0 rfl) ?_
  refine lv_iload_n hx hb dL_law_423 rfl (lv_at hl 3 rfl) ?_
  refine lv_iconst (v := nI 2) hx hb dL_law_424 (by decide +kernel) ?_
  refine r_add hx hb dL_law_425 ?_
  refine r_sld hx hb hX hbl hbA hI.2.2 (show i + 2 < L by omega) (by omega) dL_law_426 ?_
  refine lv_aload_n hx hb dL_law_427 rfl (lv_at hl 0 rfl) ?_
  refine lv_iload_n hx hb dL_law_428 rfl (lv_at hl 3 rfl) ?_
  refine lv_iconst (v := nI 3) hx hb dL_law_429 (by decide +kernel) ?_
  refine r_add hx hb dL_law_430 ?_
  refine r_sld hx hb hX hbl hbA hI.2.2 (show i + 3 < L by omega) (by omega) dL_law_431 ?_
  refine go_iU (rest := []) hC hA hI (mU_bestTied l D d a n ct fc ff ft bx ub fx wa le pa qu (xs (i + 1)) (xs (i + 2)) (xs (i + 3)) hg hfx) (ci := 0) rfl rfl 3 (lw_V q154 q155 q156 q18 q157) (by decide +kernel) ⟨(Nat.le_of_ble_eq_true rfl), (Nat.le_of_ble_eq_true rfl)⟩ rfl rfl rfl hl.1 rfl (Nat.le_of_ble_eq_true rfl) dL_law_432 ⟨(Nat.le_of_ble_eq_true rfl), (Nat.le_of_ble_eq_true rfl)⟩ (fun r1 u1 H locs hp hI => ?_)
  obtain ⟨⟨wa2, le2, pa2, qu2, rfl⟩, hs1⟩ := hp
  refine lv_aload_n hx hb dL_law_435 rfl (lv_at hl 2 rfl) ?_
  refine lv_aload_n hx hb dL_law_436 rfl (lv_at hl 0 rfl) ?_
  refine lv_iload_n hx hb dL_law_437 rfl (lv_at hl 3 rfl) ?_
  refine lv_iconst (v := nI 1) hx hb dL_law_438 (by decide +kernel) ?_
  refine r_add hx hb dL_law_439 ?_
  refine r_sld hx hb hX hbl hbA hI.2.2 (show i + 1 < L by omega) (by omega) dL_law_440 ?_
  refine lv_aload_n hx hb dL_law_441 rfl (lv_at hl 0 rfl) ?_
  refine lv_iload_n hx hb dL_law_442 rfl (lv_at hl 3 rfl) ?_
  refine lv_iconst (v := nI 2) hx hb dL_law_443 (by decide +kernel) ?_
  refine r_add hx hb dL_law_444 ?_
  refine r_sld hx hb hX hbl hbA hI.2.2 (show i + 2 < L by omega) (by omega) dL_law_445 ?_
  refine lv_aload_n hx hb dL_law_446 rfl (lv_at hl 0 rfl) ?_
  refine lv_iload_n hx hb dL_law_447 rfl (lv_at hl 3 rfl) ?_
  refine lv_iconst (v := nI 3) hx hb dL_law_448 (by decide +kernel) ?_
  refine r_add hx hb dL_law_449 ?_
  refine r_sld hx hb hX hbl hbA hI.2.2 (show i + 3 < L by omega) (by omega) dL_law_450 ?_
  refine go_iM (rest := [.int r1]) hC hA hI (mM_bestTied l D d a2 n ct fc fx ff ft bx ub (xs (i + 1)) (xs (i + 2)) (xs (i + 3)) hg hfx) (ci := 1) rfl rfl 3 (lw_V q288 q289 q290 q19 q291) (by decide +kernel) ⟨(Nat.le_of_ble_eq_true rfl), (Nat.le_of_ble_eq_true rfl)⟩ rfl rfl rfl hl.1 rfl (Nat.le_of_ble_eq_true rfl) dL_law_451 ⟨(Nat.le_of_ble_eq_true rfl), (Nat.le_of_ble_eq_true rfl)⟩ (fun r2 u2 H locs hp hI => ?_)
  obtain ⟨rfl, hs2⟩ := hp
  refine lv_icmp_eq (tgt := 518) hx hb dL_law_454 (by decide) (fun _ => ?_) (fun cq => ?_)
  · exact next H locs ls ⟨n, ct, fc, ff, ft, bx, ub, fx, wa2, le2, pa2, qu2, hg, hfx, hI⟩ hl
  · exact absurd (sTied_one hg hs1 hs2) cq
set_option maxHeartbeats 4000000 in
/-- case 13: saving -/
theorem case_saving {p : Program} {l : Launch} {e : Env} {s : State} {m : MethodId} {below : List Frame} {meth : Method} {c : Code} {Q : State → Prop} {D : va_G} {d : ClassId} {a a2 : Nat → Nat} {b L : Nat} {xs : Nat → Int32} (hL : L ≤ 321) (C0 : lw_At p s m meth c b L xs) (hK : va_K D vwCl [(d, .int)] s) {i : Nat} (hi : i + 5 ≤ L) (next : ∀ (H : Heap) (locs : List Loc) (ls : Array Slot), lawS D d a a2 s.heap H locs → lv_has ls 4 [(0, .ref b), (1, .ref (a 0)), (2, .ref (a2 0)), (3, .int (nI i))] → W p l e room_1 s m #[Value.ref b] below meth c H locs 18 420 Q (F0 m 518 ls [])) (H : Heap) (locs : List Loc) (ls : Array Slot) (hs : lawS D d a a2 s.heap H locs) (hl : lv_has ls 4 [(0, .ref b), (1, .ref (a 0)), (2, .ref (a2 0)), (3, .int (nI i))]) : W p l e room_1 s m #[Value.ref b] below meth c H locs 18 420 Q (F0 m 459 ls []) := by
  obtain ⟨hx, hb, hr, hml, hown, hts0, hX, hbl, hlocks, hgv⟩ := C0
  have hts : ∀ w ∈ lw_all, w.before #[Value.ref b] s = true := fun w h => hts0 w (lw_all_tbl h)
  have hA : ∀ q : Nat, s.heap.size ≤ q → (fun q : Nat => s.heap.size ≤ q) q := fun _ h => h
  have hbA : ¬ (fun q : Nat => s.heap.size ≤ q) b := Nat.not_le.mpr hbl
  have hC : cx RX0 p s m c #[Value.ref b] cL_law 4 D d := ⟨⟨hx, hb, hml, hown, hts⟩, hK⟩
  obtain ⟨n, ct, fc, ff, ft, bx, ub, fx, wa, le, pa, qu, hg, hfx, hI⟩ := hs
  have hn : n ≤ 10 := hg.2.1
  have hct : ct ≤ 20 := hg.2.2.1
  refine lv_aload_n hx hb dL_law_459 rfl (lv_at hl 1 rfl) ?_
  refine lv_aload_n hx hb dL_law_460 rfl (lv_at hl 0 rfl) ?_
  refine lv_iload_n hx hb dL_law_461 rfl (lv_at hl 3 rfl) ?_
  refine lv_iconst (v := nI 1) hx hb dL_law_462 (by decide +kernel) ?_
  refine r_add hx hb dL_law_463 ?_
  refine r_sld hx hb hX hbl hbA hI.2.2 (show i + 1 < L by omega) (by omega) dL_law_464 ?_
  refine go_iU (rest := []) hC hA hI (mU_saving l D d a n ct fc ff ft bx ub fx wa le pa qu (xs (i + 1)) hg hfx) (ci := 0) rfl rfl 1 (lw_V q158 q159 q160 q18 q161) (by decide +kernel) ⟨(Nat.le_of_ble_eq_true rfl), (Nat.le_of_ble_eq_true rfl)⟩ rfl rfl rfl hl.1 rfl (Nat.le_of_ble_eq_true rfl) dL_law_465 ⟨(Nat.le_of_ble_eq_true rfl), (Nat.le_of_ble_eq_true rfl)⟩ (fun r1 u1 H locs hp hI => ?_)
  obtain ⟨⟨wa2, le2, pa2, qu2, rfl⟩, hs1⟩ := hp
  refine lv_aload_n hx hb dL_law_468 rfl (lv_at hl 2 rfl) ?_
  refine lv_aload_n hx hb dL_law_469 rfl (lv_at hl 0 rfl) ?_
  refine lv_iload_n hx hb dL_law_470 rfl (lv_at hl 3 rfl) ?_
  refine lv_iconst (v := nI 1) hx hb dL_law_471 (by decide +kernel) ?_
  refine r_add hx hb dL_law_472 ?_
  refine r_sld hx hb hX hbl hbA hI.2.2 (show i + 1 < L by omega) (by omega) dL_law_473 ?_
  refine go_iM (rest := [.int r1]) hC hA hI (mM_saving l D d a2 n ct fc fx ff ft bx ub (xs (i + 1)) hg hfx) (ci := 1) rfl rfl 1 (lw_V q292 q293 q294 q19 q295) (by decide +kernel) ⟨(Nat.le_of_ble_eq_true rfl), (Nat.le_of_ble_eq_true rfl)⟩ rfl rfl rfl hl.1 rfl (Nat.le_of_ble_eq_true rfl) dL_law_474 ⟨(Nat.le_of_ble_eq_true rfl), (Nat.le_of_ble_eq_true rfl)⟩ (fun r2 u2 H locs hp hI => ?_)
  obtain ⟨rfl, hs2⟩ := hp
  refine lv_icmp_eq (tgt := 518) hx hb dL_law_477 (by decide) (fun _ => ?_) (fun cq => ?_)
  · exact next H locs ls ⟨n, ct, fc, ff, ft, bx, ub, fx, wa2, le2, pa2, qu2, hg, hfx, hI⟩ hl
  · exact absurd (sSav_one hg hs1 hs2) cq
set_option maxHeartbeats 4000000 in
/-- case 14: isBest -/
theorem case_isBest {p : Program} {l : Launch} {e : Env} {s : State} {m : MethodId} {below : List Frame} {meth : Method} {c : Code} {Q : State → Prop} {D : va_G} {d : ClassId} {a a2 : Nat → Nat} {b L : Nat} {xs : Nat → Int32} (hL : L ≤ 321) (C0 : lw_At p s m meth c b L xs) (hK : va_K D vwCl [(d, .int)] s) {i : Nat} (hi : i + 5 ≤ L) (next : ∀ (H : Heap) (locs : List Loc) (ls : Array Slot), lawS D d a a2 s.heap H locs → lv_has ls 4 [(0, .ref b), (1, .ref (a 0)), (2, .ref (a2 0)), (3, .int (nI i))] → W p l e room_1 s m #[Value.ref b] below meth c H locs 18 420 Q (F0 m 518 ls [])) (H : Heap) (locs : List Loc) (ls : Array Slot) (hs : lawS D d a a2 s.heap H locs) (hl : lv_has ls 4 [(0, .ref b), (1, .ref (a 0)), (2, .ref (a2 0)), (3, .int (nI i))]) : W p l e room_1 s m #[Value.ref b] below meth c H locs 18 420 Q (F0 m 482 ls []) := by
  obtain ⟨hx, hb, hr, hml, hown, hts0, hX, hbl, hlocks, hgv⟩ := C0
  have hts : ∀ w ∈ lw_all, w.before #[Value.ref b] s = true := fun w h => hts0 w (lw_all_tbl h)
  have hA : ∀ q : Nat, s.heap.size ≤ q → (fun q : Nat => s.heap.size ≤ q) q := fun _ h => h
  have hbA : ¬ (fun q : Nat => s.heap.size ≤ q) b := Nat.not_le.mpr hbl
  have hC : cx RX0 p s m c #[Value.ref b] cL_law 4 D d := ⟨⟨hx, hb, hml, hown, hts⟩, hK⟩
  obtain ⟨n, ct, fc, ff, ft, bx, ub, fx, wa, le, pa, qu, hg, hfx, hI⟩ := hs
  have hn : n ≤ 10 := hg.2.1
  have hct : ct ≤ 20 := hg.2.2.1
  refine lv_aload_n hx hb dL_law_482 rfl (lv_at hl 1 rfl) ?_
  refine lv_aload_n hx hb dL_law_483 rfl (lv_at hl 0 rfl) ?_
  refine lv_iload_n hx hb dL_law_484 rfl (lv_at hl 3 rfl) ?_
  refine lv_iconst (v := nI 1) hx hb dL_law_485 (by decide +kernel) ?_
  refine r_add hx hb dL_law_486 ?_
  refine r_sld hx hb hX hbl hbA hI.2.2 (show i + 1 < L by omega) (by omega) dL_law_487 ?_
  refine go_iU (rest := []) hC hA hI (mU_isBest l D d a n ct fc ff ft bx ub fx wa le pa qu (xs (i + 1)) hg hfx) (ci := 0) rfl rfl 1 (lw_V q162 q163 q164 q18 q165) (by decide +kernel) ⟨(Nat.le_of_ble_eq_true rfl), (Nat.le_of_ble_eq_true rfl)⟩ rfl rfl rfl hl.1 rfl (Nat.le_of_ble_eq_true rfl) dL_law_488 ⟨(Nat.le_of_ble_eq_true rfl), (Nat.le_of_ble_eq_true rfl)⟩ (fun r1 u1 H locs hp hI => ?_)
  obtain ⟨⟨wa2, le2, pa2, qu2, rfl⟩, hs1⟩ := hp
  refine lv_aload_n hx hb dL_law_491 rfl (lv_at hl 2 rfl) ?_
  refine lv_aload_n hx hb dL_law_492 rfl (lv_at hl 0 rfl) ?_
  refine lv_iload_n hx hb dL_law_493 rfl (lv_at hl 3 rfl) ?_
  refine lv_iconst (v := nI 1) hx hb dL_law_494 (by decide +kernel) ?_
  refine r_add hx hb dL_law_495 ?_
  refine r_sld hx hb hX hbl hbA hI.2.2 (show i + 1 < L by omega) (by omega) dL_law_496 ?_
  refine go_iM (rest := [.int r1]) hC hA hI (mM_isBest l D d a2 n ct fc fx ff ft bx ub (xs (i + 1)) hg hfx) (ci := 1) rfl rfl 1 (lw_V q296 q297 q298 q19 q299) (by decide +kernel) ⟨(Nat.le_of_ble_eq_true rfl), (Nat.le_of_ble_eq_true rfl)⟩ rfl rfl rfl hl.1 rfl (Nat.le_of_ble_eq_true rfl) dL_law_497 ⟨(Nat.le_of_ble_eq_true rfl), (Nat.le_of_ble_eq_true rfl)⟩ (fun r2 u2 H locs hp hI => ?_)
  obtain ⟨rfl, hs2⟩ := hp
  refine lv_icmp_eq (tgt := 518) hx hb dL_law_500 (by decide) (fun _ => ?_) (fun cq => ?_)
  · exact next H locs ls ⟨n, ct, fc, ff, ft, bx, ub, fx, wa2, le2, pa2, qu2, hg, hfx, hI⟩ hl
  · exact absurd (sIsB_one hg hs1 hs2) cq
set_option maxHeartbeats 4000000 in
/-- case 15: settledCount -/
theorem case_settledCount {p : Program} {l : Launch} {e : Env} {s : State} {m : MethodId} {below : List Frame} {meth : Method} {c : Code} {Q : State → Prop} {D : va_G} {d : ClassId} {a a2 : Nat → Nat} {b L : Nat} {xs : Nat → Int32} (hL : L ≤ 321) (C0 : lw_At p s m meth c b L xs) (hK : va_K D vwCl [(d, .int)] s) {i : Nat} (hi : i + 5 ≤ L) (next : ∀ (H : Heap) (locs : List Loc) (ls : Array Slot), lawS D d a a2 s.heap H locs → lv_has ls 4 [(0, .ref b), (1, .ref (a 0)), (2, .ref (a2 0)), (3, .int (nI i))] → W p l e room_1 s m #[Value.ref b] below meth c H locs 18 420 Q (F0 m 518 ls [])) (H : Heap) (locs : List Loc) (ls : Array Slot) (hs : lawS D d a a2 s.heap H locs) (hl : lv_has ls 4 [(0, .ref b), (1, .ref (a 0)), (2, .ref (a2 0)), (3, .int (nI i))]) : W p l e room_1 s m #[Value.ref b] below meth c H locs 18 420 Q (F0 m 505 ls []) := by
  obtain ⟨hx, hb, hr, hml, hown, hts0, hX, hbl, hlocks, hgv⟩ := C0
  have hts : ∀ w ∈ lw_all, w.before #[Value.ref b] s = true := fun w h => hts0 w (lw_all_tbl h)
  have hA : ∀ q : Nat, s.heap.size ≤ q → (fun q : Nat => s.heap.size ≤ q) q := fun _ h => h
  have hbA : ¬ (fun q : Nat => s.heap.size ≤ q) b := Nat.not_le.mpr hbl
  have hC : cx RX0 p s m c #[Value.ref b] cL_law 4 D d := ⟨⟨hx, hb, hml, hown, hts⟩, hK⟩
  obtain ⟨n, ct, fc, ff, ft, bx, ub, fx, wa, le, pa, qu, hg, hfx, hI⟩ := hs
  have hn : n ≤ 10 := hg.2.1
  have hct : ct ≤ 20 := hg.2.2.1
  refine lv_aload_n hx hb dL_law_505 rfl (lv_at hl 1 rfl) ?_
  refine go_iU (rest := []) hC hA hI (mU_settledCount l D d a n ct fc ff ft bx ub fx wa le pa qu hg hfx) (ci := 0) rfl rfl 0 (lw_V q167 q168 q169 q18 q170) (by decide +kernel) ⟨(Nat.le_of_ble_eq_true rfl), (Nat.le_of_ble_eq_true rfl)⟩ rfl rfl rfl hl.1 rfl (Nat.le_of_ble_eq_true rfl) dL_law_506 ⟨(Nat.le_of_ble_eq_true rfl), (Nat.le_of_ble_eq_true rfl)⟩ (fun r1 u1 H locs hp hI => ?_)
  obtain ⟨⟨wa2, le2, pa2, qu2, rfl⟩, hs1⟩ := hp
  refine lv_aload_n hx hb dL_law_509 rfl (lv_at hl 2 rfl) ?_
  refine go_iM (rest := [.int r1]) hC hA hI (mM_settledCount l D d a2 n ct fc fx ff ft bx ub hg hfx) (ci := 1) rfl rfl 0 (lw_V q300 q301 q302 q19 q303) (by decide +kernel) ⟨(Nat.le_of_ble_eq_true rfl), (Nat.le_of_ble_eq_true rfl)⟩ rfl rfl rfl hl.1 rfl (Nat.le_of_ble_eq_true rfl) dL_law_510 ⟨(Nat.le_of_ble_eq_true rfl), (Nat.le_of_ble_eq_true rfl)⟩ (fun r2 u2 H locs hp hI => ?_)
  obtain ⟨rfl, hs2⟩ := hp
  refine lv_icmp_eq (tgt := 518) hx hb dL_law_513 (by decide) (fun _ => ?_) (fun cq => ?_)
  · exact next H locs ls ⟨n, ct, fc, ff, ft, bx, ub, fx, wa2, le2, pa2, qu2, hg, hfx, hI⟩ hl
  · exact absurd (sCnt_one hs1 hs2) cq
end
section
set_option maxRecDepth 100000
/-! the law: its loop, its start (printed by gen_law2.py) -/
theorem law_ix {L i : Nat} (hL : L ≤ 321) (hi : i ≤ L + 1) (h : ¬ nI L - nI 5 < nI i) : i + 5 ≤ L := by
  rcases Nat.lt_or_ge L (i + 5) with q | q
  · refine absurd ?_ h
    rw [Int32.lt_iff_toInt_lt, pk_sub_toInt (by omega) (by decide), nI_toInt (by omega)]
    omega
  · exact q
set_option maxHeartbeats 4000000 in
/-- the law's loop at its head -/
theorem law_loop {p : Program} {l : Launch} {e : Env} {s : State} {m : MethodId} {below : List Frame} {meth : Method} {c : Code} {D : va_G} {d : ClassId} {a a2 : Nat → Nat} {b L : Nat} {xs : Nat → Int32} (hL : L ≤ 321) (C0 : lw_At p s m meth c b L xs) (hK : va_K D vwCl [(d, .int)] s) :
    ∀ (j i : Nat) (H : Heap) (locs : List Loc) (ls : Array Slot), i ≤ L + 1 → L + 2 ≤ i + j → lawS D d a a2 s.heap H locs → lv_has ls 4 [(0, .ref b), (1, .ref (a 0)), (2, .ref (a2 0)), (3, .int (nI i))] → W p l e room_1 s m #[Value.ref b] below meth c H locs 18 420 (lw_Z below #[Value.ref b] s) (F0 m 28 ls []) := by
  obtain ⟨hx, hb, hr, hml, hown, hts0, hX, hbl, hlocks, hgv⟩ := id C0
  have hbA : ¬ (fun q : Nat => s.heap.size ≤ q) b := Nat.not_le.mpr hbl
  intro j
  induction j with
  | zero => intro i H locs ls h1 h2; exact absurd h2 (by omega)
  | succ j ih =>
    intro i H locs ls hi hj hs hl
    have hs0 := hs
    obtain ⟨n, ct, fc, ff, ft, bx, ub, fx, wa, le, pa, qu, hg, hfx, hI⟩ := hs
    have hS := hI.2.2
    refine lv_iload_n hx hb dL_law_28 rfl (lv_at hl 3 rfl) ?_
    refine lv_aload_n hx hb dL_law_29 rfl (lv_at hl 0 rfl) ?_
    refine va_slen hx hb hX hbl hbA hS dL_law_30 ?_
    refine lv_iconst (v := nI 5) hx hb dL_law_31 (by decide +kernel) ?_
    refine lv_isub hx hb dL_law_32 ?_
    refine lv_icmp_gt (tgt := 524) hx hb dL_law_33 (by decide) (fun c_33 => ?_) (fun c_33 => ?_)
    · refine lv_iconst (v := 1) hx hb dL_law_524 (by decide) ?_
      refine va_forget (fun q hq => hS.2.2 q hq) ?_
      refine W.widen (k := 600000) (n := 7290000) (by decide) (by decide) ?_
      exact lw_ret hx hb hr hlocks dL_law_525
    · have hi5 : i + 5 ≤ L := law_ix hL hi c_33
      refine lv_aload_n hx hb dL_law_36 rfl (lv_at hl 0 rfl) ?_
      refine lv_iload_n hx hb dL_law_37 rfl (lv_at hl 3 rfl) ?_
      refine r_sld hx hb hX hbl hbA hS (show i < L by omega) (by omega) dL_law_38 ?_
      refine lv_bipush (v := nI 15) hx hb dL_law_39 (by decide +kernel) ?_
      refine lv_iand hx hb dL_law_41 ?_
      obtain ⟨t, ht, et⟩ := pk_andE (xs i) (m := nI 15) 4 (by decide +kernel)
      refine r_val et ?_
      have next : ∀ (H : Heap) (locs : List Loc) (ls : Array Slot), lawS D d a a2 s.heap H locs → lv_has ls 4 [(0, .ref b), (1, .ref (a 0)), (2, .ref (a2 0)), (3, .int (nI i))] → W p l e room_1 s m #[Value.ref b] below meth c H locs 18 420 (lw_Z below #[Value.ref b] s) (F0 m 518 ls []) := by
        intro H locs ls hs hl
        refine lv_iinc (v := nI (i + 5)) (lv' := [(3, .int (nI (i + 5))), (0, .ref b), (1, .ref (a 0)), (2, .ref (a2 0))]) hx hb dL_law_518 hl (k := 3) rfl (by rw [show Int32.ofInt 5 = nI 5 by decide +kernel, nI_add]) (by decide) rfl (fun ls hl => ?_)
        refine lv_goto (tgt := 28) hx hb dL_law_521 (by decide) ?_
        exact ih (i + 5) H locs ls (by omega) (by omega) hs (lv_sub hl [1, 2, 3, 0] rfl)
      rcases (show t = 0 ∨ t = 1 ∨ t = 2 ∨ t = 3 ∨ t = 4 ∨ t = 5 ∨ t = 6 ∨ t = 7 ∨ t = 8 ∨ t = 9 ∨ t = 10 ∨ t = 11 ∨ t = 12 ∨ t = 13 ∨ t = 14 ∨ t = 15 by omega) with rfl | rfl | rfl | rfl | rfl | rfl | rfl | rfl | rfl | rfl | rfl | rfl | rfl | rfl | rfl | rfl
      · exact lv_tableIn (off := 78) (tgt := 120) hx hb dL_law_42 (by decide +kernel) (by decide +kernel) (by decide +kernel) (by decide) (case_values hL C0 hK hi5 next H locs ls hs0 hl)
      · exact lv_tableIn (off := 91) (tgt := 133) hx hb dL_law_42 (by decide +kernel) (by decide +kernel) (by decide +kernel) (by decide) (case_cost hL C0 hK hi5 next H locs ls hs0 hl)
      · exact lv_tableIn (off := 134) (tgt := 176) hx hb dL_law_42 (by decide +kernel) (by decide +kernel) (by decide +kernel) (by decide) (case_flow hL C0 hK hi5 next H locs ls hs0 hl)
      · exact lv_tableIn (off := 187) (tgt := 229) hx hb dL_law_42 (by decide +kernel) (by decide +kernel) (by decide +kernel) (by decide) (case_cut hL C0 hK hi5 next H locs ls hs0 hl)
      · exact lv_tableIn (off := 210) (tgt := 252) hx hb dL_law_42 (by decide +kernel) (by decide +kernel) (by decide +kernel) (by decide) (case_fix hL C0 hK hi5 next H locs ls hs0 hl)
      · exact lv_tableIn (off := 243) (tgt := 285) hx hb dL_law_42 (by decide +kernel) (by decide +kernel) (by decide +kernel) (by decide) (case_flows hL C0 hK hi5 next H locs ls hs0 hl)
      · exact lv_tableIn (off := 256) (tgt := 298) hx hb dL_law_42 (by decide +kernel) (by decide +kernel) (by decide +kernel) (by decide) (case_costOf hL C0 hK hi5 next H locs ls hs0 hl)
      · exact lv_tableIn (off := 279) (tgt := 321) hx hb dL_law_42 (by decide +kernel) (by decide +kernel) (by decide +kernel) (by decide) (case_best hL C0 hK hi5 next H locs ls hs0 hl)
      · exact lv_tableIn (off := 292) (tgt := 334) hx hb dL_law_42 (by decide +kernel) (by decide +kernel) (by decide +kernel) (by decide) (case_fewestBoxed hL C0 hK hi5 next H locs ls hs0 hl)
      · exact lv_tableIn (off := 305) (tgt := 347) hx hb dL_law_42 (by decide +kernel) (by decide +kernel) (by decide +kernel) (by decide) (case_mostBoxed hL C0 hK hi5 next H locs ls hs0 hl)
      · exact lv_tableIn (off := 318) (tgt := 360) hx hb dL_law_42 (by decide +kernel) (by decide +kernel) (by decide +kernel) (by decide) (case_settled hL C0 hK hi5 next H locs ls hs0 hl)
      · exact lv_tableIn (off := 341) (tgt := 383) hx hb dL_law_42 (by decide +kernel) (by decide +kernel) (by decide +kernel) (by decide) (case_bestWith hL C0 hK hi5 next H locs ls hs0 hl)
      · exact lv_tableIn (off := 374) (tgt := 416) hx hb dL_law_42 (by decide +kernel) (by decide +kernel) (by decide +kernel) (by decide) (case_bestTied hL C0 hK hi5 next H locs ls hs0 hl)
      · exact lv_tableIn (off := 417) (tgt := 459) hx hb dL_law_42 (by decide +kernel) (by decide +kernel) (by decide +kernel) (by decide) (case_saving hL C0 hK hi5 next H locs ls hs0 hl)
      · exact lv_tableIn (off := 440) (tgt := 482) hx hb dL_law_42 (by decide +kernel) (by decide +kernel) (by decide +kernel) (by decide) (case_isBest hL C0 hK hi5 next H locs ls hs0 hl)
      · exact lv_tableIn (off := 463) (tgt := 505) hx hb dL_law_42 (by decide +kernel) (by decide +kernel) (by decide +kernel) (by decide) (case_settledCount hL C0 hK hi5 next H locs ls hs0 hl)
theorem gOK_0 {n : Nat} (h1 : 2 ≤ n) (h2 : n ≤ 10) : gOK (n, 0, zF, zF, zF, zF, zF) := ⟨h1, h2, Nat.zero_le 20, fun _ => Nat.zero_le 60, fun _ => show 0 < n by omega, fun _ => show 0 < n by omega, fun _ => Nat.zero_le 30, fun _ => Nat.zero_le 30⟩
set_option maxHeartbeats 4000000 in
theorem whole_start {p : Program} {e : Env} {s : State} {m : MethodId} {below : List Frame} {meth : Method} {c : Code} (l : Launch) {b L : Nat} {xs : Nat → Int32} (hL : L ≤ 321) (C0 : lw_At p s m meth c b L xs) : W p l e room_1 s m #[Value.ref b] below meth c s.heap [] 0 0 (lw_Z below #[Value.ref b] s) (entryFrame m ([Value.ref b] : List Value).toArray 4) := by
  obtain ⟨hx, hb, hr, hml, hown, hts0, hX, hbl, hlocks, hgv⟩ := id C0
  have hts : ∀ w ∈ lw_all, w.before #[Value.ref b] s = true := fun w h => hts0 w (lw_all_tbl h)
  have hA : ∀ q : Nat, s.heap.size ≤ q → (fun q : Nat => s.heap.size ≤ q) q := fun _ h => h
  have hbA : ¬ (fun q : Nat => s.heap.size ≤ q) b := Nat.not_le.mpr hbl
  obtain ⟨c0, iS0, hKn0⟩ := u_known (C := RX1) (T := TX1) (N := 13) (n := 13) hts0 (fun w h => lw_all_tbl (in_X1 w h)) (hts _ q21)
  obtain ⟨c1, iS1, hKn1⟩ := u_known (C := RX2) (T := TX2) (N := 9) (n := 9) hts0 (fun w h => lw_all_tbl (in_X2 w h)) (hts _ q175)
  obtain ⟨D, hKc⟩ : ∃ D : va_G, ∀ (k : Nat) (q : vw_C), vwCl[k]? = some q → u_Kn s q.1 q.2.1 q.2.2 (D.1 k) (D.2 k) := by
    refine ⟨(fun k => if k = 0 then c0 else c1, fun k => if k = 0 then iS0 else iS1), ?_⟩
    intro k q hq
    match k, hq with
    | 0, hq => cases hq; exact hKn0
    | 1, hq => cases hq; exact hKn1
    | k + 2, hq => simp [vwCl] at hq
  have hS : va_S (fun q : Nat => s.heap.size ≤ q) s.heap s.heap [] := va_S.rf
  have hK : va_K D vwCl [] s := ⟨hKc, fun k q h => by simp at h⟩
  have hP : va_P D vwCl [] s.heap := fun k q h => by simp at h
  have hD : va_D (fun q : Nat => s.heap.size ≤ q) [] := ⟨fun i j p q h => by simp at h, fun k q h => by simp at h⟩
  have hl := lv_entry ([.ref b]) (n := 4) (Nat.le_of_ble_eq_true rfl)
  rw [lg_entry_eq]
  generalize (lg_sl ([.ref b]) ++ List.replicate (4 - (lg_sl ([.ref b])).length) Slot.unset).toArray = ls at hl ⊢
  have hl : lv_has ls 4 [(0, .ref b)] := hl
  refine va_new (ci := 0) (fs := [.null, .null, .null, .null, .null, .null, .null, .null, .null, .null, .int 0, .int 0, .int 0]) (C := RX1) (T := TX1) (N := 13) hx hb hts in_X1 tyX1 tyX1_ok hown (hts _ q20) (hts _ q21) (hts _ q18) hK hP hD hS hA rfl (fun j hj => by rcases (show j = 0 ∨ j = 1 ∨ j = 2 ∨ j = 3 ∨ j = 4 ∨ j = 5 ∨ j = 6 ∨ j = 7 ∨ j = 8 ∨ j = 9 ∨ j = 10 ∨ j = 11 ∨ j = 12 by omega) with rfl | rfl | rfl | rfl | rfl | rfl | rfl | rfl | rfl | rfl | rfl | rfl | rfl <;> rfl) (Nat.le_of_ble_eq_true rfl) (Nat.le_of_ble_eq_true rfl) dL_law_0 (fun qU H hP hD hS => ?_)
  have hP : va_P D vwCl [(qU, .inr (0, [.null, .null, .null, .null, .null, .null, .null, .null, .null, .null, .int 0, .int 0, .int 0]))] H := hP
  have hD : va_D (fun q : Nat => s.heap.size ≤ q) [(qU, .inr (0, [.null, .null, .null, .null, .null, .null, .null, .null, .null, .null, .int 0, .int 0, .int 0]))] := hD
  refine W.widen (k := 1) (n := 13) (Nat.le_of_ble_eq_true rfl) (Nat.le_of_ble_eq_true rfl) ?_
  refine lv_dup hx hb dL_law_3 rfl ?_
  refine lv_aload_n hx hb dL_law_4 rfl (lv_at hl 0 rfl) ?_
  refine lv_iconst (v := nI 0) hx hb dL_law_5 (by decide +kernel) ?_
  refine va_calli (va_runS (As := [.ref b, .int (nI 0)]) (rest := [.ref qU, .ref qU]) ⟨hx, hb, hml, hown, hts⟩ (m_cell l b L xs (by omega) H.size) (va_cwS 2 hts (lw_S q171 q172 q17 q173) rfl rfl rfl (by decide +kernel) ⟨(Nat.le_of_ble_eq_true rfl), (Nat.le_of_ble_eq_true rfl)⟩) ⟨fun a U g mk q => by obtain ⟨q0, q1, qX⟩ := q; exact ⟨q0, q1, va_X.moved (u := U) (U := U.calling g mk a) (Vm.Alike.refl U.vm) qX⟩, fun U hU hW => ⟨rfl, by rw [hU], by rw [hU]; exact va_X.moved hW.alike (hX.kept (hS.2.1 b hbl hbA))⟩⟩ rfl rfl hl.1 rfl (lv_room (Nat.le_of_ble_eq_true rfl)) dL_law_6 ⟨(Nat.le_of_ble_eq_true rfl), (Nat.le_of_ble_eq_true rfl)⟩) hS (fun q _ h => Nat.le_trans hS.1 h) (fun q h => Nat.le_trans hS.1 h) (fun r u t H1 locs ht hvm hp hB hz hk hS => ?_)
  have hp : r = cellV L xs := hp
  subst hp
  have hP : va_P D vwCl [(qU, .inr (0, [.null, .null, .null, .null, .null, .null, .null, .null, .null, .null, .int 0, .int 0, .int 0]))] H1 := hP.kept (fun k q hq => hk q.1 ((hP k q hq).lt) (Nat.not_le.mpr ((hP k q hq).lt)))
  generalize H1 = H at hP hS ⊢
  have hFc : ∀ q, va_A [(qU, .inr (0, [.null, .null, .null, .null, .null, .null, .null, .null, .null, .null, .int 0, .int 0, .int 0]))] H.size q → s.heap.size ≤ q := by
    intro q h
    rcases h with ⟨k, e, h⟩ | h
    · exact hD.2 k (q, e) h
    · exact Nat.le_trans hS.1 h
  refine va_callv (va_runI (As := [.int (cellV L xs)]) (rest := [.ref qU]) ⟨hx, hb, hml, hown, hts⟩ (mU_init l D qU (cellV L xs) H.size) (cwI 1 hts (lw_meth q24) rfl rfl rfl (hts _ q18) (hts _ q22) (hts _ q23) rfl (by decide +kernel) ⟨(Nat.le_of_ble_eq_true rfl), (Nat.le_of_ble_eq_true rfl)⟩) ⟨fun a U g mk q => by obtain ⟨q0, q1, qP, qK, qD⟩ := q; exact ⟨q0, q1, qP, va_K.moved (u := U) (U := U.calling g mk a) (Vm.Alike.refl U.vm) qK, qD⟩, fun U hU hW => ⟨rfl, by rw [hU], by rw [hU]; exact hP, va_K.moved hW.alike hK, hD.weaken (fun _ _ _ _ => trivial)⟩⟩ rfl rfl hl.1 rfl (lv_room (Nat.le_of_ble_eq_true rfl)) dL_law_9 ⟨(Nat.le_of_ble_eq_true rfl), (Nat.le_of_ble_eq_true rfl)⟩) hS (fun q _ h => hFc q h) hFc (fun u t H1 locs ht hvm hw hB hz1 hk1 hS => ?_)
  obtain ⟨d, a, S⟩ := u
  obtain ⟨ha1, n, hcl, hS1⟩ := hw
  obtain ⟨hP1, hK1, hD1⟩ := hB
  rw [ht] at hP1
  have ha0 : a 0 = qU := ha1
  have hS0 : S = (n, 0, nNone, zF, zF, zF, zF, zF, fxI 10, zF, zF, zF, zF) := hS1
  clear ha1 hS1
  subst hS0
  have hK3 : va_K D vwCl [(d, .int)] s := va_K.moved hvm.symm hK1
  have hP3 : va_P D vwCl (wU d a (n, 0, nNone, zF, zF, zF, zF, zF, fxI 10, zF, zF, zF, zF)) H1 := hP1
  have hD3 : va_D (fun q : Nat => s.heap.size ≤ q) (wU d a (n, 0, nNone, zF, zF, zF, zF, zF, fxI 10, zF, zF, zF, zF)) := hD1.weaken (fun k q _ h => hFc q.1 h)
  clear hP1 hK1 hD1 hz1 hk1 hFc hP hD hK
  subst ha0
  have hK := hK3
  have hP := hP3
  have hD := hD3
  generalize H1 = H at hP hS ⊢
  refine W.widen (k := 11) (n := 301) (Nat.le_of_ble_eq_true rfl) (Nat.le_of_ble_eq_true rfl) ?_
  refine lv_astore_n (lv' := [(1, .ref (a 0)), (0, .ref b)]) hx hb dL_law_12 rfl hl (by decide) rfl (fun ls hl => ?_)
  refine va_new (ci := 1) (fs := [.int 0, .int 0, .null, .null, .int 0, .null, .null, .null, .null]) (C := RX2) (T := TX2) (N := 9) hx hb hts in_X2 tyX2 tyX2_ok hown (hts _ q174) (hts _ q175) (hts _ q19) hK hP hD hS hA rfl (fun j hj => by rcases (show j = 0 ∨ j = 1 ∨ j = 2 ∨ j = 3 ∨ j = 4 ∨ j = 5 ∨ j = 6 ∨ j = 7 ∨ j = 8 by omega) with rfl | rfl | rfl | rfl | rfl | rfl | rfl | rfl | rfl <;> rfl) (Nat.le_of_ble_eq_true rfl) (Nat.le_of_ble_eq_true rfl) dL_law_13 (fun qM H hP hD hS => ?_)
  refine W.widen (k := 12) (n := 310) (Nat.le_of_ble_eq_true rfl) (Nat.le_of_ble_eq_true rfl) ?_
  refine lv_dup hx hb dL_law_16 rfl ?_
  refine lv_aload_n hx hb dL_law_17 rfl (lv_at hl 1 rfl) ?_
  refine lv_iconst (v := nI 0) hx hb dL_law_18 (by decide +kernel) ?_
  refine va_calli (va_runS (As := [.ref b, .int (nI 0)]) (rest := [.ref qM, .ref qM]) ⟨hx, hb, hml, hown, hts⟩ (m_cell l b L xs (by omega) H.size) (va_cwS 2 hts (lw_S q171 q172 q17 q173) rfl rfl rfl (by decide +kernel) ⟨(Nat.le_of_ble_eq_true rfl), (Nat.le_of_ble_eq_true rfl)⟩) ⟨fun a U g mk q => by obtain ⟨q0, q1, qX⟩ := q; exact ⟨q0, q1, va_X.moved (u := U) (U := U.calling g mk a) (Vm.Alike.refl U.vm) qX⟩, fun U hU hW => ⟨rfl, by rw [hU], by rw [hU]; exact va_X.moved hW.alike (hX.kept (hS.2.1 b hbl hbA))⟩⟩ rfl rfl hl.1 rfl (lv_room (Nat.le_of_ble_eq_true rfl)) dL_law_19 ⟨(Nat.le_of_ble_eq_true rfl), (Nat.le_of_ble_eq_true rfl)⟩) hS (fun q _ h => Nat.le_trans hS.1 h) (fun q h => Nat.le_trans hS.1 h) (fun r u t H1 locs ht hvm hp hB hz hk hS => ?_)
  have hp : r = cellV L xs := hp
  subst hp
  have hP : va_P D vwCl (wU d a (n, 0, nNone, zF, zF, zF, zF, zF, fxI 10, zF, zF, zF, zF) ++ [(qM, .inr (1, [.int 0, .int 0, .null, .null, .int 0, .null, .null, .null, .null]))]) H1 := hP.kept (fun k q hq => hk q.1 ((hP k q hq).lt) (Nat.not_le.mpr ((hP k q hq).lt)))
  generalize H1 = H at hP hS ⊢
  have hPc := hP.sub (ws' := [(qM, .inr (1, [.int 0, .int 0, .null, .null, .int 0, .null, .null, .null, .null]))]) [11] rfl
  have hDc := hD.sub (ws' := [(qM, .inr (1, [.int 0, .int 0, .null, .null, .int 0, .null, .null, .null, .null]))]) [11] (by decide) rfl
  have hFc : ∀ q, va_A [(qM, .inr (1, [.int 0, .int 0, .null, .null, .int 0, .null, .null, .null, .null]))] H.size q → s.heap.size ≤ q := by
    intro q h
    rcases h with ⟨k, e, h⟩ | h
    · exact hDc.2 k (q, e) h
    · exact Nat.le_trans hS.1 h
  refine va_callv (va_runI (As := [.int (cellV L xs)]) (rest := [.ref qM]) ⟨hx, hb, hml, hown, hts⟩ (mM_init l D d qM (cellV L xs) H.size) (cwI 1 hts (lw_meth q178) rfl rfl rfl (hts _ q19) (hts _ q176) (hts _ q177) rfl (by decide +kernel) ⟨(Nat.le_of_ble_eq_true rfl), (Nat.le_of_ble_eq_true rfl)⟩) ⟨fun a U g mk q => by obtain ⟨q0, q1, qP, qK, qD⟩ := q; exact ⟨q0, q1, qP, va_K.moved (u := U) (U := U.calling g mk a) (Vm.Alike.refl U.vm) qK, qD⟩, fun U hU hW => ⟨rfl, by rw [hU], by rw [hU]; exact hPc, va_K.moved hW.alike hK, hDc.weaken (fun _ _ _ _ => trivial)⟩⟩ rfl rfl hl.1 rfl (lv_room (Nat.le_of_ble_eq_true rfl)) dL_law_22 ⟨(Nat.le_of_ble_eq_true rfl), (Nat.le_of_ble_eq_true rfl)⟩) hS (fun q _ h => hFc q h) hFc (fun u t H1 locs ht hvm hw hB hz1 hk1 hS => ?_)
  obtain ⟨a2, S2⟩ := u
  obtain ⟨ha1, n2, hcl2, hS1⟩ := hw
  obtain ⟨hP1, hK1, hD1⟩ := hB
  rw [ht] at hP1
  have en := isCl_one hcl hcl2
  subst en
  have ha0 : a2 0 = qM := ha1
  have hS0 : S2 = (n, 2 ^ n, 0, zF, fxI 10, zF, zF, zF, zF) := hS1
  clear ha1 hS1
  subst hS0
  obtain ⟨hP3, hD3⟩ := va_join (wc := [(qM, .inr (1, [.int 0, .int 0, .null, .null, .int 0, .null, .null, .null, .null]))]) (wr := wU d a (n, 0, nNone, zF, zF, zF, zF, zF, fxI 10, zF, zF, zF, zF)) (w1 := wM d a2 (n, 2 ^ n, 0, zF, fxI 10, zF, zF, zF, zF)) hP hD [11] [0, 1, 2, 3, 4, 5, 6, 7, 8, 9, 10] rfl rfl (by decide) (by decide) hk1 hFc hP1 hD1
  clear hP1 hK1 hD1 hz1 hk1 hFc hPc hDc hP hD
  subst ha0
  have hP := hP3
  have hD := hD3
  clear hP3
  generalize H1 = H at hP hS ⊢
  refine W.widen (k := 18) (n := 420) (Nat.le_of_ble_eq_true rfl) (Nat.le_of_ble_eq_true rfl) ?_
  refine lv_astore_n (lv' := [(2, .ref (a2 0)), (1, .ref (a 0)), (0, .ref b)]) hx hb dL_law_25 rfl hl (by decide) rfl (fun ls hl => ?_)
  refine lv_iconst (v := nI 1) hx hb dL_law_26 (by decide +kernel) ?_
  refine lv_istore_n (lv' := [(3, .int (nI 1)), (2, .ref (a2 0)), (1, .ref (a 0)), (0, .ref b)]) hx hb dL_law_27 rfl hl (by decide) rfl (fun ls hl => ?_)
  have hin := isCl_in hcl
  exact law_loop hL C0 hK (L + 2) 1 H _ ls (by omega) (by omega) ⟨n, 0, zF, zF, zF, zF, zF, fxI 10, zF, zF, zF, zF, gOK_0 hin.1 hin.2, fxI_le 10, hP, hD, hS⟩ (lv_sub hl [3, 2, 1, 0] rfl)
end
section
set_option maxRecDepth 100000
set_option maxHeartbeats 4000000 in
theorem lw_walk (l : Launch) (b : Addr) (xs : List Int32) : MetFree l x (headSpec (Jvm.Cond.code x code maxLocals ret :: tables_1) room_1) (lw_P b xs) (fun _ _ _ _ _ => True) lw_Q := by
  refine MetFree.of_bodyS (code := code) (maxLocals := maxLocals) (ret := ret) (by decide) ?_ ?_
  · intro args s m h hn
    obtain ⟨meth, c, h1, h2, h3, h4, h5, h6, -, -⟩ := Cond.code_spec hn (atoms_spec (ws := Jvm.Cond.code x code maxLocals ret :: tables_1) h _ List.mem_cons_self)
    exact ⟨meth, c, h1, h2, h3, h4, h5, h6⟩
  · intro p e s m args below meth c s₁ B hml0 hP _
    obtain ⟨rfl, hx, hbd, hgv⟩ := hP
    obtain ⟨scr, harrAt, hlist, hof, hsmall⟩ := hx
    obtain ⟨hcb, hkn, -, -⟩ := State.arrayAt?_spec harrAt
    have hown : s.vm.findClass R_law = some m.cls := findClass_of_methodNamed B.named
    have hts0 : ∀ c ∈ (Jvm.Cond.code x code maxLocals ret :: tables_1), c.before #[Value.ref b] s = true := atoms_spec (ws := Jvm.Cond.code x code maxLocals ret :: tables_1) B.pre
    have hts : ∀ w ∈ lw_tbl, w.before #[Value.ref b] s = true := k2_hts_sels lw_privs (fun w hw => hts0 w (List.mem_cons_of_mem _ hw)) lw_privs_ok
    have hml : c.maxLocals = 4 := B.maxLocals_eq (hts0 _ List.mem_cons_self)
    have X₀ : Stand p l e room_1 s m #[Value.ref b] below meth c s₁ [] 0 0 := Stand.of_body B
    have hh0 : s₁.heap = s.heap := by rw [B.state]; rfl
    have hsz : scr.slots.size = xs.length := by rw [← Array.length_toList, hlist, List.length_map]
    have hval : ∀ j : Nat, j < xs.length → scr.slots[j]? = some (.int (xs.getD j 0)) := fun j hj => by
      rw [← Array.getElem?_toList, hlist]
      simp [hj]
    have hbl : b < s.heap.size := (Array.getElem?_eq_some_iff.mp hcb).1
    have hX : va_X b xs.length (fun j => xs.getD j 0) s s.heap := ⟨scr, hcb, hof, hkn, hsz, hval⟩
    have K : W p l e room_1 s m #[Value.ref b] below meth c s₁.heap [] 0 0 (lw_Z below #[Value.ref b] s) (entryFrame m ([Value.ref b] : List Value).toArray 4) := by
      rw [hh0]
      exact whole_start l hbd ⟨B.exec, B.bytes, B.returns, hml, hown, hts, hX, hbl, B.notSynchronized, hgv⟩
    obtain ⟨t, a1, o, b1, b2, b3⟩ := K s₁ rfl X₀
    exact ⟨t, o, a1, b1, b2, b3⟩
theorem lw_pre_spec {args : Array Value} {s : State} (h : (Jvm.Cond.and given_1 narrow_1).before args s = true) (hr : rest_1_c.before args s = true) : ∃ (b : Addr) (xs : List Int32), lw_P b xs args s := by
  have hs := flat_of_before _ h
  have hq := flat_of_before _ hr
  have hc : (Cond.count 1).before args s = true := hs _ (by decide +kernel)
  have harr : (Cond.arrayOf (.arg 0) .int).before args s = true := hs _ (by decide +kernel)
  have hle : (Cond.le (.length (.arg 0)) (.int 321)).before args s = true := hs _ (by decide +kernel)
  have hlen : (Cond.isInt (.length (.arg 0))).before args s = true := hq _ (by decide +kernel)
  have hall : (Cond.all (.arg 0) (.isInt (.elem (.arg 0) (.index 0)))).before args s = true := hq _ (by decide +kernel)
  obtain ⟨b, xs, hb, hx⟩ := State.ints_of_pre rfl harr hlen hall
  have hsm : xs.length < 2 ^ 31 := hx.choose_spec.2.2.2
  have hev : (Term.length (.arg 0)).eval args s none [] s = some (.int xs.length.toInt32) := hx.length_eval hb
  have hv := Cond.le_ints hev (show (Term.int 321).eval args s none [] s = some (.int 321) from rfl)
  have hd : xs.length.toInt32 ≤ 321 := by
    simpa [Cond.before, Cond.holds, hv] using hle
  have hN : xs.length ≤ 321 := (Int32.ofNat_le_ofNat hsm (by decide)).mp (show Int32.ofNat xs.length ≤ Int32.ofNat 321 from hd)
  exact ⟨b, xs, Cond.one_arg hc (show args[0]? = some (.ref b) from hb), hx, hN, h⟩
theorem lw_comes (l : Launch) : Comes l x (Jvm.Cond.code x code maxLocals ret :: tables_1) room_1 (fun tb e args s => Calls_1 tb e args s ∧ rest_1 tb e args s ∧ Pre_1 tb e args s)
    (fun _ _ args s o t => lw_Q args s o t) := by
  intro p e ha hc hk s m args below hf hfit hheap happ hpre
  obtain ⟨b, xs, hP⟩ := lw_pre_spec hpre.2.2 hpre.2.1
  obtain ⟨k, o, h1, h2, h3, hQ⟩ := lw_walk l b xs p e ha hc hk s m args below hf ((Spec.applies_iff_loose hf).mp happ).1 hP trivial
  exact ⟨k, o, h1, h2, h3, hQ⟩
theorem lw_frame {s t : State} {o : Outcome} {args : Array Value} (h : Framed s o t [] 600000 7290000) :
    Framed s o t (fieldLocs frame_1_writes args s ++ arrayLocs frame_1_arrays args s ++ staticLocs frame_1_statics s) 600000 7290000 := h
theorem lw_limb (L : Cond) (hL : ∀ (args : Array Value) (s t : State), L.after args s (.returned (some (.int 1))) t = true) :
    ArmFor flags0 classFile x code maxLocals ret World_1 tables_1 room_1 Calls_1 rest_1 Pre_1
      (fun tb e a s o t => postC L tb e a s o t ∧ Framed s o t (fieldLocs frame_1_writes a s ++ arrayLocs frame_1_arrays a s ++ staticLocs frame_1_statics s) 600000 7290000) := by
  intro l _ _ _ p e ha hc hk s m args below hf hfit hheap happ hpre
  obtain ⟨k, o, h1, h2, h3, rfl, hF⟩ := lw_comes l p e ha hc hk s m args below hf hfit hheap happ hpre
  exact ⟨k, _, h1, h2, h3, hL args s _, lw_frame hF⟩
theorem i_vc : Claimed_1_1 ∧ Claimed_1_2 := ⟨lw_limb limb_1_1 (fun args s t => by simp [limb_1_1, Cond.after, Cond.holds, Cond.value]), lw_limb limb_1_2 (fun args s t => Cond.after_iff.mpr (by
  first | (rw [show limb_1_2 = Cond.eq .result (.int 1) from rfl, Cond.eq_ints (x := 1) (y := 1) rfl rfl]; simp; done) | (simp [limb_1_2, Cond.value, Term.eval]; done)))⟩
end
