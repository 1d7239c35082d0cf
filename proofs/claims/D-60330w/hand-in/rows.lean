section
-- ===== PART A: goes FIRST, ahead of the names: the tables' words, and 'selects' of the private methods out of them =====
/-- a private method of a class that the tables say can be made, by its rows of tables_1 -/
def lw_okq (q : MethodName × Nat) : Prop := (q.1.cls ≠ "java/lang/invoke/MethodHandle" ∧ q.1.cls ≠ "java/lang/invoke/VarHandle") ∧ Cond.instantiable q.1.cls q.2 ∈ tables_1 ∧ Cond.privateMethod q.1 ∈ tables_1 ∧ Cond.instanceMethod q.1 ∈ tables_1
set_option maxRecDepth 100000
theorem lw_t1 {w : Cond} (h : w ∈ tables_1_1) : w ∈ tables_1 := List.mem_append_left _ h
theorem lw_t2 {w : Cond} (h : w ∈ tables_1_2) : w ∈ tables_1 := List.mem_append_right _ h
theorem lw_p0 : lw_okq (⟨"TwoDimMatcher", "inText", "(II)Z"⟩, 16) := ⟨⟨by decide +kernel, by decide +kernel⟩, lw_t1 (List.mem_of_getElem? (i := 4) rfl), lw_t1 (List.mem_of_getElem? (i := 67) rfl), lw_t1 (List.mem_of_getElem? (i := 68) rfl)⟩
theorem lw_p1 : lw_okq (⟨"TwoDimMatcher", "isPattern", "(I)Z"⟩, 16) := ⟨⟨by decide +kernel, by decide +kernel⟩, lw_t1 (List.mem_of_getElem? (i := 4) rfl), lw_t1 (List.mem_of_getElem? (i := 75) rfl), lw_t1 (List.mem_of_getElem? (i := 76) rfl)⟩
theorem lw_p2 : lw_okq (⟨"TwoDimMatcher", "fits", "(III)Z"⟩, 16) := ⟨⟨by decide +kernel, by decide +kernel⟩, lw_t1 (List.mem_of_getElem? (i := 4) rfl), lw_t1 (List.mem_of_getElem? (i := 87) rfl), lw_t1 (List.mem_of_getElem? (i := 88) rfl)⟩
theorem lw_p3 : lw_okq (⟨"TwoDimMatcher", "search", "()V"⟩, 16) := ⟨⟨by decide +kernel, by decide +kernel⟩, lw_t1 (List.mem_of_getElem? (i := 4) rfl), lw_t1 (List.mem_of_getElem? (i := 103) rfl), lw_t1 (List.mem_of_getElem? (i := 104) rfl)⟩
theorem lw_p4 : lw_okq (⟨"TwoDimMatcher", "buildAutomaton", "()V"⟩, 16) := ⟨⟨by decide +kernel, by decide +kernel⟩, lw_t1 (List.mem_of_getElem? (i := 4) rfl), lw_t1 (List.mem_of_getElem? (i := 107) rfl), lw_t1 (List.mem_of_getElem? (i := 108) rfl)⟩
theorem lw_p5 : lw_okq (⟨"TwoDimMatcher", "addRow", "(II)V"⟩, 16) := ⟨⟨by decide +kernel, by decide +kernel⟩, lw_t1 (List.mem_of_getElem? (i := 4) rfl), lw_t1 (List.mem_of_getElem? (i := 111) rfl), lw_t1 (List.mem_of_getElem? (i := 112) rfl)⟩
theorem lw_p6 : lw_okq (⟨"TwoDimMatcher", "linkNodes", "()V"⟩, 16) := ⟨⟨by decide +kernel, by decide +kernel⟩, lw_t1 (List.mem_of_getElem? (i := 4) rfl), lw_t1 (List.mem_of_getElem? (i := 115) rfl), lw_t1 (List.mem_of_getElem? (i := 116) rfl)⟩
theorem lw_p7 : lw_okq (⟨"TwoDimMatcher", "inheritRow", "(III)V"⟩, 16) := ⟨⟨by decide +kernel, by decide +kernel⟩, lw_t1 (List.mem_of_getElem? (i := 4) rfl), lw_t1 (List.mem_of_getElem? (i := 119) rfl), lw_t1 (List.mem_of_getElem? (i := 120) rfl)⟩
theorem lw_p8 : lw_okq (⟨"TwoDimMatcher", "buildFailure", "(I)V"⟩, 16) := ⟨⟨by decide +kernel, by decide +kernel⟩, lw_t1 (List.mem_of_getElem? (i := 4) rfl), lw_t1 (List.mem_of_getElem? (i := 123) rfl), lw_t1 (List.mem_of_getElem? (i := 124) rfl)⟩
theorem lw_p9 : lw_okq (⟨"TwoDimMatcher", "searchRow", "(I)V"⟩, 16) := ⟨⟨by decide +kernel, by decide +kernel⟩, lw_t1 (List.mem_of_getElem? (i := 4) rfl), lw_t1 (List.mem_of_getElem? (i := 127) rfl), lw_t1 (List.mem_of_getElem? (i := 128) rfl)⟩
theorem lw_p10 : lw_okq (⟨"TwoDimMatcher", "advance", "(IIII)V"⟩, 16) := ⟨⟨by decide +kernel, by decide +kernel⟩, lw_t1 (List.mem_of_getElem? (i := 4) rfl), lw_t1 (List.mem_of_getElem? (i := 131) rfl), lw_t1 (List.mem_of_getElem? (i := 132) rfl)⟩
theorem lw_p11 : lw_okq (⟨"TwoDimMatcher", "bitsIn", "(I)I"⟩, 16) := ⟨⟨by decide +kernel, by decide +kernel⟩, lw_t1 (List.mem_of_getElem? (i := 4) rfl), lw_t1 (List.mem_of_getElem? (i := 135) rfl), lw_t1 (List.mem_of_getElem? (i := 136) rfl)⟩
theorem lw_p12 : lw_okq (⟨"TwoDimMatcher", "coveredInRow", "(II)I"⟩, 16) := ⟨⟨by decide +kernel, by decide +kernel⟩, lw_t1 (List.mem_of_getElem? (i := 4) rfl), lw_t1 (List.mem_of_getElem? (i := 151) rfl), lw_t1 (List.mem_of_getElem? (i := 152) rfl)⟩
theorem lw_p13 : lw_okq (⟨"TwoDimMatcher", "meetings", "(III)I"⟩, 16) := ⟨⟨by decide +kernel, by decide +kernel⟩, lw_t1 (List.mem_of_getElem? (i := 4) rfl), lw_t1 (List.mem_of_getElem? (i := 159) rfl), lw_t1 (List.mem_of_getElem? (i := 160) rfl)⟩
theorem lw_p14 : lw_okq (⟨"TwoDimMatcherModel", "inText", "(II)Z"⟩, 6) := ⟨⟨by decide +kernel, by decide +kernel⟩, lw_t1 (List.mem_of_getElem? (i := 166) rfl), lw_t1 (List.mem_of_getElem? (i := 195) rfl), lw_t1 (List.mem_of_getElem? (i := 196) rfl)⟩
theorem lw_p15 : lw_okq (⟨"TwoDimMatcherModel", "isLetter", "(I)Z"⟩, 6) := ⟨⟨by decide +kernel, by decide +kernel⟩, lw_t1 (List.mem_of_getElem? (i := 166) rfl), lw_t1 (List.mem_of_getElem? (i := 199) rfl), lw_t1 (List.mem_of_getElem? (i := 200) rfl)⟩
def lw_privs_1 : List (MethodName × Nat) := [(⟨"TwoDimMatcher", "inText", "(II)Z"⟩, 16), (⟨"TwoDimMatcher", "isPattern", "(I)Z"⟩, 16), (⟨"TwoDimMatcher", "fits", "(III)Z"⟩, 16), (⟨"TwoDimMatcher", "search", "()V"⟩, 16), (⟨"TwoDimMatcher", "buildAutomaton", "()V"⟩, 16), (⟨"TwoDimMatcher", "addRow", "(II)V"⟩, 16), (⟨"TwoDimMatcher", "linkNodes", "()V"⟩, 16), (⟨"TwoDimMatcher", "inheritRow", "(III)V"⟩, 16), (⟨"TwoDimMatcher", "buildFailure", "(I)V"⟩, 16), (⟨"TwoDimMatcher", "searchRow", "(I)V"⟩, 16), (⟨"TwoDimMatcher", "advance", "(IIII)V"⟩, 16), (⟨"TwoDimMatcher", "bitsIn", "(I)I"⟩, 16), (⟨"TwoDimMatcher", "coveredInRow", "(II)I"⟩, 16), (⟨"TwoDimMatcher", "meetings", "(III)I"⟩, 16), (⟨"TwoDimMatcherModel", "inText", "(II)Z"⟩, 6), (⟨"TwoDimMatcherModel", "isLetter", "(I)Z"⟩, 6)]
theorem lw_r1 : ∀ q ∈ lw_privs_1, lw_okq q := List.forall_mem_cons.mpr ⟨lw_p0, List.forall_mem_cons.mpr ⟨lw_p1, List.forall_mem_cons.mpr ⟨lw_p2, List.forall_mem_cons.mpr ⟨lw_p3, List.forall_mem_cons.mpr ⟨lw_p4, List.forall_mem_cons.mpr ⟨lw_p5, List.forall_mem_cons.mpr ⟨lw_p6, List.forall_mem_cons.mpr ⟨lw_p7, List.forall_mem_cons.mpr ⟨lw_p8, List.forall_mem_cons.mpr ⟨lw_p9, List.forall_mem_cons.mpr ⟨lw_p10, List.forall_mem_cons.mpr ⟨lw_p11, List.forall_mem_cons.mpr ⟨lw_p12, List.forall_mem_cons.mpr ⟨lw_p13, List.forall_mem_cons.mpr ⟨lw_p14, List.forall_mem_cons.mpr ⟨lw_p15, fun _ h => absurd h List.not_mem_nil⟩⟩⟩⟩⟩⟩⟩⟩⟩⟩⟩⟩⟩⟩⟩⟩
theorem lw_p16 : lw_okq (⟨"TwoDimMatcherModel", "isPattern", "(I)Z"⟩, 6) := ⟨⟨by decide +kernel, by decide +kernel⟩, lw_t1 (List.mem_of_getElem? (i := 166) rfl), lw_t1 (List.mem_of_getElem? (i := 207) rfl), lw_t1 (List.mem_of_getElem? (i := 208) rfl)⟩
theorem lw_p17 : lw_okq (⟨"TwoDimMatcherModel", "fits", "(III)Z"⟩, 6) := ⟨⟨by decide +kernel, by decide +kernel⟩, lw_t1 (List.mem_of_getElem? (i := 166) rfl), lw_t1 (List.mem_of_getElem? (i := 219) rfl), lw_t1 (List.mem_of_getElem? (i := 220) rfl)⟩
theorem lw_p18 : lw_okq (⟨"TwoDimMatcherModel", "coveredBy", "(III)Z"⟩, 6) := ⟨⟨by decide +kernel, by decide +kernel⟩, lw_t1 (List.mem_of_getElem? (i := 166) rfl), lw_t2 (List.mem_of_getElem? (i := 8) rfl), lw_t2 (List.mem_of_getElem? (i := 9) rfl)⟩
def lw_privs_2 : List (MethodName × Nat) := [(⟨"TwoDimMatcherModel", "isPattern", "(I)Z"⟩, 6), (⟨"TwoDimMatcherModel", "fits", "(III)Z"⟩, 6), (⟨"TwoDimMatcherModel", "coveredBy", "(III)Z"⟩, 6)]
theorem lw_r2 : ∀ q ∈ lw_privs_2, lw_okq q := List.forall_mem_cons.mpr ⟨lw_p16, List.forall_mem_cons.mpr ⟨lw_p17, List.forall_mem_cons.mpr ⟨lw_p18, fun _ h => absurd h List.not_mem_nil⟩⟩⟩
def lw_privs : List (MethodName × Nat) := lw_privs_1 ++ (lw_privs_2)
def lw_tbl : List Cond := k2_sels lw_privs ++ tables_1
theorem lw_privs_ok : ∀ q ∈ lw_privs, lw_okq q := by
  show ∀ q ∈ lw_privs_1 ++ (lw_privs_2), lw_okq q
  exact List.forall_mem_append.mpr ⟨lw_r1, lw_r2⟩
-- ===== ONE list of words for every method: the tables' words that hold all through a run =====
def lw_all : List Cond := lw_tbl.filter goodWord
/-- a word of the tables by its place: claim/WORDS.tsv -/
theorem lw_w {w : Cond} (i : Nat) (h : lw_tbl[i]? = some w) (g : goodWord w = true) : w ∈ lw_all := List.mem_filter.mpr ⟨List.mem_of_getElem? h, g⟩
theorem lw_all_tbl {w : Cond} (h : w ∈ lw_all) : w ∈ lw_tbl := (List.mem_filter.mp h).1
theorem lw_self : GoodIn lw_all lw_all := fun w h => ⟨h, good_of_word (List.mem_filter.mp h).2⟩
/-- a class's field words, by their places -/
theorem lw_in (ws : List Cond) (ps : List Nat) (hp : ws = ps.filterMap (fun i => lw_tbl[i]?)) (hg : ws.all goodWord = true) : ∀ w ∈ ws, w ∈ lw_all := by
  intro w h
  have h1 := List.all_eq_true.mp hg w h
  rw [hp] at h
  obtain ⟨i, -, hi⟩ := List.mem_filterMap.mp h
  exact lw_w i hi h1
/-- the words of a contract for the method y with code b, L locals, answer r -/
abbrev ws_ (y : MethodName) (b : ByteArray) (L : Nat) (r : Option FieldType) : List Cond := Cond.code y b L r :: lw_all
theorem lw_meth {y : MethodName} {b : ByteArray} {L : Nat} {r : Option FieldType} (h : Cond.code y b L r ∈ lw_all) : GoodIn lw_all (ws_ y b L r) := by
  intro w hw
  rcases List.mem_cons.mp hw with e | e
  · rw [e]
    exact lw_self _ h
  · exact lw_self _ e
theorem lw_app {a c : List Cond} (ha : ∀ w ∈ a, w ∈ lw_all) (hc : GoodIn lw_all c) : GoodIn lw_all (a ++ c) := by
  intro w hw
  rcases List.mem_append.mp hw with e | e
  · exact lw_self w (ha w e)
  · exact hc w e
/-- what a call through an object asks: cwV n hts (lw_V ..) -/
theorem lw_V {own : String} {idx : Nat} {C : String} {y : MethodName} {b : ByteArray} {L : Nat} {r : Option FieldType} (h1 : Cond.methodLink own idx y ∈ lw_all) (h2 : Cond.instanceMethod y ∈ lw_all) (h3 : Cond.selects C y y ∈ lw_all) (h4 : Cond.initialized C ∈ lw_all) (h5 : Cond.code y b L r ∈ lw_all) : GoodIn lw_all (wsV own idx C y (ws_ y b L r)) := by
  refine lw_app ?_ (lw_meth h5)
  intro w hw
  simp only [List.mem_cons, List.not_mem_nil, or_false] at hw
  rcases hw with e | e | e | e
  · rw [e]; exact h1
  · rw [e]; exact h2
  · rw [e]; exact h3
  · rw [e]; exact h4
/-- what a static call asks: va_cwS n hts (lw_S ..) -/
theorem lw_S {own : String} {idx : Nat} {y : MethodName} {b : ByteArray} {L : Nat} {r : Option FieldType} (h1 : Cond.methodLink own idx y ∈ lw_all) (h2 : Cond.static y ∈ lw_all) (h3 : Cond.initialized y.cls ∈ lw_all) (h4 : Cond.code y b L r ∈ lw_all) : GoodIn lw_all (va_wsS own idx y (ws_ y b L r)) := by
  refine lw_app ?_ (lw_meth h4)
  intro w hw
  simp only [List.mem_cons, List.not_mem_nil, or_false] at hw
  rcases hw with e | e | e
  · rw [e]; exact h1
  · rw [e]; exact h2
  · rw [e]; exact h3
/-- the words of a contract for a method WITH HANDLERS (hh: its table) -/
abbrev wsW_ (y : MethodName) (b : ByteArray) (L : Nat) (r : Option FieldType) (hh : List (Nat × Nat × Nat × Nat)) : List Cond := Cond.codeWith y b L r hh :: lw_all
theorem lw_methW {y : MethodName} {b : ByteArray} {L : Nat} {r : Option FieldType} {hh : List (Nat × Nat × Nat × Nat)} (h : Cond.codeWith y b L r hh ∈ lw_all) : GoodIn lw_all (wsW_ y b L r hh) := by
  intro w hw
  rcases List.mem_cons.mp hw with e | e
  · rw [e]
    exact lw_self _ h
  · exact lw_self _ e
/-- any list of words by their places (lw_in), good -/
theorem lw_good {ws : List Cond} (h : ∀ w ∈ ws, w ∈ lw_all) : GoodIn lw_all ws := fun w hw => lw_self w (h w hw)
/-- what a call of a method with handlers asks: vx_cwVW n hts (lw_VW ..), vx_cwSW n hts (lw_SW ..) -/
theorem lw_VW {own : String} {idx : Nat} {C : String} {y : MethodName} {b : ByteArray} {L : Nat} {r : Option FieldType} {hh : List (Nat × Nat × Nat × Nat)} (h1 : Cond.methodLink own idx y ∈ lw_all) (h2 : Cond.instanceMethod y ∈ lw_all) (h3 : Cond.selects C y y ∈ lw_all) (h4 : Cond.initialized C ∈ lw_all) (h5 : Cond.codeWith y b L r hh ∈ lw_all) : GoodIn lw_all (wsV own idx C y (wsW_ y b L r hh)) := by
  refine lw_app ?_ (lw_methW h5)
  intro w hw
  simp only [List.mem_cons, List.not_mem_nil, or_false] at hw
  rcases hw with e | e | e | e
  · rw [e]; exact h1
  · rw [e]; exact h2
  · rw [e]; exact h3
  · rw [e]; exact h4
theorem lw_SW {own : String} {idx : Nat} {y : MethodName} {b : ByteArray} {L : Nat} {r : Option FieldType} {hh : List (Nat × Nat × Nat × Nat)} (h1 : Cond.methodLink own idx y ∈ lw_all) (h2 : Cond.static y ∈ lw_all) (h3 : Cond.initialized y.cls ∈ lw_all) (h4 : Cond.codeWith y b L r hh ∈ lw_all) : GoodIn lw_all (va_wsS own idx y (wsW_ y b L r hh)) := by
  refine lw_app ?_ (lw_methW h4)
  intro w hw
  simp only [List.mem_cons, List.not_mem_nil, or_false] at hw
  rcases hw with e | e | e
  · rw [e]; exact h1
  · rw [e]; exact h2
  · rw [e]; exact h3
/-- a word by its place in its run of the tables -/
theorem lw_at {r : List Cond} (hr : ∀ w ∈ r, w ∈ lw_tbl) {w : Cond} (i : Nat) (h : r[i]? = some w) : w ∈ lw_tbl := hr w (List.mem_of_getElem? h)
theorem lw_g {w : Cond} (h : w ∈ lw_tbl) (g : goodWord w = true) : w ∈ lw_all := List.mem_filter.mpr ⟨h, g⟩
theorem lw_ms : ∀ w ∈ k2_sels lw_privs, w ∈ lw_tbl := fun w h => show w ∈ k2_sels lw_privs ++ tables_1 from List.mem_append_left _ h
theorem lw_m1 : ∀ w ∈ tables_1_1, w ∈ lw_tbl := fun w h => show w ∈ k2_sels lw_privs ++ tables_1 from List.mem_append_right (k2_sels lw_privs) (show w ∈ tables_1 from List.mem_append_left _ h)
theorem lw_m2 : ∀ w ∈ tables_1_2, w ∈ lw_tbl := fun w h => show w ∈ k2_sels lw_privs ++ tables_1 from List.mem_append_right (k2_sels lw_privs) (show w ∈ tables_1 from List.mem_append_right _ h)
theorem qs0 : (Cond.selects "TwoDimMatcher" ⟨"TwoDimMatcher", "inText", "(II)Z"⟩ ⟨"TwoDimMatcher", "inText", "(II)Z"⟩) ∈ lw_all := lw_g (lw_at lw_ms 0 rfl) rfl
theorem qs1 : (Cond.selects "TwoDimMatcher" ⟨"TwoDimMatcher", "isPattern", "(I)Z"⟩ ⟨"TwoDimMatcher", "isPattern", "(I)Z"⟩) ∈ lw_all := lw_g (lw_at lw_ms 1 rfl) rfl
theorem qs2 : (Cond.selects "TwoDimMatcher" ⟨"TwoDimMatcher", "fits", "(III)Z"⟩ ⟨"TwoDimMatcher", "fits", "(III)Z"⟩) ∈ lw_all := lw_g (lw_at lw_ms 2 rfl) rfl
theorem qs3 : (Cond.selects "TwoDimMatcher" ⟨"TwoDimMatcher", "search", "()V"⟩ ⟨"TwoDimMatcher", "search", "()V"⟩) ∈ lw_all := lw_g (lw_at lw_ms 3 rfl) rfl
theorem qs4 : (Cond.selects "TwoDimMatcher" ⟨"TwoDimMatcher", "buildAutomaton", "()V"⟩ ⟨"TwoDimMatcher", "buildAutomaton", "()V"⟩) ∈ lw_all := lw_g (lw_at lw_ms 4 rfl) rfl
theorem qs5 : (Cond.selects "TwoDimMatcher" ⟨"TwoDimMatcher", "addRow", "(II)V"⟩ ⟨"TwoDimMatcher", "addRow", "(II)V"⟩) ∈ lw_all := lw_g (lw_at lw_ms 5 rfl) rfl
theorem qs6 : (Cond.selects "TwoDimMatcher" ⟨"TwoDimMatcher", "linkNodes", "()V"⟩ ⟨"TwoDimMatcher", "linkNodes", "()V"⟩) ∈ lw_all := lw_g (lw_at lw_ms 6 rfl) rfl
theorem qs7 : (Cond.selects "TwoDimMatcher" ⟨"TwoDimMatcher", "inheritRow", "(III)V"⟩ ⟨"TwoDimMatcher", "inheritRow", "(III)V"⟩) ∈ lw_all := lw_g (lw_at lw_ms 7 rfl) rfl
theorem qs8 : (Cond.selects "TwoDimMatcher" ⟨"TwoDimMatcher", "buildFailure", "(I)V"⟩ ⟨"TwoDimMatcher", "buildFailure", "(I)V"⟩) ∈ lw_all := lw_g (lw_at lw_ms 8 rfl) rfl
theorem qs9 : (Cond.selects "TwoDimMatcher" ⟨"TwoDimMatcher", "searchRow", "(I)V"⟩ ⟨"TwoDimMatcher", "searchRow", "(I)V"⟩) ∈ lw_all := lw_g (lw_at lw_ms 9 rfl) rfl
theorem qs10 : (Cond.selects "TwoDimMatcher" ⟨"TwoDimMatcher", "advance", "(IIII)V"⟩ ⟨"TwoDimMatcher", "advance", "(IIII)V"⟩) ∈ lw_all := lw_g (lw_at lw_ms 10 rfl) rfl
theorem qs11 : (Cond.selects "TwoDimMatcher" ⟨"TwoDimMatcher", "bitsIn", "(I)I"⟩ ⟨"TwoDimMatcher", "bitsIn", "(I)I"⟩) ∈ lw_all := lw_g (lw_at lw_ms 11 rfl) rfl
theorem qs12 : (Cond.selects "TwoDimMatcher" ⟨"TwoDimMatcher", "coveredInRow", "(II)I"⟩ ⟨"TwoDimMatcher", "coveredInRow", "(II)I"⟩) ∈ lw_all := lw_g (lw_at lw_ms 12 rfl) rfl
theorem qs13 : (Cond.selects "TwoDimMatcher" ⟨"TwoDimMatcher", "meetings", "(III)I"⟩ ⟨"TwoDimMatcher", "meetings", "(III)I"⟩) ∈ lw_all := lw_g (lw_at lw_ms 13 rfl) rfl
theorem qs14 : (Cond.selects "TwoDimMatcherModel" ⟨"TwoDimMatcherModel", "inText", "(II)Z"⟩ ⟨"TwoDimMatcherModel", "inText", "(II)Z"⟩) ∈ lw_all := lw_g (lw_at lw_ms 14 rfl) rfl
theorem qs15 : (Cond.selects "TwoDimMatcherModel" ⟨"TwoDimMatcherModel", "isLetter", "(I)Z"⟩ ⟨"TwoDimMatcherModel", "isLetter", "(I)Z"⟩) ∈ lw_all := lw_g (lw_at lw_ms 15 rfl) rfl
theorem qs16 : (Cond.selects "TwoDimMatcherModel" ⟨"TwoDimMatcherModel", "isPattern", "(I)Z"⟩ ⟨"TwoDimMatcherModel", "isPattern", "(I)Z"⟩) ∈ lw_all := lw_g (lw_at lw_ms 16 rfl) rfl
theorem qs17 : (Cond.selects "TwoDimMatcherModel" ⟨"TwoDimMatcherModel", "fits", "(III)Z"⟩ ⟨"TwoDimMatcherModel", "fits", "(III)Z"⟩) ∈ lw_all := lw_g (lw_at lw_ms 17 rfl) rfl
theorem qs18 : (Cond.selects "TwoDimMatcherModel" ⟨"TwoDimMatcherModel", "coveredBy", "(III)Z"⟩ ⟨"TwoDimMatcherModel", "coveredBy", "(III)Z"⟩) ∈ lw_all := lw_g (lw_at lw_ms 18 rfl) rfl
end
section
set_option maxRecDepth 100000
/-! TwoDimMatcherLaw -/
def RX0 : String := "TwoDimMatcherLaw"
abbrev cX0_cell : ByteArray := method_2_code
def yX0_cell : MethodName := ⟨RX0, "cell", "([II)I"⟩
theorem q19 : (Jvm.Cond.initialized "TwoDimMatcherLaw") ∈ lw_all := lw_g (lw_at lw_m1 0 rfl) rfl
theorem q22 : (Jvm.Cond.classLink "TwoDimMatcherLaw" (7 : Nat) "TwoDimMatcher") ∈ lw_all := lw_g (lw_at lw_m1 3 rfl) rfl
theorem q24 : (Jvm.Cond.methodLink "TwoDimMatcherLaw" (15 : Nat) ({ cls := "TwoDimMatcher", name := "<init>", desc := "(II)V" } : Jvm.MethodName)) ∈ lw_all := lw_g (lw_at lw_m1 5 rfl) rfl
theorem q81 : (Jvm.Cond.methodLink "TwoDimMatcherLaw" (21 : Nat) ({ cls := "TwoDimMatcher", name := "write", desc := "(III)Z" } : Jvm.MethodName)) ∈ lw_all := lw_g (lw_at lw_m1 62 rfl) rfl
theorem q89 : (Jvm.Cond.methodLink "TwoDimMatcherLaw" (26 : Nat) ({ cls := "TwoDimMatcher", name := "shape", desc := "(III)Z" } : Jvm.MethodName)) ∈ lw_all := lw_g (lw_at lw_m1 70 rfl) rfl
theorem q97 : (Jvm.Cond.methodLink "TwoDimMatcherLaw" (30 : Nat) ({ cls := "TwoDimMatcher", name := "paint", desc := "(IIII)Z" } : Jvm.MethodName)) ∈ lw_all := lw_g (lw_at lw_m1 78 rfl) rfl
theorem q101 : (Jvm.Cond.methodLink "TwoDimMatcherLaw" (35 : Nat) ({ cls := "TwoDimMatcher", name := "copy", desc := "(III)Z" } : Jvm.MethodName)) ∈ lw_all := lw_g (lw_at lw_m1 82 rfl) rfl
theorem q109 : (Jvm.Cond.methodLink "TwoDimMatcherLaw" (39 : Nat) ({ cls := "TwoDimMatcher", name := "stamp", desc := "(III)Z" } : Jvm.MethodName)) ∈ lw_all := lw_g (lw_at lw_m1 90 rfl) rfl
theorem q113 : (Jvm.Cond.methodLink "TwoDimMatcherLaw" (43 : Nat) ({ cls := "TwoDimMatcher", name := "letter", desc := "(II)I" } : Jvm.MethodName)) ∈ lw_all := lw_g (lw_at lw_m1 94 rfl) rfl
theorem q117 : (Jvm.Cond.methodLink "TwoDimMatcherLaw" (48 : Nat) ({ cls := "TwoDimMatcher", name := "occurrences", desc := "(I)I" } : Jvm.MethodName)) ∈ lw_all := lw_g (lw_at lw_m1 98 rfl) rfl
theorem q157 : (Jvm.Cond.methodLink "TwoDimMatcherLaw" (53 : Nat) ({ cls := "TwoDimMatcher", name := "occurs", desc := "(III)Z" } : Jvm.MethodName)) ∈ lw_all := lw_g (lw_at lw_m1 138 rfl) rfl
theorem q161 : (Jvm.Cond.methodLink "TwoDimMatcherLaw" (57 : Nat) ({ cls := "TwoDimMatcher", name := "next", desc := "(II)I" } : Jvm.MethodName)) ∈ lw_all := lw_g (lw_at lw_m1 142 rfl) rfl
theorem q165 : (Jvm.Cond.methodLink "TwoDimMatcherLaw" (61 : Nat) ({ cls := "TwoDimMatcher", name := "covered", desc := "()I" } : Jvm.MethodName)) ∈ lw_all := lw_g (lw_at lw_m1 146 rfl) rfl
theorem q173 : (Jvm.Cond.methodLink "TwoDimMatcherLaw" (66 : Nat) ({ cls := "TwoDimMatcher", name := "overlaps", desc := "(I)I" } : Jvm.MethodName)) ∈ lw_all := lw_g (lw_at lw_m1 154 rfl) rfl
theorem q181 : (Jvm.Cond.methodLink "TwoDimMatcherLaw" (9 : Nat) ({ cls := "TwoDimMatcherLaw", name := "cell", desc := "([II)I" } : Jvm.MethodName)) ∈ lw_all := lw_g (lw_at lw_m1 162 rfl) rfl
theorem q182 : (Jvm.Cond.static ({ cls := "TwoDimMatcherLaw", name := "cell", desc := "([II)I" } : Jvm.MethodName)) ∈ lw_all := lw_g (lw_at lw_m1 163 rfl) rfl
theorem q183 : (Jvm.Cond.code ({ cls := "TwoDimMatcherLaw", name := "cell", desc := "([II)I" } : Jvm.MethodName) method_2_code (2 : Nat) (Option.some Jvm.ClassFile.FieldType.int)) ∈ lw_all := lw_g (lw_at lw_m1 164 rfl) rfl
theorem q184 : (Jvm.Cond.classLink "TwoDimMatcherLaw" (18 : Nat) "TwoDimMatcherModel") ∈ lw_all := lw_g (lw_at lw_m1 165 rfl) rfl
theorem q186 : (Jvm.Cond.methodLink "TwoDimMatcherLaw" (20 : Nat) ({ cls := "TwoDimMatcherModel", name := "<init>", desc := "(II)V" } : Jvm.MethodName)) ∈ lw_all := lw_g (lw_at lw_m1 167 rfl) rfl
theorem q209 : (Jvm.Cond.methodLink "TwoDimMatcherLaw" (25 : Nat) ({ cls := "TwoDimMatcherModel", name := "write", desc := "(III)Z" } : Jvm.MethodName)) ∈ lw_all := lw_g (lw_at lw_m1 190 rfl) rfl
theorem q221 : (Jvm.Cond.methodLink "TwoDimMatcherLaw" (29 : Nat) ({ cls := "TwoDimMatcherModel", name := "shape", desc := "(III)Z" } : Jvm.MethodName)) ∈ lw_all := lw_g (lw_at lw_m1 202 rfl) rfl
theorem q229 : (Jvm.Cond.methodLink "TwoDimMatcherLaw" (34 : Nat) ({ cls := "TwoDimMatcherModel", name := "paint", desc := "(IIII)Z" } : Jvm.MethodName)) ∈ lw_all := lw_g (lw_at lw_m1 210 rfl) rfl
theorem q233 : (Jvm.Cond.methodLink "TwoDimMatcherLaw" (38 : Nat) ({ cls := "TwoDimMatcherModel", name := "copy", desc := "(III)Z" } : Jvm.MethodName)) ∈ lw_all := lw_g (lw_at lw_m1 214 rfl) rfl
theorem q241 : (Jvm.Cond.methodLink "TwoDimMatcherLaw" (42 : Nat) ({ cls := "TwoDimMatcherModel", name := "stamp", desc := "(III)Z" } : Jvm.MethodName)) ∈ lw_all := lw_g (lw_at lw_m1 222 rfl) rfl
theorem q245 : (Jvm.Cond.methodLink "TwoDimMatcherLaw" (47 : Nat) ({ cls := "TwoDimMatcherModel", name := "letter", desc := "(II)I" } : Jvm.MethodName)) ∈ lw_all := lw_g (lw_at lw_m1 226 rfl) rfl
theorem q249 : (Jvm.Cond.methodLink "TwoDimMatcherLaw" (52 : Nat) ({ cls := "TwoDimMatcherModel", name := "occurrences", desc := "(I)I" } : Jvm.MethodName)) ∈ lw_all := lw_g (lw_at lw_m1 230 rfl) rfl
theorem q257 : (Jvm.Cond.methodLink "TwoDimMatcherLaw" (56 : Nat) ({ cls := "TwoDimMatcherModel", name := "occurs", desc := "(III)Z" } : Jvm.MethodName)) ∈ lw_all := lw_g (lw_at lw_m1 238 rfl) rfl
theorem q258 : (Jvm.Cond.methodLink "TwoDimMatcherLaw" (60 : Nat) ({ cls := "TwoDimMatcherModel", name := "next", desc := "(II)I" } : Jvm.MethodName)) ∈ lw_all := lw_g (lw_at lw_m1 239 rfl) rfl
theorem q262 : (Jvm.Cond.methodLink "TwoDimMatcherLaw" (65 : Nat) ({ cls := "TwoDimMatcherModel", name := "covered", desc := "()I" } : Jvm.MethodName)) ∈ lw_all := lw_g (lw_at lw_m2 3 rfl) rfl
theorem q270 : (Jvm.Cond.methodLink "TwoDimMatcherLaw" (69 : Nat) ({ cls := "TwoDimMatcherModel", name := "overlaps", desc := "(I)I" } : Jvm.MethodName)) ∈ lw_all := lw_g (lw_at lw_m2 11 rfl) rfl
/-! java/lang/Object -/
def RJ0 : String := "java/lang/Object"
abbrev cJ0_init : ByteArray := object_method_1_code
def yJ0_init : MethodName := ⟨RJ0, "<init>", "()V"⟩
theorem q28 : (Jvm.Cond.instanceMethod ({ cls := "java/lang/Object", name := "<init>", desc := "()V" } : Jvm.MethodName)) ∈ lw_all := lw_g (lw_at lw_m1 9 rfl) rfl
theorem q29 : (Jvm.Cond.code ({ cls := "java/lang/Object", name := "<init>", desc := "()V" } : Jvm.MethodName) object_method_1_code (1 : Nat) (Option.none : Option Jvm.ClassFile.FieldType)) ∈ lw_all := lw_g (lw_at lw_m1 10 rfl) rfl
/-! TwoDimMatcher -/
def RX1 : String := "TwoDimMatcher"
def TX1 : u_T := fun k => match k with
  | 0 => ("TwoDimMatcher", "width", "I", false)
  | 1 => ("TwoDimMatcher", "height", "I", false)
  | 2 => ("TwoDimMatcher", "text", "[B", true)
  | 3 => ("TwoDimMatcher", "patternWidth", "[B", true)
  | 4 => ("TwoDimMatcher", "patternHeight", "[B", true)
  | 5 => ("TwoDimMatcher", "pattern", "[B", true)
  | 6 => ("TwoDimMatcher", "nodeCount", "I", false)
  | 7 => ("TwoDimMatcher", "branch", "[B", true)
  | 8 => ("TwoDimMatcher", "fallback", "[B", true)
  | 9 => ("TwoDimMatcher", "nodeQueue", "[B", true)
  | 10 => ("TwoDimMatcher", "rowEnding", "[B", true)
  | 11 => ("TwoDimMatcher", "rowNumber", "[B", true)
  | 12 => ("TwoDimMatcher", "failure", "[B", true)
  | 13 => ("TwoDimMatcher", "searched", "Z", false)
  | 14 => ("TwoDimMatcher", "found", "[I", true)
  | _ => ("TwoDimMatcher", "progress", "[B", true)
def tyX1 : Nat → FieldType := fun k => match k with
  | 0 => .int
  | 1 => .int
  | 2 => .array .byte
  | 3 => .array .byte
  | 4 => .array .byte
  | 5 => .array .byte
  | 6 => .int
  | 7 => .array .byte
  | 8 => .array .byte
  | 9 => .array .byte
  | 10 => .array .byte
  | 11 => .array .byte
  | 12 => .array .byte
  | 13 => .boolean
  | 14 => .array .int
  | _ => .array .byte
abbrev wsX10 : List Cond := u_ws RX1 TX1 16
set_option maxRecDepth 100000 in
theorem nmX1 : ∀ a, a < 16 → ∀ b, b < 16 → a ≠ b → (TX1 a).2.1 ≠ (TX1 b).2.1 := by decide +kernel
set_option maxRecDepth 100000 in
theorem tyX1_ok : ∀ k, k < 16 → parseFieldDescriptor (TX1 k).2.2.1 = some (tyX1 k) := by decide +kernel
abbrev cX1_init : ByteArray := prog_1_method_1_code
def yX1_init : MethodName := ⟨RX1, "<init>", "(II)V"⟩
abbrev cX1_write : ByteArray := prog_1_method_2_code
def yX1_write : MethodName := ⟨RX1, "write", "(III)Z"⟩
abbrev cX1_inText : ByteArray := prog_1_method_8_code
def yX1_inText : MethodName := ⟨RX1, "inText", "(II)Z"⟩
abbrev cX1_shape : ByteArray := prog_1_method_3_code
def yX1_shape : MethodName := ⟨RX1, "shape", "(III)Z"⟩
abbrev cX1_isPattern : ByteArray := prog_1_method_7_code
def yX1_isPattern : MethodName := ⟨RX1, "isPattern", "(I)Z"⟩
abbrev cX1_paint : ByteArray := prog_1_method_4_code
def yX1_paint : MethodName := ⟨RX1, "paint", "(IIII)Z"⟩
abbrev cX1_copy : ByteArray := prog_1_method_5_code
def yX1_copy : MethodName := ⟨RX1, "copy", "(III)Z"⟩
abbrev cX1_fits : ByteArray := prog_1_method_9_code
def yX1_fits : MethodName := ⟨RX1, "fits", "(III)Z"⟩
abbrev cX1_stamp : ByteArray := prog_1_method_6_code
def yX1_stamp : MethodName := ⟨RX1, "stamp", "(III)Z"⟩
abbrev cX1_letter : ByteArray := prog_1_method_10_code
def yX1_letter : MethodName := ⟨RX1, "letter", "(II)I"⟩
abbrev cX1_occurrences : ByteArray := prog_1_method_11_code
def yX1_occurrences : MethodName := ⟨RX1, "occurrences", "(I)I"⟩
abbrev cX1_search : ByteArray := prog_1_method_24_code
def yX1_search : MethodName := ⟨RX1, "search", "()V"⟩
abbrev cX1_buildAutomaton : ByteArray := prog_1_method_20_code
def yX1_buildAutomaton : MethodName := ⟨RX1, "buildAutomaton", "()V"⟩
abbrev cX1_addRow : ByteArray := prog_1_method_19_code
def yX1_addRow : MethodName := ⟨RX1, "addRow", "(II)V"⟩
abbrev cX1_linkNodes : ByteArray := prog_1_method_21_code
def yX1_linkNodes : MethodName := ⟨RX1, "linkNodes", "()V"⟩
abbrev cX1_inheritRow : ByteArray := prog_1_method_22_code
def yX1_inheritRow : MethodName := ⟨RX1, "inheritRow", "(III)V"⟩
abbrev cX1_buildFailure : ByteArray := prog_1_method_23_code
def yX1_buildFailure : MethodName := ⟨RX1, "buildFailure", "(I)V"⟩
abbrev cX1_searchRow : ByteArray := prog_1_method_25_code
def yX1_searchRow : MethodName := ⟨RX1, "searchRow", "(I)V"⟩
abbrev cX1_advance : ByteArray := prog_1_method_26_code
def yX1_advance : MethodName := ⟨RX1, "advance", "(IIII)V"⟩
abbrev cX1_bitsIn : ByteArray := prog_1_method_16_code
def yX1_bitsIn : MethodName := ⟨RX1, "bitsIn", "(I)I"⟩
abbrev cX1_occurs : ByteArray := prog_1_method_12_code
def yX1_occurs : MethodName := ⟨RX1, "occurs", "(III)Z"⟩
abbrev cX1_next : ByteArray := prog_1_method_13_code
def yX1_next : MethodName := ⟨RX1, "next", "(II)I"⟩
abbrev cX1_covered : ByteArray := prog_1_method_14_code
def yX1_covered : MethodName := ⟨RX1, "covered", "()I"⟩
abbrev cX1_coveredInRow : ByteArray := prog_1_method_17_code
def yX1_coveredInRow : MethodName := ⟨RX1, "coveredInRow", "(II)I"⟩
abbrev cX1_overlaps : ByteArray := prog_1_method_15_code
def yX1_overlaps : MethodName := ⟨RX1, "overlaps", "(I)I"⟩
abbrev cX1_meetings : ByteArray := prog_1_method_18_code
def yX1_meetings : MethodName := ⟨RX1, "meetings", "(III)I"⟩
theorem q20 : (Jvm.Cond.initialized "TwoDimMatcher") ∈ lw_all := lw_g (lw_at lw_m1 1 rfl) rfl
theorem q23 : (Jvm.Cond.instantiable "TwoDimMatcher" (16 : Nat)) ∈ lw_all := lw_g (lw_at lw_m1 4 rfl) rfl
theorem q25 : (Jvm.Cond.instanceMethod ({ cls := "TwoDimMatcher", name := "<init>", desc := "(II)V" } : Jvm.MethodName)) ∈ lw_all := lw_g (lw_at lw_m1 6 rfl) rfl
theorem q26 : (Jvm.Cond.code ({ cls := "TwoDimMatcher", name := "<init>", desc := "(II)V" } : Jvm.MethodName) prog_1_method_1_code (4 : Nat) (Option.none : Option Jvm.ClassFile.FieldType)) ∈ lw_all := lw_g (lw_at lw_m1 7 rfl) rfl
theorem q27 : (Jvm.Cond.methodLink "TwoDimMatcher" (1 : Nat) ({ cls := "java/lang/Object", name := "<init>", desc := "()V" } : Jvm.MethodName)) ∈ lw_all := lw_g (lw_at lw_m1 8 rfl) rfl
theorem q30 : (Jvm.Cond.fieldLink "TwoDimMatcher" (47 : Nat) "TwoDimMatcher" "width" "I") ∈ lw_all := lw_g (lw_at lw_m1 11 rfl) rfl
theorem q31 : (Jvm.Cond.fieldLink "TwoDimMatcher" (51 : Nat) "TwoDimMatcher" "height" "I") ∈ lw_all := lw_g (lw_at lw_m1 12 rfl) rfl
theorem q32 : (Jvm.Cond.fieldLink "TwoDimMatcher" (7 : Nat) "TwoDimMatcher" "text" "[B") ∈ lw_all := lw_g (lw_at lw_m1 13 rfl) rfl
theorem q33 : (Jvm.Cond.fieldLink "TwoDimMatcher" (13 : Nat) "TwoDimMatcher" "patternWidth" "[B") ∈ lw_all := lw_g (lw_at lw_m1 14 rfl) rfl
theorem q34 : (Jvm.Cond.fieldLink "TwoDimMatcher" (16 : Nat) "TwoDimMatcher" "patternHeight" "[B") ∈ lw_all := lw_g (lw_at lw_m1 15 rfl) rfl
theorem q35 : (Jvm.Cond.fieldLink "TwoDimMatcher" (19 : Nat) "TwoDimMatcher" "pattern" "[B") ∈ lw_all := lw_g (lw_at lw_m1 16 rfl) rfl
theorem q36 : (Jvm.Cond.fieldLink "TwoDimMatcher" (85 : Nat) "TwoDimMatcher" "nodeCount" "I") ∈ lw_all := lw_g (lw_at lw_m1 17 rfl) rfl
theorem q37 : (Jvm.Cond.fieldLink "TwoDimMatcher" (22 : Nat) "TwoDimMatcher" "branch" "[B") ∈ lw_all := lw_g (lw_at lw_m1 18 rfl) rfl
theorem q38 : (Jvm.Cond.fieldLink "TwoDimMatcher" (25 : Nat) "TwoDimMatcher" "fallback" "[B") ∈ lw_all := lw_g (lw_at lw_m1 19 rfl) rfl
theorem q39 : (Jvm.Cond.fieldLink "TwoDimMatcher" (28 : Nat) "TwoDimMatcher" "nodeQueue" "[B") ∈ lw_all := lw_g (lw_at lw_m1 20 rfl) rfl
theorem q40 : (Jvm.Cond.fieldLink "TwoDimMatcher" (31 : Nat) "TwoDimMatcher" "rowEnding" "[B") ∈ lw_all := lw_g (lw_at lw_m1 21 rfl) rfl
theorem q41 : (Jvm.Cond.fieldLink "TwoDimMatcher" (34 : Nat) "TwoDimMatcher" "rowNumber" "[B") ∈ lw_all := lw_g (lw_at lw_m1 22 rfl) rfl
theorem q42 : (Jvm.Cond.fieldLink "TwoDimMatcher" (37 : Nat) "TwoDimMatcher" "failure" "[B") ∈ lw_all := lw_g (lw_at lw_m1 23 rfl) rfl
theorem q43 : (Jvm.Cond.fieldLink "TwoDimMatcher" (58 : Nat) "TwoDimMatcher" "searched" "Z") ∈ lw_all := lw_g (lw_at lw_m1 24 rfl) rfl
theorem q44 : (Jvm.Cond.fieldLink "TwoDimMatcher" (40 : Nat) "TwoDimMatcher" "found" "[I") ∈ lw_all := lw_g (lw_at lw_m1 25 rfl) rfl
theorem q45 : (Jvm.Cond.fieldLink "TwoDimMatcher" (44 : Nat) "TwoDimMatcher" "progress" "[B") ∈ lw_all := lw_g (lw_at lw_m1 26 rfl) rfl
theorem q46 : (Jvm.Cond.lays "TwoDimMatcher" "TwoDimMatcher" "width" "I") ∈ lw_all := lw_g (lw_at lw_m1 27 rfl) rfl
theorem q47 : (Jvm.Cond.soleField "TwoDimMatcher" "width") ∈ lw_all := lw_g (lw_at lw_m1 28 rfl) rfl
theorem q48 : (Jvm.Cond.lays "TwoDimMatcher" "TwoDimMatcher" "height" "I") ∈ lw_all := lw_g (lw_at lw_m1 29 rfl) rfl
theorem q49 : (Jvm.Cond.soleField "TwoDimMatcher" "height") ∈ lw_all := lw_g (lw_at lw_m1 30 rfl) rfl
theorem q50 : (Jvm.Cond.laysFinal "TwoDimMatcher" "TwoDimMatcher" "text" "[B") ∈ lw_all := lw_g (lw_at lw_m1 31 rfl) rfl
theorem q51 : (Jvm.Cond.soleField "TwoDimMatcher" "text") ∈ lw_all := lw_g (lw_at lw_m1 32 rfl) rfl
theorem q52 : (Jvm.Cond.laysFinal "TwoDimMatcher" "TwoDimMatcher" "patternWidth" "[B") ∈ lw_all := lw_g (lw_at lw_m1 33 rfl) rfl
theorem q53 : (Jvm.Cond.soleField "TwoDimMatcher" "patternWidth") ∈ lw_all := lw_g (lw_at lw_m1 34 rfl) rfl
theorem q54 : (Jvm.Cond.laysFinal "TwoDimMatcher" "TwoDimMatcher" "patternHeight" "[B") ∈ lw_all := lw_g (lw_at lw_m1 35 rfl) rfl
theorem q55 : (Jvm.Cond.soleField "TwoDimMatcher" "patternHeight") ∈ lw_all := lw_g (lw_at lw_m1 36 rfl) rfl
theorem q56 : (Jvm.Cond.laysFinal "TwoDimMatcher" "TwoDimMatcher" "pattern" "[B") ∈ lw_all := lw_g (lw_at lw_m1 37 rfl) rfl
theorem q57 : (Jvm.Cond.soleField "TwoDimMatcher" "pattern") ∈ lw_all := lw_g (lw_at lw_m1 38 rfl) rfl
theorem q58 : (Jvm.Cond.lays "TwoDimMatcher" "TwoDimMatcher" "nodeCount" "I") ∈ lw_all := lw_g (lw_at lw_m1 39 rfl) rfl
theorem q59 : (Jvm.Cond.soleField "TwoDimMatcher" "nodeCount") ∈ lw_all := lw_g (lw_at lw_m1 40 rfl) rfl
theorem q60 : (Jvm.Cond.laysFinal "TwoDimMatcher" "TwoDimMatcher" "branch" "[B") ∈ lw_all := lw_g (lw_at lw_m1 41 rfl) rfl
theorem q61 : (Jvm.Cond.soleField "TwoDimMatcher" "branch") ∈ lw_all := lw_g (lw_at lw_m1 42 rfl) rfl
theorem q62 : (Jvm.Cond.laysFinal "TwoDimMatcher" "TwoDimMatcher" "fallback" "[B") ∈ lw_all := lw_g (lw_at lw_m1 43 rfl) rfl
theorem q63 : (Jvm.Cond.soleField "TwoDimMatcher" "fallback") ∈ lw_all := lw_g (lw_at lw_m1 44 rfl) rfl
theorem q64 : (Jvm.Cond.laysFinal "TwoDimMatcher" "TwoDimMatcher" "nodeQueue" "[B") ∈ lw_all := lw_g (lw_at lw_m1 45 rfl) rfl
theorem q65 : (Jvm.Cond.soleField "TwoDimMatcher" "nodeQueue") ∈ lw_all := lw_g (lw_at lw_m1 46 rfl) rfl
theorem q66 : (Jvm.Cond.laysFinal "TwoDimMatcher" "TwoDimMatcher" "rowEnding" "[B") ∈ lw_all := lw_g (lw_at lw_m1 47 rfl) rfl
theorem q67 : (Jvm.Cond.soleField "TwoDimMatcher" "rowEnding") ∈ lw_all := lw_g (lw_at lw_m1 48 rfl) rfl
theorem q68 : (Jvm.Cond.laysFinal "TwoDimMatcher" "TwoDimMatcher" "rowNumber" "[B") ∈ lw_all := lw_g (lw_at lw_m1 49 rfl) rfl
theorem q69 : (Jvm.Cond.soleField "TwoDimMatcher" "rowNumber") ∈ lw_all := lw_g (lw_at lw_m1 50 rfl) rfl
theorem q70 : (Jvm.Cond.laysFinal "TwoDimMatcher" "TwoDimMatcher" "failure" "[B") ∈ lw_all := lw_g (lw_at lw_m1 51 rfl) rfl
theorem q71 : (Jvm.Cond.soleField "TwoDimMatcher" "failure") ∈ lw_all := lw_g (lw_at lw_m1 52 rfl) rfl
theorem q72 : (Jvm.Cond.lays "TwoDimMatcher" "TwoDimMatcher" "searched" "Z") ∈ lw_all := lw_g (lw_at lw_m1 53 rfl) rfl
theorem q73 : (Jvm.Cond.soleField "TwoDimMatcher" "searched") ∈ lw_all := lw_g (lw_at lw_m1 54 rfl) rfl
theorem q74 : (Jvm.Cond.laysFinal "TwoDimMatcher" "TwoDimMatcher" "found" "[I") ∈ lw_all := lw_g (lw_at lw_m1 55 rfl) rfl
theorem q75 : (Jvm.Cond.soleField "TwoDimMatcher" "found") ∈ lw_all := lw_g (lw_at lw_m1 56 rfl) rfl
theorem q76 : (Jvm.Cond.laysFinal "TwoDimMatcher" "TwoDimMatcher" "progress" "[B") ∈ lw_all := lw_g (lw_at lw_m1 57 rfl) rfl
theorem q77 : (Jvm.Cond.soleField "TwoDimMatcher" "progress") ∈ lw_all := lw_g (lw_at lw_m1 58 rfl) rfl
theorem q78 : (Jvm.Cond.superclass "TwoDimMatcher" "java/lang/Object") ∈ lw_all := lw_g (lw_at lw_m1 59 rfl) rfl
theorem q82 : (Jvm.Cond.instanceMethod ({ cls := "TwoDimMatcher", name := "write", desc := "(III)Z" } : Jvm.MethodName)) ∈ lw_all := lw_g (lw_at lw_m1 63 rfl) rfl
theorem q83 : (Jvm.Cond.selects "TwoDimMatcher" ({ cls := "TwoDimMatcher", name := "write", desc := "(III)Z" } : Jvm.MethodName) ({ cls := "TwoDimMatcher", name := "write", desc := "(III)Z" } : Jvm.MethodName)) ∈ lw_all := lw_g (lw_at lw_m1 64 rfl) rfl
theorem q84 : (Jvm.Cond.code ({ cls := "TwoDimMatcher", name := "write", desc := "(III)Z" } : Jvm.MethodName) prog_1_method_2_code (4 : Nat) (Option.some Jvm.ClassFile.FieldType.boolean)) ∈ lw_all := lw_g (lw_at lw_m1 65 rfl) rfl
theorem q85 : (Jvm.Cond.methodLink "TwoDimMatcher" (54 : Nat) ({ cls := "TwoDimMatcher", name := "inText", desc := "(II)Z" } : Jvm.MethodName)) ∈ lw_all := lw_g (lw_at lw_m1 66 rfl) rfl
theorem q86 : (Jvm.Cond.privateMethod ({ cls := "TwoDimMatcher", name := "inText", desc := "(II)Z" } : Jvm.MethodName)) ∈ lw_tbl := lw_at lw_m1 67 rfl
theorem q87 : (Jvm.Cond.instanceMethod ({ cls := "TwoDimMatcher", name := "inText", desc := "(II)Z" } : Jvm.MethodName)) ∈ lw_all := lw_g (lw_at lw_m1 68 rfl) rfl
theorem q88 : (Jvm.Cond.code ({ cls := "TwoDimMatcher", name := "inText", desc := "(II)Z" } : Jvm.MethodName) prog_1_method_8_code (3 : Nat) (Option.some Jvm.ClassFile.FieldType.boolean)) ∈ lw_all := lw_g (lw_at lw_m1 69 rfl) rfl
theorem q90 : (Jvm.Cond.instanceMethod ({ cls := "TwoDimMatcher", name := "shape", desc := "(III)Z" } : Jvm.MethodName)) ∈ lw_all := lw_g (lw_at lw_m1 71 rfl) rfl
theorem q91 : (Jvm.Cond.selects "TwoDimMatcher" ({ cls := "TwoDimMatcher", name := "shape", desc := "(III)Z" } : Jvm.MethodName) ({ cls := "TwoDimMatcher", name := "shape", desc := "(III)Z" } : Jvm.MethodName)) ∈ lw_all := lw_g (lw_at lw_m1 72 rfl) rfl
theorem q92 : (Jvm.Cond.code ({ cls := "TwoDimMatcher", name := "shape", desc := "(III)Z" } : Jvm.MethodName) prog_1_method_3_code (5 : Nat) (Option.some Jvm.ClassFile.FieldType.boolean)) ∈ lw_all := lw_g (lw_at lw_m1 73 rfl) rfl
theorem q93 : (Jvm.Cond.methodLink "TwoDimMatcher" (62 : Nat) ({ cls := "TwoDimMatcher", name := "isPattern", desc := "(I)Z" } : Jvm.MethodName)) ∈ lw_all := lw_g (lw_at lw_m1 74 rfl) rfl
theorem q94 : (Jvm.Cond.privateMethod ({ cls := "TwoDimMatcher", name := "isPattern", desc := "(I)Z" } : Jvm.MethodName)) ∈ lw_tbl := lw_at lw_m1 75 rfl
theorem q95 : (Jvm.Cond.instanceMethod ({ cls := "TwoDimMatcher", name := "isPattern", desc := "(I)Z" } : Jvm.MethodName)) ∈ lw_all := lw_g (lw_at lw_m1 76 rfl) rfl
theorem q96 : (Jvm.Cond.code ({ cls := "TwoDimMatcher", name := "isPattern", desc := "(I)Z" } : Jvm.MethodName) prog_1_method_7_code (2 : Nat) (Option.some Jvm.ClassFile.FieldType.boolean)) ∈ lw_all := lw_g (lw_at lw_m1 77 rfl) rfl
theorem q98 : (Jvm.Cond.instanceMethod ({ cls := "TwoDimMatcher", name := "paint", desc := "(IIII)Z" } : Jvm.MethodName)) ∈ lw_all := lw_g (lw_at lw_m1 79 rfl) rfl
theorem q99 : (Jvm.Cond.selects "TwoDimMatcher" ({ cls := "TwoDimMatcher", name := "paint", desc := "(IIII)Z" } : Jvm.MethodName) ({ cls := "TwoDimMatcher", name := "paint", desc := "(IIII)Z" } : Jvm.MethodName)) ∈ lw_all := lw_g (lw_at lw_m1 80 rfl) rfl
theorem q100 : (Jvm.Cond.code ({ cls := "TwoDimMatcher", name := "paint", desc := "(IIII)Z" } : Jvm.MethodName) prog_1_method_4_code (5 : Nat) (Option.some Jvm.ClassFile.FieldType.boolean)) ∈ lw_all := lw_g (lw_at lw_m1 81 rfl) rfl
theorem q102 : (Jvm.Cond.instanceMethod ({ cls := "TwoDimMatcher", name := "copy", desc := "(III)Z" } : Jvm.MethodName)) ∈ lw_all := lw_g (lw_at lw_m1 83 rfl) rfl
theorem q103 : (Jvm.Cond.selects "TwoDimMatcher" ({ cls := "TwoDimMatcher", name := "copy", desc := "(III)Z" } : Jvm.MethodName) ({ cls := "TwoDimMatcher", name := "copy", desc := "(III)Z" } : Jvm.MethodName)) ∈ lw_all := lw_g (lw_at lw_m1 84 rfl) rfl
theorem q104 : (Jvm.Cond.code ({ cls := "TwoDimMatcher", name := "copy", desc := "(III)Z" } : Jvm.MethodName) prog_1_method_5_code (6 : Nat) (Option.some Jvm.ClassFile.FieldType.boolean)) ∈ lw_all := lw_g (lw_at lw_m1 85 rfl) rfl
theorem q105 : (Jvm.Cond.methodLink "TwoDimMatcher" (66 : Nat) ({ cls := "TwoDimMatcher", name := "fits", desc := "(III)Z" } : Jvm.MethodName)) ∈ lw_all := lw_g (lw_at lw_m1 86 rfl) rfl
theorem q106 : (Jvm.Cond.privateMethod ({ cls := "TwoDimMatcher", name := "fits", desc := "(III)Z" } : Jvm.MethodName)) ∈ lw_tbl := lw_at lw_m1 87 rfl
theorem q107 : (Jvm.Cond.instanceMethod ({ cls := "TwoDimMatcher", name := "fits", desc := "(III)Z" } : Jvm.MethodName)) ∈ lw_all := lw_g (lw_at lw_m1 88 rfl) rfl
theorem q108 : (Jvm.Cond.code ({ cls := "TwoDimMatcher", name := "fits", desc := "(III)Z" } : Jvm.MethodName) prog_1_method_9_code (4 : Nat) (Option.some Jvm.ClassFile.FieldType.boolean)) ∈ lw_all := lw_g (lw_at lw_m1 89 rfl) rfl
theorem q110 : (Jvm.Cond.instanceMethod ({ cls := "TwoDimMatcher", name := "stamp", desc := "(III)Z" } : Jvm.MethodName)) ∈ lw_all := lw_g (lw_at lw_m1 91 rfl) rfl
theorem q111 : (Jvm.Cond.selects "TwoDimMatcher" ({ cls := "TwoDimMatcher", name := "stamp", desc := "(III)Z" } : Jvm.MethodName) ({ cls := "TwoDimMatcher", name := "stamp", desc := "(III)Z" } : Jvm.MethodName)) ∈ lw_all := lw_g (lw_at lw_m1 92 rfl) rfl
theorem q112 : (Jvm.Cond.code ({ cls := "TwoDimMatcher", name := "stamp", desc := "(III)Z" } : Jvm.MethodName) prog_1_method_6_code (6 : Nat) (Option.some Jvm.ClassFile.FieldType.boolean)) ∈ lw_all := lw_g (lw_at lw_m1 93 rfl) rfl
theorem q114 : (Jvm.Cond.instanceMethod ({ cls := "TwoDimMatcher", name := "letter", desc := "(II)I" } : Jvm.MethodName)) ∈ lw_all := lw_g (lw_at lw_m1 95 rfl) rfl
theorem q115 : (Jvm.Cond.selects "TwoDimMatcher" ({ cls := "TwoDimMatcher", name := "letter", desc := "(II)I" } : Jvm.MethodName) ({ cls := "TwoDimMatcher", name := "letter", desc := "(II)I" } : Jvm.MethodName)) ∈ lw_all := lw_g (lw_at lw_m1 96 rfl) rfl
theorem q116 : (Jvm.Cond.code ({ cls := "TwoDimMatcher", name := "letter", desc := "(II)I" } : Jvm.MethodName) prog_1_method_10_code (3 : Nat) (Option.some Jvm.ClassFile.FieldType.int)) ∈ lw_all := lw_g (lw_at lw_m1 97 rfl) rfl
theorem q118 : (Jvm.Cond.instanceMethod ({ cls := "TwoDimMatcher", name := "occurrences", desc := "(I)I" } : Jvm.MethodName)) ∈ lw_all := lw_g (lw_at lw_m1 99 rfl) rfl
theorem q119 : (Jvm.Cond.selects "TwoDimMatcher" ({ cls := "TwoDimMatcher", name := "occurrences", desc := "(I)I" } : Jvm.MethodName) ({ cls := "TwoDimMatcher", name := "occurrences", desc := "(I)I" } : Jvm.MethodName)) ∈ lw_all := lw_g (lw_at lw_m1 100 rfl) rfl
theorem q120 : (Jvm.Cond.code ({ cls := "TwoDimMatcher", name := "occurrences", desc := "(I)I" } : Jvm.MethodName) prog_1_method_11_code (4 : Nat) (Option.some Jvm.ClassFile.FieldType.int)) ∈ lw_all := lw_g (lw_at lw_m1 101 rfl) rfl
theorem q121 : (Jvm.Cond.methodLink "TwoDimMatcher" (70 : Nat) ({ cls := "TwoDimMatcher", name := "search", desc := "()V" } : Jvm.MethodName)) ∈ lw_all := lw_g (lw_at lw_m1 102 rfl) rfl
theorem q122 : (Jvm.Cond.privateMethod ({ cls := "TwoDimMatcher", name := "search", desc := "()V" } : Jvm.MethodName)) ∈ lw_tbl := lw_at lw_m1 103 rfl
theorem q123 : (Jvm.Cond.instanceMethod ({ cls := "TwoDimMatcher", name := "search", desc := "()V" } : Jvm.MethodName)) ∈ lw_all := lw_g (lw_at lw_m1 104 rfl) rfl
theorem q124 : (Jvm.Cond.code ({ cls := "TwoDimMatcher", name := "search", desc := "()V" } : Jvm.MethodName) prog_1_method_24_code (2 : Nat) (Option.none : Option Jvm.ClassFile.FieldType)) ∈ lw_all := lw_g (lw_at lw_m1 105 rfl) rfl
theorem q125 : (Jvm.Cond.methodLink "TwoDimMatcher" (99 : Nat) ({ cls := "TwoDimMatcher", name := "buildAutomaton", desc := "()V" } : Jvm.MethodName)) ∈ lw_all := lw_g (lw_at lw_m1 106 rfl) rfl
theorem q126 : (Jvm.Cond.privateMethod ({ cls := "TwoDimMatcher", name := "buildAutomaton", desc := "()V" } : Jvm.MethodName)) ∈ lw_tbl := lw_at lw_m1 107 rfl
theorem q127 : (Jvm.Cond.instanceMethod ({ cls := "TwoDimMatcher", name := "buildAutomaton", desc := "()V" } : Jvm.MethodName)) ∈ lw_all := lw_g (lw_at lw_m1 108 rfl) rfl
theorem q128 : (Jvm.Cond.code ({ cls := "TwoDimMatcher", name := "buildAutomaton", desc := "()V" } : Jvm.MethodName) prog_1_method_20_code (3 : Nat) (Option.none : Option Jvm.ClassFile.FieldType)) ∈ lw_all := lw_g (lw_at lw_m1 109 rfl) rfl
theorem q129 : (Jvm.Cond.methodLink "TwoDimMatcher" (88 : Nat) ({ cls := "TwoDimMatcher", name := "addRow", desc := "(II)V" } : Jvm.MethodName)) ∈ lw_all := lw_g (lw_at lw_m1 110 rfl) rfl
theorem q130 : (Jvm.Cond.privateMethod ({ cls := "TwoDimMatcher", name := "addRow", desc := "(II)V" } : Jvm.MethodName)) ∈ lw_tbl := lw_at lw_m1 111 rfl
theorem q131 : (Jvm.Cond.instanceMethod ({ cls := "TwoDimMatcher", name := "addRow", desc := "(II)V" } : Jvm.MethodName)) ∈ lw_all := lw_g (lw_at lw_m1 112 rfl) rfl
theorem q132 : (Jvm.Cond.code ({ cls := "TwoDimMatcher", name := "addRow", desc := "(II)V" } : Jvm.MethodName) prog_1_method_19_code (6 : Nat) (Option.none : Option Jvm.ClassFile.FieldType)) ∈ lw_all := lw_g (lw_at lw_m1 113 rfl) rfl
theorem q133 : (Jvm.Cond.methodLink "TwoDimMatcher" (92 : Nat) ({ cls := "TwoDimMatcher", name := "linkNodes", desc := "()V" } : Jvm.MethodName)) ∈ lw_all := lw_g (lw_at lw_m1 114 rfl) rfl
theorem q134 : (Jvm.Cond.privateMethod ({ cls := "TwoDimMatcher", name := "linkNodes", desc := "()V" } : Jvm.MethodName)) ∈ lw_tbl := lw_at lw_m1 115 rfl
theorem q135 : (Jvm.Cond.instanceMethod ({ cls := "TwoDimMatcher", name := "linkNodes", desc := "()V" } : Jvm.MethodName)) ∈ lw_all := lw_g (lw_at lw_m1 116 rfl) rfl
theorem q136 : (Jvm.Cond.code ({ cls := "TwoDimMatcher", name := "linkNodes", desc := "()V" } : Jvm.MethodName) prog_1_method_21_code (8 : Nat) (Option.none : Option Jvm.ClassFile.FieldType)) ∈ lw_all := lw_g (lw_at lw_m1 117 rfl) rfl
theorem q137 : (Jvm.Cond.methodLink "TwoDimMatcher" (95 : Nat) ({ cls := "TwoDimMatcher", name := "inheritRow", desc := "(III)V" } : Jvm.MethodName)) ∈ lw_all := lw_g (lw_at lw_m1 118 rfl) rfl
theorem q138 : (Jvm.Cond.privateMethod ({ cls := "TwoDimMatcher", name := "inheritRow", desc := "(III)V" } : Jvm.MethodName)) ∈ lw_tbl := lw_at lw_m1 119 rfl
theorem q139 : (Jvm.Cond.instanceMethod ({ cls := "TwoDimMatcher", name := "inheritRow", desc := "(III)V" } : Jvm.MethodName)) ∈ lw_all := lw_g (lw_at lw_m1 120 rfl) rfl
theorem q140 : (Jvm.Cond.code ({ cls := "TwoDimMatcher", name := "inheritRow", desc := "(III)V" } : Jvm.MethodName) prog_1_method_22_code (4 : Nat) (Option.none : Option Jvm.ClassFile.FieldType)) ∈ lw_all := lw_g (lw_at lw_m1 121 rfl) rfl
theorem q141 : (Jvm.Cond.methodLink "TwoDimMatcher" (102 : Nat) ({ cls := "TwoDimMatcher", name := "buildFailure", desc := "(I)V" } : Jvm.MethodName)) ∈ lw_all := lw_g (lw_at lw_m1 122 rfl) rfl
theorem q142 : (Jvm.Cond.privateMethod ({ cls := "TwoDimMatcher", name := "buildFailure", desc := "(I)V" } : Jvm.MethodName)) ∈ lw_tbl := lw_at lw_m1 123 rfl
theorem q143 : (Jvm.Cond.instanceMethod ({ cls := "TwoDimMatcher", name := "buildFailure", desc := "(I)V" } : Jvm.MethodName)) ∈ lw_all := lw_g (lw_at lw_m1 124 rfl) rfl
theorem q144 : (Jvm.Cond.code ({ cls := "TwoDimMatcher", name := "buildFailure", desc := "(I)V" } : Jvm.MethodName) prog_1_method_23_code (5 : Nat) (Option.none : Option Jvm.ClassFile.FieldType)) ∈ lw_all := lw_g (lw_at lw_m1 125 rfl) rfl
theorem q145 : (Jvm.Cond.methodLink "TwoDimMatcher" (106 : Nat) ({ cls := "TwoDimMatcher", name := "searchRow", desc := "(I)V" } : Jvm.MethodName)) ∈ lw_all := lw_g (lw_at lw_m1 126 rfl) rfl
theorem q146 : (Jvm.Cond.privateMethod ({ cls := "TwoDimMatcher", name := "searchRow", desc := "(I)V" } : Jvm.MethodName)) ∈ lw_tbl := lw_at lw_m1 127 rfl
theorem q147 : (Jvm.Cond.instanceMethod ({ cls := "TwoDimMatcher", name := "searchRow", desc := "(I)V" } : Jvm.MethodName)) ∈ lw_all := lw_g (lw_at lw_m1 128 rfl) rfl
theorem q148 : (Jvm.Cond.code ({ cls := "TwoDimMatcher", name := "searchRow", desc := "(I)V" } : Jvm.MethodName) prog_1_method_25_code (5 : Nat) (Option.none : Option Jvm.ClassFile.FieldType)) ∈ lw_all := lw_g (lw_at lw_m1 129 rfl) rfl
theorem q149 : (Jvm.Cond.methodLink "TwoDimMatcher" (109 : Nat) ({ cls := "TwoDimMatcher", name := "advance", desc := "(IIII)V" } : Jvm.MethodName)) ∈ lw_all := lw_g (lw_at lw_m1 130 rfl) rfl
theorem q150 : (Jvm.Cond.privateMethod ({ cls := "TwoDimMatcher", name := "advance", desc := "(IIII)V" } : Jvm.MethodName)) ∈ lw_tbl := lw_at lw_m1 131 rfl
theorem q151 : (Jvm.Cond.instanceMethod ({ cls := "TwoDimMatcher", name := "advance", desc := "(IIII)V" } : Jvm.MethodName)) ∈ lw_all := lw_g (lw_at lw_m1 132 rfl) rfl
theorem q152 : (Jvm.Cond.code ({ cls := "TwoDimMatcher", name := "advance", desc := "(IIII)V" } : Jvm.MethodName) prog_1_method_26_code (7 : Nat) (Option.none : Option Jvm.ClassFile.FieldType)) ∈ lw_all := lw_g (lw_at lw_m1 133 rfl) rfl
theorem q153 : (Jvm.Cond.methodLink "TwoDimMatcher" (73 : Nat) ({ cls := "TwoDimMatcher", name := "bitsIn", desc := "(I)I" } : Jvm.MethodName)) ∈ lw_all := lw_g (lw_at lw_m1 134 rfl) rfl
theorem q154 : (Jvm.Cond.privateMethod ({ cls := "TwoDimMatcher", name := "bitsIn", desc := "(I)I" } : Jvm.MethodName)) ∈ lw_tbl := lw_at lw_m1 135 rfl
theorem q155 : (Jvm.Cond.instanceMethod ({ cls := "TwoDimMatcher", name := "bitsIn", desc := "(I)I" } : Jvm.MethodName)) ∈ lw_all := lw_g (lw_at lw_m1 136 rfl) rfl
theorem q156 : (Jvm.Cond.code ({ cls := "TwoDimMatcher", name := "bitsIn", desc := "(I)I" } : Jvm.MethodName) prog_1_method_16_code (4 : Nat) (Option.some Jvm.ClassFile.FieldType.int)) ∈ lw_all := lw_g (lw_at lw_m1 137 rfl) rfl
theorem q158 : (Jvm.Cond.instanceMethod ({ cls := "TwoDimMatcher", name := "occurs", desc := "(III)Z" } : Jvm.MethodName)) ∈ lw_all := lw_g (lw_at lw_m1 139 rfl) rfl
theorem q159 : (Jvm.Cond.selects "TwoDimMatcher" ({ cls := "TwoDimMatcher", name := "occurs", desc := "(III)Z" } : Jvm.MethodName) ({ cls := "TwoDimMatcher", name := "occurs", desc := "(III)Z" } : Jvm.MethodName)) ∈ lw_all := lw_g (lw_at lw_m1 140 rfl) rfl
theorem q160 : (Jvm.Cond.code ({ cls := "TwoDimMatcher", name := "occurs", desc := "(III)Z" } : Jvm.MethodName) prog_1_method_12_code (4 : Nat) (Option.some Jvm.ClassFile.FieldType.boolean)) ∈ lw_all := lw_g (lw_at lw_m1 141 rfl) rfl
theorem q162 : (Jvm.Cond.instanceMethod ({ cls := "TwoDimMatcher", name := "next", desc := "(II)I" } : Jvm.MethodName)) ∈ lw_all := lw_g (lw_at lw_m1 143 rfl) rfl
theorem q163 : (Jvm.Cond.selects "TwoDimMatcher" ({ cls := "TwoDimMatcher", name := "next", desc := "(II)I" } : Jvm.MethodName) ({ cls := "TwoDimMatcher", name := "next", desc := "(II)I" } : Jvm.MethodName)) ∈ lw_all := lw_g (lw_at lw_m1 144 rfl) rfl
theorem q164 : (Jvm.Cond.code ({ cls := "TwoDimMatcher", name := "next", desc := "(II)I" } : Jvm.MethodName) prog_1_method_13_code (5 : Nat) (Option.some Jvm.ClassFile.FieldType.int)) ∈ lw_all := lw_g (lw_at lw_m1 145 rfl) rfl
theorem q166 : (Jvm.Cond.instanceMethod ({ cls := "TwoDimMatcher", name := "covered", desc := "()I" } : Jvm.MethodName)) ∈ lw_all := lw_g (lw_at lw_m1 147 rfl) rfl
theorem q167 : (Jvm.Cond.selects "TwoDimMatcher" ({ cls := "TwoDimMatcher", name := "covered", desc := "()I" } : Jvm.MethodName) ({ cls := "TwoDimMatcher", name := "covered", desc := "()I" } : Jvm.MethodName)) ∈ lw_all := lw_g (lw_at lw_m1 148 rfl) rfl
theorem q168 : (Jvm.Cond.code ({ cls := "TwoDimMatcher", name := "covered", desc := "()I" } : Jvm.MethodName) prog_1_method_14_code (5 : Nat) (Option.some Jvm.ClassFile.FieldType.int)) ∈ lw_all := lw_g (lw_at lw_m1 149 rfl) rfl
theorem q169 : (Jvm.Cond.methodLink "TwoDimMatcher" (77 : Nat) ({ cls := "TwoDimMatcher", name := "coveredInRow", desc := "(II)I" } : Jvm.MethodName)) ∈ lw_all := lw_g (lw_at lw_m1 150 rfl) rfl
theorem q170 : (Jvm.Cond.privateMethod ({ cls := "TwoDimMatcher", name := "coveredInRow", desc := "(II)I" } : Jvm.MethodName)) ∈ lw_tbl := lw_at lw_m1 151 rfl
theorem q171 : (Jvm.Cond.instanceMethod ({ cls := "TwoDimMatcher", name := "coveredInRow", desc := "(II)I" } : Jvm.MethodName)) ∈ lw_all := lw_g (lw_at lw_m1 152 rfl) rfl
theorem q172 : (Jvm.Cond.code ({ cls := "TwoDimMatcher", name := "coveredInRow", desc := "(II)I" } : Jvm.MethodName) prog_1_method_17_code (6 : Nat) (Option.some Jvm.ClassFile.FieldType.int)) ∈ lw_all := lw_g (lw_at lw_m1 153 rfl) rfl
theorem q174 : (Jvm.Cond.instanceMethod ({ cls := "TwoDimMatcher", name := "overlaps", desc := "(I)I" } : Jvm.MethodName)) ∈ lw_all := lw_g (lw_at lw_m1 155 rfl) rfl
theorem q175 : (Jvm.Cond.selects "TwoDimMatcher" ({ cls := "TwoDimMatcher", name := "overlaps", desc := "(I)I" } : Jvm.MethodName) ({ cls := "TwoDimMatcher", name := "overlaps", desc := "(I)I" } : Jvm.MethodName)) ∈ lw_all := lw_g (lw_at lw_m1 156 rfl) rfl
theorem q176 : (Jvm.Cond.code ({ cls := "TwoDimMatcher", name := "overlaps", desc := "(I)I" } : Jvm.MethodName) prog_1_method_15_code (5 : Nat) (Option.some Jvm.ClassFile.FieldType.int)) ∈ lw_all := lw_g (lw_at lw_m1 157 rfl) rfl
theorem q177 : (Jvm.Cond.methodLink "TwoDimMatcher" (81 : Nat) ({ cls := "TwoDimMatcher", name := "meetings", desc := "(III)I" } : Jvm.MethodName)) ∈ lw_all := lw_g (lw_at lw_m1 158 rfl) rfl
theorem q178 : (Jvm.Cond.privateMethod ({ cls := "TwoDimMatcher", name := "meetings", desc := "(III)I" } : Jvm.MethodName)) ∈ lw_tbl := lw_at lw_m1 159 rfl
theorem q179 : (Jvm.Cond.instanceMethod ({ cls := "TwoDimMatcher", name := "meetings", desc := "(III)I" } : Jvm.MethodName)) ∈ lw_all := lw_g (lw_at lw_m1 160 rfl) rfl
theorem q180 : (Jvm.Cond.code ({ cls := "TwoDimMatcher", name := "meetings", desc := "(III)I" } : Jvm.MethodName) prog_1_method_18_code (8 : Nat) (Option.some Jvm.ClassFile.FieldType.int)) ∈ lw_all := lw_g (lw_at lw_m1 161 rfl) rfl
theorem in_X1 : ∀ w ∈ wsX10, w ∈ lw_all := lw_in wsX10 [46, 48, 50, 52, 54, 56, 58, 60, 62, 64, 66, 68, 70, 72, 74, 76] (by decide +kernel) (by decide +kernel)
/-! TwoDimMatcherModel -/
def RX2 : String := "TwoDimMatcherModel"
def TX2 : u_T := fun k => match k with
  | 0 => ("TwoDimMatcherModel", "columns", "I", false)
  | 1 => ("TwoDimMatcherModel", "rows", "I", false)
  | 2 => ("TwoDimMatcherModel", "text", "[I", false)
  | 3 => ("TwoDimMatcherModel", "pattern", "[I", false)
  | 4 => ("TwoDimMatcherModel", "wide", "[I", false)
  | _ => ("TwoDimMatcherModel", "high", "[I", false)
def tyX2 : Nat → FieldType := fun k => match k with
  | 0 => .int
  | 1 => .int
  | 2 => .array .int
  | 3 => .array .int
  | 4 => .array .int
  | _ => .array .int
abbrev wsX20 : List Cond := u_ws RX2 TX2 6
theorem nmX2 : ∀ a, a < 6 → ∀ b, b < 6 → a ≠ b → (TX2 a).2.1 ≠ (TX2 b).2.1 := by decide +kernel
theorem tyX2_ok : ∀ k, k < 6 → parseFieldDescriptor (TX2 k).2.2.1 = some (tyX2 k) := by decide +kernel
abbrev cX2_init : ByteArray := prog_3_method_1_code
def yX2_init : MethodName := ⟨RX2, "<init>", "(II)V"⟩
abbrev cX2_write : ByteArray := prog_3_method_5_code
def yX2_write : MethodName := ⟨RX2, "write", "(III)Z"⟩
abbrev cX2_inText : ByteArray := prog_3_method_2_code
def yX2_inText : MethodName := ⟨RX2, "inText", "(II)Z"⟩
abbrev cX2_isLetter : ByteArray := prog_3_method_3_code
def yX2_isLetter : MethodName := ⟨RX2, "isLetter", "(I)Z"⟩
abbrev cX2_shape : ByteArray := prog_3_method_6_code
def yX2_shape : MethodName := ⟨RX2, "shape", "(III)Z"⟩
abbrev cX2_isPattern : ByteArray := prog_3_method_4_code
def yX2_isPattern : MethodName := ⟨RX2, "isPattern", "(I)Z"⟩
abbrev cX2_paint : ByteArray := prog_3_method_7_code
def yX2_paint : MethodName := ⟨RX2, "paint", "(IIII)Z"⟩
abbrev cX2_copy : ByteArray := prog_3_method_9_code
def yX2_copy : MethodName := ⟨RX2, "copy", "(III)Z"⟩
abbrev cX2_fits : ByteArray := prog_3_method_8_code
def yX2_fits : MethodName := ⟨RX2, "fits", "(III)Z"⟩
abbrev cX2_stamp : ByteArray := prog_3_method_10_code
def yX2_stamp : MethodName := ⟨RX2, "stamp", "(III)Z"⟩
abbrev cX2_letter : ByteArray := prog_3_method_11_code
def yX2_letter : MethodName := ⟨RX2, "letter", "(II)I"⟩
abbrev cX2_occurrences : ByteArray := prog_3_method_12_code
def yX2_occurrences : MethodName := ⟨RX2, "occurrences", "(I)I"⟩
abbrev cX2_occurs : ByteArray := prog_3_method_13_code
def yX2_occurs : MethodName := ⟨RX2, "occurs", "(III)Z"⟩
abbrev cX2_next : ByteArray := prog_3_method_14_code
def yX2_next : MethodName := ⟨RX2, "next", "(II)I"⟩
abbrev cX2_covered : ByteArray := prog_3_method_16_code
def yX2_covered : MethodName := ⟨RX2, "covered", "()I"⟩
abbrev cX2_coveredBy : ByteArray := prog_3_method_15_code
def yX2_coveredBy : MethodName := ⟨RX2, "coveredBy", "(III)Z"⟩
abbrev cX2_overlaps : ByteArray := prog_3_method_17_code
def yX2_overlaps : MethodName := ⟨RX2, "overlaps", "(I)I"⟩
theorem q21 : (Jvm.Cond.initialized "TwoDimMatcherModel") ∈ lw_all := lw_g (lw_at lw_m1 2 rfl) rfl
theorem q185 : (Jvm.Cond.instantiable "TwoDimMatcherModel" (6 : Nat)) ∈ lw_all := lw_g (lw_at lw_m1 166 rfl) rfl
theorem q187 : (Jvm.Cond.instanceMethod ({ cls := "TwoDimMatcherModel", name := "<init>", desc := "(II)V" } : Jvm.MethodName)) ∈ lw_all := lw_g (lw_at lw_m1 168 rfl) rfl
theorem q188 : (Jvm.Cond.code ({ cls := "TwoDimMatcherModel", name := "<init>", desc := "(II)V" } : Jvm.MethodName) prog_3_method_1_code (4 : Nat) (Option.none : Option Jvm.ClassFile.FieldType)) ∈ lw_all := lw_g (lw_at lw_m1 169 rfl) rfl
theorem q189 : (Jvm.Cond.methodLink "TwoDimMatcherModel" (1 : Nat) ({ cls := "java/lang/Object", name := "<init>", desc := "()V" } : Jvm.MethodName)) ∈ lw_all := lw_g (lw_at lw_m1 170 rfl) rfl
theorem q190 : (Jvm.Cond.fieldLink "TwoDimMatcherModel" (22 : Nat) "TwoDimMatcherModel" "columns" "I") ∈ lw_all := lw_g (lw_at lw_m1 171 rfl) rfl
theorem q191 : (Jvm.Cond.fieldLink "TwoDimMatcherModel" (26 : Nat) "TwoDimMatcherModel" "rows" "I") ∈ lw_all := lw_g (lw_at lw_m1 172 rfl) rfl
theorem q192 : (Jvm.Cond.fieldLink "TwoDimMatcherModel" (7 : Nat) "TwoDimMatcherModel" "text" "[I") ∈ lw_all := lw_g (lw_at lw_m1 173 rfl) rfl
theorem q193 : (Jvm.Cond.fieldLink "TwoDimMatcherModel" (13 : Nat) "TwoDimMatcherModel" "pattern" "[I") ∈ lw_all := lw_g (lw_at lw_m1 174 rfl) rfl
theorem q194 : (Jvm.Cond.fieldLink "TwoDimMatcherModel" (16 : Nat) "TwoDimMatcherModel" "wide" "[I") ∈ lw_all := lw_g (lw_at lw_m1 175 rfl) rfl
theorem q195 : (Jvm.Cond.fieldLink "TwoDimMatcherModel" (19 : Nat) "TwoDimMatcherModel" "high" "[I") ∈ lw_all := lw_g (lw_at lw_m1 176 rfl) rfl
theorem q196 : (Jvm.Cond.lays "TwoDimMatcherModel" "TwoDimMatcherModel" "columns" "I") ∈ lw_all := lw_g (lw_at lw_m1 177 rfl) rfl
theorem q197 : (Jvm.Cond.soleField "TwoDimMatcherModel" "columns") ∈ lw_all := lw_g (lw_at lw_m1 178 rfl) rfl
theorem q198 : (Jvm.Cond.lays "TwoDimMatcherModel" "TwoDimMatcherModel" "rows" "I") ∈ lw_all := lw_g (lw_at lw_m1 179 rfl) rfl
theorem q199 : (Jvm.Cond.soleField "TwoDimMatcherModel" "rows") ∈ lw_all := lw_g (lw_at lw_m1 180 rfl) rfl
theorem q200 : (Jvm.Cond.lays "TwoDimMatcherModel" "TwoDimMatcherModel" "text" "[I") ∈ lw_all := lw_g (lw_at lw_m1 181 rfl) rfl
theorem q201 : (Jvm.Cond.soleField "TwoDimMatcherModel" "text") ∈ lw_all := lw_g (lw_at lw_m1 182 rfl) rfl
theorem q202 : (Jvm.Cond.lays "TwoDimMatcherModel" "TwoDimMatcherModel" "pattern" "[I") ∈ lw_all := lw_g (lw_at lw_m1 183 rfl) rfl
theorem q203 : (Jvm.Cond.soleField "TwoDimMatcherModel" "pattern") ∈ lw_all := lw_g (lw_at lw_m1 184 rfl) rfl
theorem q204 : (Jvm.Cond.lays "TwoDimMatcherModel" "TwoDimMatcherModel" "wide" "[I") ∈ lw_all := lw_g (lw_at lw_m1 185 rfl) rfl
theorem q205 : (Jvm.Cond.soleField "TwoDimMatcherModel" "wide") ∈ lw_all := lw_g (lw_at lw_m1 186 rfl) rfl
theorem q206 : (Jvm.Cond.lays "TwoDimMatcherModel" "TwoDimMatcherModel" "high" "[I") ∈ lw_all := lw_g (lw_at lw_m1 187 rfl) rfl
theorem q207 : (Jvm.Cond.soleField "TwoDimMatcherModel" "high") ∈ lw_all := lw_g (lw_at lw_m1 188 rfl) rfl
theorem q208 : (Jvm.Cond.superclass "TwoDimMatcherModel" "java/lang/Object") ∈ lw_all := lw_g (lw_at lw_m1 189 rfl) rfl
theorem q210 : (Jvm.Cond.instanceMethod ({ cls := "TwoDimMatcherModel", name := "write", desc := "(III)Z" } : Jvm.MethodName)) ∈ lw_all := lw_g (lw_at lw_m1 191 rfl) rfl
theorem q211 : (Jvm.Cond.selects "TwoDimMatcherModel" ({ cls := "TwoDimMatcherModel", name := "write", desc := "(III)Z" } : Jvm.MethodName) ({ cls := "TwoDimMatcherModel", name := "write", desc := "(III)Z" } : Jvm.MethodName)) ∈ lw_all := lw_g (lw_at lw_m1 192 rfl) rfl
theorem q212 : (Jvm.Cond.code ({ cls := "TwoDimMatcherModel", name := "write", desc := "(III)Z" } : Jvm.MethodName) prog_3_method_5_code (4 : Nat) (Option.some Jvm.ClassFile.FieldType.boolean)) ∈ lw_all := lw_g (lw_at lw_m1 193 rfl) rfl
theorem q213 : (Jvm.Cond.methodLink "TwoDimMatcherModel" (29 : Nat) ({ cls := "TwoDimMatcherModel", name := "inText", desc := "(II)Z" } : Jvm.MethodName)) ∈ lw_all := lw_g (lw_at lw_m1 194 rfl) rfl
theorem q214 : (Jvm.Cond.privateMethod ({ cls := "TwoDimMatcherModel", name := "inText", desc := "(II)Z" } : Jvm.MethodName)) ∈ lw_tbl := lw_at lw_m1 195 rfl
theorem q215 : (Jvm.Cond.instanceMethod ({ cls := "TwoDimMatcherModel", name := "inText", desc := "(II)Z" } : Jvm.MethodName)) ∈ lw_all := lw_g (lw_at lw_m1 196 rfl) rfl
theorem q216 : (Jvm.Cond.code ({ cls := "TwoDimMatcherModel", name := "inText", desc := "(II)Z" } : Jvm.MethodName) prog_3_method_2_code (3 : Nat) (Option.some Jvm.ClassFile.FieldType.boolean)) ∈ lw_all := lw_g (lw_at lw_m1 197 rfl) rfl
theorem q217 : (Jvm.Cond.methodLink "TwoDimMatcherModel" (33 : Nat) ({ cls := "TwoDimMatcherModel", name := "isLetter", desc := "(I)Z" } : Jvm.MethodName)) ∈ lw_all := lw_g (lw_at lw_m1 198 rfl) rfl
theorem q218 : (Jvm.Cond.privateMethod ({ cls := "TwoDimMatcherModel", name := "isLetter", desc := "(I)Z" } : Jvm.MethodName)) ∈ lw_tbl := lw_at lw_m1 199 rfl
theorem q219 : (Jvm.Cond.instanceMethod ({ cls := "TwoDimMatcherModel", name := "isLetter", desc := "(I)Z" } : Jvm.MethodName)) ∈ lw_all := lw_g (lw_at lw_m1 200 rfl) rfl
theorem q220 : (Jvm.Cond.code ({ cls := "TwoDimMatcherModel", name := "isLetter", desc := "(I)Z" } : Jvm.MethodName) prog_3_method_3_code (2 : Nat) (Option.some Jvm.ClassFile.FieldType.boolean)) ∈ lw_all := lw_g (lw_at lw_m1 201 rfl) rfl
theorem q222 : (Jvm.Cond.instanceMethod ({ cls := "TwoDimMatcherModel", name := "shape", desc := "(III)Z" } : Jvm.MethodName)) ∈ lw_all := lw_g (lw_at lw_m1 203 rfl) rfl
theorem q223 : (Jvm.Cond.selects "TwoDimMatcherModel" ({ cls := "TwoDimMatcherModel", name := "shape", desc := "(III)Z" } : Jvm.MethodName) ({ cls := "TwoDimMatcherModel", name := "shape", desc := "(III)Z" } : Jvm.MethodName)) ∈ lw_all := lw_g (lw_at lw_m1 204 rfl) rfl
theorem q224 : (Jvm.Cond.code ({ cls := "TwoDimMatcherModel", name := "shape", desc := "(III)Z" } : Jvm.MethodName) prog_3_method_6_code (5 : Nat) (Option.some Jvm.ClassFile.FieldType.boolean)) ∈ lw_all := lw_g (lw_at lw_m1 205 rfl) rfl
theorem q225 : (Jvm.Cond.methodLink "TwoDimMatcherModel" (37 : Nat) ({ cls := "TwoDimMatcherModel", name := "isPattern", desc := "(I)Z" } : Jvm.MethodName)) ∈ lw_all := lw_g (lw_at lw_m1 206 rfl) rfl
theorem q226 : (Jvm.Cond.privateMethod ({ cls := "TwoDimMatcherModel", name := "isPattern", desc := "(I)Z" } : Jvm.MethodName)) ∈ lw_tbl := lw_at lw_m1 207 rfl
theorem q227 : (Jvm.Cond.instanceMethod ({ cls := "TwoDimMatcherModel", name := "isPattern", desc := "(I)Z" } : Jvm.MethodName)) ∈ lw_all := lw_g (lw_at lw_m1 208 rfl) rfl
theorem q228 : (Jvm.Cond.code ({ cls := "TwoDimMatcherModel", name := "isPattern", desc := "(I)Z" } : Jvm.MethodName) prog_3_method_4_code (2 : Nat) (Option.some Jvm.ClassFile.FieldType.boolean)) ∈ lw_all := lw_g (lw_at lw_m1 209 rfl) rfl
theorem q230 : (Jvm.Cond.instanceMethod ({ cls := "TwoDimMatcherModel", name := "paint", desc := "(IIII)Z" } : Jvm.MethodName)) ∈ lw_all := lw_g (lw_at lw_m1 211 rfl) rfl
theorem q231 : (Jvm.Cond.selects "TwoDimMatcherModel" ({ cls := "TwoDimMatcherModel", name := "paint", desc := "(IIII)Z" } : Jvm.MethodName) ({ cls := "TwoDimMatcherModel", name := "paint", desc := "(IIII)Z" } : Jvm.MethodName)) ∈ lw_all := lw_g (lw_at lw_m1 212 rfl) rfl
theorem q232 : (Jvm.Cond.code ({ cls := "TwoDimMatcherModel", name := "paint", desc := "(IIII)Z" } : Jvm.MethodName) prog_3_method_7_code (5 : Nat) (Option.some Jvm.ClassFile.FieldType.boolean)) ∈ lw_all := lw_g (lw_at lw_m1 213 rfl) rfl
theorem q234 : (Jvm.Cond.instanceMethod ({ cls := "TwoDimMatcherModel", name := "copy", desc := "(III)Z" } : Jvm.MethodName)) ∈ lw_all := lw_g (lw_at lw_m1 215 rfl) rfl
theorem q235 : (Jvm.Cond.selects "TwoDimMatcherModel" ({ cls := "TwoDimMatcherModel", name := "copy", desc := "(III)Z" } : Jvm.MethodName) ({ cls := "TwoDimMatcherModel", name := "copy", desc := "(III)Z" } : Jvm.MethodName)) ∈ lw_all := lw_g (lw_at lw_m1 216 rfl) rfl
theorem q236 : (Jvm.Cond.code ({ cls := "TwoDimMatcherModel", name := "copy", desc := "(III)Z" } : Jvm.MethodName) prog_3_method_9_code (6 : Nat) (Option.some Jvm.ClassFile.FieldType.boolean)) ∈ lw_all := lw_g (lw_at lw_m1 217 rfl) rfl
theorem q237 : (Jvm.Cond.methodLink "TwoDimMatcherModel" (40 : Nat) ({ cls := "TwoDimMatcherModel", name := "fits", desc := "(III)Z" } : Jvm.MethodName)) ∈ lw_all := lw_g (lw_at lw_m1 218 rfl) rfl
theorem q238 : (Jvm.Cond.privateMethod ({ cls := "TwoDimMatcherModel", name := "fits", desc := "(III)Z" } : Jvm.MethodName)) ∈ lw_tbl := lw_at lw_m1 219 rfl
theorem q239 : (Jvm.Cond.instanceMethod ({ cls := "TwoDimMatcherModel", name := "fits", desc := "(III)Z" } : Jvm.MethodName)) ∈ lw_all := lw_g (lw_at lw_m1 220 rfl) rfl
theorem q240 : (Jvm.Cond.code ({ cls := "TwoDimMatcherModel", name := "fits", desc := "(III)Z" } : Jvm.MethodName) prog_3_method_8_code (4 : Nat) (Option.some Jvm.ClassFile.FieldType.boolean)) ∈ lw_all := lw_g (lw_at lw_m1 221 rfl) rfl
theorem q242 : (Jvm.Cond.instanceMethod ({ cls := "TwoDimMatcherModel", name := "stamp", desc := "(III)Z" } : Jvm.MethodName)) ∈ lw_all := lw_g (lw_at lw_m1 223 rfl) rfl
theorem q243 : (Jvm.Cond.selects "TwoDimMatcherModel" ({ cls := "TwoDimMatcherModel", name := "stamp", desc := "(III)Z" } : Jvm.MethodName) ({ cls := "TwoDimMatcherModel", name := "stamp", desc := "(III)Z" } : Jvm.MethodName)) ∈ lw_all := lw_g (lw_at lw_m1 224 rfl) rfl
theorem q244 : (Jvm.Cond.code ({ cls := "TwoDimMatcherModel", name := "stamp", desc := "(III)Z" } : Jvm.MethodName) prog_3_method_10_code (6 : Nat) (Option.some Jvm.ClassFile.FieldType.boolean)) ∈ lw_all := lw_g (lw_at lw_m1 225 rfl) rfl
theorem q246 : (Jvm.Cond.instanceMethod ({ cls := "TwoDimMatcherModel", name := "letter", desc := "(II)I" } : Jvm.MethodName)) ∈ lw_all := lw_g (lw_at lw_m1 227 rfl) rfl
theorem q247 : (Jvm.Cond.selects "TwoDimMatcherModel" ({ cls := "TwoDimMatcherModel", name := "letter", desc := "(II)I" } : Jvm.MethodName) ({ cls := "TwoDimMatcherModel", name := "letter", desc := "(II)I" } : Jvm.MethodName)) ∈ lw_all := lw_g (lw_at lw_m1 228 rfl) rfl
theorem q248 : (Jvm.Cond.code ({ cls := "TwoDimMatcherModel", name := "letter", desc := "(II)I" } : Jvm.MethodName) prog_3_method_11_code (3 : Nat) (Option.some Jvm.ClassFile.FieldType.int)) ∈ lw_all := lw_g (lw_at lw_m1 229 rfl) rfl
theorem q250 : (Jvm.Cond.instanceMethod ({ cls := "TwoDimMatcherModel", name := "occurrences", desc := "(I)I" } : Jvm.MethodName)) ∈ lw_all := lw_g (lw_at lw_m1 231 rfl) rfl
theorem q251 : (Jvm.Cond.selects "TwoDimMatcherModel" ({ cls := "TwoDimMatcherModel", name := "occurrences", desc := "(I)I" } : Jvm.MethodName) ({ cls := "TwoDimMatcherModel", name := "occurrences", desc := "(I)I" } : Jvm.MethodName)) ∈ lw_all := lw_g (lw_at lw_m1 232 rfl) rfl
theorem q252 : (Jvm.Cond.code ({ cls := "TwoDimMatcherModel", name := "occurrences", desc := "(I)I" } : Jvm.MethodName) prog_3_method_12_code (4 : Nat) (Option.some Jvm.ClassFile.FieldType.int)) ∈ lw_all := lw_g (lw_at lw_m1 233 rfl) rfl
theorem q253 : (Jvm.Cond.methodLink "TwoDimMatcherModel" (44 : Nat) ({ cls := "TwoDimMatcherModel", name := "occurs", desc := "(III)Z" } : Jvm.MethodName)) ∈ lw_all := lw_g (lw_at lw_m1 234 rfl) rfl
theorem q254 : (Jvm.Cond.instanceMethod ({ cls := "TwoDimMatcherModel", name := "occurs", desc := "(III)Z" } : Jvm.MethodName)) ∈ lw_all := lw_g (lw_at lw_m1 235 rfl) rfl
theorem q255 : (Jvm.Cond.selects "TwoDimMatcherModel" ({ cls := "TwoDimMatcherModel", name := "occurs", desc := "(III)Z" } : Jvm.MethodName) ({ cls := "TwoDimMatcherModel", name := "occurs", desc := "(III)Z" } : Jvm.MethodName)) ∈ lw_all := lw_g (lw_at lw_m1 236 rfl) rfl
theorem q256 : (Jvm.Cond.code ({ cls := "TwoDimMatcherModel", name := "occurs", desc := "(III)Z" } : Jvm.MethodName) prog_3_method_13_code (6 : Nat) (Option.some Jvm.ClassFile.FieldType.boolean)) ∈ lw_all := lw_g (lw_at lw_m1 237 rfl) rfl
theorem q259 : (Jvm.Cond.instanceMethod ({ cls := "TwoDimMatcherModel", name := "next", desc := "(II)I" } : Jvm.MethodName)) ∈ lw_all := lw_g (lw_at lw_m2 0 rfl) rfl
theorem q260 : (Jvm.Cond.selects "TwoDimMatcherModel" ({ cls := "TwoDimMatcherModel", name := "next", desc := "(II)I" } : Jvm.MethodName) ({ cls := "TwoDimMatcherModel", name := "next", desc := "(II)I" } : Jvm.MethodName)) ∈ lw_all := lw_g (lw_at lw_m2 1 rfl) rfl
theorem q261 : (Jvm.Cond.code ({ cls := "TwoDimMatcherModel", name := "next", desc := "(II)I" } : Jvm.MethodName) prog_3_method_14_code (4 : Nat) (Option.some Jvm.ClassFile.FieldType.int)) ∈ lw_all := lw_g (lw_at lw_m2 2 rfl) rfl
theorem q263 : (Jvm.Cond.instanceMethod ({ cls := "TwoDimMatcherModel", name := "covered", desc := "()I" } : Jvm.MethodName)) ∈ lw_all := lw_g (lw_at lw_m2 4 rfl) rfl
theorem q264 : (Jvm.Cond.selects "TwoDimMatcherModel" ({ cls := "TwoDimMatcherModel", name := "covered", desc := "()I" } : Jvm.MethodName) ({ cls := "TwoDimMatcherModel", name := "covered", desc := "()I" } : Jvm.MethodName)) ∈ lw_all := lw_g (lw_at lw_m2 5 rfl) rfl
theorem q265 : (Jvm.Cond.code ({ cls := "TwoDimMatcherModel", name := "covered", desc := "()I" } : Jvm.MethodName) prog_3_method_16_code (5 : Nat) (Option.some Jvm.ClassFile.FieldType.int)) ∈ lw_all := lw_g (lw_at lw_m2 6 rfl) rfl
theorem q266 : (Jvm.Cond.methodLink "TwoDimMatcherModel" (47 : Nat) ({ cls := "TwoDimMatcherModel", name := "coveredBy", desc := "(III)Z" } : Jvm.MethodName)) ∈ lw_all := lw_g (lw_at lw_m2 7 rfl) rfl
theorem q267 : (Jvm.Cond.privateMethod ({ cls := "TwoDimMatcherModel", name := "coveredBy", desc := "(III)Z" } : Jvm.MethodName)) ∈ lw_tbl := lw_at lw_m2 8 rfl
theorem q268 : (Jvm.Cond.instanceMethod ({ cls := "TwoDimMatcherModel", name := "coveredBy", desc := "(III)Z" } : Jvm.MethodName)) ∈ lw_all := lw_g (lw_at lw_m2 9 rfl) rfl
theorem q269 : (Jvm.Cond.code ({ cls := "TwoDimMatcherModel", name := "coveredBy", desc := "(III)Z" } : Jvm.MethodName) prog_3_method_15_code (6 : Nat) (Option.some Jvm.ClassFile.FieldType.boolean)) ∈ lw_all := lw_g (lw_at lw_m2 10 rfl) rfl
theorem q271 : (Jvm.Cond.instanceMethod ({ cls := "TwoDimMatcherModel", name := "overlaps", desc := "(I)I" } : Jvm.MethodName)) ∈ lw_all := lw_g (lw_at lw_m2 12 rfl) rfl
theorem q272 : (Jvm.Cond.selects "TwoDimMatcherModel" ({ cls := "TwoDimMatcherModel", name := "overlaps", desc := "(I)I" } : Jvm.MethodName) ({ cls := "TwoDimMatcherModel", name := "overlaps", desc := "(I)I" } : Jvm.MethodName)) ∈ lw_all := lw_g (lw_at lw_m2 13 rfl) rfl
theorem q273 : (Jvm.Cond.code ({ cls := "TwoDimMatcherModel", name := "overlaps", desc := "(I)I" } : Jvm.MethodName) prog_3_method_17_code (8 : Nat) (Option.some Jvm.ClassFile.FieldType.int)) ∈ lw_all := lw_g (lw_at lw_m2 14 rfl) rfl
theorem in_X2 : ∀ w ∈ wsX20, w ∈ lw_all := lw_in wsX20 [196, 198, 200, 202, 204, 206] (by decide +kernel) (by decide +kernel)
theorem q79 : (Jvm.Cond.arrayClass Jvm.ClassFile.FieldType.byte) ∈ lw_all := lw_g (lw_at lw_m1 60 rfl) rfl
theorem q80 : (Jvm.Cond.arrayClass Jvm.ClassFile.FieldType.int) ∈ lw_all := lw_g (lw_at lw_m1 61 rfl) rfl
/-! the law's own entry -/
abbrev cL_law : ByteArray := code
theorem dX0_cell_0 : decode cX0_cell 0 = .ok (.iload_n 1, 1) := by decide +kernel
theorem dX0_cell_1 : decode cX0_cell 1 = .ok (.aload_n 0, 1) := by decide +kernel
theorem dX0_cell_2 : decode cX0_cell 2 = .ok (.arraylength, 1) := by decide +kernel
theorem dX0_cell_3 : decode cX0_cell 3 = .ok (.if_icmp .ge 9, 3) := by decide +kernel
theorem dX0_cell_6 : decode cX0_cell 6 = .ok (.aload_n 0, 1) := by decide +kernel
theorem dX0_cell_7 : decode cX0_cell 7 = .ok (.iload_n 1, 1) := by decide +kernel
theorem dX0_cell_8 : decode cX0_cell 8 = .ok (.iaload, 1) := by decide +kernel
theorem dX0_cell_9 : decode cX0_cell 9 = .ok (.goto 4, 3) := by decide +kernel
theorem dX0_cell_12 : decode cX0_cell 12 = .ok (.iconst 0, 1) := by decide +kernel
theorem dX0_cell_13 : decode cX0_cell 13 = .ok (.ireturn, 1) := by decide +kernel
theorem dJ0_init_0 : decode cJ0_init 0 = .ok (.return_, 1) := by decide +kernel
end
section
set_option maxRecDepth 100000
theorem dX1_init_0 : decode cX1_init 0 = .ok (.aload_n 0, 1) := by decide +kernel
theorem dX1_init_1 : decode cX1_init 1 = .ok (.invokespecial 1, 3) := by decide +kernel
theorem dX1_init_4 : decode cX1_init 4 = .ok (.aload_n 0, 1) := by decide +kernel
theorem dX1_init_5 : decode cX1_init 5 = .ok (.sipush 144, 3) := by decide +kernel
theorem dX1_init_8 : decode cX1_init 8 = .ok (.newarray .byte, 2) := by decide +kernel
theorem dX1_init_10 : decode cX1_init 10 = .ok (.putfield 7, 3) := by decide +kernel
theorem dX1_init_13 : decode cX1_init 13 = .ok (.aload_n 0, 1) := by decide +kernel
theorem dX1_init_14 : decode cX1_init 14 = .ok (.iconst 3, 1) := by decide +kernel
theorem dX1_init_15 : decode cX1_init 15 = .ok (.newarray .byte, 2) := by decide +kernel
theorem dX1_init_17 : decode cX1_init 17 = .ok (.putfield 13, 3) := by decide +kernel
theorem dX1_init_20 : decode cX1_init 20 = .ok (.aload_n 0, 1) := by decide +kernel
theorem dX1_init_21 : decode cX1_init 21 = .ok (.iconst 3, 1) := by decide +kernel
theorem dX1_init_22 : decode cX1_init 22 = .ok (.newarray .byte, 2) := by decide +kernel
theorem dX1_init_24 : decode cX1_init 24 = .ok (.putfield 16, 3) := by decide +kernel
theorem dX1_init_27 : decode cX1_init 27 = .ok (.aload_n 0, 1) := by decide +kernel
theorem dX1_init_28 : decode cX1_init 28 = .ok (.bipush 48, 2) := by decide +kernel
theorem dX1_init_30 : decode cX1_init 30 = .ok (.newarray .byte, 2) := by decide +kernel
theorem dX1_init_32 : decode cX1_init 32 = .ok (.putfield 19, 3) := by decide +kernel
theorem dX1_init_35 : decode cX1_init 35 = .ok (.aload_n 0, 1) := by decide +kernel
theorem dX1_init_36 : decode cX1_init 36 = .ok (.sipush 147, 3) := by decide +kernel
theorem dX1_init_39 : decode cX1_init 39 = .ok (.newarray .byte, 2) := by decide +kernel
theorem dX1_init_41 : decode cX1_init 41 = .ok (.putfield 22, 3) := by decide +kernel
theorem dX1_init_44 : decode cX1_init 44 = .ok (.aload_n 0, 1) := by decide +kernel
theorem dX1_init_45 : decode cX1_init 45 = .ok (.bipush 49, 2) := by decide +kernel
theorem dX1_init_47 : decode cX1_init 47 = .ok (.newarray .byte, 2) := by decide +kernel
theorem dX1_init_49 : decode cX1_init 49 = .ok (.putfield 25, 3) := by decide +kernel
theorem dX1_init_52 : decode cX1_init 52 = .ok (.aload_n 0, 1) := by decide +kernel
theorem dX1_init_53 : decode cX1_init 53 = .ok (.bipush 49, 2) := by decide +kernel
theorem dX1_init_55 : decode cX1_init 55 = .ok (.newarray .byte, 2) := by decide +kernel
theorem dX1_init_57 : decode cX1_init 57 = .ok (.putfield 28, 3) := by decide +kernel
theorem dX1_init_60 : decode cX1_init 60 = .ok (.aload_n 0, 1) := by decide +kernel
theorem dX1_init_61 : decode cX1_init 61 = .ok (.sipush 147, 3) := by decide +kernel
theorem dX1_init_64 : decode cX1_init 64 = .ok (.newarray .byte, 2) := by decide +kernel
theorem dX1_init_66 : decode cX1_init 66 = .ok (.putfield 31, 3) := by decide +kernel
theorem dX1_init_69 : decode cX1_init 69 = .ok (.aload_n 0, 1) := by decide +kernel
theorem dX1_init_70 : decode cX1_init 70 = .ok (.bipush 12, 2) := by decide +kernel
theorem dX1_init_72 : decode cX1_init 72 = .ok (.newarray .byte, 2) := by decide +kernel
theorem dX1_init_74 : decode cX1_init 74 = .ok (.putfield 34, 3) := by decide +kernel
theorem dX1_init_77 : decode cX1_init 77 = .ok (.aload_n 0, 1) := by decide +kernel
theorem dX1_init_78 : decode cX1_init 78 = .ok (.bipush 15, 2) := by decide +kernel
theorem dX1_init_80 : decode cX1_init 80 = .ok (.newarray .byte, 2) := by decide +kernel
theorem dX1_init_82 : decode cX1_init 82 = .ok (.putfield 37, 3) := by decide +kernel
theorem dX1_init_85 : decode cX1_init 85 = .ok (.aload_n 0, 1) := by decide +kernel
theorem dX1_init_86 : decode cX1_init 86 = .ok (.bipush 36, 2) := by decide +kernel
theorem dX1_init_88 : decode cX1_init 88 = .ok (.newarray .int, 2) := by decide +kernel
theorem dX1_init_90 : decode cX1_init 90 = .ok (.putfield 40, 3) := by decide +kernel
theorem dX1_init_93 : decode cX1_init 93 = .ok (.aload_n 0, 1) := by decide +kernel
theorem dX1_init_94 : decode cX1_init 94 = .ok (.bipush 36, 2) := by decide +kernel
theorem dX1_init_96 : decode cX1_init 96 = .ok (.newarray .byte, 2) := by decide +kernel
theorem dX1_init_98 : decode cX1_init 98 = .ok (.putfield 44, 3) := by decide +kernel
theorem dX1_init_101 : decode cX1_init 101 = .ok (.aload_n 0, 1) := by decide +kernel
theorem dX1_init_102 : decode cX1_init 102 = .ok (.iload_n 1, 1) := by decide +kernel
theorem dX1_init_103 : decode cX1_init 103 = .ok (.iconst 4, 1) := by decide +kernel
theorem dX1_init_104 : decode cX1_init 104 = .ok (.if_icmp .ge 7, 3) := by decide +kernel
theorem dX1_init_107 : decode cX1_init 107 = .ok (.iconst 4, 1) := by decide +kernel
theorem dX1_init_108 : decode cX1_init 108 = .ok (.goto 15, 3) := by decide +kernel
theorem dX1_init_111 : decode cX1_init 111 = .ok (.iload_n 1, 1) := by decide +kernel
theorem dX1_init_112 : decode cX1_init 112 = .ok (.bipush 12, 2) := by decide +kernel
theorem dX1_init_114 : decode cX1_init 114 = .ok (.if_icmp .le 8, 3) := by decide +kernel
theorem dX1_init_117 : decode cX1_init 117 = .ok (.bipush 12, 2) := by decide +kernel
theorem dX1_init_119 : decode cX1_init 119 = .ok (.goto 4, 3) := by decide +kernel
theorem dX1_init_122 : decode cX1_init 122 = .ok (.iload_n 1, 1) := by decide +kernel
theorem dX1_init_123 : decode cX1_init 123 = .ok (.putfield 47, 3) := by decide +kernel
theorem dX1_init_126 : decode cX1_init 126 = .ok (.aload_n 0, 1) := by decide +kernel
theorem dX1_init_127 : decode cX1_init 127 = .ok (.iload_n 2, 1) := by decide +kernel
theorem dX1_init_128 : decode cX1_init 128 = .ok (.iconst 4, 1) := by decide +kernel
theorem dX1_init_129 : decode cX1_init 129 = .ok (.if_icmp .ge 7, 3) := by decide +kernel
theorem dX1_init_132 : decode cX1_init 132 = .ok (.iconst 4, 1) := by decide +kernel
theorem dX1_init_133 : decode cX1_init 133 = .ok (.goto 15, 3) := by decide +kernel
theorem dX1_init_136 : decode cX1_init 136 = .ok (.iload_n 2, 1) := by decide +kernel
theorem dX1_init_137 : decode cX1_init 137 = .ok (.bipush 12, 2) := by decide +kernel
theorem dX1_init_139 : decode cX1_init 139 = .ok (.if_icmp .le 8, 3) := by decide +kernel
theorem dX1_init_142 : decode cX1_init 142 = .ok (.bipush 12, 2) := by decide +kernel
theorem dX1_init_144 : decode cX1_init 144 = .ok (.goto 4, 3) := by decide +kernel
theorem dX1_init_147 : decode cX1_init 147 = .ok (.iload_n 2, 1) := by decide +kernel
theorem dX1_init_148 : decode cX1_init 148 = .ok (.putfield 51, 3) := by decide +kernel
theorem dX1_init_151 : decode cX1_init 151 = .ok (.iconst 0, 1) := by decide +kernel
theorem dX1_init_152 : decode cX1_init 152 = .ok (.istore_n 3, 1) := by decide +kernel
theorem dX1_init_153 : decode cX1_init 153 = .ok (.iload_n 3, 1) := by decide +kernel
theorem dX1_init_154 : decode cX1_init 154 = .ok (.iconst 3, 1) := by decide +kernel
theorem dX1_init_155 : decode cX1_init 155 = .ok (.if_icmp .ge 33, 3) := by decide +kernel
theorem dX1_init_158 : decode cX1_init 158 = .ok (.aload_n 0, 1) := by decide +kernel
theorem dX1_init_159 : decode cX1_init 159 = .ok (.getfield 13, 3) := by decide +kernel
theorem dX1_init_162 : decode cX1_init 162 = .ok (.iload_n 3, 1) := by decide +kernel
theorem dX1_init_163 : decode cX1_init 163 = .ok (.iconst 1, 1) := by decide +kernel
theorem dX1_init_164 : decode cX1_init 164 = .ok (.bastore, 1) := by decide +kernel
theorem dX1_init_165 : decode cX1_init 165 = .ok (.aload_n 0, 1) := by decide +kernel
theorem dX1_init_166 : decode cX1_init 166 = .ok (.getfield 16, 3) := by decide +kernel
theorem dX1_init_169 : decode cX1_init 169 = .ok (.iload_n 3, 1) := by decide +kernel
theorem dX1_init_170 : decode cX1_init 170 = .ok (.iconst 1, 1) := by decide +kernel
theorem dX1_init_171 : decode cX1_init 171 = .ok (.bastore, 1) := by decide +kernel
theorem dX1_init_172 : decode cX1_init 172 = .ok (.aload_n 0, 1) := by decide +kernel
theorem dX1_init_173 : decode cX1_init 173 = .ok (.getfield 19, 3) := by decide +kernel
theorem dX1_init_176 : decode cX1_init 176 = .ok (.bipush 16, 2) := by decide +kernel
theorem dX1_init_178 : decode cX1_init 178 = .ok (.iload_n 3, 1) := by decide +kernel
theorem dX1_init_179 : decode cX1_init 179 = .ok (.imul, 1) := by decide +kernel
theorem dX1_init_180 : decode cX1_init 180 = .ok (.iconst 1, 1) := by decide +kernel
theorem dX1_init_181 : decode cX1_init 181 = .ok (.bastore, 1) := by decide +kernel
theorem dX1_init_182 : decode cX1_init 182 = .ok (.iinc 3 1, 3) := by decide +kernel
theorem dX1_init_185 : decode cX1_init 185 = .ok (.goto (-32), 3) := by decide +kernel
theorem dX1_init_188 : decode cX1_init 188 = .ok (.return_, 1) := by decide +kernel
theorem dX1_write_0 : decode cX1_write 0 = .ok (.aload_n 0, 1) := by decide +kernel
theorem dX1_write_1 : decode cX1_write 1 = .ok (.iload_n 1, 1) := by decide +kernel
theorem dX1_write_2 : decode cX1_write 2 = .ok (.iload_n 2, 1) := by decide +kernel
theorem dX1_write_3 : decode cX1_write 3 = .ok (.invokevirtual 54, 3) := by decide +kernel
theorem dX1_write_6 : decode cX1_write 6 = .ok (.ifCond .eq 12, 3) := by decide +kernel
theorem dX1_write_9 : decode cX1_write 9 = .ok (.iload_n 3, 1) := by decide +kernel
theorem dX1_write_10 : decode cX1_write 10 = .ok (.ifCond .lt 8, 3) := by decide +kernel
theorem dX1_write_13 : decode cX1_write 13 = .ok (.iload_n 3, 1) := by decide +kernel
theorem dX1_write_14 : decode cX1_write 14 = .ok (.iconst 2, 1) := by decide +kernel
theorem dX1_write_15 : decode cX1_write 15 = .ok (.if_icmp .le 5, 3) := by decide +kernel
theorem dX1_write_18 : decode cX1_write 18 = .ok (.iconst 0, 1) := by decide +kernel
theorem dX1_write_19 : decode cX1_write 19 = .ok (.ireturn, 1) := by decide +kernel
theorem dX1_write_20 : decode cX1_write 20 = .ok (.aload_n 0, 1) := by decide +kernel
theorem dX1_write_21 : decode cX1_write 21 = .ok (.getfield 7, 3) := by decide +kernel
theorem dX1_write_24 : decode cX1_write 24 = .ok (.bipush 12, 2) := by decide +kernel
theorem dX1_write_26 : decode cX1_write 26 = .ok (.iload_n 2, 1) := by decide +kernel
theorem dX1_write_27 : decode cX1_write 27 = .ok (.imul, 1) := by decide +kernel
theorem dX1_write_28 : decode cX1_write 28 = .ok (.iload_n 1, 1) := by decide +kernel
theorem dX1_write_29 : decode cX1_write 29 = .ok (.iadd, 1) := by decide +kernel
theorem dX1_write_30 : decode cX1_write 30 = .ok (.iload_n 3, 1) := by decide +kernel
theorem dX1_write_31 : decode cX1_write 31 = .ok (.i2b, 1) := by decide +kernel
theorem dX1_write_32 : decode cX1_write 32 = .ok (.bastore, 1) := by decide +kernel
theorem dX1_write_33 : decode cX1_write 33 = .ok (.aload_n 0, 1) := by decide +kernel
theorem dX1_write_34 : decode cX1_write 34 = .ok (.iconst 0, 1) := by decide +kernel
theorem dX1_write_35 : decode cX1_write 35 = .ok (.putfield 58, 3) := by decide +kernel
theorem dX1_write_38 : decode cX1_write 38 = .ok (.iconst 1, 1) := by decide +kernel
theorem dX1_write_39 : decode cX1_write 39 = .ok (.ireturn, 1) := by decide +kernel
theorem dX1_inText_0 : decode cX1_inText 0 = .ok (.iload_n 1, 1) := by decide +kernel
theorem dX1_inText_1 : decode cX1_inText 1 = .ok (.ifCond .lt 27, 3) := by decide +kernel
theorem dX1_inText_4 : decode cX1_inText 4 = .ok (.iload_n 1, 1) := by decide +kernel
theorem dX1_inText_5 : decode cX1_inText 5 = .ok (.aload_n 0, 1) := by decide +kernel
theorem dX1_inText_6 : decode cX1_inText 6 = .ok (.getfield 47, 3) := by decide +kernel
theorem dX1_inText_9 : decode cX1_inText 9 = .ok (.if_icmp .ge 19, 3) := by decide +kernel
theorem dX1_inText_12 : decode cX1_inText 12 = .ok (.iload_n 2, 1) := by decide +kernel
theorem dX1_inText_13 : decode cX1_inText 13 = .ok (.ifCond .lt 15, 3) := by decide +kernel
theorem dX1_inText_16 : decode cX1_inText 16 = .ok (.iload_n 2, 1) := by decide +kernel
theorem dX1_inText_17 : decode cX1_inText 17 = .ok (.aload_n 0, 1) := by decide +kernel
theorem dX1_inText_18 : decode cX1_inText 18 = .ok (.getfield 51, 3) := by decide +kernel
theorem dX1_inText_21 : decode cX1_inText 21 = .ok (.if_icmp .ge 7, 3) := by decide +kernel
theorem dX1_inText_24 : decode cX1_inText 24 = .ok (.iconst 1, 1) := by decide +kernel
theorem dX1_inText_25 : decode cX1_inText 25 = .ok (.goto 4, 3) := by decide +kernel
theorem dX1_inText_28 : decode cX1_inText 28 = .ok (.iconst 0, 1) := by decide +kernel
theorem dX1_inText_29 : decode cX1_inText 29 = .ok (.ireturn, 1) := by decide +kernel
theorem dX1_shape_0 : decode cX1_shape 0 = .ok (.aload_n 0, 1) := by decide +kernel
theorem dX1_shape_1 : decode cX1_shape 1 = .ok (.iload_n 1, 1) := by decide +kernel
theorem dX1_shape_2 : decode cX1_shape 2 = .ok (.invokevirtual 62, 3) := by decide +kernel
theorem dX1_shape_5 : decode cX1_shape 5 = .ok (.ifCond .eq 23, 3) := by decide +kernel
theorem dX1_shape_8 : decode cX1_shape 8 = .ok (.iload_n 2, 1) := by decide +kernel
theorem dX1_shape_9 : decode cX1_shape 9 = .ok (.iconst 1, 1) := by decide +kernel
theorem dX1_shape_10 : decode cX1_shape 10 = .ok (.if_icmp .lt 18, 3) := by decide +kernel
theorem dX1_shape_13 : decode cX1_shape 13 = .ok (.iload_n 2, 1) := by decide +kernel
theorem dX1_shape_14 : decode cX1_shape 14 = .ok (.iconst 4, 1) := by decide +kernel
theorem dX1_shape_15 : decode cX1_shape 15 = .ok (.if_icmp .gt 13, 3) := by decide +kernel
theorem dX1_shape_18 : decode cX1_shape 18 = .ok (.iload_n 3, 1) := by decide +kernel
theorem dX1_shape_19 : decode cX1_shape 19 = .ok (.iconst 1, 1) := by decide +kernel
theorem dX1_shape_20 : decode cX1_shape 20 = .ok (.if_icmp .lt 8, 3) := by decide +kernel
theorem dX1_shape_23 : decode cX1_shape 23 = .ok (.iload_n 3, 1) := by decide +kernel
theorem dX1_shape_24 : decode cX1_shape 24 = .ok (.iconst 4, 1) := by decide +kernel
theorem dX1_shape_25 : decode cX1_shape 25 = .ok (.if_icmp .le 5, 3) := by decide +kernel
theorem dX1_shape_28 : decode cX1_shape 28 = .ok (.iconst 0, 1) := by decide +kernel
theorem dX1_shape_29 : decode cX1_shape 29 = .ok (.ireturn, 1) := by decide +kernel
theorem dX1_shape_30 : decode cX1_shape 30 = .ok (.aload_n 0, 1) := by decide +kernel
theorem dX1_shape_31 : decode cX1_shape 31 = .ok (.getfield 13, 3) := by decide +kernel
theorem dX1_shape_34 : decode cX1_shape 34 = .ok (.iload_n 1, 1) := by decide +kernel
theorem dX1_shape_35 : decode cX1_shape 35 = .ok (.iload_n 2, 1) := by decide +kernel
theorem dX1_shape_36 : decode cX1_shape 36 = .ok (.i2b, 1) := by decide +kernel
theorem dX1_shape_37 : decode cX1_shape 37 = .ok (.bastore, 1) := by decide +kernel
theorem dX1_shape_38 : decode cX1_shape 38 = .ok (.aload_n 0, 1) := by decide +kernel
theorem dX1_shape_39 : decode cX1_shape 39 = .ok (.getfield 16, 3) := by decide +kernel
theorem dX1_shape_42 : decode cX1_shape 42 = .ok (.iload_n 1, 1) := by decide +kernel
theorem dX1_shape_43 : decode cX1_shape 43 = .ok (.iload_n 3, 1) := by decide +kernel
theorem dX1_shape_44 : decode cX1_shape 44 = .ok (.i2b, 1) := by decide +kernel
theorem dX1_shape_45 : decode cX1_shape 45 = .ok (.bastore, 1) := by decide +kernel
theorem dX1_shape_46 : decode cX1_shape 46 = .ok (.iconst 0, 1) := by decide +kernel
theorem dX1_shape_47 : decode cX1_shape 47 = .ok (.istore 4, 2) := by decide +kernel
theorem dX1_shape_49 : decode cX1_shape 49 = .ok (.iload 4, 2) := by decide +kernel
theorem dX1_shape_51 : decode cX1_shape 51 = .ok (.bipush 16, 2) := by decide +kernel
theorem dX1_shape_53 : decode cX1_shape 53 = .ok (.if_icmp .ge 22, 3) := by decide +kernel
theorem dX1_shape_56 : decode cX1_shape 56 = .ok (.aload_n 0, 1) := by decide +kernel
theorem dX1_shape_57 : decode cX1_shape 57 = .ok (.getfield 19, 3) := by decide +kernel
theorem dX1_shape_60 : decode cX1_shape 60 = .ok (.bipush 16, 2) := by decide +kernel
theorem dX1_shape_62 : decode cX1_shape 62 = .ok (.iload_n 1, 1) := by decide +kernel
theorem dX1_shape_63 : decode cX1_shape 63 = .ok (.imul, 1) := by decide +kernel
theorem dX1_shape_64 : decode cX1_shape 64 = .ok (.iload 4, 2) := by decide +kernel
theorem dX1_shape_66 : decode cX1_shape 66 = .ok (.iadd, 1) := by decide +kernel
theorem dX1_shape_67 : decode cX1_shape 67 = .ok (.iconst 0, 1) := by decide +kernel
theorem dX1_shape_68 : decode cX1_shape 68 = .ok (.bastore, 1) := by decide +kernel
theorem dX1_shape_69 : decode cX1_shape 69 = .ok (.iinc 4 1, 3) := by decide +kernel
theorem dX1_shape_72 : decode cX1_shape 72 = .ok (.goto (-23), 3) := by decide +kernel
theorem dX1_shape_75 : decode cX1_shape 75 = .ok (.aload_n 0, 1) := by decide +kernel
theorem dX1_shape_76 : decode cX1_shape 76 = .ok (.iconst 0, 1) := by decide +kernel
theorem dX1_shape_77 : decode cX1_shape 77 = .ok (.putfield 58, 3) := by decide +kernel
theorem dX1_shape_80 : decode cX1_shape 80 = .ok (.iconst 1, 1) := by decide +kernel
theorem dX1_shape_81 : decode cX1_shape 81 = .ok (.ireturn, 1) := by decide +kernel
theorem dX1_isPattern_0 : decode cX1_isPattern 0 = .ok (.iload_n 1, 1) := by decide +kernel
theorem dX1_isPattern_1 : decode cX1_isPattern 1 = .ok (.ifCond .lt 12, 3) := by decide +kernel
theorem dX1_isPattern_4 : decode cX1_isPattern 4 = .ok (.iload_n 1, 1) := by decide +kernel
theorem dX1_isPattern_5 : decode cX1_isPattern 5 = .ok (.iconst 2, 1) := by decide +kernel
theorem dX1_isPattern_6 : decode cX1_isPattern 6 = .ok (.if_icmp .gt 7, 3) := by decide +kernel
theorem dX1_isPattern_9 : decode cX1_isPattern 9 = .ok (.iconst 1, 1) := by decide +kernel
theorem dX1_isPattern_10 : decode cX1_isPattern 10 = .ok (.goto 4, 3) := by decide +kernel
theorem dX1_isPattern_13 : decode cX1_isPattern 13 = .ok (.iconst 0, 1) := by decide +kernel
theorem dX1_isPattern_14 : decode cX1_isPattern 14 = .ok (.ireturn, 1) := by decide +kernel
theorem dX1_paint_0 : decode cX1_paint 0 = .ok (.aload_n 0, 1) := by decide +kernel
theorem dX1_paint_1 : decode cX1_paint 1 = .ok (.iload_n 1, 1) := by decide +kernel
theorem dX1_paint_2 : decode cX1_paint 2 = .ok (.invokevirtual 62, 3) := by decide +kernel
theorem dX1_paint_5 : decode cX1_paint 5 = .ok (.ifCond .eq 14, 3) := by decide +kernel
theorem dX1_paint_8 : decode cX1_paint 8 = .ok (.iload 4, 2) := by decide +kernel
theorem dX1_paint_10 : decode cX1_paint 10 = .ok (.ifCond .lt 9, 3) := by decide +kernel
theorem dX1_paint_13 : decode cX1_paint 13 = .ok (.iload 4, 2) := by decide +kernel
theorem dX1_paint_15 : decode cX1_paint 15 = .ok (.iconst 2, 1) := by decide +kernel
theorem dX1_paint_16 : decode cX1_paint 16 = .ok (.if_icmp .le 5, 3) := by decide +kernel
theorem dX1_paint_19 : decode cX1_paint 19 = .ok (.iconst 0, 1) := by decide +kernel
theorem dX1_paint_20 : decode cX1_paint 20 = .ok (.ireturn, 1) := by decide +kernel
theorem dX1_paint_21 : decode cX1_paint 21 = .ok (.iload_n 2, 1) := by decide +kernel
theorem dX1_paint_22 : decode cX1_paint 22 = .ok (.ifCond .lt 27, 3) := by decide +kernel
theorem dX1_paint_25 : decode cX1_paint 25 = .ok (.iload_n 2, 1) := by decide +kernel
theorem dX1_paint_26 : decode cX1_paint 26 = .ok (.aload_n 0, 1) := by decide +kernel
theorem dX1_paint_27 : decode cX1_paint 27 = .ok (.getfield 13, 3) := by decide +kernel
theorem dX1_paint_30 : decode cX1_paint 30 = .ok (.iload_n 1, 1) := by decide +kernel
theorem dX1_paint_31 : decode cX1_paint 31 = .ok (.baload, 1) := by decide +kernel
theorem dX1_paint_32 : decode cX1_paint 32 = .ok (.if_icmp .ge 17, 3) := by decide +kernel
theorem dX1_paint_35 : decode cX1_paint 35 = .ok (.iload_n 3, 1) := by decide +kernel
theorem dX1_paint_36 : decode cX1_paint 36 = .ok (.ifCond .lt 13, 3) := by decide +kernel
theorem dX1_paint_39 : decode cX1_paint 39 = .ok (.iload_n 3, 1) := by decide +kernel
theorem dX1_paint_40 : decode cX1_paint 40 = .ok (.aload_n 0, 1) := by decide +kernel
theorem dX1_paint_41 : decode cX1_paint 41 = .ok (.getfield 16, 3) := by decide +kernel
theorem dX1_paint_44 : decode cX1_paint 44 = .ok (.iload_n 1, 1) := by decide +kernel
theorem dX1_paint_45 : decode cX1_paint 45 = .ok (.baload, 1) := by decide +kernel
theorem dX1_paint_46 : decode cX1_paint 46 = .ok (.if_icmp .lt 5, 3) := by decide +kernel
theorem dX1_paint_49 : decode cX1_paint 49 = .ok (.iconst 0, 1) := by decide +kernel
theorem dX1_paint_50 : decode cX1_paint 50 = .ok (.ireturn, 1) := by decide +kernel
theorem dX1_paint_51 : decode cX1_paint 51 = .ok (.aload_n 0, 1) := by decide +kernel
theorem dX1_paint_52 : decode cX1_paint 52 = .ok (.getfield 19, 3) := by decide +kernel
theorem dX1_paint_55 : decode cX1_paint 55 = .ok (.bipush 16, 2) := by decide +kernel
theorem dX1_paint_57 : decode cX1_paint 57 = .ok (.iload_n 1, 1) := by decide +kernel
theorem dX1_paint_58 : decode cX1_paint 58 = .ok (.imul, 1) := by decide +kernel
theorem dX1_paint_59 : decode cX1_paint 59 = .ok (.iconst 4, 1) := by decide +kernel
theorem dX1_paint_60 : decode cX1_paint 60 = .ok (.iload_n 3, 1) := by decide +kernel
theorem dX1_paint_61 : decode cX1_paint 61 = .ok (.imul, 1) := by decide +kernel
theorem dX1_paint_62 : decode cX1_paint 62 = .ok (.iadd, 1) := by decide +kernel
theorem dX1_paint_63 : decode cX1_paint 63 = .ok (.iload_n 2, 1) := by decide +kernel
theorem dX1_paint_64 : decode cX1_paint 64 = .ok (.iadd, 1) := by decide +kernel
theorem dX1_paint_65 : decode cX1_paint 65 = .ok (.iload 4, 2) := by decide +kernel
theorem dX1_paint_67 : decode cX1_paint 67 = .ok (.i2b, 1) := by decide +kernel
theorem dX1_paint_68 : decode cX1_paint 68 = .ok (.bastore, 1) := by decide +kernel
theorem dX1_paint_69 : decode cX1_paint 69 = .ok (.aload_n 0, 1) := by decide +kernel
theorem dX1_paint_70 : decode cX1_paint 70 = .ok (.iconst 0, 1) := by decide +kernel
theorem dX1_paint_71 : decode cX1_paint 71 = .ok (.putfield 58, 3) := by decide +kernel
theorem dX1_paint_74 : decode cX1_paint 74 = .ok (.iconst 1, 1) := by decide +kernel
theorem dX1_paint_75 : decode cX1_paint 75 = .ok (.ireturn, 1) := by decide +kernel
theorem dX1_copy_0 : decode cX1_copy 0 = .ok (.aload_n 0, 1) := by decide +kernel
theorem dX1_copy_1 : decode cX1_copy 1 = .ok (.iload_n 1, 1) := by decide +kernel
theorem dX1_copy_2 : decode cX1_copy 2 = .ok (.invokevirtual 62, 3) := by decide +kernel
theorem dX1_copy_5 : decode cX1_copy 5 = .ok (.ifCond .eq 13, 3) := by decide +kernel
theorem dX1_copy_8 : decode cX1_copy 8 = .ok (.aload_n 0, 1) := by decide +kernel
theorem dX1_copy_9 : decode cX1_copy 9 = .ok (.iload_n 1, 1) := by decide +kernel
theorem dX1_copy_10 : decode cX1_copy 10 = .ok (.iload_n 2, 1) := by decide +kernel
theorem dX1_copy_11 : decode cX1_copy 11 = .ok (.iload_n 3, 1) := by decide +kernel
theorem dX1_copy_12 : decode cX1_copy 12 = .ok (.invokevirtual 66, 3) := by decide +kernel
theorem dX1_copy_15 : decode cX1_copy 15 = .ok (.ifCond .ne 5, 3) := by decide +kernel
theorem dX1_copy_18 : decode cX1_copy 18 = .ok (.iconst 0, 1) := by decide +kernel
theorem dX1_copy_19 : decode cX1_copy 19 = .ok (.ireturn, 1) := by decide +kernel
theorem dX1_copy_20 : decode cX1_copy 20 = .ok (.iconst 0, 1) := by decide +kernel
theorem dX1_copy_21 : decode cX1_copy 21 = .ok (.istore 4, 2) := by decide +kernel
theorem dX1_copy_23 : decode cX1_copy 23 = .ok (.iload 4, 2) := by decide +kernel
theorem dX1_copy_25 : decode cX1_copy 25 = .ok (.aload_n 0, 1) := by decide +kernel
theorem dX1_copy_26 : decode cX1_copy 26 = .ok (.getfield 16, 3) := by decide +kernel
theorem dX1_copy_29 : decode cX1_copy 29 = .ok (.iload_n 1, 1) := by decide +kernel
theorem dX1_copy_30 : decode cX1_copy 30 = .ok (.baload, 1) := by decide +kernel
theorem dX1_copy_31 : decode cX1_copy 31 = .ok (.if_icmp .ge 63, 3) := by decide +kernel
theorem dX1_copy_34 : decode cX1_copy 34 = .ok (.iconst 0, 1) := by decide +kernel
theorem dX1_copy_35 : decode cX1_copy 35 = .ok (.istore 5, 2) := by decide +kernel
theorem dX1_copy_37 : decode cX1_copy 37 = .ok (.iload 5, 2) := by decide +kernel
theorem dX1_copy_39 : decode cX1_copy 39 = .ok (.aload_n 0, 1) := by decide +kernel
theorem dX1_copy_40 : decode cX1_copy 40 = .ok (.getfield 13, 3) := by decide +kernel
theorem dX1_copy_43 : decode cX1_copy 43 = .ok (.iload_n 1, 1) := by decide +kernel
theorem dX1_copy_44 : decode cX1_copy 44 = .ok (.baload, 1) := by decide +kernel
theorem dX1_copy_45 : decode cX1_copy 45 = .ok (.if_icmp .ge 43, 3) := by decide +kernel
theorem dX1_copy_48 : decode cX1_copy 48 = .ok (.aload_n 0, 1) := by decide +kernel
theorem dX1_copy_49 : decode cX1_copy 49 = .ok (.getfield 19, 3) := by decide +kernel
theorem dX1_copy_52 : decode cX1_copy 52 = .ok (.bipush 16, 2) := by decide +kernel
theorem dX1_copy_54 : decode cX1_copy 54 = .ok (.iload_n 1, 1) := by decide +kernel
theorem dX1_copy_55 : decode cX1_copy 55 = .ok (.imul, 1) := by decide +kernel
theorem dX1_copy_56 : decode cX1_copy 56 = .ok (.iconst 4, 1) := by decide +kernel
theorem dX1_copy_57 : decode cX1_copy 57 = .ok (.iload 4, 2) := by decide +kernel
theorem dX1_copy_59 : decode cX1_copy 59 = .ok (.imul, 1) := by decide +kernel
theorem dX1_copy_60 : decode cX1_copy 60 = .ok (.iadd, 1) := by decide +kernel
theorem dX1_copy_61 : decode cX1_copy 61 = .ok (.iload 5, 2) := by decide +kernel
theorem dX1_copy_63 : decode cX1_copy 63 = .ok (.iadd, 1) := by decide +kernel
theorem dX1_copy_64 : decode cX1_copy 64 = .ok (.aload_n 0, 1) := by decide +kernel
theorem dX1_copy_65 : decode cX1_copy 65 = .ok (.getfield 7, 3) := by decide +kernel
theorem dX1_copy_68 : decode cX1_copy 68 = .ok (.bipush 12, 2) := by decide +kernel
theorem dX1_copy_70 : decode cX1_copy 70 = .ok (.iload_n 3, 1) := by decide +kernel
theorem dX1_copy_71 : decode cX1_copy 71 = .ok (.iload 4, 2) := by decide +kernel
theorem dX1_copy_73 : decode cX1_copy 73 = .ok (.iadd, 1) := by decide +kernel
theorem dX1_copy_74 : decode cX1_copy 74 = .ok (.imul, 1) := by decide +kernel
theorem dX1_copy_75 : decode cX1_copy 75 = .ok (.iload_n 2, 1) := by decide +kernel
theorem dX1_copy_76 : decode cX1_copy 76 = .ok (.iadd, 1) := by decide +kernel
theorem dX1_copy_77 : decode cX1_copy 77 = .ok (.iload 5, 2) := by decide +kernel
theorem dX1_copy_79 : decode cX1_copy 79 = .ok (.iadd, 1) := by decide +kernel
theorem dX1_copy_80 : decode cX1_copy 80 = .ok (.baload, 1) := by decide +kernel
theorem dX1_copy_81 : decode cX1_copy 81 = .ok (.bastore, 1) := by decide +kernel
theorem dX1_copy_82 : decode cX1_copy 82 = .ok (.iinc 5 1, 3) := by decide +kernel
theorem dX1_copy_85 : decode cX1_copy 85 = .ok (.goto (-48), 3) := by decide +kernel
theorem dX1_copy_88 : decode cX1_copy 88 = .ok (.iinc 4 1, 3) := by decide +kernel
theorem dX1_copy_91 : decode cX1_copy 91 = .ok (.goto (-68), 3) := by decide +kernel
theorem dX1_copy_94 : decode cX1_copy 94 = .ok (.aload_n 0, 1) := by decide +kernel
theorem dX1_copy_95 : decode cX1_copy 95 = .ok (.iconst 0, 1) := by decide +kernel
theorem dX1_copy_96 : decode cX1_copy 96 = .ok (.putfield 58, 3) := by decide +kernel
theorem dX1_copy_99 : decode cX1_copy 99 = .ok (.iconst 1, 1) := by decide +kernel
theorem dX1_copy_100 : decode cX1_copy 100 = .ok (.ireturn, 1) := by decide +kernel
theorem dX1_fits_0 : decode cX1_fits 0 = .ok (.iload_n 2, 1) := by decide +kernel
theorem dX1_fits_1 : decode cX1_fits 1 = .ok (.ifCond .lt 41, 3) := by decide +kernel
theorem dX1_fits_4 : decode cX1_fits 4 = .ok (.iload_n 2, 1) := by decide +kernel
theorem dX1_fits_5 : decode cX1_fits 5 = .ok (.aload_n 0, 1) := by decide +kernel
theorem dX1_fits_6 : decode cX1_fits 6 = .ok (.getfield 47, 3) := by decide +kernel
theorem dX1_fits_9 : decode cX1_fits 9 = .ok (.aload_n 0, 1) := by decide +kernel
theorem dX1_fits_10 : decode cX1_fits 10 = .ok (.getfield 13, 3) := by decide +kernel
theorem dX1_fits_13 : decode cX1_fits 13 = .ok (.iload_n 1, 1) := by decide +kernel
theorem dX1_fits_14 : decode cX1_fits 14 = .ok (.baload, 1) := by decide +kernel
theorem dX1_fits_15 : decode cX1_fits 15 = .ok (.isub, 1) := by decide +kernel
theorem dX1_fits_16 : decode cX1_fits 16 = .ok (.if_icmp .gt 26, 3) := by decide +kernel
theorem dX1_fits_19 : decode cX1_fits 19 = .ok (.iload_n 3, 1) := by decide +kernel
theorem dX1_fits_20 : decode cX1_fits 20 = .ok (.ifCond .lt 22, 3) := by decide +kernel
theorem dX1_fits_23 : decode cX1_fits 23 = .ok (.iload_n 3, 1) := by decide +kernel
theorem dX1_fits_24 : decode cX1_fits 24 = .ok (.aload_n 0, 1) := by decide +kernel
theorem dX1_fits_25 : decode cX1_fits 25 = .ok (.getfield 51, 3) := by decide +kernel
theorem dX1_fits_28 : decode cX1_fits 28 = .ok (.aload_n 0, 1) := by decide +kernel
end
section
set_option maxRecDepth 100000
theorem dX1_fits_29 : decode cX1_fits 29 = .ok (.getfield 16, 3) := by decide +kernel
theorem dX1_fits_32 : decode cX1_fits 32 = .ok (.iload_n 1, 1) := by decide +kernel
theorem dX1_fits_33 : decode cX1_fits 33 = .ok (.baload, 1) := by decide +kernel
theorem dX1_fits_34 : decode cX1_fits 34 = .ok (.isub, 1) := by decide +kernel
theorem dX1_fits_35 : decode cX1_fits 35 = .ok (.if_icmp .gt 7, 3) := by decide +kernel
theorem dX1_fits_38 : decode cX1_fits 38 = .ok (.iconst 1, 1) := by decide +kernel
theorem dX1_fits_39 : decode cX1_fits 39 = .ok (.goto 4, 3) := by decide +kernel
theorem dX1_fits_42 : decode cX1_fits 42 = .ok (.iconst 0, 1) := by decide +kernel
theorem dX1_fits_43 : decode cX1_fits 43 = .ok (.ireturn, 1) := by decide +kernel
theorem dX1_stamp_0 : decode cX1_stamp 0 = .ok (.aload_n 0, 1) := by decide +kernel
theorem dX1_stamp_1 : decode cX1_stamp 1 = .ok (.iload_n 1, 1) := by decide +kernel
theorem dX1_stamp_2 : decode cX1_stamp 2 = .ok (.invokevirtual 62, 3) := by decide +kernel
theorem dX1_stamp_5 : decode cX1_stamp 5 = .ok (.ifCond .eq 13, 3) := by decide +kernel
theorem dX1_stamp_8 : decode cX1_stamp 8 = .ok (.aload_n 0, 1) := by decide +kernel
theorem dX1_stamp_9 : decode cX1_stamp 9 = .ok (.iload_n 1, 1) := by decide +kernel
theorem dX1_stamp_10 : decode cX1_stamp 10 = .ok (.iload_n 2, 1) := by decide +kernel
theorem dX1_stamp_11 : decode cX1_stamp 11 = .ok (.iload_n 3, 1) := by decide +kernel
theorem dX1_stamp_12 : decode cX1_stamp 12 = .ok (.invokevirtual 66, 3) := by decide +kernel
theorem dX1_stamp_15 : decode cX1_stamp 15 = .ok (.ifCond .ne 5, 3) := by decide +kernel
theorem dX1_stamp_18 : decode cX1_stamp 18 = .ok (.iconst 0, 1) := by decide +kernel
theorem dX1_stamp_19 : decode cX1_stamp 19 = .ok (.ireturn, 1) := by decide +kernel
theorem dX1_stamp_20 : decode cX1_stamp 20 = .ok (.iconst 0, 1) := by decide +kernel
theorem dX1_stamp_21 : decode cX1_stamp 21 = .ok (.istore 4, 2) := by decide +kernel
theorem dX1_stamp_23 : decode cX1_stamp 23 = .ok (.iload 4, 2) := by decide +kernel
theorem dX1_stamp_25 : decode cX1_stamp 25 = .ok (.aload_n 0, 1) := by decide +kernel
theorem dX1_stamp_26 : decode cX1_stamp 26 = .ok (.getfield 16, 3) := by decide +kernel
theorem dX1_stamp_29 : decode cX1_stamp 29 = .ok (.iload_n 1, 1) := by decide +kernel
theorem dX1_stamp_30 : decode cX1_stamp 30 = .ok (.baload, 1) := by decide +kernel
theorem dX1_stamp_31 : decode cX1_stamp 31 = .ok (.if_icmp .ge 63, 3) := by decide +kernel
theorem dX1_stamp_34 : decode cX1_stamp 34 = .ok (.iconst 0, 1) := by decide +kernel
theorem dX1_stamp_35 : decode cX1_stamp 35 = .ok (.istore 5, 2) := by decide +kernel
theorem dX1_stamp_37 : decode cX1_stamp 37 = .ok (.iload 5, 2) := by decide +kernel
theorem dX1_stamp_39 : decode cX1_stamp 39 = .ok (.aload_n 0, 1) := by decide +kernel
theorem dX1_stamp_40 : decode cX1_stamp 40 = .ok (.getfield 13, 3) := by decide +kernel
theorem dX1_stamp_43 : decode cX1_stamp 43 = .ok (.iload_n 1, 1) := by decide +kernel
theorem dX1_stamp_44 : decode cX1_stamp 44 = .ok (.baload, 1) := by decide +kernel
theorem dX1_stamp_45 : decode cX1_stamp 45 = .ok (.if_icmp .ge 43, 3) := by decide +kernel
theorem dX1_stamp_48 : decode cX1_stamp 48 = .ok (.aload_n 0, 1) := by decide +kernel
theorem dX1_stamp_49 : decode cX1_stamp 49 = .ok (.getfield 7, 3) := by decide +kernel
theorem dX1_stamp_52 : decode cX1_stamp 52 = .ok (.bipush 12, 2) := by decide +kernel
theorem dX1_stamp_54 : decode cX1_stamp 54 = .ok (.iload_n 3, 1) := by decide +kernel
theorem dX1_stamp_55 : decode cX1_stamp 55 = .ok (.iload 4, 2) := by decide +kernel
theorem dX1_stamp_57 : decode cX1_stamp 57 = .ok (.iadd, 1) := by decide +kernel
theorem dX1_stamp_58 : decode cX1_stamp 58 = .ok (.imul, 1) := by decide +kernel
theorem dX1_stamp_59 : decode cX1_stamp 59 = .ok (.iload_n 2, 1) := by decide +kernel
theorem dX1_stamp_60 : decode cX1_stamp 60 = .ok (.iadd, 1) := by decide +kernel
theorem dX1_stamp_61 : decode cX1_stamp 61 = .ok (.iload 5, 2) := by decide +kernel
theorem dX1_stamp_63 : decode cX1_stamp 63 = .ok (.iadd, 1) := by decide +kernel
theorem dX1_stamp_64 : decode cX1_stamp 64 = .ok (.aload_n 0, 1) := by decide +kernel
theorem dX1_stamp_65 : decode cX1_stamp 65 = .ok (.getfield 19, 3) := by decide +kernel
theorem dX1_stamp_68 : decode cX1_stamp 68 = .ok (.bipush 16, 2) := by decide +kernel
theorem dX1_stamp_70 : decode cX1_stamp 70 = .ok (.iload_n 1, 1) := by decide +kernel
theorem dX1_stamp_71 : decode cX1_stamp 71 = .ok (.imul, 1) := by decide +kernel
theorem dX1_stamp_72 : decode cX1_stamp 72 = .ok (.iconst 4, 1) := by decide +kernel
theorem dX1_stamp_73 : decode cX1_stamp 73 = .ok (.iload 4, 2) := by decide +kernel
theorem dX1_stamp_75 : decode cX1_stamp 75 = .ok (.imul, 1) := by decide +kernel
theorem dX1_stamp_76 : decode cX1_stamp 76 = .ok (.iadd, 1) := by decide +kernel
theorem dX1_stamp_77 : decode cX1_stamp 77 = .ok (.iload 5, 2) := by decide +kernel
theorem dX1_stamp_79 : decode cX1_stamp 79 = .ok (.iadd, 1) := by decide +kernel
theorem dX1_stamp_80 : decode cX1_stamp 80 = .ok (.baload, 1) := by decide +kernel
theorem dX1_stamp_81 : decode cX1_stamp 81 = .ok (.bastore, 1) := by decide +kernel
theorem dX1_stamp_82 : decode cX1_stamp 82 = .ok (.iinc 5 1, 3) := by decide +kernel
theorem dX1_stamp_85 : decode cX1_stamp 85 = .ok (.goto (-48), 3) := by decide +kernel
theorem dX1_stamp_88 : decode cX1_stamp 88 = .ok (.iinc 4 1, 3) := by decide +kernel
theorem dX1_stamp_91 : decode cX1_stamp 91 = .ok (.goto (-68), 3) := by decide +kernel
theorem dX1_stamp_94 : decode cX1_stamp 94 = .ok (.aload_n 0, 1) := by decide +kernel
theorem dX1_stamp_95 : decode cX1_stamp 95 = .ok (.iconst 0, 1) := by decide +kernel
theorem dX1_stamp_96 : decode cX1_stamp 96 = .ok (.putfield 58, 3) := by decide +kernel
theorem dX1_stamp_99 : decode cX1_stamp 99 = .ok (.iconst 1, 1) := by decide +kernel
theorem dX1_stamp_100 : decode cX1_stamp 100 = .ok (.ireturn, 1) := by decide +kernel
theorem dX1_letter_0 : decode cX1_letter 0 = .ok (.aload_n 0, 1) := by decide +kernel
theorem dX1_letter_1 : decode cX1_letter 1 = .ok (.iload_n 1, 1) := by decide +kernel
theorem dX1_letter_2 : decode cX1_letter 2 = .ok (.iload_n 2, 1) := by decide +kernel
theorem dX1_letter_3 : decode cX1_letter 3 = .ok (.invokevirtual 54, 3) := by decide +kernel
theorem dX1_letter_6 : decode cX1_letter 6 = .ok (.ifCond .eq 17, 3) := by decide +kernel
theorem dX1_letter_9 : decode cX1_letter 9 = .ok (.aload_n 0, 1) := by decide +kernel
theorem dX1_letter_10 : decode cX1_letter 10 = .ok (.getfield 7, 3) := by decide +kernel
theorem dX1_letter_13 : decode cX1_letter 13 = .ok (.bipush 12, 2) := by decide +kernel
theorem dX1_letter_15 : decode cX1_letter 15 = .ok (.iload_n 2, 1) := by decide +kernel
theorem dX1_letter_16 : decode cX1_letter 16 = .ok (.imul, 1) := by decide +kernel
theorem dX1_letter_17 : decode cX1_letter 17 = .ok (.iload_n 1, 1) := by decide +kernel
theorem dX1_letter_18 : decode cX1_letter 18 = .ok (.iadd, 1) := by decide +kernel
theorem dX1_letter_19 : decode cX1_letter 19 = .ok (.baload, 1) := by decide +kernel
theorem dX1_letter_20 : decode cX1_letter 20 = .ok (.goto 4, 3) := by decide +kernel
theorem dX1_letter_23 : decode cX1_letter 23 = .ok (.iconst (-1), 1) := by decide +kernel
theorem dX1_letter_24 : decode cX1_letter 24 = .ok (.ireturn, 1) := by decide +kernel
theorem dX1_occurrences_0 : decode cX1_occurrences 0 = .ok (.aload_n 0, 1) := by decide +kernel
theorem dX1_occurrences_1 : decode cX1_occurrences 1 = .ok (.iload_n 1, 1) := by decide +kernel
theorem dX1_occurrences_2 : decode cX1_occurrences 2 = .ok (.invokevirtual 62, 3) := by decide +kernel
theorem dX1_occurrences_5 : decode cX1_occurrences 5 = .ok (.ifCond .ne 5, 3) := by decide +kernel
theorem dX1_occurrences_8 : decode cX1_occurrences 8 = .ok (.iconst (-1), 1) := by decide +kernel
theorem dX1_occurrences_9 : decode cX1_occurrences 9 = .ok (.ireturn, 1) := by decide +kernel
theorem dX1_occurrences_10 : decode cX1_occurrences 10 = .ok (.aload_n 0, 1) := by decide +kernel
theorem dX1_occurrences_11 : decode cX1_occurrences 11 = .ok (.invokevirtual 70, 3) := by decide +kernel
theorem dX1_occurrences_14 : decode cX1_occurrences 14 = .ok (.iconst 0, 1) := by decide +kernel
theorem dX1_occurrences_15 : decode cX1_occurrences 15 = .ok (.istore_n 2, 1) := by decide +kernel
theorem dX1_occurrences_16 : decode cX1_occurrences 16 = .ok (.iconst 0, 1) := by decide +kernel
theorem dX1_occurrences_17 : decode cX1_occurrences 17 = .ok (.istore_n 3, 1) := by decide +kernel
theorem dX1_occurrences_18 : decode cX1_occurrences 18 = .ok (.iload_n 3, 1) := by decide +kernel
theorem dX1_occurrences_19 : decode cX1_occurrences 19 = .ok (.aload_n 0, 1) := by decide +kernel
theorem dX1_occurrences_20 : decode cX1_occurrences 20 = .ok (.getfield 51, 3) := by decide +kernel
theorem dX1_occurrences_23 : decode cX1_occurrences 23 = .ok (.if_icmp .ge 27, 3) := by decide +kernel
theorem dX1_occurrences_26 : decode cX1_occurrences 26 = .ok (.iload_n 2, 1) := by decide +kernel
theorem dX1_occurrences_27 : decode cX1_occurrences 27 = .ok (.aload_n 0, 1) := by decide +kernel
theorem dX1_occurrences_28 : decode cX1_occurrences 28 = .ok (.aload_n 0, 1) := by decide +kernel
theorem dX1_occurrences_29 : decode cX1_occurrences 29 = .ok (.getfield 40, 3) := by decide +kernel
theorem dX1_occurrences_32 : decode cX1_occurrences 32 = .ok (.bipush 12, 2) := by decide +kernel
theorem dX1_occurrences_34 : decode cX1_occurrences 34 = .ok (.iload_n 1, 1) := by decide +kernel
theorem dX1_occurrences_35 : decode cX1_occurrences 35 = .ok (.imul, 1) := by decide +kernel
theorem dX1_occurrences_36 : decode cX1_occurrences 36 = .ok (.iload_n 3, 1) := by decide +kernel
theorem dX1_occurrences_37 : decode cX1_occurrences 37 = .ok (.iadd, 1) := by decide +kernel
theorem dX1_occurrences_38 : decode cX1_occurrences 38 = .ok (.iaload, 1) := by decide +kernel
theorem dX1_occurrences_39 : decode cX1_occurrences 39 = .ok (.invokevirtual 73, 3) := by decide +kernel
theorem dX1_occurrences_42 : decode cX1_occurrences 42 = .ok (.iadd, 1) := by decide +kernel
theorem dX1_occurrences_43 : decode cX1_occurrences 43 = .ok (.istore_n 2, 1) := by decide +kernel
theorem dX1_occurrences_44 : decode cX1_occurrences 44 = .ok (.iinc 3 1, 3) := by decide +kernel
theorem dX1_occurrences_47 : decode cX1_occurrences 47 = .ok (.goto (-29), 3) := by decide +kernel
theorem dX1_occurrences_50 : decode cX1_occurrences 50 = .ok (.iload_n 2, 1) := by decide +kernel
theorem dX1_occurrences_51 : decode cX1_occurrences 51 = .ok (.ireturn, 1) := by decide +kernel
theorem dX1_search_0 : decode cX1_search 0 = .ok (.aload_n 0, 1) := by decide +kernel
theorem dX1_search_1 : decode cX1_search 1 = .ok (.getfield 58, 3) := by decide +kernel
theorem dX1_search_4 : decode cX1_search 4 = .ok (.ifCond .eq 4, 3) := by decide +kernel
theorem dX1_search_7 : decode cX1_search 7 = .ok (.return_, 1) := by decide +kernel
theorem dX1_search_8 : decode cX1_search 8 = .ok (.aload_n 0, 1) := by decide +kernel
theorem dX1_search_9 : decode cX1_search 9 = .ok (.iconst 1, 1) := by decide +kernel
theorem dX1_search_10 : decode cX1_search 10 = .ok (.putfield 58, 3) := by decide +kernel
theorem dX1_search_13 : decode cX1_search 13 = .ok (.aload_n 0, 1) := by decide +kernel
theorem dX1_search_14 : decode cX1_search 14 = .ok (.invokevirtual 99, 3) := by decide +kernel
theorem dX1_search_17 : decode cX1_search 17 = .ok (.iconst 0, 1) := by decide +kernel
theorem dX1_search_18 : decode cX1_search 18 = .ok (.istore_n 1, 1) := by decide +kernel
theorem dX1_search_19 : decode cX1_search 19 = .ok (.iload_n 1, 1) := by decide +kernel
theorem dX1_search_20 : decode cX1_search 20 = .ok (.iconst 3, 1) := by decide +kernel
theorem dX1_search_21 : decode cX1_search 21 = .ok (.if_icmp .ge 14, 3) := by decide +kernel
theorem dX1_search_24 : decode cX1_search 24 = .ok (.aload_n 0, 1) := by decide +kernel
theorem dX1_search_25 : decode cX1_search 25 = .ok (.iload_n 1, 1) := by decide +kernel
theorem dX1_search_26 : decode cX1_search 26 = .ok (.invokevirtual 102, 3) := by decide +kernel
theorem dX1_search_29 : decode cX1_search 29 = .ok (.iinc 1 1, 3) := by decide +kernel
theorem dX1_search_32 : decode cX1_search 32 = .ok (.goto (-13), 3) := by decide +kernel
theorem dX1_search_35 : decode cX1_search 35 = .ok (.iconst 0, 1) := by decide +kernel
theorem dX1_search_36 : decode cX1_search 36 = .ok (.istore_n 1, 1) := by decide +kernel
theorem dX1_search_37 : decode cX1_search 37 = .ok (.iload_n 1, 1) := by decide +kernel
theorem dX1_search_38 : decode cX1_search 38 = .ok (.bipush 36, 2) := by decide +kernel
theorem dX1_search_40 : decode cX1_search 40 = .ok (.if_icmp .ge 23, 3) := by decide +kernel
theorem dX1_search_43 : decode cX1_search 43 = .ok (.aload_n 0, 1) := by decide +kernel
theorem dX1_search_44 : decode cX1_search 44 = .ok (.getfield 40, 3) := by decide +kernel
theorem dX1_search_47 : decode cX1_search 47 = .ok (.iload_n 1, 1) := by decide +kernel
theorem dX1_search_48 : decode cX1_search 48 = .ok (.iconst 0, 1) := by decide +kernel
theorem dX1_search_49 : decode cX1_search 49 = .ok (.iastore, 1) := by decide +kernel
theorem dX1_search_50 : decode cX1_search 50 = .ok (.aload_n 0, 1) := by decide +kernel
theorem dX1_search_51 : decode cX1_search 51 = .ok (.getfield 44, 3) := by decide +kernel
theorem dX1_search_54 : decode cX1_search 54 = .ok (.iload_n 1, 1) := by decide +kernel
theorem dX1_search_55 : decode cX1_search 55 = .ok (.iconst 0, 1) := by decide +kernel
theorem dX1_search_56 : decode cX1_search 56 = .ok (.bastore, 1) := by decide +kernel
theorem dX1_search_57 : decode cX1_search 57 = .ok (.iinc 1 1, 3) := by decide +kernel
theorem dX1_search_60 : decode cX1_search 60 = .ok (.goto (-23), 3) := by decide +kernel
theorem dX1_search_63 : decode cX1_search 63 = .ok (.iconst 0, 1) := by decide +kernel
theorem dX1_search_64 : decode cX1_search 64 = .ok (.istore_n 1, 1) := by decide +kernel
theorem dX1_search_65 : decode cX1_search 65 = .ok (.iload_n 1, 1) := by decide +kernel
theorem dX1_search_66 : decode cX1_search 66 = .ok (.aload_n 0, 1) := by decide +kernel
theorem dX1_search_67 : decode cX1_search 67 = .ok (.getfield 51, 3) := by decide +kernel
theorem dX1_search_70 : decode cX1_search 70 = .ok (.if_icmp .ge 14, 3) := by decide +kernel
theorem dX1_search_73 : decode cX1_search 73 = .ok (.aload_n 0, 1) := by decide +kernel
theorem dX1_search_74 : decode cX1_search 74 = .ok (.iload_n 1, 1) := by decide +kernel
theorem dX1_search_75 : decode cX1_search 75 = .ok (.invokevirtual 106, 3) := by decide +kernel
theorem dX1_search_78 : decode cX1_search 78 = .ok (.iinc 1 1, 3) := by decide +kernel
theorem dX1_search_81 : decode cX1_search 81 = .ok (.goto (-16), 3) := by decide +kernel
theorem dX1_search_84 : decode cX1_search 84 = .ok (.return_, 1) := by decide +kernel
theorem dX1_buildAutomaton_0 : decode cX1_buildAutomaton 0 = .ok (.aload_n 0, 1) := by decide +kernel
theorem dX1_buildAutomaton_1 : decode cX1_buildAutomaton 1 = .ok (.iconst 1, 1) := by decide +kernel
theorem dX1_buildAutomaton_2 : decode cX1_buildAutomaton 2 = .ok (.putfield 85, 3) := by decide +kernel
theorem dX1_buildAutomaton_5 : decode cX1_buildAutomaton 5 = .ok (.iconst 0, 1) := by decide +kernel
theorem dX1_buildAutomaton_6 : decode cX1_buildAutomaton 6 = .ok (.istore_n 1, 1) := by decide +kernel
theorem dX1_buildAutomaton_7 : decode cX1_buildAutomaton 7 = .ok (.iload_n 1, 1) := by decide +kernel
theorem dX1_buildAutomaton_8 : decode cX1_buildAutomaton 8 = .ok (.sipush 147, 3) := by decide +kernel
theorem dX1_buildAutomaton_11 : decode cX1_buildAutomaton 11 = .ok (.if_icmp .ge 23, 3) := by decide +kernel
theorem dX1_buildAutomaton_14 : decode cX1_buildAutomaton 14 = .ok (.aload_n 0, 1) := by decide +kernel
theorem dX1_buildAutomaton_15 : decode cX1_buildAutomaton 15 = .ok (.getfield 22, 3) := by decide +kernel
theorem dX1_buildAutomaton_18 : decode cX1_buildAutomaton 18 = .ok (.iload_n 1, 1) := by decide +kernel
theorem dX1_buildAutomaton_19 : decode cX1_buildAutomaton 19 = .ok (.iconst 0, 1) := by decide +kernel
theorem dX1_buildAutomaton_20 : decode cX1_buildAutomaton 20 = .ok (.bastore, 1) := by decide +kernel
theorem dX1_buildAutomaton_21 : decode cX1_buildAutomaton 21 = .ok (.aload_n 0, 1) := by decide +kernel
theorem dX1_buildAutomaton_22 : decode cX1_buildAutomaton 22 = .ok (.getfield 31, 3) := by decide +kernel
theorem dX1_buildAutomaton_25 : decode cX1_buildAutomaton 25 = .ok (.iload_n 1, 1) := by decide +kernel
theorem dX1_buildAutomaton_26 : decode cX1_buildAutomaton 26 = .ok (.iconst (-1), 1) := by decide +kernel
theorem dX1_buildAutomaton_27 : decode cX1_buildAutomaton 27 = .ok (.bastore, 1) := by decide +kernel
theorem dX1_buildAutomaton_28 : decode cX1_buildAutomaton 28 = .ok (.iinc 1 1, 3) := by decide +kernel
theorem dX1_buildAutomaton_31 : decode cX1_buildAutomaton 31 = .ok (.goto (-24), 3) := by decide +kernel
theorem dX1_buildAutomaton_34 : decode cX1_buildAutomaton 34 = .ok (.iconst 0, 1) := by decide +kernel
theorem dX1_buildAutomaton_35 : decode cX1_buildAutomaton 35 = .ok (.istore_n 1, 1) := by decide +kernel
theorem dX1_buildAutomaton_36 : decode cX1_buildAutomaton 36 = .ok (.iload_n 1, 1) := by decide +kernel
theorem dX1_buildAutomaton_37 : decode cX1_buildAutomaton 37 = .ok (.iconst 3, 1) := by decide +kernel
theorem dX1_buildAutomaton_38 : decode cX1_buildAutomaton 38 = .ok (.if_icmp .ge 33, 3) := by decide +kernel
theorem dX1_buildAutomaton_41 : decode cX1_buildAutomaton 41 = .ok (.iconst 0, 1) := by decide +kernel
theorem dX1_buildAutomaton_42 : decode cX1_buildAutomaton 42 = .ok (.istore_n 2, 1) := by decide +kernel
theorem dX1_buildAutomaton_43 : decode cX1_buildAutomaton 43 = .ok (.iload_n 2, 1) := by decide +kernel
theorem dX1_buildAutomaton_44 : decode cX1_buildAutomaton 44 = .ok (.aload_n 0, 1) := by decide +kernel
theorem dX1_buildAutomaton_45 : decode cX1_buildAutomaton 45 = .ok (.getfield 16, 3) := by decide +kernel
theorem dX1_buildAutomaton_48 : decode cX1_buildAutomaton 48 = .ok (.iload_n 1, 1) := by decide +kernel
theorem dX1_buildAutomaton_49 : decode cX1_buildAutomaton 49 = .ok (.baload, 1) := by decide +kernel
theorem dX1_buildAutomaton_50 : decode cX1_buildAutomaton 50 = .ok (.if_icmp .ge 15, 3) := by decide +kernel
theorem dX1_buildAutomaton_53 : decode cX1_buildAutomaton 53 = .ok (.aload_n 0, 1) := by decide +kernel
theorem dX1_buildAutomaton_54 : decode cX1_buildAutomaton 54 = .ok (.iload_n 1, 1) := by decide +kernel
theorem dX1_buildAutomaton_55 : decode cX1_buildAutomaton 55 = .ok (.iload_n 2, 1) := by decide +kernel
theorem dX1_buildAutomaton_56 : decode cX1_buildAutomaton 56 = .ok (.invokevirtual 88, 3) := by decide +kernel
theorem dX1_buildAutomaton_59 : decode cX1_buildAutomaton 59 = .ok (.iinc 2 1, 3) := by decide +kernel
theorem dX1_buildAutomaton_62 : decode cX1_buildAutomaton 62 = .ok (.goto (-19), 3) := by decide +kernel
theorem dX1_buildAutomaton_65 : decode cX1_buildAutomaton 65 = .ok (.iinc 1 1, 3) := by decide +kernel
theorem dX1_buildAutomaton_68 : decode cX1_buildAutomaton 68 = .ok (.goto (-32), 3) := by decide +kernel
theorem dX1_buildAutomaton_71 : decode cX1_buildAutomaton 71 = .ok (.aload_n 0, 1) := by decide +kernel
theorem dX1_buildAutomaton_72 : decode cX1_buildAutomaton 72 = .ok (.invokevirtual 92, 3) := by decide +kernel
theorem dX1_buildAutomaton_75 : decode cX1_buildAutomaton 75 = .ok (.return_, 1) := by decide +kernel
theorem dX1_addRow_0 : decode cX1_addRow 0 = .ok (.iconst 0, 1) := by decide +kernel
theorem dX1_addRow_1 : decode cX1_addRow 1 = .ok (.istore_n 3, 1) := by decide +kernel
theorem dX1_addRow_2 : decode cX1_addRow 2 = .ok (.iconst 0, 1) := by decide +kernel
theorem dX1_addRow_3 : decode cX1_addRow 3 = .ok (.istore 4, 2) := by decide +kernel
theorem dX1_addRow_5 : decode cX1_addRow 5 = .ok (.iload 4, 2) := by decide +kernel
theorem dX1_addRow_7 : decode cX1_addRow 7 = .ok (.aload_n 0, 1) := by decide +kernel
theorem dX1_addRow_8 : decode cX1_addRow 8 = .ok (.getfield 13, 3) := by decide +kernel
theorem dX1_addRow_11 : decode cX1_addRow 11 = .ok (.iload_n 1, 1) := by decide +kernel
theorem dX1_addRow_12 : decode cX1_addRow 12 = .ok (.baload, 1) := by decide +kernel
theorem dX1_addRow_13 : decode cX1_addRow 13 = .ok (.if_icmp .ge 71, 3) := by decide +kernel
theorem dX1_addRow_16 : decode cX1_addRow 16 = .ok (.iconst 3, 1) := by decide +kernel
theorem dX1_addRow_17 : decode cX1_addRow 17 = .ok (.iload_n 3, 1) := by decide +kernel
theorem dX1_addRow_18 : decode cX1_addRow 18 = .ok (.imul, 1) := by decide +kernel
theorem dX1_addRow_19 : decode cX1_addRow 19 = .ok (.aload_n 0, 1) := by decide +kernel
theorem dX1_addRow_20 : decode cX1_addRow 20 = .ok (.getfield 19, 3) := by decide +kernel
theorem dX1_addRow_23 : decode cX1_addRow 23 = .ok (.bipush 16, 2) := by decide +kernel
theorem dX1_addRow_25 : decode cX1_addRow 25 = .ok (.iload_n 1, 1) := by decide +kernel
theorem dX1_addRow_26 : decode cX1_addRow 26 = .ok (.imul, 1) := by decide +kernel
theorem dX1_addRow_27 : decode cX1_addRow 27 = .ok (.iconst 4, 1) := by decide +kernel
theorem dX1_addRow_28 : decode cX1_addRow 28 = .ok (.iload_n 2, 1) := by decide +kernel
theorem dX1_addRow_29 : decode cX1_addRow 29 = .ok (.imul, 1) := by decide +kernel
theorem dX1_addRow_30 : decode cX1_addRow 30 = .ok (.iadd, 1) := by decide +kernel
theorem dX1_addRow_31 : decode cX1_addRow 31 = .ok (.iload 4, 2) := by decide +kernel
theorem dX1_addRow_33 : decode cX1_addRow 33 = .ok (.iadd, 1) := by decide +kernel
theorem dX1_addRow_34 : decode cX1_addRow 34 = .ok (.baload, 1) := by decide +kernel
theorem dX1_addRow_35 : decode cX1_addRow 35 = .ok (.iadd, 1) := by decide +kernel
theorem dX1_addRow_36 : decode cX1_addRow 36 = .ok (.istore 5, 2) := by decide +kernel
theorem dX1_addRow_38 : decode cX1_addRow 38 = .ok (.aload_n 0, 1) := by decide +kernel
theorem dX1_addRow_39 : decode cX1_addRow 39 = .ok (.getfield 22, 3) := by decide +kernel
theorem dX1_addRow_42 : decode cX1_addRow 42 = .ok (.iload 5, 2) := by decide +kernel
theorem dX1_addRow_44 : decode cX1_addRow 44 = .ok (.baload, 1) := by decide +kernel
theorem dX1_addRow_45 : decode cX1_addRow 45 = .ok (.ifCond .ne 25, 3) := by decide +kernel
theorem dX1_addRow_48 : decode cX1_addRow 48 = .ok (.aload_n 0, 1) := by decide +kernel
theorem dX1_addRow_49 : decode cX1_addRow 49 = .ok (.getfield 22, 3) := by decide +kernel
theorem dX1_addRow_52 : decode cX1_addRow 52 = .ok (.iload 5, 2) := by decide +kernel
theorem dX1_addRow_54 : decode cX1_addRow 54 = .ok (.aload_n 0, 1) := by decide +kernel
theorem dX1_addRow_55 : decode cX1_addRow 55 = .ok (.getfield 85, 3) := by decide +kernel
theorem dX1_addRow_58 : decode cX1_addRow 58 = .ok (.i2b, 1) := by decide +kernel
theorem dX1_addRow_59 : decode cX1_addRow 59 = .ok (.bastore, 1) := by decide +kernel
theorem dX1_addRow_60 : decode cX1_addRow 60 = .ok (.aload_n 0, 1) := by decide +kernel
theorem dX1_addRow_61 : decode cX1_addRow 61 = .ok (.dup, 1) := by decide +kernel
theorem dX1_addRow_62 : decode cX1_addRow 62 = .ok (.getfield 85, 3) := by decide +kernel
theorem dX1_addRow_65 : decode cX1_addRow 65 = .ok (.iconst 1, 1) := by decide +kernel
theorem dX1_addRow_66 : decode cX1_addRow 66 = .ok (.iadd, 1) := by decide +kernel
theorem dX1_addRow_67 : decode cX1_addRow 67 = .ok (.putfield 85, 3) := by decide +kernel
theorem dX1_addRow_70 : decode cX1_addRow 70 = .ok (.aload_n 0, 1) := by decide +kernel
theorem dX1_addRow_71 : decode cX1_addRow 71 = .ok (.getfield 22, 3) := by decide +kernel
theorem dX1_addRow_74 : decode cX1_addRow 74 = .ok (.iload 5, 2) := by decide +kernel
theorem dX1_addRow_76 : decode cX1_addRow 76 = .ok (.baload, 1) := by decide +kernel
theorem dX1_addRow_77 : decode cX1_addRow 77 = .ok (.istore_n 3, 1) := by decide +kernel
theorem dX1_addRow_78 : decode cX1_addRow 78 = .ok (.iinc 4 1, 3) := by decide +kernel
theorem dX1_addRow_81 : decode cX1_addRow 81 = .ok (.goto (-76), 3) := by decide +kernel
theorem dX1_addRow_84 : decode cX1_addRow 84 = .ok (.bipush 49, 2) := by decide +kernel
theorem dX1_addRow_86 : decode cX1_addRow 86 = .ok (.iload_n 1, 1) := by decide +kernel
theorem dX1_addRow_87 : decode cX1_addRow 87 = .ok (.imul, 1) := by decide +kernel
theorem dX1_addRow_88 : decode cX1_addRow 88 = .ok (.iload_n 3, 1) := by decide +kernel
theorem dX1_addRow_89 : decode cX1_addRow 89 = .ok (.iadd, 1) := by decide +kernel
theorem dX1_addRow_90 : decode cX1_addRow 90 = .ok (.istore 4, 2) := by decide +kernel
theorem dX1_addRow_92 : decode cX1_addRow 92 = .ok (.aload_n 0, 1) := by decide +kernel
theorem dX1_addRow_93 : decode cX1_addRow 93 = .ok (.getfield 31, 3) := by decide +kernel
theorem dX1_addRow_96 : decode cX1_addRow 96 = .ok (.iload 4, 2) := by decide +kernel
theorem dX1_addRow_98 : decode cX1_addRow 98 = .ok (.baload, 1) := by decide +kernel
theorem dX1_addRow_99 : decode cX1_addRow 99 = .ok (.ifCond .ge 12, 3) := by decide +kernel
theorem dX1_addRow_102 : decode cX1_addRow 102 = .ok (.aload_n 0, 1) := by decide +kernel
theorem dX1_addRow_103 : decode cX1_addRow 103 = .ok (.getfield 31, 3) := by decide +kernel
theorem dX1_addRow_106 : decode cX1_addRow 106 = .ok (.iload 4, 2) := by decide +kernel
theorem dX1_addRow_108 : decode cX1_addRow 108 = .ok (.iload_n 2, 1) := by decide +kernel
theorem dX1_addRow_109 : decode cX1_addRow 109 = .ok (.i2b, 1) := by decide +kernel
theorem dX1_addRow_110 : decode cX1_addRow 110 = .ok (.bastore, 1) := by decide +kernel
theorem dX1_addRow_111 : decode cX1_addRow 111 = .ok (.aload_n 0, 1) := by decide +kernel
theorem dX1_addRow_112 : decode cX1_addRow 112 = .ok (.getfield 34, 3) := by decide +kernel
theorem dX1_addRow_115 : decode cX1_addRow 115 = .ok (.iconst 4, 1) := by decide +kernel
theorem dX1_addRow_116 : decode cX1_addRow 116 = .ok (.iload_n 1, 1) := by decide +kernel
theorem dX1_addRow_117 : decode cX1_addRow 117 = .ok (.imul, 1) := by decide +kernel
theorem dX1_addRow_118 : decode cX1_addRow 118 = .ok (.iload_n 2, 1) := by decide +kernel
theorem dX1_addRow_119 : decode cX1_addRow 119 = .ok (.iadd, 1) := by decide +kernel
theorem dX1_addRow_120 : decode cX1_addRow 120 = .ok (.aload_n 0, 1) := by decide +kernel
theorem dX1_addRow_121 : decode cX1_addRow 121 = .ok (.getfield 31, 3) := by decide +kernel
theorem dX1_addRow_124 : decode cX1_addRow 124 = .ok (.iload 4, 2) := by decide +kernel
theorem dX1_addRow_126 : decode cX1_addRow 126 = .ok (.baload, 1) := by decide +kernel
theorem dX1_addRow_127 : decode cX1_addRow 127 = .ok (.bastore, 1) := by decide +kernel
theorem dX1_addRow_128 : decode cX1_addRow 128 = .ok (.return_, 1) := by decide +kernel
theorem dX1_linkNodes_0 : decode cX1_linkNodes 0 = .ok (.iconst 0, 1) := by decide +kernel
theorem dX1_linkNodes_1 : decode cX1_linkNodes 1 = .ok (.istore_n 1, 1) := by decide +kernel
theorem dX1_linkNodes_2 : decode cX1_linkNodes 2 = .ok (.aload_n 0, 1) := by decide +kernel
theorem dX1_linkNodes_3 : decode cX1_linkNodes 3 = .ok (.getfield 25, 3) := by decide +kernel
theorem dX1_linkNodes_6 : decode cX1_linkNodes 6 = .ok (.iconst 0, 1) := by decide +kernel
theorem dX1_linkNodes_7 : decode cX1_linkNodes 7 = .ok (.iconst 0, 1) := by decide +kernel
theorem dX1_linkNodes_8 : decode cX1_linkNodes 8 = .ok (.bastore, 1) := by decide +kernel
theorem dX1_linkNodes_9 : decode cX1_linkNodes 9 = .ok (.iconst 0, 1) := by decide +kernel
theorem dX1_linkNodes_10 : decode cX1_linkNodes 10 = .ok (.istore_n 2, 1) := by decide +kernel
theorem dX1_linkNodes_11 : decode cX1_linkNodes 11 = .ok (.iload_n 2, 1) := by decide +kernel
theorem dX1_linkNodes_12 : decode cX1_linkNodes 12 = .ok (.iconst 3, 1) := by decide +kernel
theorem dX1_linkNodes_13 : decode cX1_linkNodes 13 = .ok (.if_icmp .ge 41, 3) := by decide +kernel
theorem dX1_linkNodes_16 : decode cX1_linkNodes 16 = .ok (.aload_n 0, 1) := by decide +kernel
theorem dX1_linkNodes_17 : decode cX1_linkNodes 17 = .ok (.getfield 22, 3) := by decide +kernel
theorem dX1_linkNodes_20 : decode cX1_linkNodes 20 = .ok (.iload_n 2, 1) := by decide +kernel
theorem dX1_linkNodes_21 : decode cX1_linkNodes 21 = .ok (.baload, 1) := by decide +kernel
theorem dX1_linkNodes_22 : decode cX1_linkNodes 22 = .ok (.istore_n 3, 1) := by decide +kernel
theorem dX1_linkNodes_23 : decode cX1_linkNodes 23 = .ok (.iload_n 3, 1) := by decide +kernel
theorem dX1_linkNodes_24 : decode cX1_linkNodes 24 = .ok (.ifCond .ne 6, 3) := by decide +kernel
theorem dX1_linkNodes_27 : decode cX1_linkNodes 27 = .ok (.goto 21, 3) := by decide +kernel
theorem dX1_linkNodes_30 : decode cX1_linkNodes 30 = .ok (.aload_n 0, 1) := by decide +kernel
theorem dX1_linkNodes_31 : decode cX1_linkNodes 31 = .ok (.getfield 25, 3) := by decide +kernel
theorem dX1_linkNodes_34 : decode cX1_linkNodes 34 = .ok (.iload_n 3, 1) := by decide +kernel
theorem dX1_linkNodes_35 : decode cX1_linkNodes 35 = .ok (.iconst 0, 1) := by decide +kernel
theorem dX1_linkNodes_36 : decode cX1_linkNodes 36 = .ok (.bastore, 1) := by decide +kernel
theorem dX1_linkNodes_37 : decode cX1_linkNodes 37 = .ok (.aload_n 0, 1) := by decide +kernel
theorem dX1_linkNodes_38 : decode cX1_linkNodes 38 = .ok (.getfield 28, 3) := by decide +kernel
theorem dX1_linkNodes_41 : decode cX1_linkNodes 41 = .ok (.iload_n 1, 1) := by decide +kernel
theorem dX1_linkNodes_42 : decode cX1_linkNodes 42 = .ok (.iload_n 3, 1) := by decide +kernel
theorem dX1_linkNodes_43 : decode cX1_linkNodes 43 = .ok (.i2b, 1) := by decide +kernel
theorem dX1_linkNodes_44 : decode cX1_linkNodes 44 = .ok (.bastore, 1) := by decide +kernel
theorem dX1_linkNodes_45 : decode cX1_linkNodes 45 = .ok (.iinc 1 1, 3) := by decide +kernel
theorem dX1_linkNodes_48 : decode cX1_linkNodes 48 = .ok (.iinc 2 1, 3) := by decide +kernel
theorem dX1_linkNodes_51 : decode cX1_linkNodes 51 = .ok (.goto (-40), 3) := by decide +kernel
theorem dX1_linkNodes_54 : decode cX1_linkNodes 54 = .ok (.iconst 0, 1) := by decide +kernel
theorem dX1_linkNodes_55 : decode cX1_linkNodes 55 = .ok (.istore_n 2, 1) := by decide +kernel
theorem dX1_linkNodes_56 : decode cX1_linkNodes 56 = .ok (.iload_n 2, 1) := by decide +kernel
end
section
set_option maxRecDepth 100000
theorem dX1_linkNodes_57 : decode cX1_linkNodes 57 = .ok (.iload_n 1, 1) := by decide +kernel
theorem dX1_linkNodes_58 : decode cX1_linkNodes 58 = .ok (.if_icmp .ge 134, 3) := by decide +kernel
theorem dX1_linkNodes_61 : decode cX1_linkNodes 61 = .ok (.aload_n 0, 1) := by decide +kernel
theorem dX1_linkNodes_62 : decode cX1_linkNodes 62 = .ok (.getfield 28, 3) := by decide +kernel
theorem dX1_linkNodes_65 : decode cX1_linkNodes 65 = .ok (.iload_n 2, 1) := by decide +kernel
theorem dX1_linkNodes_66 : decode cX1_linkNodes 66 = .ok (.baload, 1) := by decide +kernel
theorem dX1_linkNodes_67 : decode cX1_linkNodes 67 = .ok (.istore_n 3, 1) := by decide +kernel
theorem dX1_linkNodes_68 : decode cX1_linkNodes 68 = .ok (.aload_n 0, 1) := by decide +kernel
theorem dX1_linkNodes_69 : decode cX1_linkNodes 69 = .ok (.getfield 25, 3) := by decide +kernel
theorem dX1_linkNodes_72 : decode cX1_linkNodes 72 = .ok (.iload_n 3, 1) := by decide +kernel
theorem dX1_linkNodes_73 : decode cX1_linkNodes 73 = .ok (.baload, 1) := by decide +kernel
theorem dX1_linkNodes_74 : decode cX1_linkNodes 74 = .ok (.istore 4, 2) := by decide +kernel
theorem dX1_linkNodes_76 : decode cX1_linkNodes 76 = .ok (.iconst 0, 1) := by decide +kernel
theorem dX1_linkNodes_77 : decode cX1_linkNodes 77 = .ok (.istore 5, 2) := by decide +kernel
theorem dX1_linkNodes_79 : decode cX1_linkNodes 79 = .ok (.iload 5, 2) := by decide +kernel
theorem dX1_linkNodes_81 : decode cX1_linkNodes 81 = .ok (.iconst 3, 1) := by decide +kernel
theorem dX1_linkNodes_82 : decode cX1_linkNodes 82 = .ok (.if_icmp .ge 18, 3) := by decide +kernel
theorem dX1_linkNodes_85 : decode cX1_linkNodes 85 = .ok (.aload_n 0, 1) := by decide +kernel
theorem dX1_linkNodes_86 : decode cX1_linkNodes 86 = .ok (.iload 5, 2) := by decide +kernel
theorem dX1_linkNodes_88 : decode cX1_linkNodes 88 = .ok (.iload_n 3, 1) := by decide +kernel
theorem dX1_linkNodes_89 : decode cX1_linkNodes 89 = .ok (.iload 4, 2) := by decide +kernel
theorem dX1_linkNodes_91 : decode cX1_linkNodes 91 = .ok (.invokevirtual 95, 3) := by decide +kernel
theorem dX1_linkNodes_94 : decode cX1_linkNodes 94 = .ok (.iinc 5 1, 3) := by decide +kernel
theorem dX1_linkNodes_97 : decode cX1_linkNodes 97 = .ok (.goto (-18), 3) := by decide +kernel
theorem dX1_linkNodes_100 : decode cX1_linkNodes 100 = .ok (.iconst 0, 1) := by decide +kernel
theorem dX1_linkNodes_101 : decode cX1_linkNodes 101 = .ok (.istore 5, 2) := by decide +kernel
theorem dX1_linkNodes_103 : decode cX1_linkNodes 103 = .ok (.iload 5, 2) := by decide +kernel
theorem dX1_linkNodes_105 : decode cX1_linkNodes 105 = .ok (.iconst 3, 1) := by decide +kernel
theorem dX1_linkNodes_106 : decode cX1_linkNodes 106 = .ok (.if_icmp .ge 80, 3) := by decide +kernel
theorem dX1_linkNodes_109 : decode cX1_linkNodes 109 = .ok (.aload_n 0, 1) := by decide +kernel
theorem dX1_linkNodes_110 : decode cX1_linkNodes 110 = .ok (.getfield 22, 3) := by decide +kernel
theorem dX1_linkNodes_113 : decode cX1_linkNodes 113 = .ok (.iconst 3, 1) := by decide +kernel
theorem dX1_linkNodes_114 : decode cX1_linkNodes 114 = .ok (.iload_n 3, 1) := by decide +kernel
theorem dX1_linkNodes_115 : decode cX1_linkNodes 115 = .ok (.imul, 1) := by decide +kernel
theorem dX1_linkNodes_116 : decode cX1_linkNodes 116 = .ok (.iload 5, 2) := by decide +kernel
theorem dX1_linkNodes_118 : decode cX1_linkNodes 118 = .ok (.iadd, 1) := by decide +kernel
theorem dX1_linkNodes_119 : decode cX1_linkNodes 119 = .ok (.baload, 1) := by decide +kernel
theorem dX1_linkNodes_120 : decode cX1_linkNodes 120 = .ok (.istore 6, 2) := by decide +kernel
theorem dX1_linkNodes_122 : decode cX1_linkNodes 122 = .ok (.aload_n 0, 1) := by decide +kernel
theorem dX1_linkNodes_123 : decode cX1_linkNodes 123 = .ok (.getfield 22, 3) := by decide +kernel
theorem dX1_linkNodes_126 : decode cX1_linkNodes 126 = .ok (.iconst 3, 1) := by decide +kernel
theorem dX1_linkNodes_127 : decode cX1_linkNodes 127 = .ok (.iload 4, 2) := by decide +kernel
theorem dX1_linkNodes_129 : decode cX1_linkNodes 129 = .ok (.imul, 1) := by decide +kernel
theorem dX1_linkNodes_130 : decode cX1_linkNodes 130 = .ok (.iload 5, 2) := by decide +kernel
theorem dX1_linkNodes_132 : decode cX1_linkNodes 132 = .ok (.iadd, 1) := by decide +kernel
theorem dX1_linkNodes_133 : decode cX1_linkNodes 133 = .ok (.baload, 1) := by decide +kernel
theorem dX1_linkNodes_134 : decode cX1_linkNodes 134 = .ok (.istore 7, 2) := by decide +kernel
theorem dX1_linkNodes_136 : decode cX1_linkNodes 136 = .ok (.iload 6, 2) := by decide +kernel
theorem dX1_linkNodes_138 : decode cX1_linkNodes 138 = .ok (.ifCond .ne 20, 3) := by decide +kernel
theorem dX1_linkNodes_141 : decode cX1_linkNodes 141 = .ok (.aload_n 0, 1) := by decide +kernel
theorem dX1_linkNodes_142 : decode cX1_linkNodes 142 = .ok (.getfield 22, 3) := by decide +kernel
theorem dX1_linkNodes_145 : decode cX1_linkNodes 145 = .ok (.iconst 3, 1) := by decide +kernel
theorem dX1_linkNodes_146 : decode cX1_linkNodes 146 = .ok (.iload_n 3, 1) := by decide +kernel
theorem dX1_linkNodes_147 : decode cX1_linkNodes 147 = .ok (.imul, 1) := by decide +kernel
theorem dX1_linkNodes_148 : decode cX1_linkNodes 148 = .ok (.iload 5, 2) := by decide +kernel
theorem dX1_linkNodes_150 : decode cX1_linkNodes 150 = .ok (.iadd, 1) := by decide +kernel
theorem dX1_linkNodes_151 : decode cX1_linkNodes 151 = .ok (.iload 7, 2) := by decide +kernel
theorem dX1_linkNodes_153 : decode cX1_linkNodes 153 = .ok (.i2b, 1) := by decide +kernel
theorem dX1_linkNodes_154 : decode cX1_linkNodes 154 = .ok (.bastore, 1) := by decide +kernel
theorem dX1_linkNodes_155 : decode cX1_linkNodes 155 = .ok (.goto 25, 3) := by decide +kernel
theorem dX1_linkNodes_158 : decode cX1_linkNodes 158 = .ok (.aload_n 0, 1) := by decide +kernel
theorem dX1_linkNodes_159 : decode cX1_linkNodes 159 = .ok (.getfield 25, 3) := by decide +kernel
theorem dX1_linkNodes_162 : decode cX1_linkNodes 162 = .ok (.iload 6, 2) := by decide +kernel
theorem dX1_linkNodes_164 : decode cX1_linkNodes 164 = .ok (.iload 7, 2) := by decide +kernel
theorem dX1_linkNodes_166 : decode cX1_linkNodes 166 = .ok (.i2b, 1) := by decide +kernel
theorem dX1_linkNodes_167 : decode cX1_linkNodes 167 = .ok (.bastore, 1) := by decide +kernel
theorem dX1_linkNodes_168 : decode cX1_linkNodes 168 = .ok (.aload_n 0, 1) := by decide +kernel
theorem dX1_linkNodes_169 : decode cX1_linkNodes 169 = .ok (.getfield 28, 3) := by decide +kernel
theorem dX1_linkNodes_172 : decode cX1_linkNodes 172 = .ok (.iload_n 1, 1) := by decide +kernel
theorem dX1_linkNodes_173 : decode cX1_linkNodes 173 = .ok (.iload 6, 2) := by decide +kernel
theorem dX1_linkNodes_175 : decode cX1_linkNodes 175 = .ok (.i2b, 1) := by decide +kernel
theorem dX1_linkNodes_176 : decode cX1_linkNodes 176 = .ok (.bastore, 1) := by decide +kernel
theorem dX1_linkNodes_177 : decode cX1_linkNodes 177 = .ok (.iinc 1 1, 3) := by decide +kernel
theorem dX1_linkNodes_180 : decode cX1_linkNodes 180 = .ok (.iinc 5 1, 3) := by decide +kernel
theorem dX1_linkNodes_183 : decode cX1_linkNodes 183 = .ok (.goto (-80), 3) := by decide +kernel
theorem dX1_linkNodes_186 : decode cX1_linkNodes 186 = .ok (.iinc 2 1, 3) := by decide +kernel
theorem dX1_linkNodes_189 : decode cX1_linkNodes 189 = .ok (.goto (-133), 3) := by decide +kernel
theorem dX1_linkNodes_192 : decode cX1_linkNodes 192 = .ok (.return_, 1) := by decide +kernel
theorem dX1_inheritRow_0 : decode cX1_inheritRow 0 = .ok (.aload_n 0, 1) := by decide +kernel
theorem dX1_inheritRow_1 : decode cX1_inheritRow 1 = .ok (.getfield 31, 3) := by decide +kernel
theorem dX1_inheritRow_4 : decode cX1_inheritRow 4 = .ok (.bipush 49, 2) := by decide +kernel
theorem dX1_inheritRow_6 : decode cX1_inheritRow 6 = .ok (.iload_n 1, 1) := by decide +kernel
theorem dX1_inheritRow_7 : decode cX1_inheritRow 7 = .ok (.imul, 1) := by decide +kernel
theorem dX1_inheritRow_8 : decode cX1_inheritRow 8 = .ok (.iload_n 2, 1) := by decide +kernel
theorem dX1_inheritRow_9 : decode cX1_inheritRow 9 = .ok (.iadd, 1) := by decide +kernel
theorem dX1_inheritRow_10 : decode cX1_inheritRow 10 = .ok (.baload, 1) := by decide +kernel
theorem dX1_inheritRow_11 : decode cX1_inheritRow 11 = .ok (.ifCond .ge 25, 3) := by decide +kernel
theorem dX1_inheritRow_14 : decode cX1_inheritRow 14 = .ok (.aload_n 0, 1) := by decide +kernel
theorem dX1_inheritRow_15 : decode cX1_inheritRow 15 = .ok (.getfield 31, 3) := by decide +kernel
theorem dX1_inheritRow_18 : decode cX1_inheritRow 18 = .ok (.bipush 49, 2) := by decide +kernel
theorem dX1_inheritRow_20 : decode cX1_inheritRow 20 = .ok (.iload_n 1, 1) := by decide +kernel
theorem dX1_inheritRow_21 : decode cX1_inheritRow 21 = .ok (.imul, 1) := by decide +kernel
theorem dX1_inheritRow_22 : decode cX1_inheritRow 22 = .ok (.iload_n 2, 1) := by decide +kernel
theorem dX1_inheritRow_23 : decode cX1_inheritRow 23 = .ok (.iadd, 1) := by decide +kernel
theorem dX1_inheritRow_24 : decode cX1_inheritRow 24 = .ok (.aload_n 0, 1) := by decide +kernel
theorem dX1_inheritRow_25 : decode cX1_inheritRow 25 = .ok (.getfield 31, 3) := by decide +kernel
theorem dX1_inheritRow_28 : decode cX1_inheritRow 28 = .ok (.bipush 49, 2) := by decide +kernel
theorem dX1_inheritRow_30 : decode cX1_inheritRow 30 = .ok (.iload_n 1, 1) := by decide +kernel
theorem dX1_inheritRow_31 : decode cX1_inheritRow 31 = .ok (.imul, 1) := by decide +kernel
theorem dX1_inheritRow_32 : decode cX1_inheritRow 32 = .ok (.iload_n 3, 1) := by decide +kernel
theorem dX1_inheritRow_33 : decode cX1_inheritRow 33 = .ok (.iadd, 1) := by decide +kernel
theorem dX1_inheritRow_34 : decode cX1_inheritRow 34 = .ok (.baload, 1) := by decide +kernel
theorem dX1_inheritRow_35 : decode cX1_inheritRow 35 = .ok (.bastore, 1) := by decide +kernel
theorem dX1_inheritRow_36 : decode cX1_inheritRow 36 = .ok (.return_, 1) := by decide +kernel
theorem dX1_buildFailure_0 : decode cX1_buildFailure 0 = .ok (.iconst 5, 1) := by decide +kernel
theorem dX1_buildFailure_1 : decode cX1_buildFailure 1 = .ok (.iload_n 1, 1) := by decide +kernel
theorem dX1_buildFailure_2 : decode cX1_buildFailure 2 = .ok (.imul, 1) := by decide +kernel
theorem dX1_buildFailure_3 : decode cX1_buildFailure 3 = .ok (.istore_n 2, 1) := by decide +kernel
theorem dX1_buildFailure_4 : decode cX1_buildFailure 4 = .ok (.aload_n 0, 1) := by decide +kernel
theorem dX1_buildFailure_5 : decode cX1_buildFailure 5 = .ok (.getfield 37, 3) := by decide +kernel
theorem dX1_buildFailure_8 : decode cX1_buildFailure 8 = .ok (.iload_n 2, 1) := by decide +kernel
theorem dX1_buildFailure_9 : decode cX1_buildFailure 9 = .ok (.iconst 0, 1) := by decide +kernel
theorem dX1_buildFailure_10 : decode cX1_buildFailure 10 = .ok (.bastore, 1) := by decide +kernel
theorem dX1_buildFailure_11 : decode cX1_buildFailure 11 = .ok (.aload_n 0, 1) := by decide +kernel
theorem dX1_buildFailure_12 : decode cX1_buildFailure 12 = .ok (.getfield 37, 3) := by decide +kernel
theorem dX1_buildFailure_15 : decode cX1_buildFailure 15 = .ok (.iload_n 2, 1) := by decide +kernel
theorem dX1_buildFailure_16 : decode cX1_buildFailure 16 = .ok (.iconst 1, 1) := by decide +kernel
theorem dX1_buildFailure_17 : decode cX1_buildFailure 17 = .ok (.iadd, 1) := by decide +kernel
theorem dX1_buildFailure_18 : decode cX1_buildFailure 18 = .ok (.iconst 0, 1) := by decide +kernel
theorem dX1_buildFailure_19 : decode cX1_buildFailure 19 = .ok (.bastore, 1) := by decide +kernel
theorem dX1_buildFailure_20 : decode cX1_buildFailure 20 = .ok (.iconst 0, 1) := by decide +kernel
theorem dX1_buildFailure_21 : decode cX1_buildFailure 21 = .ok (.istore_n 3, 1) := by decide +kernel
theorem dX1_buildFailure_22 : decode cX1_buildFailure 22 = .ok (.iconst 1, 1) := by decide +kernel
theorem dX1_buildFailure_23 : decode cX1_buildFailure 23 = .ok (.istore 4, 2) := by decide +kernel
theorem dX1_buildFailure_25 : decode cX1_buildFailure 25 = .ok (.iload 4, 2) := by decide +kernel
theorem dX1_buildFailure_27 : decode cX1_buildFailure 27 = .ok (.aload_n 0, 1) := by decide +kernel
theorem dX1_buildFailure_28 : decode cX1_buildFailure 28 = .ok (.getfield 16, 3) := by decide +kernel
theorem dX1_buildFailure_31 : decode cX1_buildFailure 31 = .ok (.iload_n 1, 1) := by decide +kernel
theorem dX1_buildFailure_32 : decode cX1_buildFailure 32 = .ok (.baload, 1) := by decide +kernel
theorem dX1_buildFailure_33 : decode cX1_buildFailure 33 = .ok (.if_icmp .ge 89, 3) := by decide +kernel
theorem dX1_buildFailure_36 : decode cX1_buildFailure 36 = .ok (.iload_n 3, 1) := by decide +kernel
theorem dX1_buildFailure_37 : decode cX1_buildFailure 37 = .ok (.ifCond .le 39, 3) := by decide +kernel
theorem dX1_buildFailure_40 : decode cX1_buildFailure 40 = .ok (.aload_n 0, 1) := by decide +kernel
theorem dX1_buildFailure_41 : decode cX1_buildFailure 41 = .ok (.getfield 34, 3) := by decide +kernel
theorem dX1_buildFailure_44 : decode cX1_buildFailure 44 = .ok (.iconst 4, 1) := by decide +kernel
theorem dX1_buildFailure_45 : decode cX1_buildFailure 45 = .ok (.iload_n 1, 1) := by decide +kernel
theorem dX1_buildFailure_46 : decode cX1_buildFailure 46 = .ok (.imul, 1) := by decide +kernel
theorem dX1_buildFailure_47 : decode cX1_buildFailure 47 = .ok (.iload_n 3, 1) := by decide +kernel
theorem dX1_buildFailure_48 : decode cX1_buildFailure 48 = .ok (.iadd, 1) := by decide +kernel
theorem dX1_buildFailure_49 : decode cX1_buildFailure 49 = .ok (.baload, 1) := by decide +kernel
theorem dX1_buildFailure_50 : decode cX1_buildFailure 50 = .ok (.aload_n 0, 1) := by decide +kernel
theorem dX1_buildFailure_51 : decode cX1_buildFailure 51 = .ok (.getfield 34, 3) := by decide +kernel
theorem dX1_buildFailure_54 : decode cX1_buildFailure 54 = .ok (.iconst 4, 1) := by decide +kernel
theorem dX1_buildFailure_55 : decode cX1_buildFailure 55 = .ok (.iload_n 1, 1) := by decide +kernel
theorem dX1_buildFailure_56 : decode cX1_buildFailure 56 = .ok (.imul, 1) := by decide +kernel
theorem dX1_buildFailure_57 : decode cX1_buildFailure 57 = .ok (.iload 4, 2) := by decide +kernel
theorem dX1_buildFailure_59 : decode cX1_buildFailure 59 = .ok (.iadd, 1) := by decide +kernel
theorem dX1_buildFailure_60 : decode cX1_buildFailure 60 = .ok (.baload, 1) := by decide +kernel
theorem dX1_buildFailure_61 : decode cX1_buildFailure 61 = .ok (.if_icmp .eq 15, 3) := by decide +kernel
theorem dX1_buildFailure_64 : decode cX1_buildFailure 64 = .ok (.aload_n 0, 1) := by decide +kernel
theorem dX1_buildFailure_65 : decode cX1_buildFailure 65 = .ok (.getfield 37, 3) := by decide +kernel
theorem dX1_buildFailure_68 : decode cX1_buildFailure 68 = .ok (.iload_n 2, 1) := by decide +kernel
theorem dX1_buildFailure_69 : decode cX1_buildFailure 69 = .ok (.iload_n 3, 1) := by decide +kernel
theorem dX1_buildFailure_70 : decode cX1_buildFailure 70 = .ok (.iadd, 1) := by decide +kernel
theorem dX1_buildFailure_71 : decode cX1_buildFailure 71 = .ok (.baload, 1) := by decide +kernel
theorem dX1_buildFailure_72 : decode cX1_buildFailure 72 = .ok (.istore_n 3, 1) := by decide +kernel
theorem dX1_buildFailure_73 : decode cX1_buildFailure 73 = .ok (.goto (-37), 3) := by decide +kernel
theorem dX1_buildFailure_76 : decode cX1_buildFailure 76 = .ok (.aload_n 0, 1) := by decide +kernel
theorem dX1_buildFailure_77 : decode cX1_buildFailure 77 = .ok (.getfield 34, 3) := by decide +kernel
theorem dX1_buildFailure_80 : decode cX1_buildFailure 80 = .ok (.iconst 4, 1) := by decide +kernel
theorem dX1_buildFailure_81 : decode cX1_buildFailure 81 = .ok (.iload_n 1, 1) := by decide +kernel
theorem dX1_buildFailure_82 : decode cX1_buildFailure 82 = .ok (.imul, 1) := by decide +kernel
theorem dX1_buildFailure_83 : decode cX1_buildFailure 83 = .ok (.iload_n 3, 1) := by decide +kernel
theorem dX1_buildFailure_84 : decode cX1_buildFailure 84 = .ok (.iadd, 1) := by decide +kernel
theorem dX1_buildFailure_85 : decode cX1_buildFailure 85 = .ok (.baload, 1) := by decide +kernel
theorem dX1_buildFailure_86 : decode cX1_buildFailure 86 = .ok (.aload_n 0, 1) := by decide +kernel
theorem dX1_buildFailure_87 : decode cX1_buildFailure 87 = .ok (.getfield 34, 3) := by decide +kernel
theorem dX1_buildFailure_90 : decode cX1_buildFailure 90 = .ok (.iconst 4, 1) := by decide +kernel
theorem dX1_buildFailure_91 : decode cX1_buildFailure 91 = .ok (.iload_n 1, 1) := by decide +kernel
theorem dX1_buildFailure_92 : decode cX1_buildFailure 92 = .ok (.imul, 1) := by decide +kernel
theorem dX1_buildFailure_93 : decode cX1_buildFailure 93 = .ok (.iload 4, 2) := by decide +kernel
theorem dX1_buildFailure_95 : decode cX1_buildFailure 95 = .ok (.iadd, 1) := by decide +kernel
theorem dX1_buildFailure_96 : decode cX1_buildFailure 96 = .ok (.baload, 1) := by decide +kernel
theorem dX1_buildFailure_97 : decode cX1_buildFailure 97 = .ok (.if_icmp .ne 6, 3) := by decide +kernel
theorem dX1_buildFailure_100 : decode cX1_buildFailure 100 = .ok (.iinc 3 1, 3) := by decide +kernel
theorem dX1_buildFailure_103 : decode cX1_buildFailure 103 = .ok (.aload_n 0, 1) := by decide +kernel
theorem dX1_buildFailure_104 : decode cX1_buildFailure 104 = .ok (.getfield 37, 3) := by decide +kernel
theorem dX1_buildFailure_107 : decode cX1_buildFailure 107 = .ok (.iload_n 2, 1) := by decide +kernel
theorem dX1_buildFailure_108 : decode cX1_buildFailure 108 = .ok (.iload 4, 2) := by decide +kernel
theorem dX1_buildFailure_110 : decode cX1_buildFailure 110 = .ok (.iadd, 1) := by decide +kernel
theorem dX1_buildFailure_111 : decode cX1_buildFailure 111 = .ok (.iconst 1, 1) := by decide +kernel
theorem dX1_buildFailure_112 : decode cX1_buildFailure 112 = .ok (.iadd, 1) := by decide +kernel
theorem dX1_buildFailure_113 : decode cX1_buildFailure 113 = .ok (.iload_n 3, 1) := by decide +kernel
theorem dX1_buildFailure_114 : decode cX1_buildFailure 114 = .ok (.i2b, 1) := by decide +kernel
theorem dX1_buildFailure_115 : decode cX1_buildFailure 115 = .ok (.bastore, 1) := by decide +kernel
theorem dX1_buildFailure_116 : decode cX1_buildFailure 116 = .ok (.iinc 4 1, 3) := by decide +kernel
theorem dX1_buildFailure_119 : decode cX1_buildFailure 119 = .ok (.goto (-94), 3) := by decide +kernel
theorem dX1_buildFailure_122 : decode cX1_buildFailure 122 = .ok (.return_, 1) := by decide +kernel
theorem dX1_searchRow_0 : decode cX1_searchRow 0 = .ok (.iconst 0, 1) := by decide +kernel
theorem dX1_searchRow_1 : decode cX1_searchRow 1 = .ok (.istore_n 2, 1) := by decide +kernel
theorem dX1_searchRow_2 : decode cX1_searchRow 2 = .ok (.iconst 0, 1) := by decide +kernel
theorem dX1_searchRow_3 : decode cX1_searchRow 3 = .ok (.istore_n 3, 1) := by decide +kernel
theorem dX1_searchRow_4 : decode cX1_searchRow 4 = .ok (.iload_n 3, 1) := by decide +kernel
theorem dX1_searchRow_5 : decode cX1_searchRow 5 = .ok (.aload_n 0, 1) := by decide +kernel
theorem dX1_searchRow_6 : decode cX1_searchRow 6 = .ok (.getfield 47, 3) := by decide +kernel
theorem dX1_searchRow_9 : decode cX1_searchRow 9 = .ok (.if_icmp .ge 65, 3) := by decide +kernel
theorem dX1_searchRow_12 : decode cX1_searchRow 12 = .ok (.aload_n 0, 1) := by decide +kernel
theorem dX1_searchRow_13 : decode cX1_searchRow 13 = .ok (.getfield 22, 3) := by decide +kernel
theorem dX1_searchRow_16 : decode cX1_searchRow 16 = .ok (.iconst 3, 1) := by decide +kernel
theorem dX1_searchRow_17 : decode cX1_searchRow 17 = .ok (.iload_n 2, 1) := by decide +kernel
theorem dX1_searchRow_18 : decode cX1_searchRow 18 = .ok (.imul, 1) := by decide +kernel
theorem dX1_searchRow_19 : decode cX1_searchRow 19 = .ok (.aload_n 0, 1) := by decide +kernel
theorem dX1_searchRow_20 : decode cX1_searchRow 20 = .ok (.getfield 7, 3) := by decide +kernel
theorem dX1_searchRow_23 : decode cX1_searchRow 23 = .ok (.bipush 12, 2) := by decide +kernel
theorem dX1_searchRow_25 : decode cX1_searchRow 25 = .ok (.iload_n 1, 1) := by decide +kernel
theorem dX1_searchRow_26 : decode cX1_searchRow 26 = .ok (.imul, 1) := by decide +kernel
theorem dX1_searchRow_27 : decode cX1_searchRow 27 = .ok (.iload_n 3, 1) := by decide +kernel
theorem dX1_searchRow_28 : decode cX1_searchRow 28 = .ok (.iadd, 1) := by decide +kernel
theorem dX1_searchRow_29 : decode cX1_searchRow 29 = .ok (.baload, 1) := by decide +kernel
theorem dX1_searchRow_30 : decode cX1_searchRow 30 = .ok (.iadd, 1) := by decide +kernel
theorem dX1_searchRow_31 : decode cX1_searchRow 31 = .ok (.baload, 1) := by decide +kernel
theorem dX1_searchRow_32 : decode cX1_searchRow 32 = .ok (.istore_n 2, 1) := by decide +kernel
theorem dX1_searchRow_33 : decode cX1_searchRow 33 = .ok (.iconst 0, 1) := by decide +kernel
theorem dX1_searchRow_34 : decode cX1_searchRow 34 = .ok (.istore 4, 2) := by decide +kernel
theorem dX1_searchRow_36 : decode cX1_searchRow 36 = .ok (.iload 4, 2) := by decide +kernel
theorem dX1_searchRow_38 : decode cX1_searchRow 38 = .ok (.iconst 3, 1) := by decide +kernel
theorem dX1_searchRow_39 : decode cX1_searchRow 39 = .ok (.if_icmp .ge 29, 3) := by decide +kernel
theorem dX1_searchRow_42 : decode cX1_searchRow 42 = .ok (.aload_n 0, 1) := by decide +kernel
theorem dX1_searchRow_43 : decode cX1_searchRow 43 = .ok (.iload 4, 2) := by decide +kernel
theorem dX1_searchRow_45 : decode cX1_searchRow 45 = .ok (.iload_n 3, 1) := by decide +kernel
theorem dX1_searchRow_46 : decode cX1_searchRow 46 = .ok (.iload_n 1, 1) := by decide +kernel
theorem dX1_searchRow_47 : decode cX1_searchRow 47 = .ok (.aload_n 0, 1) := by decide +kernel
theorem dX1_searchRow_48 : decode cX1_searchRow 48 = .ok (.getfield 31, 3) := by decide +kernel
theorem dX1_searchRow_51 : decode cX1_searchRow 51 = .ok (.bipush 49, 2) := by decide +kernel
theorem dX1_searchRow_53 : decode cX1_searchRow 53 = .ok (.iload 4, 2) := by decide +kernel
theorem dX1_searchRow_55 : decode cX1_searchRow 55 = .ok (.imul, 1) := by decide +kernel
theorem dX1_searchRow_56 : decode cX1_searchRow 56 = .ok (.iload_n 2, 1) := by decide +kernel
theorem dX1_searchRow_57 : decode cX1_searchRow 57 = .ok (.iadd, 1) := by decide +kernel
theorem dX1_searchRow_58 : decode cX1_searchRow 58 = .ok (.baload, 1) := by decide +kernel
theorem dX1_searchRow_59 : decode cX1_searchRow 59 = .ok (.invokevirtual 109, 3) := by decide +kernel
theorem dX1_searchRow_62 : decode cX1_searchRow 62 = .ok (.iinc 4 1, 3) := by decide +kernel
theorem dX1_searchRow_65 : decode cX1_searchRow 65 = .ok (.goto (-29), 3) := by decide +kernel
theorem dX1_searchRow_68 : decode cX1_searchRow 68 = .ok (.iinc 3 1, 3) := by decide +kernel
theorem dX1_searchRow_71 : decode cX1_searchRow 71 = .ok (.goto (-67), 3) := by decide +kernel
theorem dX1_searchRow_74 : decode cX1_searchRow 74 = .ok (.return_, 1) := by decide +kernel
theorem dX1_advance_0 : decode cX1_advance 0 = .ok (.bipush 12, 2) := by decide +kernel
theorem dX1_advance_2 : decode cX1_advance 2 = .ok (.iload_n 1, 1) := by decide +kernel
theorem dX1_advance_3 : decode cX1_advance 3 = .ok (.imul, 1) := by decide +kernel
theorem dX1_advance_4 : decode cX1_advance 4 = .ok (.iload_n 2, 1) := by decide +kernel
theorem dX1_advance_5 : decode cX1_advance 5 = .ok (.iadd, 1) := by decide +kernel
theorem dX1_advance_6 : decode cX1_advance 6 = .ok (.istore 5, 2) := by decide +kernel
theorem dX1_advance_8 : decode cX1_advance 8 = .ok (.aload_n 0, 1) := by decide +kernel
theorem dX1_advance_9 : decode cX1_advance 9 = .ok (.getfield 44, 3) := by decide +kernel
theorem dX1_advance_12 : decode cX1_advance 12 = .ok (.iload 5, 2) := by decide +kernel
theorem dX1_advance_14 : decode cX1_advance 14 = .ok (.baload, 1) := by decide +kernel
theorem dX1_advance_15 : decode cX1_advance 15 = .ok (.istore 6, 2) := by decide +kernel
theorem dX1_advance_17 : decode cX1_advance 17 = .ok (.iload 6, 2) := by decide +kernel
theorem dX1_advance_19 : decode cX1_advance 19 = .ok (.aload_n 0, 1) := by decide +kernel
theorem dX1_advance_20 : decode cX1_advance 20 = .ok (.getfield 16, 3) := by decide +kernel
theorem dX1_advance_23 : decode cX1_advance 23 = .ok (.iload_n 1, 1) := by decide +kernel
theorem dX1_advance_24 : decode cX1_advance 24 = .ok (.baload, 1) := by decide +kernel
theorem dX1_advance_25 : decode cX1_advance 25 = .ok (.if_icmp .ne 16, 3) := by decide +kernel
theorem dX1_advance_28 : decode cX1_advance 28 = .ok (.aload_n 0, 1) := by decide +kernel
theorem dX1_advance_29 : decode cX1_advance 29 = .ok (.getfield 37, 3) := by decide +kernel
theorem dX1_advance_32 : decode cX1_advance 32 = .ok (.iconst 5, 1) := by decide +kernel
theorem dX1_advance_33 : decode cX1_advance 33 = .ok (.iload_n 1, 1) := by decide +kernel
theorem dX1_advance_34 : decode cX1_advance 34 = .ok (.imul, 1) := by decide +kernel
theorem dX1_advance_35 : decode cX1_advance 35 = .ok (.iload 6, 2) := by decide +kernel
theorem dX1_advance_37 : decode cX1_advance 37 = .ok (.iadd, 1) := by decide +kernel
theorem dX1_advance_38 : decode cX1_advance 38 = .ok (.baload, 1) := by decide +kernel
theorem dX1_advance_39 : decode cX1_advance 39 = .ok (.istore 6, 2) := by decide +kernel
theorem dX1_advance_41 : decode cX1_advance 41 = .ok (.iload 6, 2) := by decide +kernel
theorem dX1_advance_43 : decode cX1_advance 43 = .ok (.ifCond .le 35, 3) := by decide +kernel
theorem dX1_advance_46 : decode cX1_advance 46 = .ok (.aload_n 0, 1) := by decide +kernel
theorem dX1_advance_47 : decode cX1_advance 47 = .ok (.getfield 34, 3) := by decide +kernel
theorem dX1_advance_50 : decode cX1_advance 50 = .ok (.iconst 4, 1) := by decide +kernel
theorem dX1_advance_51 : decode cX1_advance 51 = .ok (.iload_n 1, 1) := by decide +kernel
theorem dX1_advance_52 : decode cX1_advance 52 = .ok (.imul, 1) := by decide +kernel
theorem dX1_advance_53 : decode cX1_advance 53 = .ok (.iload 6, 2) := by decide +kernel
theorem dX1_advance_55 : decode cX1_advance 55 = .ok (.iadd, 1) := by decide +kernel
theorem dX1_advance_56 : decode cX1_advance 56 = .ok (.baload, 1) := by decide +kernel
theorem dX1_advance_57 : decode cX1_advance 57 = .ok (.iload 4, 2) := by decide +kernel
theorem dX1_advance_59 : decode cX1_advance 59 = .ok (.if_icmp .eq 19, 3) := by decide +kernel
theorem dX1_advance_62 : decode cX1_advance 62 = .ok (.aload_n 0, 1) := by decide +kernel
theorem dX1_advance_63 : decode cX1_advance 63 = .ok (.getfield 37, 3) := by decide +kernel
theorem dX1_advance_66 : decode cX1_advance 66 = .ok (.iconst 5, 1) := by decide +kernel
theorem dX1_advance_67 : decode cX1_advance 67 = .ok (.iload_n 1, 1) := by decide +kernel
theorem dX1_advance_68 : decode cX1_advance 68 = .ok (.imul, 1) := by decide +kernel
theorem dX1_advance_69 : decode cX1_advance 69 = .ok (.iload 6, 2) := by decide +kernel
theorem dX1_advance_71 : decode cX1_advance 71 = .ok (.iadd, 1) := by decide +kernel
theorem dX1_advance_72 : decode cX1_advance 72 = .ok (.baload, 1) := by decide +kernel
theorem dX1_advance_73 : decode cX1_advance 73 = .ok (.istore 6, 2) := by decide +kernel
theorem dX1_advance_75 : decode cX1_advance 75 = .ok (.goto (-34), 3) := by decide +kernel
theorem dX1_advance_78 : decode cX1_advance 78 = .ok (.aload_n 0, 1) := by decide +kernel
theorem dX1_advance_79 : decode cX1_advance 79 = .ok (.getfield 34, 3) := by decide +kernel
theorem dX1_advance_82 : decode cX1_advance 82 = .ok (.iconst 4, 1) := by decide +kernel
theorem dX1_advance_83 : decode cX1_advance 83 = .ok (.iload_n 1, 1) := by decide +kernel
theorem dX1_advance_84 : decode cX1_advance 84 = .ok (.imul, 1) := by decide +kernel
theorem dX1_advance_85 : decode cX1_advance 85 = .ok (.iload 6, 2) := by decide +kernel
theorem dX1_advance_87 : decode cX1_advance 87 = .ok (.iadd, 1) := by decide +kernel
theorem dX1_advance_88 : decode cX1_advance 88 = .ok (.baload, 1) := by decide +kernel
theorem dX1_advance_89 : decode cX1_advance 89 = .ok (.iload 4, 2) := by decide +kernel
theorem dX1_advance_91 : decode cX1_advance 91 = .ok (.if_icmp .ne 6, 3) := by decide +kernel
theorem dX1_advance_94 : decode cX1_advance 94 = .ok (.iinc 6 1, 3) := by decide +kernel
theorem dX1_advance_97 : decode cX1_advance 97 = .ok (.aload_n 0, 1) := by decide +kernel
theorem dX1_advance_98 : decode cX1_advance 98 = .ok (.getfield 44, 3) := by decide +kernel
theorem dX1_advance_101 : decode cX1_advance 101 = .ok (.iload 5, 2) := by decide +kernel
theorem dX1_advance_103 : decode cX1_advance 103 = .ok (.iload 6, 2) := by decide +kernel
theorem dX1_advance_105 : decode cX1_advance 105 = .ok (.i2b, 1) := by decide +kernel
theorem dX1_advance_106 : decode cX1_advance 106 = .ok (.bastore, 1) := by decide +kernel
theorem dX1_advance_107 : decode cX1_advance 107 = .ok (.iload 6, 2) := by decide +kernel
theorem dX1_advance_109 : decode cX1_advance 109 = .ok (.aload_n 0, 1) := by decide +kernel
theorem dX1_advance_110 : decode cX1_advance 110 = .ok (.getfield 16, 3) := by decide +kernel
theorem dX1_advance_113 : decode cX1_advance 113 = .ok (.iload_n 1, 1) := by decide +kernel
theorem dX1_advance_114 : decode cX1_advance 114 = .ok (.baload, 1) := by decide +kernel
theorem dX1_advance_115 : decode cX1_advance 115 = .ok (.if_icmp .ne 34, 3) := by decide +kernel
theorem dX1_advance_118 : decode cX1_advance 118 = .ok (.aload_n 0, 1) := by decide +kernel
theorem dX1_advance_119 : decode cX1_advance 119 = .ok (.getfield 40, 3) := by decide +kernel
theorem dX1_advance_122 : decode cX1_advance 122 = .ok (.bipush 12, 2) := by decide +kernel
theorem dX1_advance_124 : decode cX1_advance 124 = .ok (.iload_n 1, 1) := by decide +kernel
theorem dX1_advance_125 : decode cX1_advance 125 = .ok (.imul, 1) := by decide +kernel
theorem dX1_advance_126 : decode cX1_advance 126 = .ok (.iload_n 3, 1) := by decide +kernel
theorem dX1_advance_127 : decode cX1_advance 127 = .ok (.iadd, 1) := by decide +kernel
theorem dX1_advance_128 : decode cX1_advance 128 = .ok (.iload 6, 2) := by decide +kernel
theorem dX1_advance_130 : decode cX1_advance 130 = .ok (.isub, 1) := by decide +kernel
theorem dX1_advance_131 : decode cX1_advance 131 = .ok (.iconst 1, 1) := by decide +kernel
theorem dX1_advance_132 : decode cX1_advance 132 = .ok (.iadd, 1) := by decide +kernel
theorem dX1_advance_133 : decode cX1_advance 133 = .ok (.dup2, 1) := by decide +kernel
theorem dX1_advance_134 : decode cX1_advance 134 = .ok (.iaload, 1) := by decide +kernel
theorem dX1_advance_135 : decode cX1_advance 135 = .ok (.iconst 1, 1) := by decide +kernel
theorem dX1_advance_136 : decode cX1_advance 136 = .ok (.iload_n 2, 1) := by decide +kernel
theorem dX1_advance_137 : decode cX1_advance 137 = .ok (.aload_n 0, 1) := by decide +kernel
theorem dX1_advance_138 : decode cX1_advance 138 = .ok (.getfield 13, 3) := by decide +kernel
theorem dX1_advance_141 : decode cX1_advance 141 = .ok (.iload_n 1, 1) := by decide +kernel
theorem dX1_advance_142 : decode cX1_advance 142 = .ok (.baload, 1) := by decide +kernel
theorem dX1_advance_143 : decode cX1_advance 143 = .ok (.isub, 1) := by decide +kernel
theorem dX1_advance_144 : decode cX1_advance 144 = .ok (.iconst 1, 1) := by decide +kernel
theorem dX1_advance_145 : decode cX1_advance 145 = .ok (.iadd, 1) := by decide +kernel
theorem dX1_advance_146 : decode cX1_advance 146 = .ok (.ishl, 1) := by decide +kernel
theorem dX1_advance_147 : decode cX1_advance 147 = .ok (.ior, 1) := by decide +kernel
end
section
set_option maxRecDepth 100000
theorem dX1_advance_148 : decode cX1_advance 148 = .ok (.iastore, 1) := by decide +kernel
theorem dX1_advance_149 : decode cX1_advance 149 = .ok (.return_, 1) := by decide +kernel
theorem dX1_bitsIn_0 : decode cX1_bitsIn 0 = .ok (.iconst 0, 1) := by decide +kernel
theorem dX1_bitsIn_1 : decode cX1_bitsIn 1 = .ok (.istore_n 2, 1) := by decide +kernel
theorem dX1_bitsIn_2 : decode cX1_bitsIn 2 = .ok (.iconst 0, 1) := by decide +kernel
theorem dX1_bitsIn_3 : decode cX1_bitsIn 3 = .ok (.istore_n 3, 1) := by decide +kernel
theorem dX1_bitsIn_4 : decode cX1_bitsIn 4 = .ok (.iload_n 3, 1) := by decide +kernel
theorem dX1_bitsIn_5 : decode cX1_bitsIn 5 = .ok (.bipush 12, 2) := by decide +kernel
theorem dX1_bitsIn_7 : decode cX1_bitsIn 7 = .ok (.if_icmp .ge 17, 3) := by decide +kernel
theorem dX1_bitsIn_10 : decode cX1_bitsIn 10 = .ok (.iload_n 2, 1) := by decide +kernel
theorem dX1_bitsIn_11 : decode cX1_bitsIn 11 = .ok (.iload_n 1, 1) := by decide +kernel
theorem dX1_bitsIn_12 : decode cX1_bitsIn 12 = .ok (.iload_n 3, 1) := by decide +kernel
theorem dX1_bitsIn_13 : decode cX1_bitsIn 13 = .ok (.ishr, 1) := by decide +kernel
theorem dX1_bitsIn_14 : decode cX1_bitsIn 14 = .ok (.iconst 1, 1) := by decide +kernel
theorem dX1_bitsIn_15 : decode cX1_bitsIn 15 = .ok (.iand, 1) := by decide +kernel
theorem dX1_bitsIn_16 : decode cX1_bitsIn 16 = .ok (.iadd, 1) := by decide +kernel
theorem dX1_bitsIn_17 : decode cX1_bitsIn 17 = .ok (.istore_n 2, 1) := by decide +kernel
theorem dX1_bitsIn_18 : decode cX1_bitsIn 18 = .ok (.iinc 3 1, 3) := by decide +kernel
theorem dX1_bitsIn_21 : decode cX1_bitsIn 21 = .ok (.goto (-17), 3) := by decide +kernel
theorem dX1_bitsIn_24 : decode cX1_bitsIn 24 = .ok (.iload_n 2, 1) := by decide +kernel
theorem dX1_bitsIn_25 : decode cX1_bitsIn 25 = .ok (.ireturn, 1) := by decide +kernel
theorem dX1_occurs_0 : decode cX1_occurs 0 = .ok (.aload_n 0, 1) := by decide +kernel
theorem dX1_occurs_1 : decode cX1_occurs 1 = .ok (.iload_n 1, 1) := by decide +kernel
theorem dX1_occurs_2 : decode cX1_occurs 2 = .ok (.invokevirtual 62, 3) := by decide +kernel
theorem dX1_occurs_5 : decode cX1_occurs 5 = .ok (.ifCond .eq 12, 3) := by decide +kernel
theorem dX1_occurs_8 : decode cX1_occurs 8 = .ok (.aload_n 0, 1) := by decide +kernel
theorem dX1_occurs_9 : decode cX1_occurs 9 = .ok (.iload_n 2, 1) := by decide +kernel
theorem dX1_occurs_10 : decode cX1_occurs 10 = .ok (.iload_n 3, 1) := by decide +kernel
theorem dX1_occurs_11 : decode cX1_occurs 11 = .ok (.invokevirtual 54, 3) := by decide +kernel
theorem dX1_occurs_14 : decode cX1_occurs 14 = .ok (.ifCond .ne 5, 3) := by decide +kernel
theorem dX1_occurs_17 : decode cX1_occurs 17 = .ok (.iconst 0, 1) := by decide +kernel
theorem dX1_occurs_18 : decode cX1_occurs 18 = .ok (.ireturn, 1) := by decide +kernel
theorem dX1_occurs_19 : decode cX1_occurs 19 = .ok (.aload_n 0, 1) := by decide +kernel
theorem dX1_occurs_20 : decode cX1_occurs 20 = .ok (.invokevirtual 70, 3) := by decide +kernel
theorem dX1_occurs_23 : decode cX1_occurs 23 = .ok (.aload_n 0, 1) := by decide +kernel
theorem dX1_occurs_24 : decode cX1_occurs 24 = .ok (.getfield 40, 3) := by decide +kernel
theorem dX1_occurs_27 : decode cX1_occurs 27 = .ok (.bipush 12, 2) := by decide +kernel
theorem dX1_occurs_29 : decode cX1_occurs 29 = .ok (.iload_n 1, 1) := by decide +kernel
theorem dX1_occurs_30 : decode cX1_occurs 30 = .ok (.imul, 1) := by decide +kernel
theorem dX1_occurs_31 : decode cX1_occurs 31 = .ok (.iload_n 3, 1) := by decide +kernel
theorem dX1_occurs_32 : decode cX1_occurs 32 = .ok (.iadd, 1) := by decide +kernel
theorem dX1_occurs_33 : decode cX1_occurs 33 = .ok (.iaload, 1) := by decide +kernel
theorem dX1_occurs_34 : decode cX1_occurs 34 = .ok (.iload_n 2, 1) := by decide +kernel
theorem dX1_occurs_35 : decode cX1_occurs 35 = .ok (.ishr, 1) := by decide +kernel
theorem dX1_occurs_36 : decode cX1_occurs 36 = .ok (.iconst 1, 1) := by decide +kernel
theorem dX1_occurs_37 : decode cX1_occurs 37 = .ok (.iand, 1) := by decide +kernel
theorem dX1_occurs_38 : decode cX1_occurs 38 = .ok (.ifCond .eq 7, 3) := by decide +kernel
theorem dX1_occurs_41 : decode cX1_occurs 41 = .ok (.iconst 1, 1) := by decide +kernel
theorem dX1_occurs_42 : decode cX1_occurs 42 = .ok (.goto 4, 3) := by decide +kernel
theorem dX1_occurs_45 : decode cX1_occurs 45 = .ok (.iconst 0, 1) := by decide +kernel
theorem dX1_occurs_46 : decode cX1_occurs 46 = .ok (.ireturn, 1) := by decide +kernel
theorem dX1_next_0 : decode cX1_next 0 = .ok (.aload_n 0, 1) := by decide +kernel
theorem dX1_next_1 : decode cX1_next 1 = .ok (.iload_n 1, 1) := by decide +kernel
theorem dX1_next_2 : decode cX1_next 2 = .ok (.invokevirtual 62, 3) := by decide +kernel
theorem dX1_next_5 : decode cX1_next 5 = .ok (.ifCond .ne 5, 3) := by decide +kernel
theorem dX1_next_8 : decode cX1_next 8 = .ok (.iconst (-1), 1) := by decide +kernel
theorem dX1_next_9 : decode cX1_next 9 = .ok (.ireturn, 1) := by decide +kernel
theorem dX1_next_10 : decode cX1_next 10 = .ok (.aload_n 0, 1) := by decide +kernel
theorem dX1_next_11 : decode cX1_next 11 = .ok (.invokevirtual 70, 3) := by decide +kernel
theorem dX1_next_14 : decode cX1_next 14 = .ok (.iconst 0, 1) := by decide +kernel
theorem dX1_next_15 : decode cX1_next 15 = .ok (.istore_n 3, 1) := by decide +kernel
theorem dX1_next_16 : decode cX1_next 16 = .ok (.iload_n 3, 1) := by decide +kernel
theorem dX1_next_17 : decode cX1_next 17 = .ok (.aload_n 0, 1) := by decide +kernel
theorem dX1_next_18 : decode cX1_next 18 = .ok (.getfield 51, 3) := by decide +kernel
theorem dX1_next_21 : decode cX1_next 21 = .ok (.if_icmp .ge 65, 3) := by decide +kernel
theorem dX1_next_24 : decode cX1_next 24 = .ok (.iconst 0, 1) := by decide +kernel
theorem dX1_next_25 : decode cX1_next 25 = .ok (.istore 4, 2) := by decide +kernel
theorem dX1_next_27 : decode cX1_next 27 = .ok (.iload 4, 2) := by decide +kernel
theorem dX1_next_29 : decode cX1_next 29 = .ok (.aload_n 0, 1) := by decide +kernel
theorem dX1_next_30 : decode cX1_next 30 = .ok (.getfield 47, 3) := by decide +kernel
theorem dX1_next_33 : decode cX1_next 33 = .ok (.if_icmp .ge 47, 3) := by decide +kernel
theorem dX1_next_36 : decode cX1_next 36 = .ok (.bipush 16, 2) := by decide +kernel
theorem dX1_next_38 : decode cX1_next 38 = .ok (.iload_n 3, 1) := by decide +kernel
theorem dX1_next_39 : decode cX1_next 39 = .ok (.imul, 1) := by decide +kernel
theorem dX1_next_40 : decode cX1_next 40 = .ok (.iload 4, 2) := by decide +kernel
theorem dX1_next_42 : decode cX1_next 42 = .ok (.iadd, 1) := by decide +kernel
theorem dX1_next_43 : decode cX1_next 43 = .ok (.iload_n 2, 1) := by decide +kernel
theorem dX1_next_44 : decode cX1_next 44 = .ok (.if_icmp .lt 30, 3) := by decide +kernel
theorem dX1_next_47 : decode cX1_next 47 = .ok (.aload_n 0, 1) := by decide +kernel
theorem dX1_next_48 : decode cX1_next 48 = .ok (.getfield 40, 3) := by decide +kernel
theorem dX1_next_51 : decode cX1_next 51 = .ok (.bipush 12, 2) := by decide +kernel
theorem dX1_next_53 : decode cX1_next 53 = .ok (.iload_n 1, 1) := by decide +kernel
theorem dX1_next_54 : decode cX1_next 54 = .ok (.imul, 1) := by decide +kernel
theorem dX1_next_55 : decode cX1_next 55 = .ok (.iload_n 3, 1) := by decide +kernel
theorem dX1_next_56 : decode cX1_next 56 = .ok (.iadd, 1) := by decide +kernel
theorem dX1_next_57 : decode cX1_next 57 = .ok (.iaload, 1) := by decide +kernel
theorem dX1_next_58 : decode cX1_next 58 = .ok (.iload 4, 2) := by decide +kernel
theorem dX1_next_60 : decode cX1_next 60 = .ok (.ishr, 1) := by decide +kernel
theorem dX1_next_61 : decode cX1_next 61 = .ok (.iconst 1, 1) := by decide +kernel
theorem dX1_next_62 : decode cX1_next 62 = .ok (.iand, 1) := by decide +kernel
theorem dX1_next_63 : decode cX1_next 63 = .ok (.ifCond .eq 11, 3) := by decide +kernel
theorem dX1_next_66 : decode cX1_next 66 = .ok (.bipush 16, 2) := by decide +kernel
theorem dX1_next_68 : decode cX1_next 68 = .ok (.iload_n 3, 1) := by decide +kernel
theorem dX1_next_69 : decode cX1_next 69 = .ok (.imul, 1) := by decide +kernel
theorem dX1_next_70 : decode cX1_next 70 = .ok (.iload 4, 2) := by decide +kernel
theorem dX1_next_72 : decode cX1_next 72 = .ok (.iadd, 1) := by decide +kernel
theorem dX1_next_73 : decode cX1_next 73 = .ok (.ireturn, 1) := by decide +kernel
theorem dX1_next_74 : decode cX1_next 74 = .ok (.iinc 4 1, 3) := by decide +kernel
theorem dX1_next_77 : decode cX1_next 77 = .ok (.goto (-50), 3) := by decide +kernel
theorem dX1_next_80 : decode cX1_next 80 = .ok (.iinc 3 1, 3) := by decide +kernel
theorem dX1_next_83 : decode cX1_next 83 = .ok (.goto (-67), 3) := by decide +kernel
theorem dX1_next_86 : decode cX1_next 86 = .ok (.bipush (-2), 2) := by decide +kernel
theorem dX1_next_88 : decode cX1_next 88 = .ok (.ireturn, 1) := by decide +kernel
theorem dX1_covered_0 : decode cX1_covered 0 = .ok (.aload_n 0, 1) := by decide +kernel
theorem dX1_covered_1 : decode cX1_covered 1 = .ok (.invokevirtual 70, 3) := by decide +kernel
theorem dX1_covered_4 : decode cX1_covered 4 = .ok (.iconst 0, 1) := by decide +kernel
theorem dX1_covered_5 : decode cX1_covered 5 = .ok (.istore_n 1, 1) := by decide +kernel
theorem dX1_covered_6 : decode cX1_covered 6 = .ok (.iconst 0, 1) := by decide +kernel
theorem dX1_covered_7 : decode cX1_covered 7 = .ok (.istore_n 2, 1) := by decide +kernel
theorem dX1_covered_8 : decode cX1_covered 8 = .ok (.iload_n 2, 1) := by decide +kernel
theorem dX1_covered_9 : decode cX1_covered 9 = .ok (.aload_n 0, 1) := by decide +kernel
theorem dX1_covered_10 : decode cX1_covered 10 = .ok (.getfield 51, 3) := by decide +kernel
theorem dX1_covered_13 : decode cX1_covered 13 = .ok (.if_icmp .ge 44, 3) := by decide +kernel
theorem dX1_covered_16 : decode cX1_covered 16 = .ok (.iconst 0, 1) := by decide +kernel
theorem dX1_covered_17 : decode cX1_covered 17 = .ok (.istore_n 3, 1) := by decide +kernel
theorem dX1_covered_18 : decode cX1_covered 18 = .ok (.iconst 0, 1) := by decide +kernel
theorem dX1_covered_19 : decode cX1_covered 19 = .ok (.istore 4, 2) := by decide +kernel
theorem dX1_covered_21 : decode cX1_covered 21 = .ok (.iload 4, 2) := by decide +kernel
theorem dX1_covered_23 : decode cX1_covered 23 = .ok (.iconst 3, 1) := by decide +kernel
theorem dX1_covered_24 : decode cX1_covered 24 = .ok (.if_icmp .ge 19, 3) := by decide +kernel
theorem dX1_covered_27 : decode cX1_covered 27 = .ok (.iload_n 3, 1) := by decide +kernel
theorem dX1_covered_28 : decode cX1_covered 28 = .ok (.aload_n 0, 1) := by decide +kernel
theorem dX1_covered_29 : decode cX1_covered 29 = .ok (.iload 4, 2) := by decide +kernel
theorem dX1_covered_31 : decode cX1_covered 31 = .ok (.iload_n 2, 1) := by decide +kernel
theorem dX1_covered_32 : decode cX1_covered 32 = .ok (.invokevirtual 77, 3) := by decide +kernel
theorem dX1_covered_35 : decode cX1_covered 35 = .ok (.ior, 1) := by decide +kernel
theorem dX1_covered_36 : decode cX1_covered 36 = .ok (.istore_n 3, 1) := by decide +kernel
theorem dX1_covered_37 : decode cX1_covered 37 = .ok (.iinc 4 1, 3) := by decide +kernel
theorem dX1_covered_40 : decode cX1_covered 40 = .ok (.goto (-19), 3) := by decide +kernel
theorem dX1_covered_43 : decode cX1_covered 43 = .ok (.iload_n 1, 1) := by decide +kernel
theorem dX1_covered_44 : decode cX1_covered 44 = .ok (.aload_n 0, 1) := by decide +kernel
theorem dX1_covered_45 : decode cX1_covered 45 = .ok (.iload_n 3, 1) := by decide +kernel
theorem dX1_covered_46 : decode cX1_covered 46 = .ok (.invokevirtual 73, 3) := by decide +kernel
theorem dX1_covered_49 : decode cX1_covered 49 = .ok (.iadd, 1) := by decide +kernel
theorem dX1_covered_50 : decode cX1_covered 50 = .ok (.istore_n 1, 1) := by decide +kernel
theorem dX1_covered_51 : decode cX1_covered 51 = .ok (.iinc 2 1, 3) := by decide +kernel
theorem dX1_covered_54 : decode cX1_covered 54 = .ok (.goto (-46), 3) := by decide +kernel
theorem dX1_covered_57 : decode cX1_covered 57 = .ok (.iload_n 1, 1) := by decide +kernel
theorem dX1_covered_58 : decode cX1_covered 58 = .ok (.ireturn, 1) := by decide +kernel
theorem dX1_coveredInRow_0 : decode cX1_coveredInRow 0 = .ok (.iconst 0, 1) := by decide +kernel
theorem dX1_coveredInRow_1 : decode cX1_coveredInRow 1 = .ok (.istore_n 3, 1) := by decide +kernel
theorem dX1_coveredInRow_2 : decode cX1_coveredInRow 2 = .ok (.iconst 0, 1) := by decide +kernel
theorem dX1_coveredInRow_3 : decode cX1_coveredInRow 3 = .ok (.istore 4, 2) := by decide +kernel
theorem dX1_coveredInRow_5 : decode cX1_coveredInRow 5 = .ok (.iload 4, 2) := by decide +kernel
theorem dX1_coveredInRow_7 : decode cX1_coveredInRow 7 = .ok (.aload_n 0, 1) := by decide +kernel
theorem dX1_coveredInRow_8 : decode cX1_coveredInRow 8 = .ok (.getfield 16, 3) := by decide +kernel
theorem dX1_coveredInRow_11 : decode cX1_coveredInRow 11 = .ok (.iload_n 1, 1) := by decide +kernel
theorem dX1_coveredInRow_12 : decode cX1_coveredInRow 12 = .ok (.baload, 1) := by decide +kernel
theorem dX1_coveredInRow_13 : decode cX1_coveredInRow 13 = .ok (.if_icmp .ge 32, 3) := by decide +kernel
theorem dX1_coveredInRow_16 : decode cX1_coveredInRow 16 = .ok (.iload 4, 2) := by decide +kernel
theorem dX1_coveredInRow_18 : decode cX1_coveredInRow 18 = .ok (.iload_n 2, 1) := by decide +kernel
theorem dX1_coveredInRow_19 : decode cX1_coveredInRow 19 = .ok (.if_icmp .gt 26, 3) := by decide +kernel
theorem dX1_coveredInRow_22 : decode cX1_coveredInRow 22 = .ok (.iload_n 3, 1) := by decide +kernel
theorem dX1_coveredInRow_23 : decode cX1_coveredInRow 23 = .ok (.aload_n 0, 1) := by decide +kernel
theorem dX1_coveredInRow_24 : decode cX1_coveredInRow 24 = .ok (.getfield 40, 3) := by decide +kernel
theorem dX1_coveredInRow_27 : decode cX1_coveredInRow 27 = .ok (.bipush 12, 2) := by decide +kernel
theorem dX1_coveredInRow_29 : decode cX1_coveredInRow 29 = .ok (.iload_n 1, 1) := by decide +kernel
theorem dX1_coveredInRow_30 : decode cX1_coveredInRow 30 = .ok (.imul, 1) := by decide +kernel
theorem dX1_coveredInRow_31 : decode cX1_coveredInRow 31 = .ok (.iload_n 2, 1) := by decide +kernel
theorem dX1_coveredInRow_32 : decode cX1_coveredInRow 32 = .ok (.iadd, 1) := by decide +kernel
theorem dX1_coveredInRow_33 : decode cX1_coveredInRow 33 = .ok (.iload 4, 2) := by decide +kernel
theorem dX1_coveredInRow_35 : decode cX1_coveredInRow 35 = .ok (.isub, 1) := by decide +kernel
theorem dX1_coveredInRow_36 : decode cX1_coveredInRow 36 = .ok (.iaload, 1) := by decide +kernel
theorem dX1_coveredInRow_37 : decode cX1_coveredInRow 37 = .ok (.ior, 1) := by decide +kernel
theorem dX1_coveredInRow_38 : decode cX1_coveredInRow 38 = .ok (.istore_n 3, 1) := by decide +kernel
theorem dX1_coveredInRow_39 : decode cX1_coveredInRow 39 = .ok (.iinc 4 1, 3) := by decide +kernel
theorem dX1_coveredInRow_42 : decode cX1_coveredInRow 42 = .ok (.goto (-37), 3) := by decide +kernel
theorem dX1_coveredInRow_45 : decode cX1_coveredInRow 45 = .ok (.iconst 0, 1) := by decide +kernel
theorem dX1_coveredInRow_46 : decode cX1_coveredInRow 46 = .ok (.istore 4, 2) := by decide +kernel
theorem dX1_coveredInRow_48 : decode cX1_coveredInRow 48 = .ok (.iconst 0, 1) := by decide +kernel
theorem dX1_coveredInRow_49 : decode cX1_coveredInRow 49 = .ok (.istore 5, 2) := by decide +kernel
theorem dX1_coveredInRow_51 : decode cX1_coveredInRow 51 = .ok (.iload 5, 2) := by decide +kernel
theorem dX1_coveredInRow_53 : decode cX1_coveredInRow 53 = .ok (.aload_n 0, 1) := by decide +kernel
theorem dX1_coveredInRow_54 : decode cX1_coveredInRow 54 = .ok (.getfield 13, 3) := by decide +kernel
theorem dX1_coveredInRow_57 : decode cX1_coveredInRow 57 = .ok (.iload_n 1, 1) := by decide +kernel
theorem dX1_coveredInRow_58 : decode cX1_coveredInRow 58 = .ok (.baload, 1) := by decide +kernel
theorem dX1_coveredInRow_59 : decode cX1_coveredInRow 59 = .ok (.if_icmp .ge 18, 3) := by decide +kernel
theorem dX1_coveredInRow_62 : decode cX1_coveredInRow 62 = .ok (.iload 4, 2) := by decide +kernel
theorem dX1_coveredInRow_64 : decode cX1_coveredInRow 64 = .ok (.iload_n 3, 1) := by decide +kernel
theorem dX1_coveredInRow_65 : decode cX1_coveredInRow 65 = .ok (.iload 5, 2) := by decide +kernel
theorem dX1_coveredInRow_67 : decode cX1_coveredInRow 67 = .ok (.ishl, 1) := by decide +kernel
theorem dX1_coveredInRow_68 : decode cX1_coveredInRow 68 = .ok (.ior, 1) := by decide +kernel
theorem dX1_coveredInRow_69 : decode cX1_coveredInRow 69 = .ok (.istore 4, 2) := by decide +kernel
theorem dX1_coveredInRow_71 : decode cX1_coveredInRow 71 = .ok (.iinc 5 1, 3) := by decide +kernel
theorem dX1_coveredInRow_74 : decode cX1_coveredInRow 74 = .ok (.goto (-23), 3) := by decide +kernel
theorem dX1_coveredInRow_77 : decode cX1_coveredInRow 77 = .ok (.iload 4, 2) := by decide +kernel
theorem dX1_coveredInRow_79 : decode cX1_coveredInRow 79 = .ok (.ireturn, 1) := by decide +kernel
theorem dX1_overlaps_0 : decode cX1_overlaps 0 = .ok (.aload_n 0, 1) := by decide +kernel
theorem dX1_overlaps_1 : decode cX1_overlaps 1 = .ok (.iload_n 1, 1) := by decide +kernel
theorem dX1_overlaps_2 : decode cX1_overlaps 2 = .ok (.invokevirtual 62, 3) := by decide +kernel
theorem dX1_overlaps_5 : decode cX1_overlaps 5 = .ok (.ifCond .ne 5, 3) := by decide +kernel
theorem dX1_overlaps_8 : decode cX1_overlaps 8 = .ok (.iconst (-1), 1) := by decide +kernel
theorem dX1_overlaps_9 : decode cX1_overlaps 9 = .ok (.ireturn, 1) := by decide +kernel
theorem dX1_overlaps_10 : decode cX1_overlaps 10 = .ok (.aload_n 0, 1) := by decide +kernel
theorem dX1_overlaps_11 : decode cX1_overlaps 11 = .ok (.invokevirtual 70, 3) := by decide +kernel
theorem dX1_overlaps_14 : decode cX1_overlaps 14 = .ok (.iconst 0, 1) := by decide +kernel
theorem dX1_overlaps_15 : decode cX1_overlaps 15 = .ok (.istore_n 2, 1) := by decide +kernel
theorem dX1_overlaps_16 : decode cX1_overlaps 16 = .ok (.iconst 0, 1) := by decide +kernel
theorem dX1_overlaps_17 : decode cX1_overlaps 17 = .ok (.istore_n 3, 1) := by decide +kernel
theorem dX1_overlaps_18 : decode cX1_overlaps 18 = .ok (.iload_n 3, 1) := by decide +kernel
theorem dX1_overlaps_19 : decode cX1_overlaps 19 = .ok (.aload_n 0, 1) := by decide +kernel
theorem dX1_overlaps_20 : decode cX1_overlaps 20 = .ok (.getfield 51, 3) := by decide +kernel
theorem dX1_overlaps_23 : decode cX1_overlaps 23 = .ok (.if_icmp .ge 51, 3) := by decide +kernel
theorem dX1_overlaps_26 : decode cX1_overlaps 26 = .ok (.iconst 0, 1) := by decide +kernel
theorem dX1_overlaps_27 : decode cX1_overlaps 27 = .ok (.istore 4, 2) := by decide +kernel
theorem dX1_overlaps_29 : decode cX1_overlaps 29 = .ok (.iload 4, 2) := by decide +kernel
theorem dX1_overlaps_31 : decode cX1_overlaps 31 = .ok (.aload_n 0, 1) := by decide +kernel
theorem dX1_overlaps_32 : decode cX1_overlaps 32 = .ok (.getfield 16, 3) := by decide +kernel
theorem dX1_overlaps_35 : decode cX1_overlaps 35 = .ok (.iload_n 1, 1) := by decide +kernel
theorem dX1_overlaps_36 : decode cX1_overlaps 36 = .ok (.baload, 1) := by decide +kernel
theorem dX1_overlaps_37 : decode cX1_overlaps 37 = .ok (.if_icmp .ge 31, 3) := by decide +kernel
theorem dX1_overlaps_40 : decode cX1_overlaps 40 = .ok (.iload_n 3, 1) := by decide +kernel
theorem dX1_overlaps_41 : decode cX1_overlaps 41 = .ok (.iload 4, 2) := by decide +kernel
theorem dX1_overlaps_43 : decode cX1_overlaps 43 = .ok (.iadd, 1) := by decide +kernel
theorem dX1_overlaps_44 : decode cX1_overlaps 44 = .ok (.aload_n 0, 1) := by decide +kernel
theorem dX1_overlaps_45 : decode cX1_overlaps 45 = .ok (.getfield 51, 3) := by decide +kernel
theorem dX1_overlaps_48 : decode cX1_overlaps 48 = .ok (.if_icmp .ge 20, 3) := by decide +kernel
theorem dX1_overlaps_51 : decode cX1_overlaps 51 = .ok (.iload_n 2, 1) := by decide +kernel
theorem dX1_overlaps_52 : decode cX1_overlaps 52 = .ok (.aload_n 0, 1) := by decide +kernel
theorem dX1_overlaps_53 : decode cX1_overlaps 53 = .ok (.iload_n 1, 1) := by decide +kernel
theorem dX1_overlaps_54 : decode cX1_overlaps 54 = .ok (.iload_n 3, 1) := by decide +kernel
theorem dX1_overlaps_55 : decode cX1_overlaps 55 = .ok (.iload 4, 2) := by decide +kernel
theorem dX1_overlaps_57 : decode cX1_overlaps 57 = .ok (.invokevirtual 81, 3) := by decide +kernel
theorem dX1_overlaps_60 : decode cX1_overlaps 60 = .ok (.iadd, 1) := by decide +kernel
theorem dX1_overlaps_61 : decode cX1_overlaps 61 = .ok (.istore_n 2, 1) := by decide +kernel
theorem dX1_overlaps_62 : decode cX1_overlaps 62 = .ok (.iinc 4 1, 3) := by decide +kernel
theorem dX1_overlaps_65 : decode cX1_overlaps 65 = .ok (.goto (-36), 3) := by decide +kernel
theorem dX1_overlaps_68 : decode cX1_overlaps 68 = .ok (.iinc 3 1, 3) := by decide +kernel
theorem dX1_overlaps_71 : decode cX1_overlaps 71 = .ok (.goto (-53), 3) := by decide +kernel
theorem dX1_overlaps_74 : decode cX1_overlaps 74 = .ok (.iload_n 2, 1) := by decide +kernel
theorem dX1_overlaps_75 : decode cX1_overlaps 75 = .ok (.ireturn, 1) := by decide +kernel
theorem dX1_meetings_0 : decode cX1_meetings 0 = .ok (.aload_n 0, 1) := by decide +kernel
theorem dX1_meetings_1 : decode cX1_meetings 1 = .ok (.getfield 40, 3) := by decide +kernel
theorem dX1_meetings_4 : decode cX1_meetings 4 = .ok (.bipush 12, 2) := by decide +kernel
theorem dX1_meetings_6 : decode cX1_meetings 6 = .ok (.iload_n 1, 1) := by decide +kernel
theorem dX1_meetings_7 : decode cX1_meetings 7 = .ok (.imul, 1) := by decide +kernel
theorem dX1_meetings_8 : decode cX1_meetings 8 = .ok (.iload_n 2, 1) := by decide +kernel
theorem dX1_meetings_9 : decode cX1_meetings 9 = .ok (.iadd, 1) := by decide +kernel
theorem dX1_meetings_10 : decode cX1_meetings 10 = .ok (.iaload, 1) := by decide +kernel
theorem dX1_meetings_11 : decode cX1_meetings 11 = .ok (.istore 4, 2) := by decide +kernel
theorem dX1_meetings_13 : decode cX1_meetings 13 = .ok (.aload_n 0, 1) := by decide +kernel
theorem dX1_meetings_14 : decode cX1_meetings 14 = .ok (.getfield 40, 3) := by decide +kernel
theorem dX1_meetings_17 : decode cX1_meetings 17 = .ok (.bipush 12, 2) := by decide +kernel
theorem dX1_meetings_19 : decode cX1_meetings 19 = .ok (.iload_n 1, 1) := by decide +kernel
theorem dX1_meetings_20 : decode cX1_meetings 20 = .ok (.imul, 1) := by decide +kernel
theorem dX1_meetings_21 : decode cX1_meetings 21 = .ok (.iload_n 2, 1) := by decide +kernel
theorem dX1_meetings_22 : decode cX1_meetings 22 = .ok (.iadd, 1) := by decide +kernel
theorem dX1_meetings_23 : decode cX1_meetings 23 = .ok (.iload_n 3, 1) := by decide +kernel
theorem dX1_meetings_24 : decode cX1_meetings 24 = .ok (.iadd, 1) := by decide +kernel
theorem dX1_meetings_25 : decode cX1_meetings 25 = .ok (.iaload, 1) := by decide +kernel
theorem dX1_meetings_26 : decode cX1_meetings 26 = .ok (.istore 5, 2) := by decide +kernel
theorem dX1_meetings_28 : decode cX1_meetings 28 = .ok (.iconst 0, 1) := by decide +kernel
theorem dX1_meetings_29 : decode cX1_meetings 29 = .ok (.istore 6, 2) := by decide +kernel
theorem dX1_meetings_31 : decode cX1_meetings 31 = .ok (.iconst 0, 1) := by decide +kernel
theorem dX1_meetings_32 : decode cX1_meetings 32 = .ok (.istore 7, 2) := by decide +kernel
theorem dX1_meetings_34 : decode cX1_meetings 34 = .ok (.iload 7, 2) := by decide +kernel
theorem dX1_meetings_36 : decode cX1_meetings 36 = .ok (.aload_n 0, 1) := by decide +kernel
theorem dX1_meetings_37 : decode cX1_meetings 37 = .ok (.getfield 13, 3) := by decide +kernel
theorem dX1_meetings_40 : decode cX1_meetings 40 = .ok (.iload_n 1, 1) := by decide +kernel
theorem dX1_meetings_41 : decode cX1_meetings 41 = .ok (.baload, 1) := by decide +kernel
theorem dX1_meetings_42 : decode cX1_meetings 42 = .ok (.if_icmp .ge 64, 3) := by decide +kernel
theorem dX1_meetings_45 : decode cX1_meetings 45 = .ok (.iload_n 3, 1) := by decide +kernel
theorem dX1_meetings_46 : decode cX1_meetings 46 = .ok (.ifCond .ne 11, 3) := by decide +kernel
theorem dX1_meetings_49 : decode cX1_meetings 49 = .ok (.iload 7, 2) := by decide +kernel
theorem dX1_meetings_51 : decode cX1_meetings 51 = .ok (.ifCond .ne 6, 3) := by decide +kernel
theorem dX1_meetings_54 : decode cX1_meetings 54 = .ok (.goto 46, 3) := by decide +kernel
theorem dX1_meetings_57 : decode cX1_meetings 57 = .ok (.iload 6, 2) := by decide +kernel
theorem dX1_meetings_59 : decode cX1_meetings 59 = .ok (.aload_n 0, 1) := by decide +kernel
theorem dX1_meetings_60 : decode cX1_meetings 60 = .ok (.iload 4, 2) := by decide +kernel
theorem dX1_meetings_62 : decode cX1_meetings 62 = .ok (.iload 5, 2) := by decide +kernel
theorem dX1_meetings_64 : decode cX1_meetings 64 = .ok (.iload 7, 2) := by decide +kernel
theorem dX1_meetings_66 : decode cX1_meetings 66 = .ok (.ishr, 1) := by decide +kernel
theorem dX1_meetings_67 : decode cX1_meetings 67 = .ok (.iand, 1) := by decide +kernel
theorem dX1_meetings_68 : decode cX1_meetings 68 = .ok (.invokevirtual 73, 3) := by decide +kernel
theorem dX1_meetings_71 : decode cX1_meetings 71 = .ok (.iadd, 1) := by decide +kernel
theorem dX1_meetings_72 : decode cX1_meetings 72 = .ok (.istore 6, 2) := by decide +kernel
theorem dX1_meetings_74 : decode cX1_meetings 74 = .ok (.iload_n 3, 1) := by decide +kernel
theorem dX1_meetings_75 : decode cX1_meetings 75 = .ok (.ifCond .le 25, 3) := by decide +kernel
theorem dX1_meetings_78 : decode cX1_meetings 78 = .ok (.iload 7, 2) := by decide +kernel
theorem dX1_meetings_80 : decode cX1_meetings 80 = .ok (.ifCond .le 20, 3) := by decide +kernel
theorem dX1_meetings_83 : decode cX1_meetings 83 = .ok (.iload 6, 2) := by decide +kernel
theorem dX1_meetings_85 : decode cX1_meetings 85 = .ok (.aload_n 0, 1) := by decide +kernel
theorem dX1_meetings_86 : decode cX1_meetings 86 = .ok (.iload 4, 2) := by decide +kernel
theorem dX1_meetings_88 : decode cX1_meetings 88 = .ok (.iload 7, 2) := by decide +kernel
theorem dX1_meetings_90 : decode cX1_meetings 90 = .ok (.ishr, 1) := by decide +kernel
theorem dX1_meetings_91 : decode cX1_meetings 91 = .ok (.iload 5, 2) := by decide +kernel
theorem dX1_meetings_93 : decode cX1_meetings 93 = .ok (.iand, 1) := by decide +kernel
theorem dX1_meetings_94 : decode cX1_meetings 94 = .ok (.invokevirtual 73, 3) := by decide +kernel
theorem dX1_meetings_97 : decode cX1_meetings 97 = .ok (.iadd, 1) := by decide +kernel
theorem dX1_meetings_98 : decode cX1_meetings 98 = .ok (.istore 6, 2) := by decide +kernel
theorem dX1_meetings_100 : decode cX1_meetings 100 = .ok (.iinc 7 1, 3) := by decide +kernel
theorem dX1_meetings_103 : decode cX1_meetings 103 = .ok (.goto (-69), 3) := by decide +kernel
theorem dX1_meetings_106 : decode cX1_meetings 106 = .ok (.iload 6, 2) := by decide +kernel
theorem dX1_meetings_108 : decode cX1_meetings 108 = .ok (.ireturn, 1) := by decide +kernel
end
section
set_option maxRecDepth 100000
theorem dX2_init_0 : decode cX2_init 0 = .ok (.aload_n 0, 1) := by decide +kernel
theorem dX2_init_1 : decode cX2_init 1 = .ok (.invokespecial 1, 3) := by decide +kernel
theorem dX2_init_4 : decode cX2_init 4 = .ok (.aload_n 0, 1) := by decide +kernel
theorem dX2_init_5 : decode cX2_init 5 = .ok (.sipush 192, 3) := by decide +kernel
theorem dX2_init_8 : decode cX2_init 8 = .ok (.newarray .int, 2) := by decide +kernel
theorem dX2_init_10 : decode cX2_init 10 = .ok (.putfield 7, 3) := by decide +kernel
theorem dX2_init_13 : decode cX2_init 13 = .ok (.aload_n 0, 1) := by decide +kernel
theorem dX2_init_14 : decode cX2_init 14 = .ok (.bipush 48, 2) := by decide +kernel
theorem dX2_init_16 : decode cX2_init 16 = .ok (.newarray .int, 2) := by decide +kernel
theorem dX2_init_18 : decode cX2_init 18 = .ok (.putfield 13, 3) := by decide +kernel
theorem dX2_init_21 : decode cX2_init 21 = .ok (.aload_n 0, 1) := by decide +kernel
theorem dX2_init_22 : decode cX2_init 22 = .ok (.iconst 3, 1) := by decide +kernel
theorem dX2_init_23 : decode cX2_init 23 = .ok (.newarray .int, 2) := by decide +kernel
theorem dX2_init_25 : decode cX2_init 25 = .ok (.putfield 16, 3) := by decide +kernel
theorem dX2_init_28 : decode cX2_init 28 = .ok (.aload_n 0, 1) := by decide +kernel
theorem dX2_init_29 : decode cX2_init 29 = .ok (.iconst 3, 1) := by decide +kernel
theorem dX2_init_30 : decode cX2_init 30 = .ok (.newarray .int, 2) := by decide +kernel
theorem dX2_init_32 : decode cX2_init 32 = .ok (.putfield 19, 3) := by decide +kernel
theorem dX2_init_35 : decode cX2_init 35 = .ok (.aload_n 0, 1) := by decide +kernel
theorem dX2_init_36 : decode cX2_init 36 = .ok (.iload_n 1, 1) := by decide +kernel
theorem dX2_init_37 : decode cX2_init 37 = .ok (.iconst 4, 1) := by decide +kernel
theorem dX2_init_38 : decode cX2_init 38 = .ok (.if_icmp .ge 7, 3) := by decide +kernel
theorem dX2_init_41 : decode cX2_init 41 = .ok (.iconst 4, 1) := by decide +kernel
theorem dX2_init_42 : decode cX2_init 42 = .ok (.goto 15, 3) := by decide +kernel
theorem dX2_init_45 : decode cX2_init 45 = .ok (.iload_n 1, 1) := by decide +kernel
theorem dX2_init_46 : decode cX2_init 46 = .ok (.bipush 12, 2) := by decide +kernel
theorem dX2_init_48 : decode cX2_init 48 = .ok (.if_icmp .le 8, 3) := by decide +kernel
theorem dX2_init_51 : decode cX2_init 51 = .ok (.bipush 12, 2) := by decide +kernel
theorem dX2_init_53 : decode cX2_init 53 = .ok (.goto 4, 3) := by decide +kernel
theorem dX2_init_56 : decode cX2_init 56 = .ok (.iload_n 1, 1) := by decide +kernel
theorem dX2_init_57 : decode cX2_init 57 = .ok (.putfield 22, 3) := by decide +kernel
theorem dX2_init_60 : decode cX2_init 60 = .ok (.aload_n 0, 1) := by decide +kernel
theorem dX2_init_61 : decode cX2_init 61 = .ok (.iload_n 2, 1) := by decide +kernel
theorem dX2_init_62 : decode cX2_init 62 = .ok (.iconst 4, 1) := by decide +kernel
theorem dX2_init_63 : decode cX2_init 63 = .ok (.if_icmp .ge 7, 3) := by decide +kernel
theorem dX2_init_66 : decode cX2_init 66 = .ok (.iconst 4, 1) := by decide +kernel
theorem dX2_init_67 : decode cX2_init 67 = .ok (.goto 15, 3) := by decide +kernel
theorem dX2_init_70 : decode cX2_init 70 = .ok (.iload_n 2, 1) := by decide +kernel
theorem dX2_init_71 : decode cX2_init 71 = .ok (.bipush 12, 2) := by decide +kernel
theorem dX2_init_73 : decode cX2_init 73 = .ok (.if_icmp .le 8, 3) := by decide +kernel
theorem dX2_init_76 : decode cX2_init 76 = .ok (.bipush 12, 2) := by decide +kernel
theorem dX2_init_78 : decode cX2_init 78 = .ok (.goto 4, 3) := by decide +kernel
theorem dX2_init_81 : decode cX2_init 81 = .ok (.iload_n 2, 1) := by decide +kernel
theorem dX2_init_82 : decode cX2_init 82 = .ok (.putfield 26, 3) := by decide +kernel
theorem dX2_init_85 : decode cX2_init 85 = .ok (.iconst 0, 1) := by decide +kernel
theorem dX2_init_86 : decode cX2_init 86 = .ok (.istore_n 3, 1) := by decide +kernel
theorem dX2_init_87 : decode cX2_init 87 = .ok (.iload_n 3, 1) := by decide +kernel
theorem dX2_init_88 : decode cX2_init 88 = .ok (.iconst 3, 1) := by decide +kernel
theorem dX2_init_89 : decode cX2_init 89 = .ok (.if_icmp .ge 33, 3) := by decide +kernel
theorem dX2_init_92 : decode cX2_init 92 = .ok (.aload_n 0, 1) := by decide +kernel
theorem dX2_init_93 : decode cX2_init 93 = .ok (.getfield 16, 3) := by decide +kernel
theorem dX2_init_96 : decode cX2_init 96 = .ok (.iload_n 3, 1) := by decide +kernel
theorem dX2_init_97 : decode cX2_init 97 = .ok (.iconst 1, 1) := by decide +kernel
theorem dX2_init_98 : decode cX2_init 98 = .ok (.iastore, 1) := by decide +kernel
theorem dX2_init_99 : decode cX2_init 99 = .ok (.aload_n 0, 1) := by decide +kernel
theorem dX2_init_100 : decode cX2_init 100 = .ok (.getfield 19, 3) := by decide +kernel
theorem dX2_init_103 : decode cX2_init 103 = .ok (.iload_n 3, 1) := by decide +kernel
theorem dX2_init_104 : decode cX2_init 104 = .ok (.iconst 1, 1) := by decide +kernel
theorem dX2_init_105 : decode cX2_init 105 = .ok (.iastore, 1) := by decide +kernel
theorem dX2_init_106 : decode cX2_init 106 = .ok (.aload_n 0, 1) := by decide +kernel
theorem dX2_init_107 : decode cX2_init 107 = .ok (.getfield 13, 3) := by decide +kernel
theorem dX2_init_110 : decode cX2_init 110 = .ok (.bipush 16, 2) := by decide +kernel
theorem dX2_init_112 : decode cX2_init 112 = .ok (.iload_n 3, 1) := by decide +kernel
theorem dX2_init_113 : decode cX2_init 113 = .ok (.imul, 1) := by decide +kernel
theorem dX2_init_114 : decode cX2_init 114 = .ok (.iconst 1, 1) := by decide +kernel
theorem dX2_init_115 : decode cX2_init 115 = .ok (.iastore, 1) := by decide +kernel
theorem dX2_init_116 : decode cX2_init 116 = .ok (.iinc 3 1, 3) := by decide +kernel
theorem dX2_init_119 : decode cX2_init 119 = .ok (.goto (-32), 3) := by decide +kernel
theorem dX2_init_122 : decode cX2_init 122 = .ok (.return_, 1) := by decide +kernel
theorem dX2_write_0 : decode cX2_write 0 = .ok (.aload_n 0, 1) := by decide +kernel
theorem dX2_write_1 : decode cX2_write 1 = .ok (.iload_n 1, 1) := by decide +kernel
theorem dX2_write_2 : decode cX2_write 2 = .ok (.iload_n 2, 1) := by decide +kernel
theorem dX2_write_3 : decode cX2_write 3 = .ok (.invokevirtual 29, 3) := by decide +kernel
theorem dX2_write_6 : decode cX2_write 6 = .ok (.ifCond .eq 11, 3) := by decide +kernel
theorem dX2_write_9 : decode cX2_write 9 = .ok (.aload_n 0, 1) := by decide +kernel
theorem dX2_write_10 : decode cX2_write 10 = .ok (.iload_n 3, 1) := by decide +kernel
theorem dX2_write_11 : decode cX2_write 11 = .ok (.invokevirtual 33, 3) := by decide +kernel
theorem dX2_write_14 : decode cX2_write 14 = .ok (.ifCond .ne 5, 3) := by decide +kernel
theorem dX2_write_17 : decode cX2_write 17 = .ok (.iconst 0, 1) := by decide +kernel
theorem dX2_write_18 : decode cX2_write 18 = .ok (.ireturn, 1) := by decide +kernel
theorem dX2_write_19 : decode cX2_write 19 = .ok (.aload_n 0, 1) := by decide +kernel
theorem dX2_write_20 : decode cX2_write 20 = .ok (.getfield 7, 3) := by decide +kernel
theorem dX2_write_23 : decode cX2_write 23 = .ok (.bipush 16, 2) := by decide +kernel
theorem dX2_write_25 : decode cX2_write 25 = .ok (.iload_n 2, 1) := by decide +kernel
theorem dX2_write_26 : decode cX2_write 26 = .ok (.imul, 1) := by decide +kernel
theorem dX2_write_27 : decode cX2_write 27 = .ok (.iload_n 1, 1) := by decide +kernel
theorem dX2_write_28 : decode cX2_write 28 = .ok (.iadd, 1) := by decide +kernel
theorem dX2_write_29 : decode cX2_write 29 = .ok (.iload_n 3, 1) := by decide +kernel
theorem dX2_write_30 : decode cX2_write 30 = .ok (.iastore, 1) := by decide +kernel
theorem dX2_write_31 : decode cX2_write 31 = .ok (.iconst 1, 1) := by decide +kernel
theorem dX2_write_32 : decode cX2_write 32 = .ok (.ireturn, 1) := by decide +kernel
theorem dX2_inText_0 : decode cX2_inText 0 = .ok (.iload_n 1, 1) := by decide +kernel
theorem dX2_inText_1 : decode cX2_inText 1 = .ok (.ifCond .lt 27, 3) := by decide +kernel
theorem dX2_inText_4 : decode cX2_inText 4 = .ok (.iload_n 1, 1) := by decide +kernel
theorem dX2_inText_5 : decode cX2_inText 5 = .ok (.aload_n 0, 1) := by decide +kernel
theorem dX2_inText_6 : decode cX2_inText 6 = .ok (.getfield 22, 3) := by decide +kernel
theorem dX2_inText_9 : decode cX2_inText 9 = .ok (.if_icmp .ge 19, 3) := by decide +kernel
theorem dX2_inText_12 : decode cX2_inText 12 = .ok (.iload_n 2, 1) := by decide +kernel
theorem dX2_inText_13 : decode cX2_inText 13 = .ok (.ifCond .lt 15, 3) := by decide +kernel
theorem dX2_inText_16 : decode cX2_inText 16 = .ok (.iload_n 2, 1) := by decide +kernel
theorem dX2_inText_17 : decode cX2_inText 17 = .ok (.aload_n 0, 1) := by decide +kernel
theorem dX2_inText_18 : decode cX2_inText 18 = .ok (.getfield 26, 3) := by decide +kernel
theorem dX2_inText_21 : decode cX2_inText 21 = .ok (.if_icmp .ge 7, 3) := by decide +kernel
theorem dX2_inText_24 : decode cX2_inText 24 = .ok (.iconst 1, 1) := by decide +kernel
theorem dX2_inText_25 : decode cX2_inText 25 = .ok (.goto 4, 3) := by decide +kernel
theorem dX2_inText_28 : decode cX2_inText 28 = .ok (.iconst 0, 1) := by decide +kernel
theorem dX2_inText_29 : decode cX2_inText 29 = .ok (.ireturn, 1) := by decide +kernel
theorem dX2_isLetter_0 : decode cX2_isLetter 0 = .ok (.iload_n 1, 1) := by decide +kernel
theorem dX2_isLetter_1 : decode cX2_isLetter 1 = .ok (.ifCond .lt 12, 3) := by decide +kernel
theorem dX2_isLetter_4 : decode cX2_isLetter 4 = .ok (.iload_n 1, 1) := by decide +kernel
theorem dX2_isLetter_5 : decode cX2_isLetter 5 = .ok (.iconst 2, 1) := by decide +kernel
theorem dX2_isLetter_6 : decode cX2_isLetter 6 = .ok (.if_icmp .gt 7, 3) := by decide +kernel
theorem dX2_isLetter_9 : decode cX2_isLetter 9 = .ok (.iconst 1, 1) := by decide +kernel
theorem dX2_isLetter_10 : decode cX2_isLetter 10 = .ok (.goto 4, 3) := by decide +kernel
theorem dX2_isLetter_13 : decode cX2_isLetter 13 = .ok (.iconst 0, 1) := by decide +kernel
theorem dX2_isLetter_14 : decode cX2_isLetter 14 = .ok (.ireturn, 1) := by decide +kernel
theorem dX2_shape_0 : decode cX2_shape 0 = .ok (.aload_n 0, 1) := by decide +kernel
theorem dX2_shape_1 : decode cX2_shape 1 = .ok (.iload_n 1, 1) := by decide +kernel
theorem dX2_shape_2 : decode cX2_shape 2 = .ok (.invokevirtual 37, 3) := by decide +kernel
theorem dX2_shape_5 : decode cX2_shape 5 = .ok (.ifCond .eq 23, 3) := by decide +kernel
theorem dX2_shape_8 : decode cX2_shape 8 = .ok (.iload_n 2, 1) := by decide +kernel
theorem dX2_shape_9 : decode cX2_shape 9 = .ok (.iconst 1, 1) := by decide +kernel
theorem dX2_shape_10 : decode cX2_shape 10 = .ok (.if_icmp .lt 18, 3) := by decide +kernel
theorem dX2_shape_13 : decode cX2_shape 13 = .ok (.iload_n 2, 1) := by decide +kernel
theorem dX2_shape_14 : decode cX2_shape 14 = .ok (.iconst 4, 1) := by decide +kernel
theorem dX2_shape_15 : decode cX2_shape 15 = .ok (.if_icmp .gt 13, 3) := by decide +kernel
theorem dX2_shape_18 : decode cX2_shape 18 = .ok (.iload_n 3, 1) := by decide +kernel
theorem dX2_shape_19 : decode cX2_shape 19 = .ok (.iconst 1, 1) := by decide +kernel
theorem dX2_shape_20 : decode cX2_shape 20 = .ok (.if_icmp .lt 8, 3) := by decide +kernel
theorem dX2_shape_23 : decode cX2_shape 23 = .ok (.iload_n 3, 1) := by decide +kernel
theorem dX2_shape_24 : decode cX2_shape 24 = .ok (.iconst 4, 1) := by decide +kernel
theorem dX2_shape_25 : decode cX2_shape 25 = .ok (.if_icmp .le 5, 3) := by decide +kernel
theorem dX2_shape_28 : decode cX2_shape 28 = .ok (.iconst 0, 1) := by decide +kernel
theorem dX2_shape_29 : decode cX2_shape 29 = .ok (.ireturn, 1) := by decide +kernel
theorem dX2_shape_30 : decode cX2_shape 30 = .ok (.aload_n 0, 1) := by decide +kernel
theorem dX2_shape_31 : decode cX2_shape 31 = .ok (.getfield 16, 3) := by decide +kernel
theorem dX2_shape_34 : decode cX2_shape 34 = .ok (.iload_n 1, 1) := by decide +kernel
theorem dX2_shape_35 : decode cX2_shape 35 = .ok (.iload_n 2, 1) := by decide +kernel
theorem dX2_shape_36 : decode cX2_shape 36 = .ok (.iastore, 1) := by decide +kernel
theorem dX2_shape_37 : decode cX2_shape 37 = .ok (.aload_n 0, 1) := by decide +kernel
theorem dX2_shape_38 : decode cX2_shape 38 = .ok (.getfield 19, 3) := by decide +kernel
theorem dX2_shape_41 : decode cX2_shape 41 = .ok (.iload_n 1, 1) := by decide +kernel
theorem dX2_shape_42 : decode cX2_shape 42 = .ok (.iload_n 3, 1) := by decide +kernel
theorem dX2_shape_43 : decode cX2_shape 43 = .ok (.iastore, 1) := by decide +kernel
theorem dX2_shape_44 : decode cX2_shape 44 = .ok (.iconst 0, 1) := by decide +kernel
theorem dX2_shape_45 : decode cX2_shape 45 = .ok (.istore 4, 2) := by decide +kernel
theorem dX2_shape_47 : decode cX2_shape 47 = .ok (.iload 4, 2) := by decide +kernel
theorem dX2_shape_49 : decode cX2_shape 49 = .ok (.bipush 16, 2) := by decide +kernel
theorem dX2_shape_51 : decode cX2_shape 51 = .ok (.if_icmp .ge 22, 3) := by decide +kernel
theorem dX2_shape_54 : decode cX2_shape 54 = .ok (.aload_n 0, 1) := by decide +kernel
theorem dX2_shape_55 : decode cX2_shape 55 = .ok (.getfield 13, 3) := by decide +kernel
theorem dX2_shape_58 : decode cX2_shape 58 = .ok (.bipush 16, 2) := by decide +kernel
theorem dX2_shape_60 : decode cX2_shape 60 = .ok (.iload_n 1, 1) := by decide +kernel
theorem dX2_shape_61 : decode cX2_shape 61 = .ok (.imul, 1) := by decide +kernel
theorem dX2_shape_62 : decode cX2_shape 62 = .ok (.iload 4, 2) := by decide +kernel
theorem dX2_shape_64 : decode cX2_shape 64 = .ok (.iadd, 1) := by decide +kernel
theorem dX2_shape_65 : decode cX2_shape 65 = .ok (.iconst 0, 1) := by decide +kernel
theorem dX2_shape_66 : decode cX2_shape 66 = .ok (.iastore, 1) := by decide +kernel
theorem dX2_shape_67 : decode cX2_shape 67 = .ok (.iinc 4 1, 3) := by decide +kernel
theorem dX2_shape_70 : decode cX2_shape 70 = .ok (.goto (-23), 3) := by decide +kernel
theorem dX2_shape_73 : decode cX2_shape 73 = .ok (.iconst 1, 1) := by decide +kernel
theorem dX2_shape_74 : decode cX2_shape 74 = .ok (.ireturn, 1) := by decide +kernel
theorem dX2_isPattern_0 : decode cX2_isPattern 0 = .ok (.iload_n 1, 1) := by decide +kernel
theorem dX2_isPattern_1 : decode cX2_isPattern 1 = .ok (.ifCond .lt 12, 3) := by decide +kernel
theorem dX2_isPattern_4 : decode cX2_isPattern 4 = .ok (.iload_n 1, 1) := by decide +kernel
theorem dX2_isPattern_5 : decode cX2_isPattern 5 = .ok (.iconst 2, 1) := by decide +kernel
theorem dX2_isPattern_6 : decode cX2_isPattern 6 = .ok (.if_icmp .gt 7, 3) := by decide +kernel
theorem dX2_isPattern_9 : decode cX2_isPattern 9 = .ok (.iconst 1, 1) := by decide +kernel
theorem dX2_isPattern_10 : decode cX2_isPattern 10 = .ok (.goto 4, 3) := by decide +kernel
theorem dX2_isPattern_13 : decode cX2_isPattern 13 = .ok (.iconst 0, 1) := by decide +kernel
theorem dX2_isPattern_14 : decode cX2_isPattern 14 = .ok (.ireturn, 1) := by decide +kernel
theorem dX2_paint_0 : decode cX2_paint 0 = .ok (.aload_n 0, 1) := by decide +kernel
theorem dX2_paint_1 : decode cX2_paint 1 = .ok (.iload_n 1, 1) := by decide +kernel
theorem dX2_paint_2 : decode cX2_paint 2 = .ok (.invokevirtual 37, 3) := by decide +kernel
theorem dX2_paint_5 : decode cX2_paint 5 = .ok (.ifCond .eq 40, 3) := by decide +kernel
theorem dX2_paint_8 : decode cX2_paint 8 = .ok (.iload_n 2, 1) := by decide +kernel
theorem dX2_paint_9 : decode cX2_paint 9 = .ok (.ifCond .lt 36, 3) := by decide +kernel
theorem dX2_paint_12 : decode cX2_paint 12 = .ok (.iload_n 3, 1) := by decide +kernel
theorem dX2_paint_13 : decode cX2_paint 13 = .ok (.ifCond .lt 32, 3) := by decide +kernel
theorem dX2_paint_16 : decode cX2_paint 16 = .ok (.iload_n 2, 1) := by decide +kernel
theorem dX2_paint_17 : decode cX2_paint 17 = .ok (.aload_n 0, 1) := by decide +kernel
theorem dX2_paint_18 : decode cX2_paint 18 = .ok (.getfield 16, 3) := by decide +kernel
theorem dX2_paint_21 : decode cX2_paint 21 = .ok (.iload_n 1, 1) := by decide +kernel
theorem dX2_paint_22 : decode cX2_paint 22 = .ok (.iaload, 1) := by decide +kernel
theorem dX2_paint_23 : decode cX2_paint 23 = .ok (.if_icmp .ge 22, 3) := by decide +kernel
theorem dX2_paint_26 : decode cX2_paint 26 = .ok (.iload_n 3, 1) := by decide +kernel
theorem dX2_paint_27 : decode cX2_paint 27 = .ok (.aload_n 0, 1) := by decide +kernel
theorem dX2_paint_28 : decode cX2_paint 28 = .ok (.getfield 19, 3) := by decide +kernel
theorem dX2_paint_31 : decode cX2_paint 31 = .ok (.iload_n 1, 1) := by decide +kernel
theorem dX2_paint_32 : decode cX2_paint 32 = .ok (.iaload, 1) := by decide +kernel
theorem dX2_paint_33 : decode cX2_paint 33 = .ok (.if_icmp .ge 12, 3) := by decide +kernel
theorem dX2_paint_36 : decode cX2_paint 36 = .ok (.aload_n 0, 1) := by decide +kernel
theorem dX2_paint_37 : decode cX2_paint 37 = .ok (.iload 4, 2) := by decide +kernel
theorem dX2_paint_39 : decode cX2_paint 39 = .ok (.invokevirtual 33, 3) := by decide +kernel
theorem dX2_paint_42 : decode cX2_paint 42 = .ok (.ifCond .ne 5, 3) := by decide +kernel
theorem dX2_paint_45 : decode cX2_paint 45 = .ok (.iconst 0, 1) := by decide +kernel
theorem dX2_paint_46 : decode cX2_paint 46 = .ok (.ireturn, 1) := by decide +kernel
theorem dX2_paint_47 : decode cX2_paint 47 = .ok (.aload_n 0, 1) := by decide +kernel
theorem dX2_paint_48 : decode cX2_paint 48 = .ok (.getfield 13, 3) := by decide +kernel
theorem dX2_paint_51 : decode cX2_paint 51 = .ok (.bipush 16, 2) := by decide +kernel
theorem dX2_paint_53 : decode cX2_paint 53 = .ok (.iload_n 1, 1) := by decide +kernel
theorem dX2_paint_54 : decode cX2_paint 54 = .ok (.imul, 1) := by decide +kernel
theorem dX2_paint_55 : decode cX2_paint 55 = .ok (.iconst 4, 1) := by decide +kernel
theorem dX2_paint_56 : decode cX2_paint 56 = .ok (.iload_n 3, 1) := by decide +kernel
theorem dX2_paint_57 : decode cX2_paint 57 = .ok (.imul, 1) := by decide +kernel
theorem dX2_paint_58 : decode cX2_paint 58 = .ok (.iadd, 1) := by decide +kernel
theorem dX2_paint_59 : decode cX2_paint 59 = .ok (.iload_n 2, 1) := by decide +kernel
theorem dX2_paint_60 : decode cX2_paint 60 = .ok (.iadd, 1) := by decide +kernel
theorem dX2_paint_61 : decode cX2_paint 61 = .ok (.iload 4, 2) := by decide +kernel
theorem dX2_paint_63 : decode cX2_paint 63 = .ok (.iastore, 1) := by decide +kernel
theorem dX2_paint_64 : decode cX2_paint 64 = .ok (.iconst 1, 1) := by decide +kernel
theorem dX2_paint_65 : decode cX2_paint 65 = .ok (.ireturn, 1) := by decide +kernel
theorem dX2_copy_0 : decode cX2_copy 0 = .ok (.aload_n 0, 1) := by decide +kernel
theorem dX2_copy_1 : decode cX2_copy 1 = .ok (.iload_n 1, 1) := by decide +kernel
theorem dX2_copy_2 : decode cX2_copy 2 = .ok (.iload_n 2, 1) := by decide +kernel
theorem dX2_copy_3 : decode cX2_copy 3 = .ok (.iload_n 3, 1) := by decide +kernel
theorem dX2_copy_4 : decode cX2_copy 4 = .ok (.invokevirtual 40, 3) := by decide +kernel
theorem dX2_copy_7 : decode cX2_copy 7 = .ok (.ifCond .ne 5, 3) := by decide +kernel
theorem dX2_copy_10 : decode cX2_copy 10 = .ok (.iconst 0, 1) := by decide +kernel
theorem dX2_copy_11 : decode cX2_copy 11 = .ok (.ireturn, 1) := by decide +kernel
theorem dX2_copy_12 : decode cX2_copy 12 = .ok (.iconst 0, 1) := by decide +kernel
theorem dX2_copy_13 : decode cX2_copy 13 = .ok (.istore 4, 2) := by decide +kernel
theorem dX2_copy_15 : decode cX2_copy 15 = .ok (.iload 4, 2) := by decide +kernel
theorem dX2_copy_17 : decode cX2_copy 17 = .ok (.aload_n 0, 1) := by decide +kernel
theorem dX2_copy_18 : decode cX2_copy 18 = .ok (.getfield 19, 3) := by decide +kernel
theorem dX2_copy_21 : decode cX2_copy 21 = .ok (.iload_n 1, 1) := by decide +kernel
theorem dX2_copy_22 : decode cX2_copy 22 = .ok (.iaload, 1) := by decide +kernel
theorem dX2_copy_23 : decode cX2_copy 23 = .ok (.if_icmp .ge 63, 3) := by decide +kernel
theorem dX2_copy_26 : decode cX2_copy 26 = .ok (.iconst 0, 1) := by decide +kernel
theorem dX2_copy_27 : decode cX2_copy 27 = .ok (.istore 5, 2) := by decide +kernel
theorem dX2_copy_29 : decode cX2_copy 29 = .ok (.iload 5, 2) := by decide +kernel
theorem dX2_copy_31 : decode cX2_copy 31 = .ok (.aload_n 0, 1) := by decide +kernel
theorem dX2_copy_32 : decode cX2_copy 32 = .ok (.getfield 16, 3) := by decide +kernel
theorem dX2_copy_35 : decode cX2_copy 35 = .ok (.iload_n 1, 1) := by decide +kernel
theorem dX2_copy_36 : decode cX2_copy 36 = .ok (.iaload, 1) := by decide +kernel
theorem dX2_copy_37 : decode cX2_copy 37 = .ok (.if_icmp .ge 43, 3) := by decide +kernel
theorem dX2_copy_40 : decode cX2_copy 40 = .ok (.aload_n 0, 1) := by decide +kernel
theorem dX2_copy_41 : decode cX2_copy 41 = .ok (.getfield 13, 3) := by decide +kernel
theorem dX2_copy_44 : decode cX2_copy 44 = .ok (.bipush 16, 2) := by decide +kernel
theorem dX2_copy_46 : decode cX2_copy 46 = .ok (.iload_n 1, 1) := by decide +kernel
theorem dX2_copy_47 : decode cX2_copy 47 = .ok (.imul, 1) := by decide +kernel
theorem dX2_copy_48 : decode cX2_copy 48 = .ok (.iconst 4, 1) := by decide +kernel
theorem dX2_copy_49 : decode cX2_copy 49 = .ok (.iload 4, 2) := by decide +kernel
theorem dX2_copy_51 : decode cX2_copy 51 = .ok (.imul, 1) := by decide +kernel
theorem dX2_copy_52 : decode cX2_copy 52 = .ok (.iadd, 1) := by decide +kernel
theorem dX2_copy_53 : decode cX2_copy 53 = .ok (.iload 5, 2) := by decide +kernel
theorem dX2_copy_55 : decode cX2_copy 55 = .ok (.iadd, 1) := by decide +kernel
theorem dX2_copy_56 : decode cX2_copy 56 = .ok (.aload_n 0, 1) := by decide +kernel
theorem dX2_copy_57 : decode cX2_copy 57 = .ok (.getfield 7, 3) := by decide +kernel
theorem dX2_copy_60 : decode cX2_copy 60 = .ok (.bipush 16, 2) := by decide +kernel
theorem dX2_copy_62 : decode cX2_copy 62 = .ok (.iload_n 3, 1) := by decide +kernel
theorem dX2_copy_63 : decode cX2_copy 63 = .ok (.iload 4, 2) := by decide +kernel
theorem dX2_copy_65 : decode cX2_copy 65 = .ok (.iadd, 1) := by decide +kernel
theorem dX2_copy_66 : decode cX2_copy 66 = .ok (.imul, 1) := by decide +kernel
theorem dX2_copy_67 : decode cX2_copy 67 = .ok (.iload_n 2, 1) := by decide +kernel
theorem dX2_copy_68 : decode cX2_copy 68 = .ok (.iadd, 1) := by decide +kernel
theorem dX2_copy_69 : decode cX2_copy 69 = .ok (.iload 5, 2) := by decide +kernel
theorem dX2_copy_71 : decode cX2_copy 71 = .ok (.iadd, 1) := by decide +kernel
theorem dX2_copy_72 : decode cX2_copy 72 = .ok (.iaload, 1) := by decide +kernel
theorem dX2_copy_73 : decode cX2_copy 73 = .ok (.iastore, 1) := by decide +kernel
theorem dX2_copy_74 : decode cX2_copy 74 = .ok (.iinc 5 1, 3) := by decide +kernel
theorem dX2_copy_77 : decode cX2_copy 77 = .ok (.goto (-48), 3) := by decide +kernel
theorem dX2_copy_80 : decode cX2_copy 80 = .ok (.iinc 4 1, 3) := by decide +kernel
theorem dX2_copy_83 : decode cX2_copy 83 = .ok (.goto (-68), 3) := by decide +kernel
theorem dX2_copy_86 : decode cX2_copy 86 = .ok (.iconst 1, 1) := by decide +kernel
theorem dX2_copy_87 : decode cX2_copy 87 = .ok (.ireturn, 1) := by decide +kernel
theorem dX2_fits_0 : decode cX2_fits 0 = .ok (.aload_n 0, 1) := by decide +kernel
theorem dX2_fits_1 : decode cX2_fits 1 = .ok (.iload_n 1, 1) := by decide +kernel
theorem dX2_fits_2 : decode cX2_fits 2 = .ok (.invokevirtual 37, 3) := by decide +kernel
theorem dX2_fits_5 : decode cX2_fits 5 = .ok (.ifCond .eq 46, 3) := by decide +kernel
theorem dX2_fits_8 : decode cX2_fits 8 = .ok (.aload_n 0, 1) := by decide +kernel
theorem dX2_fits_9 : decode cX2_fits 9 = .ok (.iload_n 2, 1) := by decide +kernel
theorem dX2_fits_10 : decode cX2_fits 10 = .ok (.iload_n 3, 1) := by decide +kernel
theorem dX2_fits_11 : decode cX2_fits 11 = .ok (.invokevirtual 29, 3) := by decide +kernel
theorem dX2_fits_14 : decode cX2_fits 14 = .ok (.ifCond .eq 37, 3) := by decide +kernel
theorem dX2_fits_17 : decode cX2_fits 17 = .ok (.iload_n 2, 1) := by decide +kernel
theorem dX2_fits_18 : decode cX2_fits 18 = .ok (.aload_n 0, 1) := by decide +kernel
theorem dX2_fits_19 : decode cX2_fits 19 = .ok (.getfield 22, 3) := by decide +kernel
theorem dX2_fits_22 : decode cX2_fits 22 = .ok (.aload_n 0, 1) := by decide +kernel
theorem dX2_fits_23 : decode cX2_fits 23 = .ok (.getfield 16, 3) := by decide +kernel
theorem dX2_fits_26 : decode cX2_fits 26 = .ok (.iload_n 1, 1) := by decide +kernel
theorem dX2_fits_27 : decode cX2_fits 27 = .ok (.iaload, 1) := by decide +kernel
theorem dX2_fits_28 : decode cX2_fits 28 = .ok (.isub, 1) := by decide +kernel
theorem dX2_fits_29 : decode cX2_fits 29 = .ok (.if_icmp .gt 22, 3) := by decide +kernel
theorem dX2_fits_32 : decode cX2_fits 32 = .ok (.iload_n 3, 1) := by decide +kernel
theorem dX2_fits_33 : decode cX2_fits 33 = .ok (.aload_n 0, 1) := by decide +kernel
theorem dX2_fits_34 : decode cX2_fits 34 = .ok (.getfield 26, 3) := by decide +kernel
theorem dX2_fits_37 : decode cX2_fits 37 = .ok (.aload_n 0, 1) := by decide +kernel
theorem dX2_fits_38 : decode cX2_fits 38 = .ok (.getfield 19, 3) := by decide +kernel
theorem dX2_fits_41 : decode cX2_fits 41 = .ok (.iload_n 1, 1) := by decide +kernel
theorem dX2_fits_42 : decode cX2_fits 42 = .ok (.iaload, 1) := by decide +kernel
theorem dX2_fits_43 : decode cX2_fits 43 = .ok (.isub, 1) := by decide +kernel
theorem dX2_fits_44 : decode cX2_fits 44 = .ok (.if_icmp .gt 7, 3) := by decide +kernel
theorem dX2_fits_47 : decode cX2_fits 47 = .ok (.iconst 1, 1) := by decide +kernel
theorem dX2_fits_48 : decode cX2_fits 48 = .ok (.goto 4, 3) := by decide +kernel
theorem dX2_fits_51 : decode cX2_fits 51 = .ok (.iconst 0, 1) := by decide +kernel
theorem dX2_fits_52 : decode cX2_fits 52 = .ok (.ireturn, 1) := by decide +kernel
theorem dX2_stamp_0 : decode cX2_stamp 0 = .ok (.aload_n 0, 1) := by decide +kernel
theorem dX2_stamp_1 : decode cX2_stamp 1 = .ok (.iload_n 1, 1) := by decide +kernel
theorem dX2_stamp_2 : decode cX2_stamp 2 = .ok (.iload_n 2, 1) := by decide +kernel
theorem dX2_stamp_3 : decode cX2_stamp 3 = .ok (.iload_n 3, 1) := by decide +kernel
theorem dX2_stamp_4 : decode cX2_stamp 4 = .ok (.invokevirtual 40, 3) := by decide +kernel
theorem dX2_stamp_7 : decode cX2_stamp 7 = .ok (.ifCond .ne 5, 3) := by decide +kernel
theorem dX2_stamp_10 : decode cX2_stamp 10 = .ok (.iconst 0, 1) := by decide +kernel
theorem dX2_stamp_11 : decode cX2_stamp 11 = .ok (.ireturn, 1) := by decide +kernel
theorem dX2_stamp_12 : decode cX2_stamp 12 = .ok (.iconst 0, 1) := by decide +kernel
theorem dX2_stamp_13 : decode cX2_stamp 13 = .ok (.istore 4, 2) := by decide +kernel
theorem dX2_stamp_15 : decode cX2_stamp 15 = .ok (.iload 4, 2) := by decide +kernel
theorem dX2_stamp_17 : decode cX2_stamp 17 = .ok (.aload_n 0, 1) := by decide +kernel
theorem dX2_stamp_18 : decode cX2_stamp 18 = .ok (.getfield 19, 3) := by decide +kernel
theorem dX2_stamp_21 : decode cX2_stamp 21 = .ok (.iload_n 1, 1) := by decide +kernel
theorem dX2_stamp_22 : decode cX2_stamp 22 = .ok (.iaload, 1) := by decide +kernel
theorem dX2_stamp_23 : decode cX2_stamp 23 = .ok (.if_icmp .ge 63, 3) := by decide +kernel
theorem dX2_stamp_26 : decode cX2_stamp 26 = .ok (.iconst 0, 1) := by decide +kernel
theorem dX2_stamp_27 : decode cX2_stamp 27 = .ok (.istore 5, 2) := by decide +kernel
theorem dX2_stamp_29 : decode cX2_stamp 29 = .ok (.iload 5, 2) := by decide +kernel
theorem dX2_stamp_31 : decode cX2_stamp 31 = .ok (.aload_n 0, 1) := by decide +kernel
theorem dX2_stamp_32 : decode cX2_stamp 32 = .ok (.getfield 16, 3) := by decide +kernel
theorem dX2_stamp_35 : decode cX2_stamp 35 = .ok (.iload_n 1, 1) := by decide +kernel
theorem dX2_stamp_36 : decode cX2_stamp 36 = .ok (.iaload, 1) := by decide +kernel
theorem dX2_stamp_37 : decode cX2_stamp 37 = .ok (.if_icmp .ge 43, 3) := by decide +kernel
theorem dX2_stamp_40 : decode cX2_stamp 40 = .ok (.aload_n 0, 1) := by decide +kernel
theorem dX2_stamp_41 : decode cX2_stamp 41 = .ok (.getfield 7, 3) := by decide +kernel
theorem dX2_stamp_44 : decode cX2_stamp 44 = .ok (.bipush 16, 2) := by decide +kernel
theorem dX2_stamp_46 : decode cX2_stamp 46 = .ok (.iload_n 3, 1) := by decide +kernel
theorem dX2_stamp_47 : decode cX2_stamp 47 = .ok (.iload 4, 2) := by decide +kernel
theorem dX2_stamp_49 : decode cX2_stamp 49 = .ok (.iadd, 1) := by decide +kernel
theorem dX2_stamp_50 : decode cX2_stamp 50 = .ok (.imul, 1) := by decide +kernel
theorem dX2_stamp_51 : decode cX2_stamp 51 = .ok (.iload_n 2, 1) := by decide +kernel
theorem dX2_stamp_52 : decode cX2_stamp 52 = .ok (.iadd, 1) := by decide +kernel
end
section
set_option maxRecDepth 100000
theorem dX2_stamp_53 : decode cX2_stamp 53 = .ok (.iload 5, 2) := by decide +kernel
theorem dX2_stamp_55 : decode cX2_stamp 55 = .ok (.iadd, 1) := by decide +kernel
theorem dX2_stamp_56 : decode cX2_stamp 56 = .ok (.aload_n 0, 1) := by decide +kernel
theorem dX2_stamp_57 : decode cX2_stamp 57 = .ok (.getfield 13, 3) := by decide +kernel
theorem dX2_stamp_60 : decode cX2_stamp 60 = .ok (.bipush 16, 2) := by decide +kernel
theorem dX2_stamp_62 : decode cX2_stamp 62 = .ok (.iload_n 1, 1) := by decide +kernel
theorem dX2_stamp_63 : decode cX2_stamp 63 = .ok (.imul, 1) := by decide +kernel
theorem dX2_stamp_64 : decode cX2_stamp 64 = .ok (.iconst 4, 1) := by decide +kernel
theorem dX2_stamp_65 : decode cX2_stamp 65 = .ok (.iload 4, 2) := by decide +kernel
theorem dX2_stamp_67 : decode cX2_stamp 67 = .ok (.imul, 1) := by decide +kernel
theorem dX2_stamp_68 : decode cX2_stamp 68 = .ok (.iadd, 1) := by decide +kernel
theorem dX2_stamp_69 : decode cX2_stamp 69 = .ok (.iload 5, 2) := by decide +kernel
theorem dX2_stamp_71 : decode cX2_stamp 71 = .ok (.iadd, 1) := by decide +kernel
theorem dX2_stamp_72 : decode cX2_stamp 72 = .ok (.iaload, 1) := by decide +kernel
theorem dX2_stamp_73 : decode cX2_stamp 73 = .ok (.iastore, 1) := by decide +kernel
theorem dX2_stamp_74 : decode cX2_stamp 74 = .ok (.iinc 5 1, 3) := by decide +kernel
theorem dX2_stamp_77 : decode cX2_stamp 77 = .ok (.goto (-48), 3) := by decide +kernel
theorem dX2_stamp_80 : decode cX2_stamp 80 = .ok (.iinc 4 1, 3) := by decide +kernel
theorem dX2_stamp_83 : decode cX2_stamp 83 = .ok (.goto (-68), 3) := by decide +kernel
theorem dX2_stamp_86 : decode cX2_stamp 86 = .ok (.iconst 1, 1) := by decide +kernel
theorem dX2_stamp_87 : decode cX2_stamp 87 = .ok (.ireturn, 1) := by decide +kernel
theorem dX2_letter_0 : decode cX2_letter 0 = .ok (.aload_n 0, 1) := by decide +kernel
theorem dX2_letter_1 : decode cX2_letter 1 = .ok (.iload_n 1, 1) := by decide +kernel
theorem dX2_letter_2 : decode cX2_letter 2 = .ok (.iload_n 2, 1) := by decide +kernel
theorem dX2_letter_3 : decode cX2_letter 3 = .ok (.invokevirtual 29, 3) := by decide +kernel
theorem dX2_letter_6 : decode cX2_letter 6 = .ok (.ifCond .eq 17, 3) := by decide +kernel
theorem dX2_letter_9 : decode cX2_letter 9 = .ok (.aload_n 0, 1) := by decide +kernel
theorem dX2_letter_10 : decode cX2_letter 10 = .ok (.getfield 7, 3) := by decide +kernel
theorem dX2_letter_13 : decode cX2_letter 13 = .ok (.bipush 16, 2) := by decide +kernel
theorem dX2_letter_15 : decode cX2_letter 15 = .ok (.iload_n 2, 1) := by decide +kernel
theorem dX2_letter_16 : decode cX2_letter 16 = .ok (.imul, 1) := by decide +kernel
theorem dX2_letter_17 : decode cX2_letter 17 = .ok (.iload_n 1, 1) := by decide +kernel
theorem dX2_letter_18 : decode cX2_letter 18 = .ok (.iadd, 1) := by decide +kernel
theorem dX2_letter_19 : decode cX2_letter 19 = .ok (.iaload, 1) := by decide +kernel
theorem dX2_letter_20 : decode cX2_letter 20 = .ok (.goto 4, 3) := by decide +kernel
theorem dX2_letter_23 : decode cX2_letter 23 = .ok (.iconst (-1), 1) := by decide +kernel
theorem dX2_letter_24 : decode cX2_letter 24 = .ok (.ireturn, 1) := by decide +kernel
theorem dX2_occurrences_0 : decode cX2_occurrences 0 = .ok (.aload_n 0, 1) := by decide +kernel
theorem dX2_occurrences_1 : decode cX2_occurrences 1 = .ok (.iload_n 1, 1) := by decide +kernel
theorem dX2_occurrences_2 : decode cX2_occurrences 2 = .ok (.invokevirtual 37, 3) := by decide +kernel
theorem dX2_occurrences_5 : decode cX2_occurrences 5 = .ok (.ifCond .ne 5, 3) := by decide +kernel
theorem dX2_occurrences_8 : decode cX2_occurrences 8 = .ok (.iconst (-1), 1) := by decide +kernel
theorem dX2_occurrences_9 : decode cX2_occurrences 9 = .ok (.ireturn, 1) := by decide +kernel
theorem dX2_occurrences_10 : decode cX2_occurrences 10 = .ok (.iconst 0, 1) := by decide +kernel
theorem dX2_occurrences_11 : decode cX2_occurrences 11 = .ok (.istore_n 2, 1) := by decide +kernel
theorem dX2_occurrences_12 : decode cX2_occurrences 12 = .ok (.iconst 0, 1) := by decide +kernel
theorem dX2_occurrences_13 : decode cX2_occurrences 13 = .ok (.istore_n 3, 1) := by decide +kernel
theorem dX2_occurrences_14 : decode cX2_occurrences 14 = .ok (.iload_n 3, 1) := by decide +kernel
theorem dX2_occurrences_15 : decode cX2_occurrences 15 = .ok (.sipush 192, 3) := by decide +kernel
theorem dX2_occurrences_18 : decode cX2_occurrences 18 = .ok (.if_icmp .ge 28, 3) := by decide +kernel
theorem dX2_occurrences_21 : decode cX2_occurrences 21 = .ok (.aload_n 0, 1) := by decide +kernel
theorem dX2_occurrences_22 : decode cX2_occurrences 22 = .ok (.iload_n 1, 1) := by decide +kernel
theorem dX2_occurrences_23 : decode cX2_occurrences 23 = .ok (.iload_n 3, 1) := by decide +kernel
theorem dX2_occurrences_24 : decode cX2_occurrences 24 = .ok (.bipush 16, 2) := by decide +kernel
theorem dX2_occurrences_26 : decode cX2_occurrences 26 = .ok (.irem, 1) := by decide +kernel
theorem dX2_occurrences_27 : decode cX2_occurrences 27 = .ok (.iload_n 3, 1) := by decide +kernel
theorem dX2_occurrences_28 : decode cX2_occurrences 28 = .ok (.bipush 16, 2) := by decide +kernel
theorem dX2_occurrences_30 : decode cX2_occurrences 30 = .ok (.idiv, 1) := by decide +kernel
theorem dX2_occurrences_31 : decode cX2_occurrences 31 = .ok (.invokevirtual 44, 3) := by decide +kernel
theorem dX2_occurrences_34 : decode cX2_occurrences 34 = .ok (.ifCond .eq 6, 3) := by decide +kernel
theorem dX2_occurrences_37 : decode cX2_occurrences 37 = .ok (.iinc 2 1, 3) := by decide +kernel
theorem dX2_occurrences_40 : decode cX2_occurrences 40 = .ok (.iinc 3 1, 3) := by decide +kernel
theorem dX2_occurrences_43 : decode cX2_occurrences 43 = .ok (.goto (-29), 3) := by decide +kernel
theorem dX2_occurrences_46 : decode cX2_occurrences 46 = .ok (.iload_n 2, 1) := by decide +kernel
theorem dX2_occurrences_47 : decode cX2_occurrences 47 = .ok (.ireturn, 1) := by decide +kernel
theorem dX2_occurs_0 : decode cX2_occurs 0 = .ok (.aload_n 0, 1) := by decide +kernel
theorem dX2_occurs_1 : decode cX2_occurs 1 = .ok (.iload_n 1, 1) := by decide +kernel
theorem dX2_occurs_2 : decode cX2_occurs 2 = .ok (.iload_n 2, 1) := by decide +kernel
theorem dX2_occurs_3 : decode cX2_occurs 3 = .ok (.iload_n 3, 1) := by decide +kernel
theorem dX2_occurs_4 : decode cX2_occurs 4 = .ok (.invokevirtual 40, 3) := by decide +kernel
theorem dX2_occurs_7 : decode cX2_occurs 7 = .ok (.ifCond .ne 5, 3) := by decide +kernel
theorem dX2_occurs_10 : decode cX2_occurs 10 = .ok (.iconst 0, 1) := by decide +kernel
theorem dX2_occurs_11 : decode cX2_occurs 11 = .ok (.ireturn, 1) := by decide +kernel
theorem dX2_occurs_12 : decode cX2_occurs 12 = .ok (.iconst 0, 1) := by decide +kernel
theorem dX2_occurs_13 : decode cX2_occurs 13 = .ok (.istore 4, 2) := by decide +kernel
theorem dX2_occurs_15 : decode cX2_occurs 15 = .ok (.iload 4, 2) := by decide +kernel
theorem dX2_occurs_17 : decode cX2_occurs 17 = .ok (.aload_n 0, 1) := by decide +kernel
theorem dX2_occurs_18 : decode cX2_occurs 18 = .ok (.getfield 19, 3) := by decide +kernel
theorem dX2_occurs_21 : decode cX2_occurs 21 = .ok (.iload_n 1, 1) := by decide +kernel
theorem dX2_occurs_22 : decode cX2_occurs 22 = .ok (.iaload, 1) := by decide +kernel
theorem dX2_occurs_23 : decode cX2_occurs 23 = .ok (.if_icmp .ge 68, 3) := by decide +kernel
theorem dX2_occurs_26 : decode cX2_occurs 26 = .ok (.iconst 0, 1) := by decide +kernel
theorem dX2_occurs_27 : decode cX2_occurs 27 = .ok (.istore 5, 2) := by decide +kernel
theorem dX2_occurs_29 : decode cX2_occurs 29 = .ok (.iload 5, 2) := by decide +kernel
theorem dX2_occurs_31 : decode cX2_occurs 31 = .ok (.aload_n 0, 1) := by decide +kernel
theorem dX2_occurs_32 : decode cX2_occurs 32 = .ok (.getfield 16, 3) := by decide +kernel
theorem dX2_occurs_35 : decode cX2_occurs 35 = .ok (.iload_n 1, 1) := by decide +kernel
theorem dX2_occurs_36 : decode cX2_occurs 36 = .ok (.iaload, 1) := by decide +kernel
theorem dX2_occurs_37 : decode cX2_occurs 37 = .ok (.if_icmp .ge 48, 3) := by decide +kernel
theorem dX2_occurs_40 : decode cX2_occurs 40 = .ok (.aload_n 0, 1) := by decide +kernel
theorem dX2_occurs_41 : decode cX2_occurs 41 = .ok (.getfield 7, 3) := by decide +kernel
theorem dX2_occurs_44 : decode cX2_occurs 44 = .ok (.bipush 16, 2) := by decide +kernel
theorem dX2_occurs_46 : decode cX2_occurs 46 = .ok (.iload_n 3, 1) := by decide +kernel
theorem dX2_occurs_47 : decode cX2_occurs 47 = .ok (.iload 4, 2) := by decide +kernel
theorem dX2_occurs_49 : decode cX2_occurs 49 = .ok (.iadd, 1) := by decide +kernel
theorem dX2_occurs_50 : decode cX2_occurs 50 = .ok (.imul, 1) := by decide +kernel
theorem dX2_occurs_51 : decode cX2_occurs 51 = .ok (.iload_n 2, 1) := by decide +kernel
theorem dX2_occurs_52 : decode cX2_occurs 52 = .ok (.iadd, 1) := by decide +kernel
theorem dX2_occurs_53 : decode cX2_occurs 53 = .ok (.iload 5, 2) := by decide +kernel
theorem dX2_occurs_55 : decode cX2_occurs 55 = .ok (.iadd, 1) := by decide +kernel
theorem dX2_occurs_56 : decode cX2_occurs 56 = .ok (.iaload, 1) := by decide +kernel
theorem dX2_occurs_57 : decode cX2_occurs 57 = .ok (.aload_n 0, 1) := by decide +kernel
theorem dX2_occurs_58 : decode cX2_occurs 58 = .ok (.getfield 13, 3) := by decide +kernel
theorem dX2_occurs_61 : decode cX2_occurs 61 = .ok (.bipush 16, 2) := by decide +kernel
theorem dX2_occurs_63 : decode cX2_occurs 63 = .ok (.iload_n 1, 1) := by decide +kernel
theorem dX2_occurs_64 : decode cX2_occurs 64 = .ok (.imul, 1) := by decide +kernel
theorem dX2_occurs_65 : decode cX2_occurs 65 = .ok (.iconst 4, 1) := by decide +kernel
theorem dX2_occurs_66 : decode cX2_occurs 66 = .ok (.iload 4, 2) := by decide +kernel
theorem dX2_occurs_68 : decode cX2_occurs 68 = .ok (.imul, 1) := by decide +kernel
theorem dX2_occurs_69 : decode cX2_occurs 69 = .ok (.iadd, 1) := by decide +kernel
theorem dX2_occurs_70 : decode cX2_occurs 70 = .ok (.iload 5, 2) := by decide +kernel
theorem dX2_occurs_72 : decode cX2_occurs 72 = .ok (.iadd, 1) := by decide +kernel
theorem dX2_occurs_73 : decode cX2_occurs 73 = .ok (.iaload, 1) := by decide +kernel
theorem dX2_occurs_74 : decode cX2_occurs 74 = .ok (.if_icmp .eq 5, 3) := by decide +kernel
theorem dX2_occurs_77 : decode cX2_occurs 77 = .ok (.iconst 0, 1) := by decide +kernel
theorem dX2_occurs_78 : decode cX2_occurs 78 = .ok (.ireturn, 1) := by decide +kernel
theorem dX2_occurs_79 : decode cX2_occurs 79 = .ok (.iinc 5 1, 3) := by decide +kernel
theorem dX2_occurs_82 : decode cX2_occurs 82 = .ok (.goto (-53), 3) := by decide +kernel
theorem dX2_occurs_85 : decode cX2_occurs 85 = .ok (.iinc 4 1, 3) := by decide +kernel
theorem dX2_occurs_88 : decode cX2_occurs 88 = .ok (.goto (-73), 3) := by decide +kernel
theorem dX2_occurs_91 : decode cX2_occurs 91 = .ok (.iconst 1, 1) := by decide +kernel
theorem dX2_occurs_92 : decode cX2_occurs 92 = .ok (.ireturn, 1) := by decide +kernel
theorem dX2_next_0 : decode cX2_next 0 = .ok (.aload_n 0, 1) := by decide +kernel
theorem dX2_next_1 : decode cX2_next 1 = .ok (.iload_n 1, 1) := by decide +kernel
theorem dX2_next_2 : decode cX2_next 2 = .ok (.invokevirtual 37, 3) := by decide +kernel
theorem dX2_next_5 : decode cX2_next 5 = .ok (.ifCond .ne 5, 3) := by decide +kernel
theorem dX2_next_8 : decode cX2_next 8 = .ok (.iconst (-1), 1) := by decide +kernel
theorem dX2_next_9 : decode cX2_next 9 = .ok (.ireturn, 1) := by decide +kernel
theorem dX2_next_10 : decode cX2_next 10 = .ok (.iconst 0, 1) := by decide +kernel
theorem dX2_next_11 : decode cX2_next 11 = .ok (.istore_n 3, 1) := by decide +kernel
theorem dX2_next_12 : decode cX2_next 12 = .ok (.iload_n 3, 1) := by decide +kernel
theorem dX2_next_13 : decode cX2_next 13 = .ok (.sipush 192, 3) := by decide +kernel
theorem dX2_next_16 : decode cX2_next 16 = .ok (.if_icmp .ge 32, 3) := by decide +kernel
theorem dX2_next_19 : decode cX2_next 19 = .ok (.iload_n 3, 1) := by decide +kernel
theorem dX2_next_20 : decode cX2_next 20 = .ok (.iload_n 2, 1) := by decide +kernel
theorem dX2_next_21 : decode cX2_next 21 = .ok (.if_icmp .lt 21, 3) := by decide +kernel
theorem dX2_next_24 : decode cX2_next 24 = .ok (.aload_n 0, 1) := by decide +kernel
theorem dX2_next_25 : decode cX2_next 25 = .ok (.iload_n 1, 1) := by decide +kernel
theorem dX2_next_26 : decode cX2_next 26 = .ok (.iload_n 3, 1) := by decide +kernel
theorem dX2_next_27 : decode cX2_next 27 = .ok (.bipush 16, 2) := by decide +kernel
theorem dX2_next_29 : decode cX2_next 29 = .ok (.irem, 1) := by decide +kernel
theorem dX2_next_30 : decode cX2_next 30 = .ok (.iload_n 3, 1) := by decide +kernel
theorem dX2_next_31 : decode cX2_next 31 = .ok (.bipush 16, 2) := by decide +kernel
theorem dX2_next_33 : decode cX2_next 33 = .ok (.idiv, 1) := by decide +kernel
theorem dX2_next_34 : decode cX2_next 34 = .ok (.invokevirtual 44, 3) := by decide +kernel
theorem dX2_next_37 : decode cX2_next 37 = .ok (.ifCond .eq 5, 3) := by decide +kernel
theorem dX2_next_40 : decode cX2_next 40 = .ok (.iload_n 3, 1) := by decide +kernel
theorem dX2_next_41 : decode cX2_next 41 = .ok (.ireturn, 1) := by decide +kernel
theorem dX2_next_42 : decode cX2_next 42 = .ok (.iinc 3 1, 3) := by decide +kernel
theorem dX2_next_45 : decode cX2_next 45 = .ok (.goto (-33), 3) := by decide +kernel
theorem dX2_next_48 : decode cX2_next 48 = .ok (.bipush (-2), 2) := by decide +kernel
theorem dX2_next_50 : decode cX2_next 50 = .ok (.ireturn, 1) := by decide +kernel
theorem dX2_covered_0 : decode cX2_covered 0 = .ok (.iconst 0, 1) := by decide +kernel
theorem dX2_covered_1 : decode cX2_covered 1 = .ok (.istore_n 1, 1) := by decide +kernel
theorem dX2_covered_2 : decode cX2_covered 2 = .ok (.iconst 0, 1) := by decide +kernel
theorem dX2_covered_3 : decode cX2_covered 3 = .ok (.istore_n 2, 1) := by decide +kernel
theorem dX2_covered_4 : decode cX2_covered 4 = .ok (.iload_n 2, 1) := by decide +kernel
theorem dX2_covered_5 : decode cX2_covered 5 = .ok (.sipush 192, 3) := by decide +kernel
theorem dX2_covered_8 : decode cX2_covered 8 = .ok (.if_icmp .ge 66, 3) := by decide +kernel
theorem dX2_covered_11 : decode cX2_covered 11 = .ok (.iload_n 2, 1) := by decide +kernel
theorem dX2_covered_12 : decode cX2_covered 12 = .ok (.bipush 16, 2) := by decide +kernel
theorem dX2_covered_14 : decode cX2_covered 14 = .ok (.irem, 1) := by decide +kernel
theorem dX2_covered_15 : decode cX2_covered 15 = .ok (.istore_n 3, 1) := by decide +kernel
theorem dX2_covered_16 : decode cX2_covered 16 = .ok (.iload_n 2, 1) := by decide +kernel
theorem dX2_covered_17 : decode cX2_covered 17 = .ok (.bipush 16, 2) := by decide +kernel
theorem dX2_covered_19 : decode cX2_covered 19 = .ok (.idiv, 1) := by decide +kernel
theorem dX2_covered_20 : decode cX2_covered 20 = .ok (.istore 4, 2) := by decide +kernel
theorem dX2_covered_22 : decode cX2_covered 22 = .ok (.aload_n 0, 1) := by decide +kernel
theorem dX2_covered_23 : decode cX2_covered 23 = .ok (.iload_n 3, 1) := by decide +kernel
theorem dX2_covered_24 : decode cX2_covered 24 = .ok (.iload 4, 2) := by decide +kernel
theorem dX2_covered_26 : decode cX2_covered 26 = .ok (.invokevirtual 29, 3) := by decide +kernel
theorem dX2_covered_29 : decode cX2_covered 29 = .ok (.ifCond .eq 39, 3) := by decide +kernel
theorem dX2_covered_32 : decode cX2_covered 32 = .ok (.aload_n 0, 1) := by decide +kernel
theorem dX2_covered_33 : decode cX2_covered 33 = .ok (.iconst 0, 1) := by decide +kernel
theorem dX2_covered_34 : decode cX2_covered 34 = .ok (.iload_n 3, 1) := by decide +kernel
theorem dX2_covered_35 : decode cX2_covered 35 = .ok (.iload 4, 2) := by decide +kernel
theorem dX2_covered_37 : decode cX2_covered 37 = .ok (.invokevirtual 47, 3) := by decide +kernel
theorem dX2_covered_40 : decode cX2_covered 40 = .ok (.ifCond .ne 25, 3) := by decide +kernel
theorem dX2_covered_43 : decode cX2_covered 43 = .ok (.aload_n 0, 1) := by decide +kernel
theorem dX2_covered_44 : decode cX2_covered 44 = .ok (.iconst 1, 1) := by decide +kernel
theorem dX2_covered_45 : decode cX2_covered 45 = .ok (.iload_n 3, 1) := by decide +kernel
theorem dX2_covered_46 : decode cX2_covered 46 = .ok (.iload 4, 2) := by decide +kernel
theorem dX2_covered_48 : decode cX2_covered 48 = .ok (.invokevirtual 47, 3) := by decide +kernel
theorem dX2_covered_51 : decode cX2_covered 51 = .ok (.ifCond .ne 14, 3) := by decide +kernel
theorem dX2_covered_54 : decode cX2_covered 54 = .ok (.aload_n 0, 1) := by decide +kernel
theorem dX2_covered_55 : decode cX2_covered 55 = .ok (.iconst 2, 1) := by decide +kernel
theorem dX2_covered_56 : decode cX2_covered 56 = .ok (.iload_n 3, 1) := by decide +kernel
theorem dX2_covered_57 : decode cX2_covered 57 = .ok (.iload 4, 2) := by decide +kernel
theorem dX2_covered_59 : decode cX2_covered 59 = .ok (.invokevirtual 47, 3) := by decide +kernel
theorem dX2_covered_62 : decode cX2_covered 62 = .ok (.ifCond .eq 6, 3) := by decide +kernel
theorem dX2_covered_65 : decode cX2_covered 65 = .ok (.iinc 1 1, 3) := by decide +kernel
theorem dX2_covered_68 : decode cX2_covered 68 = .ok (.iinc 2 1, 3) := by decide +kernel
theorem dX2_covered_71 : decode cX2_covered 71 = .ok (.goto (-67), 3) := by decide +kernel
theorem dX2_covered_74 : decode cX2_covered 74 = .ok (.iload_n 1, 1) := by decide +kernel
theorem dX2_covered_75 : decode cX2_covered 75 = .ok (.ireturn, 1) := by decide +kernel
theorem dX2_coveredBy_0 : decode cX2_coveredBy 0 = .ok (.iconst 0, 1) := by decide +kernel
theorem dX2_coveredBy_1 : decode cX2_coveredBy 1 = .ok (.istore 4, 2) := by decide +kernel
theorem dX2_coveredBy_3 : decode cX2_coveredBy 3 = .ok (.iload 4, 2) := by decide +kernel
theorem dX2_coveredBy_5 : decode cX2_coveredBy 5 = .ok (.aload_n 0, 1) := by decide +kernel
theorem dX2_coveredBy_6 : decode cX2_coveredBy 6 = .ok (.getfield 19, 3) := by decide +kernel
theorem dX2_coveredBy_9 : decode cX2_coveredBy 9 = .ok (.iload_n 1, 1) := by decide +kernel
theorem dX2_coveredBy_10 : decode cX2_coveredBy 10 = .ok (.iaload, 1) := by decide +kernel
theorem dX2_coveredBy_11 : decode cX2_coveredBy 11 = .ok (.if_icmp .ge 47, 3) := by decide +kernel
theorem dX2_coveredBy_14 : decode cX2_coveredBy 14 = .ok (.iconst 0, 1) := by decide +kernel
theorem dX2_coveredBy_15 : decode cX2_coveredBy 15 = .ok (.istore 5, 2) := by decide +kernel
theorem dX2_coveredBy_17 : decode cX2_coveredBy 17 = .ok (.iload 5, 2) := by decide +kernel
theorem dX2_coveredBy_19 : decode cX2_coveredBy 19 = .ok (.aload_n 0, 1) := by decide +kernel
theorem dX2_coveredBy_20 : decode cX2_coveredBy 20 = .ok (.getfield 16, 3) := by decide +kernel
theorem dX2_coveredBy_23 : decode cX2_coveredBy 23 = .ok (.iload_n 1, 1) := by decide +kernel
theorem dX2_coveredBy_24 : decode cX2_coveredBy 24 = .ok (.iaload, 1) := by decide +kernel
theorem dX2_coveredBy_25 : decode cX2_coveredBy 25 = .ok (.if_icmp .ge 27, 3) := by decide +kernel
theorem dX2_coveredBy_28 : decode cX2_coveredBy 28 = .ok (.aload_n 0, 1) := by decide +kernel
theorem dX2_coveredBy_29 : decode cX2_coveredBy 29 = .ok (.iload_n 1, 1) := by decide +kernel
theorem dX2_coveredBy_30 : decode cX2_coveredBy 30 = .ok (.iload_n 2, 1) := by decide +kernel
theorem dX2_coveredBy_31 : decode cX2_coveredBy 31 = .ok (.iload 5, 2) := by decide +kernel
theorem dX2_coveredBy_33 : decode cX2_coveredBy 33 = .ok (.isub, 1) := by decide +kernel
theorem dX2_coveredBy_34 : decode cX2_coveredBy 34 = .ok (.iload_n 3, 1) := by decide +kernel
theorem dX2_coveredBy_35 : decode cX2_coveredBy 35 = .ok (.iload 4, 2) := by decide +kernel
theorem dX2_coveredBy_37 : decode cX2_coveredBy 37 = .ok (.isub, 1) := by decide +kernel
theorem dX2_coveredBy_38 : decode cX2_coveredBy 38 = .ok (.invokevirtual 44, 3) := by decide +kernel
theorem dX2_coveredBy_41 : decode cX2_coveredBy 41 = .ok (.ifCond .eq 5, 3) := by decide +kernel
theorem dX2_coveredBy_44 : decode cX2_coveredBy 44 = .ok (.iconst 1, 1) := by decide +kernel
theorem dX2_coveredBy_45 : decode cX2_coveredBy 45 = .ok (.ireturn, 1) := by decide +kernel
theorem dX2_coveredBy_46 : decode cX2_coveredBy 46 = .ok (.iinc 5 1, 3) := by decide +kernel
theorem dX2_coveredBy_49 : decode cX2_coveredBy 49 = .ok (.goto (-32), 3) := by decide +kernel
theorem dX2_coveredBy_52 : decode cX2_coveredBy 52 = .ok (.iinc 4 1, 3) := by decide +kernel
theorem dX2_coveredBy_55 : decode cX2_coveredBy 55 = .ok (.goto (-52), 3) := by decide +kernel
theorem dX2_coveredBy_58 : decode cX2_coveredBy 58 = .ok (.iconst 0, 1) := by decide +kernel
theorem dX2_coveredBy_59 : decode cX2_coveredBy 59 = .ok (.ireturn, 1) := by decide +kernel
theorem dX2_overlaps_0 : decode cX2_overlaps 0 = .ok (.aload_n 0, 1) := by decide +kernel
theorem dX2_overlaps_1 : decode cX2_overlaps 1 = .ok (.iload_n 1, 1) := by decide +kernel
theorem dX2_overlaps_2 : decode cX2_overlaps 2 = .ok (.invokevirtual 37, 3) := by decide +kernel
theorem dX2_overlaps_5 : decode cX2_overlaps 5 = .ok (.ifCond .ne 5, 3) := by decide +kernel
theorem dX2_overlaps_8 : decode cX2_overlaps 8 = .ok (.iconst (-1), 1) := by decide +kernel
theorem dX2_overlaps_9 : decode cX2_overlaps 9 = .ok (.ireturn, 1) := by decide +kernel
theorem dX2_overlaps_10 : decode cX2_overlaps 10 = .ok (.iconst 0, 1) := by decide +kernel
theorem dX2_overlaps_11 : decode cX2_overlaps 11 = .ok (.istore_n 2, 1) := by decide +kernel
theorem dX2_overlaps_12 : decode cX2_overlaps 12 = .ok (.iconst 0, 1) := by decide +kernel
theorem dX2_overlaps_13 : decode cX2_overlaps 13 = .ok (.istore_n 3, 1) := by decide +kernel
theorem dX2_overlaps_14 : decode cX2_overlaps 14 = .ok (.iload_n 3, 1) := by decide +kernel
theorem dX2_overlaps_15 : decode cX2_overlaps 15 = .ok (.sipush 192, 3) := by decide +kernel
theorem dX2_overlaps_18 : decode cX2_overlaps 18 = .ok (.if_icmp .ge 135, 3) := by decide +kernel
theorem dX2_overlaps_21 : decode cX2_overlaps 21 = .ok (.iload_n 3, 1) := by decide +kernel
theorem dX2_overlaps_22 : decode cX2_overlaps 22 = .ok (.iconst 1, 1) := by decide +kernel
theorem dX2_overlaps_23 : decode cX2_overlaps 23 = .ok (.iadd, 1) := by decide +kernel
theorem dX2_overlaps_24 : decode cX2_overlaps 24 = .ok (.istore 4, 2) := by decide +kernel
theorem dX2_overlaps_26 : decode cX2_overlaps 26 = .ok (.iload 4, 2) := by decide +kernel
theorem dX2_overlaps_28 : decode cX2_overlaps 28 = .ok (.sipush 192, 3) := by decide +kernel
theorem dX2_overlaps_31 : decode cX2_overlaps 31 = .ok (.if_icmp .ge 116, 3) := by decide +kernel
theorem dX2_overlaps_34 : decode cX2_overlaps 34 = .ok (.iload 4, 2) := by decide +kernel
theorem dX2_overlaps_36 : decode cX2_overlaps 36 = .ok (.bipush 16, 2) := by decide +kernel
theorem dX2_overlaps_38 : decode cX2_overlaps 38 = .ok (.irem, 1) := by decide +kernel
theorem dX2_overlaps_39 : decode cX2_overlaps 39 = .ok (.iload_n 3, 1) := by decide +kernel
theorem dX2_overlaps_40 : decode cX2_overlaps 40 = .ok (.bipush 16, 2) := by decide +kernel
theorem dX2_overlaps_42 : decode cX2_overlaps 42 = .ok (.irem, 1) := by decide +kernel
theorem dX2_overlaps_43 : decode cX2_overlaps 43 = .ok (.isub, 1) := by decide +kernel
theorem dX2_overlaps_44 : decode cX2_overlaps 44 = .ok (.istore 5, 2) := by decide +kernel
theorem dX2_overlaps_46 : decode cX2_overlaps 46 = .ok (.iload 4, 2) := by decide +kernel
theorem dX2_overlaps_48 : decode cX2_overlaps 48 = .ok (.bipush 16, 2) := by decide +kernel
theorem dX2_overlaps_50 : decode cX2_overlaps 50 = .ok (.idiv, 1) := by decide +kernel
theorem dX2_overlaps_51 : decode cX2_overlaps 51 = .ok (.iload_n 3, 1) := by decide +kernel
theorem dX2_overlaps_52 : decode cX2_overlaps 52 = .ok (.bipush 16, 2) := by decide +kernel
theorem dX2_overlaps_54 : decode cX2_overlaps 54 = .ok (.idiv, 1) := by decide +kernel
theorem dX2_overlaps_55 : decode cX2_overlaps 55 = .ok (.isub, 1) := by decide +kernel
theorem dX2_overlaps_56 : decode cX2_overlaps 56 = .ok (.istore 6, 2) := by decide +kernel
theorem dX2_overlaps_58 : decode cX2_overlaps 58 = .ok (.iload 5, 2) := by decide +kernel
theorem dX2_overlaps_60 : decode cX2_overlaps 60 = .ok (.aload_n 0, 1) := by decide +kernel
theorem dX2_overlaps_61 : decode cX2_overlaps 61 = .ok (.getfield 16, 3) := by decide +kernel
theorem dX2_overlaps_64 : decode cX2_overlaps 64 = .ok (.iload_n 1, 1) := by decide +kernel
theorem dX2_overlaps_65 : decode cX2_overlaps 65 = .ok (.iaload, 1) := by decide +kernel
theorem dX2_overlaps_66 : decode cX2_overlaps 66 = .ok (.if_icmp .ge 30, 3) := by decide +kernel
theorem dX2_overlaps_69 : decode cX2_overlaps 69 = .ok (.iload 5, 2) := by decide +kernel
theorem dX2_overlaps_71 : decode cX2_overlaps 71 = .ok (.ineg, 1) := by decide +kernel
theorem dX2_overlaps_72 : decode cX2_overlaps 72 = .ok (.aload_n 0, 1) := by decide +kernel
theorem dX2_overlaps_73 : decode cX2_overlaps 73 = .ok (.getfield 16, 3) := by decide +kernel
theorem dX2_overlaps_76 : decode cX2_overlaps 76 = .ok (.iload_n 1, 1) := by decide +kernel
theorem dX2_overlaps_77 : decode cX2_overlaps 77 = .ok (.iaload, 1) := by decide +kernel
theorem dX2_overlaps_78 : decode cX2_overlaps 78 = .ok (.if_icmp .ge 18, 3) := by decide +kernel
theorem dX2_overlaps_81 : decode cX2_overlaps 81 = .ok (.iload 6, 2) := by decide +kernel
theorem dX2_overlaps_83 : decode cX2_overlaps 83 = .ok (.aload_n 0, 1) := by decide +kernel
theorem dX2_overlaps_84 : decode cX2_overlaps 84 = .ok (.getfield 19, 3) := by decide +kernel
theorem dX2_overlaps_87 : decode cX2_overlaps 87 = .ok (.iload_n 1, 1) := by decide +kernel
theorem dX2_overlaps_88 : decode cX2_overlaps 88 = .ok (.iaload, 1) := by decide +kernel
theorem dX2_overlaps_89 : decode cX2_overlaps 89 = .ok (.if_icmp .ge 7, 3) := by decide +kernel
theorem dX2_overlaps_92 : decode cX2_overlaps 92 = .ok (.iconst 1, 1) := by decide +kernel
theorem dX2_overlaps_93 : decode cX2_overlaps 93 = .ok (.goto 4, 3) := by decide +kernel
theorem dX2_overlaps_96 : decode cX2_overlaps 96 = .ok (.iconst 0, 1) := by decide +kernel
theorem dX2_overlaps_97 : decode cX2_overlaps 97 = .ok (.istore 7, 2) := by decide +kernel
theorem dX2_overlaps_99 : decode cX2_overlaps 99 = .ok (.iload 7, 2) := by decide +kernel
theorem dX2_overlaps_101 : decode cX2_overlaps 101 = .ok (.ifCond .eq 40, 3) := by decide +kernel
theorem dX2_overlaps_104 : decode cX2_overlaps 104 = .ok (.aload_n 0, 1) := by decide +kernel
theorem dX2_overlaps_105 : decode cX2_overlaps 105 = .ok (.iload_n 1, 1) := by decide +kernel
theorem dX2_overlaps_106 : decode cX2_overlaps 106 = .ok (.iload_n 3, 1) := by decide +kernel
theorem dX2_overlaps_107 : decode cX2_overlaps 107 = .ok (.bipush 16, 2) := by decide +kernel
theorem dX2_overlaps_109 : decode cX2_overlaps 109 = .ok (.irem, 1) := by decide +kernel
theorem dX2_overlaps_110 : decode cX2_overlaps 110 = .ok (.iload_n 3, 1) := by decide +kernel
theorem dX2_overlaps_111 : decode cX2_overlaps 111 = .ok (.bipush 16, 2) := by decide +kernel
theorem dX2_overlaps_113 : decode cX2_overlaps 113 = .ok (.idiv, 1) := by decide +kernel
theorem dX2_overlaps_114 : decode cX2_overlaps 114 = .ok (.invokevirtual 44, 3) := by decide +kernel
theorem dX2_overlaps_117 : decode cX2_overlaps 117 = .ok (.ifCond .eq 24, 3) := by decide +kernel
theorem dX2_overlaps_120 : decode cX2_overlaps 120 = .ok (.aload_n 0, 1) := by decide +kernel
theorem dX2_overlaps_121 : decode cX2_overlaps 121 = .ok (.iload_n 1, 1) := by decide +kernel
theorem dX2_overlaps_122 : decode cX2_overlaps 122 = .ok (.iload 4, 2) := by decide +kernel
theorem dX2_overlaps_124 : decode cX2_overlaps 124 = .ok (.bipush 16, 2) := by decide +kernel
theorem dX2_overlaps_126 : decode cX2_overlaps 126 = .ok (.irem, 1) := by decide +kernel
theorem dX2_overlaps_127 : decode cX2_overlaps 127 = .ok (.iload 4, 2) := by decide +kernel
theorem dX2_overlaps_129 : decode cX2_overlaps 129 = .ok (.bipush 16, 2) := by decide +kernel
theorem dX2_overlaps_131 : decode cX2_overlaps 131 = .ok (.idiv, 1) := by decide +kernel
theorem dX2_overlaps_132 : decode cX2_overlaps 132 = .ok (.invokevirtual 44, 3) := by decide +kernel
theorem dX2_overlaps_135 : decode cX2_overlaps 135 = .ok (.ifCond .eq 6, 3) := by decide +kernel
theorem dX2_overlaps_138 : decode cX2_overlaps 138 = .ok (.iinc 2 1, 3) := by decide +kernel
theorem dX2_overlaps_141 : decode cX2_overlaps 141 = .ok (.iinc 4 1, 3) := by decide +kernel
theorem dX2_overlaps_144 : decode cX2_overlaps 144 = .ok (.goto (-118), 3) := by decide +kernel
theorem dX2_overlaps_147 : decode cX2_overlaps 147 = .ok (.iinc 3 1, 3) := by decide +kernel
theorem dX2_overlaps_150 : decode cX2_overlaps 150 = .ok (.goto (-136), 3) := by decide +kernel
theorem dX2_overlaps_153 : decode cX2_overlaps 153 = .ok (.iload_n 2, 1) := by decide +kernel
theorem dX2_overlaps_154 : decode cX2_overlaps 154 = .ok (.ireturn, 1) := by decide +kernel
end
section
set_option maxRecDepth 100000
theorem dL_law_0 : decode cL_law 0 = .ok (.new 7, 3) := by decide +kernel
theorem dL_law_3 : decode cL_law 3 = .ok (.dup, 1) := by decide +kernel
theorem dL_law_4 : decode cL_law 4 = .ok (.aload_n 0, 1) := by decide +kernel
theorem dL_law_5 : decode cL_law 5 = .ok (.iconst 0, 1) := by decide +kernel
theorem dL_law_6 : decode cL_law 6 = .ok (.invokestatic 9, 3) := by decide +kernel
theorem dL_law_9 : decode cL_law 9 = .ok (.aload_n 0, 1) := by decide +kernel
theorem dL_law_10 : decode cL_law 10 = .ok (.iconst 1, 1) := by decide +kernel
theorem dL_law_11 : decode cL_law 11 = .ok (.invokestatic 9, 3) := by decide +kernel
theorem dL_law_14 : decode cL_law 14 = .ok (.invokespecial 15, 3) := by decide +kernel
theorem dL_law_17 : decode cL_law 17 = .ok (.astore_n 1, 1) := by decide +kernel
theorem dL_law_18 : decode cL_law 18 = .ok (.new 18, 3) := by decide +kernel
theorem dL_law_21 : decode cL_law 21 = .ok (.dup, 1) := by decide +kernel
theorem dL_law_22 : decode cL_law 22 = .ok (.aload_n 0, 1) := by decide +kernel
theorem dL_law_23 : decode cL_law 23 = .ok (.iconst 0, 1) := by decide +kernel
theorem dL_law_24 : decode cL_law 24 = .ok (.invokestatic 9, 3) := by decide +kernel
theorem dL_law_27 : decode cL_law 27 = .ok (.aload_n 0, 1) := by decide +kernel
theorem dL_law_28 : decode cL_law 28 = .ok (.iconst 1, 1) := by decide +kernel
theorem dL_law_29 : decode cL_law 29 = .ok (.invokestatic 9, 3) := by decide +kernel
theorem dL_law_32 : decode cL_law 32 = .ok (.invokespecial 20, 3) := by decide +kernel
theorem dL_law_35 : decode cL_law 35 = .ok (.astore_n 2, 1) := by decide +kernel
theorem dL_law_36 : decode cL_law 36 = .ok (.iconst 2, 1) := by decide +kernel
theorem dL_law_37 : decode cL_law 37 = .ok (.istore_n 3, 1) := by decide +kernel
theorem dL_law_38 : decode cL_law 38 = .ok (.iload_n 3, 1) := by decide +kernel
theorem dL_law_39 : decode cL_law 39 = .ok (.aload_n 0, 1) := by decide +kernel
theorem dL_law_40 : decode cL_law 40 = .ok (.arraylength, 1) := by decide +kernel
theorem dL_law_41 : decode cL_law 41 = .ok (.iconst 5, 1) := by decide +kernel
theorem dL_law_42 : decode cL_law 42 = .ok (.isub, 1) := by decide +kernel
theorem dL_law_43 : decode cL_law 43 = .ok (.if_icmp .gt 468, 3) := by decide +kernel
theorem dL_law_46 : decode cL_law 46 = .ok (.aload_n 0, 1) := by decide +kernel
theorem dL_law_47 : decode cL_law 47 = .ok (.iload_n 3, 1) := by decide +kernel
theorem dL_law_48 : decode cL_law 48 = .ok (.iaload, 1) := by decide +kernel
theorem dL_law_49 : decode cL_law 49 = .ok (.bipush 15, 2) := by decide +kernel
theorem dL_law_51 : decode cL_law 51 = .ok (.iand, 1) := by decide +kernel
theorem dL_law_52 : decode cL_law 52 = .ok (.tableswitch 453 0 10 #[60, 103, 146, 199, 242, 285, 318, 341, 384, 417, 430], 60) := by decide +kernel
theorem dL_law_112 : decode cL_law 112 = .ok (.aload_n 1, 1) := by decide +kernel
theorem dL_law_113 : decode cL_law 113 = .ok (.aload_n 0, 1) := by decide +kernel
theorem dL_law_114 : decode cL_law 114 = .ok (.iload_n 3, 1) := by decide +kernel
theorem dL_law_115 : decode cL_law 115 = .ok (.iconst 1, 1) := by decide +kernel
theorem dL_law_116 : decode cL_law 116 = .ok (.iadd, 1) := by decide +kernel
theorem dL_law_117 : decode cL_law 117 = .ok (.iaload, 1) := by decide +kernel
theorem dL_law_118 : decode cL_law 118 = .ok (.aload_n 0, 1) := by decide +kernel
theorem dL_law_119 : decode cL_law 119 = .ok (.iload_n 3, 1) := by decide +kernel
theorem dL_law_120 : decode cL_law 120 = .ok (.iconst 2, 1) := by decide +kernel
theorem dL_law_121 : decode cL_law 121 = .ok (.iadd, 1) := by decide +kernel
theorem dL_law_122 : decode cL_law 122 = .ok (.iaload, 1) := by decide +kernel
theorem dL_law_123 : decode cL_law 123 = .ok (.aload_n 0, 1) := by decide +kernel
theorem dL_law_124 : decode cL_law 124 = .ok (.iload_n 3, 1) := by decide +kernel
theorem dL_law_125 : decode cL_law 125 = .ok (.iconst 3, 1) := by decide +kernel
theorem dL_law_126 : decode cL_law 126 = .ok (.iadd, 1) := by decide +kernel
theorem dL_law_127 : decode cL_law 127 = .ok (.iaload, 1) := by decide +kernel
theorem dL_law_128 : decode cL_law 128 = .ok (.invokevirtual 21, 3) := by decide +kernel
theorem dL_law_131 : decode cL_law 131 = .ok (.aload_n 2, 1) := by decide +kernel
theorem dL_law_132 : decode cL_law 132 = .ok (.aload_n 0, 1) := by decide +kernel
theorem dL_law_133 : decode cL_law 133 = .ok (.iload_n 3, 1) := by decide +kernel
theorem dL_law_134 : decode cL_law 134 = .ok (.iconst 1, 1) := by decide +kernel
theorem dL_law_135 : decode cL_law 135 = .ok (.iadd, 1) := by decide +kernel
theorem dL_law_136 : decode cL_law 136 = .ok (.iaload, 1) := by decide +kernel
theorem dL_law_137 : decode cL_law 137 = .ok (.aload_n 0, 1) := by decide +kernel
theorem dL_law_138 : decode cL_law 138 = .ok (.iload_n 3, 1) := by decide +kernel
theorem dL_law_139 : decode cL_law 139 = .ok (.iconst 2, 1) := by decide +kernel
theorem dL_law_140 : decode cL_law 140 = .ok (.iadd, 1) := by decide +kernel
theorem dL_law_141 : decode cL_law 141 = .ok (.iaload, 1) := by decide +kernel
theorem dL_law_142 : decode cL_law 142 = .ok (.aload_n 0, 1) := by decide +kernel
theorem dL_law_143 : decode cL_law 143 = .ok (.iload_n 3, 1) := by decide +kernel
theorem dL_law_144 : decode cL_law 144 = .ok (.iconst 3, 1) := by decide +kernel
theorem dL_law_145 : decode cL_law 145 = .ok (.iadd, 1) := by decide +kernel
theorem dL_law_146 : decode cL_law 146 = .ok (.iaload, 1) := by decide +kernel
theorem dL_law_147 : decode cL_law 147 = .ok (.invokevirtual 25, 3) := by decide +kernel
theorem dL_law_150 : decode cL_law 150 = .ok (.if_icmp .eq 355, 3) := by decide +kernel
theorem dL_law_153 : decode cL_law 153 = .ok (.iconst 0, 1) := by decide +kernel
theorem dL_law_154 : decode cL_law 154 = .ok (.ireturn, 1) := by decide +kernel
theorem dL_law_155 : decode cL_law 155 = .ok (.aload_n 1, 1) := by decide +kernel
theorem dL_law_156 : decode cL_law 156 = .ok (.aload_n 0, 1) := by decide +kernel
theorem dL_law_157 : decode cL_law 157 = .ok (.iload_n 3, 1) := by decide +kernel
theorem dL_law_158 : decode cL_law 158 = .ok (.iconst 1, 1) := by decide +kernel
theorem dL_law_159 : decode cL_law 159 = .ok (.iadd, 1) := by decide +kernel
theorem dL_law_160 : decode cL_law 160 = .ok (.iaload, 1) := by decide +kernel
theorem dL_law_161 : decode cL_law 161 = .ok (.aload_n 0, 1) := by decide +kernel
theorem dL_law_162 : decode cL_law 162 = .ok (.iload_n 3, 1) := by decide +kernel
theorem dL_law_163 : decode cL_law 163 = .ok (.iconst 2, 1) := by decide +kernel
theorem dL_law_164 : decode cL_law 164 = .ok (.iadd, 1) := by decide +kernel
theorem dL_law_165 : decode cL_law 165 = .ok (.iaload, 1) := by decide +kernel
theorem dL_law_166 : decode cL_law 166 = .ok (.aload_n 0, 1) := by decide +kernel
theorem dL_law_167 : decode cL_law 167 = .ok (.iload_n 3, 1) := by decide +kernel
theorem dL_law_168 : decode cL_law 168 = .ok (.iconst 3, 1) := by decide +kernel
theorem dL_law_169 : decode cL_law 169 = .ok (.iadd, 1) := by decide +kernel
theorem dL_law_170 : decode cL_law 170 = .ok (.iaload, 1) := by decide +kernel
theorem dL_law_171 : decode cL_law 171 = .ok (.invokevirtual 26, 3) := by decide +kernel
theorem dL_law_174 : decode cL_law 174 = .ok (.aload_n 2, 1) := by decide +kernel
theorem dL_law_175 : decode cL_law 175 = .ok (.aload_n 0, 1) := by decide +kernel
theorem dL_law_176 : decode cL_law 176 = .ok (.iload_n 3, 1) := by decide +kernel
theorem dL_law_177 : decode cL_law 177 = .ok (.iconst 1, 1) := by decide +kernel
end
section
set_option maxRecDepth 100000
theorem dL_law_178 : decode cL_law 178 = .ok (.iadd, 1) := by decide +kernel
theorem dL_law_179 : decode cL_law 179 = .ok (.iaload, 1) := by decide +kernel
theorem dL_law_180 : decode cL_law 180 = .ok (.aload_n 0, 1) := by decide +kernel
theorem dL_law_181 : decode cL_law 181 = .ok (.iload_n 3, 1) := by decide +kernel
theorem dL_law_182 : decode cL_law 182 = .ok (.iconst 2, 1) := by decide +kernel
theorem dL_law_183 : decode cL_law 183 = .ok (.iadd, 1) := by decide +kernel
theorem dL_law_184 : decode cL_law 184 = .ok (.iaload, 1) := by decide +kernel
theorem dL_law_185 : decode cL_law 185 = .ok (.aload_n 0, 1) := by decide +kernel
theorem dL_law_186 : decode cL_law 186 = .ok (.iload_n 3, 1) := by decide +kernel
theorem dL_law_187 : decode cL_law 187 = .ok (.iconst 3, 1) := by decide +kernel
theorem dL_law_188 : decode cL_law 188 = .ok (.iadd, 1) := by decide +kernel
theorem dL_law_189 : decode cL_law 189 = .ok (.iaload, 1) := by decide +kernel
theorem dL_law_190 : decode cL_law 190 = .ok (.invokevirtual 29, 3) := by decide +kernel
theorem dL_law_193 : decode cL_law 193 = .ok (.if_icmp .eq 312, 3) := by decide +kernel
theorem dL_law_196 : decode cL_law 196 = .ok (.iconst 0, 1) := by decide +kernel
theorem dL_law_197 : decode cL_law 197 = .ok (.ireturn, 1) := by decide +kernel
theorem dL_law_198 : decode cL_law 198 = .ok (.aload_n 1, 1) := by decide +kernel
theorem dL_law_199 : decode cL_law 199 = .ok (.aload_n 0, 1) := by decide +kernel
theorem dL_law_200 : decode cL_law 200 = .ok (.iload_n 3, 1) := by decide +kernel
theorem dL_law_201 : decode cL_law 201 = .ok (.iconst 1, 1) := by decide +kernel
theorem dL_law_202 : decode cL_law 202 = .ok (.iadd, 1) := by decide +kernel
theorem dL_law_203 : decode cL_law 203 = .ok (.iaload, 1) := by decide +kernel
theorem dL_law_204 : decode cL_law 204 = .ok (.aload_n 0, 1) := by decide +kernel
theorem dL_law_205 : decode cL_law 205 = .ok (.iload_n 3, 1) := by decide +kernel
theorem dL_law_206 : decode cL_law 206 = .ok (.iconst 2, 1) := by decide +kernel
theorem dL_law_207 : decode cL_law 207 = .ok (.iadd, 1) := by decide +kernel
theorem dL_law_208 : decode cL_law 208 = .ok (.iaload, 1) := by decide +kernel
theorem dL_law_209 : decode cL_law 209 = .ok (.aload_n 0, 1) := by decide +kernel
theorem dL_law_210 : decode cL_law 210 = .ok (.iload_n 3, 1) := by decide +kernel
theorem dL_law_211 : decode cL_law 211 = .ok (.iconst 3, 1) := by decide +kernel
theorem dL_law_212 : decode cL_law 212 = .ok (.iadd, 1) := by decide +kernel
theorem dL_law_213 : decode cL_law 213 = .ok (.iaload, 1) := by decide +kernel
theorem dL_law_214 : decode cL_law 214 = .ok (.aload_n 0, 1) := by decide +kernel
theorem dL_law_215 : decode cL_law 215 = .ok (.iload_n 3, 1) := by decide +kernel
theorem dL_law_216 : decode cL_law 216 = .ok (.iconst 4, 1) := by decide +kernel
theorem dL_law_217 : decode cL_law 217 = .ok (.iadd, 1) := by decide +kernel
theorem dL_law_218 : decode cL_law 218 = .ok (.iaload, 1) := by decide +kernel
theorem dL_law_219 : decode cL_law 219 = .ok (.invokevirtual 30, 3) := by decide +kernel
theorem dL_law_222 : decode cL_law 222 = .ok (.aload_n 2, 1) := by decide +kernel
theorem dL_law_223 : decode cL_law 223 = .ok (.aload_n 0, 1) := by decide +kernel
theorem dL_law_224 : decode cL_law 224 = .ok (.iload_n 3, 1) := by decide +kernel
theorem dL_law_225 : decode cL_law 225 = .ok (.iconst 1, 1) := by decide +kernel
theorem dL_law_226 : decode cL_law 226 = .ok (.iadd, 1) := by decide +kernel
theorem dL_law_227 : decode cL_law 227 = .ok (.iaload, 1) := by decide +kernel
theorem dL_law_228 : decode cL_law 228 = .ok (.aload_n 0, 1) := by decide +kernel
theorem dL_law_229 : decode cL_law 229 = .ok (.iload_n 3, 1) := by decide +kernel
theorem dL_law_230 : decode cL_law 230 = .ok (.iconst 2, 1) := by decide +kernel
theorem dL_law_231 : decode cL_law 231 = .ok (.iadd, 1) := by decide +kernel
theorem dL_law_232 : decode cL_law 232 = .ok (.iaload, 1) := by decide +kernel
theorem dL_law_233 : decode cL_law 233 = .ok (.aload_n 0, 1) := by decide +kernel
theorem dL_law_234 : decode cL_law 234 = .ok (.iload_n 3, 1) := by decide +kernel
theorem dL_law_235 : decode cL_law 235 = .ok (.iconst 3, 1) := by decide +kernel
theorem dL_law_236 : decode cL_law 236 = .ok (.iadd, 1) := by decide +kernel
theorem dL_law_237 : decode cL_law 237 = .ok (.iaload, 1) := by decide +kernel
theorem dL_law_238 : decode cL_law 238 = .ok (.aload_n 0, 1) := by decide +kernel
theorem dL_law_239 : decode cL_law 239 = .ok (.iload_n 3, 1) := by decide +kernel
theorem dL_law_240 : decode cL_law 240 = .ok (.iconst 4, 1) := by decide +kernel
theorem dL_law_241 : decode cL_law 241 = .ok (.iadd, 1) := by decide +kernel
theorem dL_law_242 : decode cL_law 242 = .ok (.iaload, 1) := by decide +kernel
theorem dL_law_243 : decode cL_law 243 = .ok (.invokevirtual 34, 3) := by decide +kernel
theorem dL_law_246 : decode cL_law 246 = .ok (.if_icmp .eq 259, 3) := by decide +kernel
theorem dL_law_249 : decode cL_law 249 = .ok (.iconst 0, 1) := by decide +kernel
theorem dL_law_250 : decode cL_law 250 = .ok (.ireturn, 1) := by decide +kernel
theorem dL_law_251 : decode cL_law 251 = .ok (.aload_n 1, 1) := by decide +kernel
theorem dL_law_252 : decode cL_law 252 = .ok (.aload_n 0, 1) := by decide +kernel
theorem dL_law_253 : decode cL_law 253 = .ok (.iload_n 3, 1) := by decide +kernel
theorem dL_law_254 : decode cL_law 254 = .ok (.iconst 1, 1) := by decide +kernel
theorem dL_law_255 : decode cL_law 255 = .ok (.iadd, 1) := by decide +kernel
theorem dL_law_256 : decode cL_law 256 = .ok (.iaload, 1) := by decide +kernel
theorem dL_law_257 : decode cL_law 257 = .ok (.aload_n 0, 1) := by decide +kernel
theorem dL_law_258 : decode cL_law 258 = .ok (.iload_n 3, 1) := by decide +kernel
theorem dL_law_259 : decode cL_law 259 = .ok (.iconst 2, 1) := by decide +kernel
theorem dL_law_260 : decode cL_law 260 = .ok (.iadd, 1) := by decide +kernel
theorem dL_law_261 : decode cL_law 261 = .ok (.iaload, 1) := by decide +kernel
theorem dL_law_262 : decode cL_law 262 = .ok (.aload_n 0, 1) := by decide +kernel
theorem dL_law_263 : decode cL_law 263 = .ok (.iload_n 3, 1) := by decide +kernel
theorem dL_law_264 : decode cL_law 264 = .ok (.iconst 3, 1) := by decide +kernel
theorem dL_law_265 : decode cL_law 265 = .ok (.iadd, 1) := by decide +kernel
theorem dL_law_266 : decode cL_law 266 = .ok (.iaload, 1) := by decide +kernel
theorem dL_law_267 : decode cL_law 267 = .ok (.invokevirtual 35, 3) := by decide +kernel
theorem dL_law_270 : decode cL_law 270 = .ok (.aload_n 2, 1) := by decide +kernel
theorem dL_law_271 : decode cL_law 271 = .ok (.aload_n 0, 1) := by decide +kernel
theorem dL_law_272 : decode cL_law 272 = .ok (.iload_n 3, 1) := by decide +kernel
theorem dL_law_273 : decode cL_law 273 = .ok (.iconst 1, 1) := by decide +kernel
theorem dL_law_274 : decode cL_law 274 = .ok (.iadd, 1) := by decide +kernel
theorem dL_law_275 : decode cL_law 275 = .ok (.iaload, 1) := by decide +kernel
theorem dL_law_276 : decode cL_law 276 = .ok (.aload_n 0, 1) := by decide +kernel
theorem dL_law_277 : decode cL_law 277 = .ok (.iload_n 3, 1) := by decide +kernel
theorem dL_law_278 : decode cL_law 278 = .ok (.iconst 2, 1) := by decide +kernel
theorem dL_law_279 : decode cL_law 279 = .ok (.iadd, 1) := by decide +kernel
theorem dL_law_280 : decode cL_law 280 = .ok (.iaload, 1) := by decide +kernel
theorem dL_law_281 : decode cL_law 281 = .ok (.aload_n 0, 1) := by decide +kernel
end
section
set_option maxRecDepth 100000
theorem dL_law_282 : decode cL_law 282 = .ok (.iload_n 3, 1) := by decide +kernel
theorem dL_law_283 : decode cL_law 283 = .ok (.iconst 3, 1) := by decide +kernel
theorem dL_law_284 : decode cL_law 284 = .ok (.iadd, 1) := by decide +kernel
theorem dL_law_285 : decode cL_law 285 = .ok (.iaload, 1) := by decide +kernel
theorem dL_law_286 : decode cL_law 286 = .ok (.invokevirtual 38, 3) := by decide +kernel
theorem dL_law_289 : decode cL_law 289 = .ok (.if_icmp .eq 216, 3) := by decide +kernel
theorem dL_law_292 : decode cL_law 292 = .ok (.iconst 0, 1) := by decide +kernel
theorem dL_law_293 : decode cL_law 293 = .ok (.ireturn, 1) := by decide +kernel
theorem dL_law_294 : decode cL_law 294 = .ok (.aload_n 1, 1) := by decide +kernel
theorem dL_law_295 : decode cL_law 295 = .ok (.aload_n 0, 1) := by decide +kernel
theorem dL_law_296 : decode cL_law 296 = .ok (.iload_n 3, 1) := by decide +kernel
theorem dL_law_297 : decode cL_law 297 = .ok (.iconst 1, 1) := by decide +kernel
theorem dL_law_298 : decode cL_law 298 = .ok (.iadd, 1) := by decide +kernel
theorem dL_law_299 : decode cL_law 299 = .ok (.iaload, 1) := by decide +kernel
theorem dL_law_300 : decode cL_law 300 = .ok (.aload_n 0, 1) := by decide +kernel
theorem dL_law_301 : decode cL_law 301 = .ok (.iload_n 3, 1) := by decide +kernel
theorem dL_law_302 : decode cL_law 302 = .ok (.iconst 2, 1) := by decide +kernel
theorem dL_law_303 : decode cL_law 303 = .ok (.iadd, 1) := by decide +kernel
theorem dL_law_304 : decode cL_law 304 = .ok (.iaload, 1) := by decide +kernel
theorem dL_law_305 : decode cL_law 305 = .ok (.aload_n 0, 1) := by decide +kernel
theorem dL_law_306 : decode cL_law 306 = .ok (.iload_n 3, 1) := by decide +kernel
theorem dL_law_307 : decode cL_law 307 = .ok (.iconst 3, 1) := by decide +kernel
theorem dL_law_308 : decode cL_law 308 = .ok (.iadd, 1) := by decide +kernel
theorem dL_law_309 : decode cL_law 309 = .ok (.iaload, 1) := by decide +kernel
theorem dL_law_310 : decode cL_law 310 = .ok (.invokevirtual 39, 3) := by decide +kernel
theorem dL_law_313 : decode cL_law 313 = .ok (.aload_n 2, 1) := by decide +kernel
theorem dL_law_314 : decode cL_law 314 = .ok (.aload_n 0, 1) := by decide +kernel
theorem dL_law_315 : decode cL_law 315 = .ok (.iload_n 3, 1) := by decide +kernel
theorem dL_law_316 : decode cL_law 316 = .ok (.iconst 1, 1) := by decide +kernel
theorem dL_law_317 : decode cL_law 317 = .ok (.iadd, 1) := by decide +kernel
theorem dL_law_318 : decode cL_law 318 = .ok (.iaload, 1) := by decide +kernel
theorem dL_law_319 : decode cL_law 319 = .ok (.aload_n 0, 1) := by decide +kernel
theorem dL_law_320 : decode cL_law 320 = .ok (.iload_n 3, 1) := by decide +kernel
theorem dL_law_321 : decode cL_law 321 = .ok (.iconst 2, 1) := by decide +kernel
theorem dL_law_322 : decode cL_law 322 = .ok (.iadd, 1) := by decide +kernel
theorem dL_law_323 : decode cL_law 323 = .ok (.iaload, 1) := by decide +kernel
theorem dL_law_324 : decode cL_law 324 = .ok (.aload_n 0, 1) := by decide +kernel
theorem dL_law_325 : decode cL_law 325 = .ok (.iload_n 3, 1) := by decide +kernel
theorem dL_law_326 : decode cL_law 326 = .ok (.iconst 3, 1) := by decide +kernel
theorem dL_law_327 : decode cL_law 327 = .ok (.iadd, 1) := by decide +kernel
theorem dL_law_328 : decode cL_law 328 = .ok (.iaload, 1) := by decide +kernel
theorem dL_law_329 : decode cL_law 329 = .ok (.invokevirtual 42, 3) := by decide +kernel
theorem dL_law_332 : decode cL_law 332 = .ok (.if_icmp .eq 173, 3) := by decide +kernel
theorem dL_law_335 : decode cL_law 335 = .ok (.iconst 0, 1) := by decide +kernel
theorem dL_law_336 : decode cL_law 336 = .ok (.ireturn, 1) := by decide +kernel
theorem dL_law_337 : decode cL_law 337 = .ok (.aload_n 1, 1) := by decide +kernel
theorem dL_law_338 : decode cL_law 338 = .ok (.aload_n 0, 1) := by decide +kernel
theorem dL_law_339 : decode cL_law 339 = .ok (.iload_n 3, 1) := by decide +kernel
theorem dL_law_340 : decode cL_law 340 = .ok (.iconst 1, 1) := by decide +kernel
theorem dL_law_341 : decode cL_law 341 = .ok (.iadd, 1) := by decide +kernel
theorem dL_law_342 : decode cL_law 342 = .ok (.iaload, 1) := by decide +kernel
theorem dL_law_343 : decode cL_law 343 = .ok (.aload_n 0, 1) := by decide +kernel
theorem dL_law_344 : decode cL_law 344 = .ok (.iload_n 3, 1) := by decide +kernel
theorem dL_law_345 : decode cL_law 345 = .ok (.iconst 2, 1) := by decide +kernel
theorem dL_law_346 : decode cL_law 346 = .ok (.iadd, 1) := by decide +kernel
theorem dL_law_347 : decode cL_law 347 = .ok (.iaload, 1) := by decide +kernel
theorem dL_law_348 : decode cL_law 348 = .ok (.invokevirtual 43, 3) := by decide +kernel
theorem dL_law_351 : decode cL_law 351 = .ok (.aload_n 2, 1) := by decide +kernel
theorem dL_law_352 : decode cL_law 352 = .ok (.aload_n 0, 1) := by decide +kernel
theorem dL_law_353 : decode cL_law 353 = .ok (.iload_n 3, 1) := by decide +kernel
theorem dL_law_354 : decode cL_law 354 = .ok (.iconst 1, 1) := by decide +kernel
theorem dL_law_355 : decode cL_law 355 = .ok (.iadd, 1) := by decide +kernel
theorem dL_law_356 : decode cL_law 356 = .ok (.iaload, 1) := by decide +kernel
theorem dL_law_357 : decode cL_law 357 = .ok (.aload_n 0, 1) := by decide +kernel
theorem dL_law_358 : decode cL_law 358 = .ok (.iload_n 3, 1) := by decide +kernel
theorem dL_law_359 : decode cL_law 359 = .ok (.iconst 2, 1) := by decide +kernel
theorem dL_law_360 : decode cL_law 360 = .ok (.iadd, 1) := by decide +kernel
theorem dL_law_361 : decode cL_law 361 = .ok (.iaload, 1) := by decide +kernel
theorem dL_law_362 : decode cL_law 362 = .ok (.invokevirtual 47, 3) := by decide +kernel
theorem dL_law_365 : decode cL_law 365 = .ok (.if_icmp .eq 140, 3) := by decide +kernel
theorem dL_law_368 : decode cL_law 368 = .ok (.iconst 0, 1) := by decide +kernel
theorem dL_law_369 : decode cL_law 369 = .ok (.ireturn, 1) := by decide +kernel
theorem dL_law_370 : decode cL_law 370 = .ok (.aload_n 1, 1) := by decide +kernel
theorem dL_law_371 : decode cL_law 371 = .ok (.aload_n 0, 1) := by decide +kernel
theorem dL_law_372 : decode cL_law 372 = .ok (.iload_n 3, 1) := by decide +kernel
theorem dL_law_373 : decode cL_law 373 = .ok (.iconst 1, 1) := by decide +kernel
theorem dL_law_374 : decode cL_law 374 = .ok (.iadd, 1) := by decide +kernel
theorem dL_law_375 : decode cL_law 375 = .ok (.iaload, 1) := by decide +kernel
theorem dL_law_376 : decode cL_law 376 = .ok (.invokevirtual 48, 3) := by decide +kernel
theorem dL_law_379 : decode cL_law 379 = .ok (.aload_n 2, 1) := by decide +kernel
theorem dL_law_380 : decode cL_law 380 = .ok (.aload_n 0, 1) := by decide +kernel
theorem dL_law_381 : decode cL_law 381 = .ok (.iload_n 3, 1) := by decide +kernel
theorem dL_law_382 : decode cL_law 382 = .ok (.iconst 1, 1) := by decide +kernel
theorem dL_law_383 : decode cL_law 383 = .ok (.iadd, 1) := by decide +kernel
theorem dL_law_384 : decode cL_law 384 = .ok (.iaload, 1) := by decide +kernel
theorem dL_law_385 : decode cL_law 385 = .ok (.invokevirtual 52, 3) := by decide +kernel
theorem dL_law_388 : decode cL_law 388 = .ok (.if_icmp .eq 117, 3) := by decide +kernel
theorem dL_law_391 : decode cL_law 391 = .ok (.iconst 0, 1) := by decide +kernel
theorem dL_law_392 : decode cL_law 392 = .ok (.ireturn, 1) := by decide +kernel
theorem dL_law_393 : decode cL_law 393 = .ok (.aload_n 1, 1) := by decide +kernel
theorem dL_law_394 : decode cL_law 394 = .ok (.aload_n 0, 1) := by decide +kernel
theorem dL_law_395 : decode cL_law 395 = .ok (.iload_n 3, 1) := by decide +kernel
end
section
set_option maxRecDepth 100000
theorem dL_law_396 : decode cL_law 396 = .ok (.iconst 1, 1) := by decide +kernel
theorem dL_law_397 : decode cL_law 397 = .ok (.iadd, 1) := by decide +kernel
theorem dL_law_398 : decode cL_law 398 = .ok (.iaload, 1) := by decide +kernel
theorem dL_law_399 : decode cL_law 399 = .ok (.aload_n 0, 1) := by decide +kernel
theorem dL_law_400 : decode cL_law 400 = .ok (.iload_n 3, 1) := by decide +kernel
theorem dL_law_401 : decode cL_law 401 = .ok (.iconst 2, 1) := by decide +kernel
theorem dL_law_402 : decode cL_law 402 = .ok (.iadd, 1) := by decide +kernel
theorem dL_law_403 : decode cL_law 403 = .ok (.iaload, 1) := by decide +kernel
theorem dL_law_404 : decode cL_law 404 = .ok (.aload_n 0, 1) := by decide +kernel
theorem dL_law_405 : decode cL_law 405 = .ok (.iload_n 3, 1) := by decide +kernel
theorem dL_law_406 : decode cL_law 406 = .ok (.iconst 3, 1) := by decide +kernel
theorem dL_law_407 : decode cL_law 407 = .ok (.iadd, 1) := by decide +kernel
theorem dL_law_408 : decode cL_law 408 = .ok (.iaload, 1) := by decide +kernel
theorem dL_law_409 : decode cL_law 409 = .ok (.invokevirtual 53, 3) := by decide +kernel
theorem dL_law_412 : decode cL_law 412 = .ok (.aload_n 2, 1) := by decide +kernel
theorem dL_law_413 : decode cL_law 413 = .ok (.aload_n 0, 1) := by decide +kernel
theorem dL_law_414 : decode cL_law 414 = .ok (.iload_n 3, 1) := by decide +kernel
theorem dL_law_415 : decode cL_law 415 = .ok (.iconst 1, 1) := by decide +kernel
theorem dL_law_416 : decode cL_law 416 = .ok (.iadd, 1) := by decide +kernel
theorem dL_law_417 : decode cL_law 417 = .ok (.iaload, 1) := by decide +kernel
theorem dL_law_418 : decode cL_law 418 = .ok (.aload_n 0, 1) := by decide +kernel
theorem dL_law_419 : decode cL_law 419 = .ok (.iload_n 3, 1) := by decide +kernel
theorem dL_law_420 : decode cL_law 420 = .ok (.iconst 2, 1) := by decide +kernel
theorem dL_law_421 : decode cL_law 421 = .ok (.iadd, 1) := by decide +kernel
theorem dL_law_422 : decode cL_law 422 = .ok (.iaload, 1) := by decide +kernel
theorem dL_law_423 : decode cL_law 423 = .ok (.aload_n 0, 1) := by decide +kernel
theorem dL_law_424 : decode cL_law 424 = .ok (.iload_n 3, 1) := by decide +kernel
theorem dL_law_425 : decode cL_law 425 = .ok (.iconst 3, 1) := by decide +kernel
theorem dL_law_426 : decode cL_law 426 = .ok (.iadd, 1) := by decide +kernel
theorem dL_law_427 : decode cL_law 427 = .ok (.iaload, 1) := by decide +kernel
theorem dL_law_428 : decode cL_law 428 = .ok (.invokevirtual 56, 3) := by decide +kernel
theorem dL_law_431 : decode cL_law 431 = .ok (.if_icmp .eq 74, 3) := by decide +kernel
theorem dL_law_434 : decode cL_law 434 = .ok (.iconst 0, 1) := by decide +kernel
theorem dL_law_435 : decode cL_law 435 = .ok (.ireturn, 1) := by decide +kernel
theorem dL_law_436 : decode cL_law 436 = .ok (.aload_n 1, 1) := by decide +kernel
theorem dL_law_437 : decode cL_law 437 = .ok (.aload_n 0, 1) := by decide +kernel
theorem dL_law_438 : decode cL_law 438 = .ok (.iload_n 3, 1) := by decide +kernel
theorem dL_law_439 : decode cL_law 439 = .ok (.iconst 1, 1) := by decide +kernel
theorem dL_law_440 : decode cL_law 440 = .ok (.iadd, 1) := by decide +kernel
theorem dL_law_441 : decode cL_law 441 = .ok (.iaload, 1) := by decide +kernel
theorem dL_law_442 : decode cL_law 442 = .ok (.aload_n 0, 1) := by decide +kernel
theorem dL_law_443 : decode cL_law 443 = .ok (.iload_n 3, 1) := by decide +kernel
theorem dL_law_444 : decode cL_law 444 = .ok (.iconst 2, 1) := by decide +kernel
theorem dL_law_445 : decode cL_law 445 = .ok (.iadd, 1) := by decide +kernel
theorem dL_law_446 : decode cL_law 446 = .ok (.iaload, 1) := by decide +kernel
theorem dL_law_447 : decode cL_law 447 = .ok (.invokevirtual 57, 3) := by decide +kernel
theorem dL_law_450 : decode cL_law 450 = .ok (.aload_n 2, 1) := by decide +kernel
theorem dL_law_451 : decode cL_law 451 = .ok (.aload_n 0, 1) := by decide +kernel
theorem dL_law_452 : decode cL_law 452 = .ok (.iload_n 3, 1) := by decide +kernel
theorem dL_law_453 : decode cL_law 453 = .ok (.iconst 1, 1) := by decide +kernel
theorem dL_law_454 : decode cL_law 454 = .ok (.iadd, 1) := by decide +kernel
theorem dL_law_455 : decode cL_law 455 = .ok (.iaload, 1) := by decide +kernel
theorem dL_law_456 : decode cL_law 456 = .ok (.aload_n 0, 1) := by decide +kernel
theorem dL_law_457 : decode cL_law 457 = .ok (.iload_n 3, 1) := by decide +kernel
theorem dL_law_458 : decode cL_law 458 = .ok (.iconst 2, 1) := by decide +kernel
theorem dL_law_459 : decode cL_law 459 = .ok (.iadd, 1) := by decide +kernel
theorem dL_law_460 : decode cL_law 460 = .ok (.iaload, 1) := by decide +kernel
theorem dL_law_461 : decode cL_law 461 = .ok (.invokevirtual 60, 3) := by decide +kernel
theorem dL_law_464 : decode cL_law 464 = .ok (.if_icmp .eq 41, 3) := by decide +kernel
theorem dL_law_467 : decode cL_law 467 = .ok (.iconst 0, 1) := by decide +kernel
theorem dL_law_468 : decode cL_law 468 = .ok (.ireturn, 1) := by decide +kernel
theorem dL_law_469 : decode cL_law 469 = .ok (.aload_n 1, 1) := by decide +kernel
theorem dL_law_470 : decode cL_law 470 = .ok (.invokevirtual 61, 3) := by decide +kernel
theorem dL_law_473 : decode cL_law 473 = .ok (.aload_n 2, 1) := by decide +kernel
theorem dL_law_474 : decode cL_law 474 = .ok (.invokevirtual 65, 3) := by decide +kernel
theorem dL_law_477 : decode cL_law 477 = .ok (.if_icmp .eq 28, 3) := by decide +kernel
theorem dL_law_480 : decode cL_law 480 = .ok (.iconst 0, 1) := by decide +kernel
theorem dL_law_481 : decode cL_law 481 = .ok (.ireturn, 1) := by decide +kernel
theorem dL_law_482 : decode cL_law 482 = .ok (.aload_n 1, 1) := by decide +kernel
theorem dL_law_483 : decode cL_law 483 = .ok (.aload_n 0, 1) := by decide +kernel
theorem dL_law_484 : decode cL_law 484 = .ok (.iload_n 3, 1) := by decide +kernel
theorem dL_law_485 : decode cL_law 485 = .ok (.iconst 1, 1) := by decide +kernel
theorem dL_law_486 : decode cL_law 486 = .ok (.iadd, 1) := by decide +kernel
theorem dL_law_487 : decode cL_law 487 = .ok (.iaload, 1) := by decide +kernel
theorem dL_law_488 : decode cL_law 488 = .ok (.invokevirtual 66, 3) := by decide +kernel
theorem dL_law_491 : decode cL_law 491 = .ok (.aload_n 2, 1) := by decide +kernel
theorem dL_law_492 : decode cL_law 492 = .ok (.aload_n 0, 1) := by decide +kernel
theorem dL_law_493 : decode cL_law 493 = .ok (.iload_n 3, 1) := by decide +kernel
theorem dL_law_494 : decode cL_law 494 = .ok (.iconst 1, 1) := by decide +kernel
theorem dL_law_495 : decode cL_law 495 = .ok (.iadd, 1) := by decide +kernel
theorem dL_law_496 : decode cL_law 496 = .ok (.iaload, 1) := by decide +kernel
theorem dL_law_497 : decode cL_law 497 = .ok (.invokevirtual 69, 3) := by decide +kernel
theorem dL_law_500 : decode cL_law 500 = .ok (.if_icmp .eq 5, 3) := by decide +kernel
theorem dL_law_503 : decode cL_law 503 = .ok (.iconst 0, 1) := by decide +kernel
theorem dL_law_504 : decode cL_law 504 = .ok (.ireturn, 1) := by decide +kernel
theorem dL_law_505 : decode cL_law 505 = .ok (.iinc 3 5, 3) := by decide +kernel
theorem dL_law_508 : decode cL_law 508 = .ok (.goto (-470), 3) := by decide +kernel
theorem dL_law_511 : decode cL_law 511 = .ok (.iconst 1, 1) := by decide +kernel
theorem dL_law_512 : decode cL_law 512 = .ok (.ireturn, 1) := by decide +kernel
end
section
/-! ROWS IN WHOLE NUMBERS: the kit's rows where ints are nI of naturals; the standing tm_S; calls within a class -/
set_option maxRecDepth 100000
abbrev xCl : List vw_C := [(RX1, TX1, 16), (RX2, TX2, 6)]
abbrev xTy (dB dI : ClassId) : List (ClassId × FieldType) := [(dB, .byte), (dI, .int)]
def tm_up (f : Nat → Nat) (k x : Nat) : Nat → Nat := fun j => if j = k then x else f j
theorem tm_up_s (f : Nat → Nat) (k x : Nat) : tm_up f k x k = x := by simp [tm_up]
theorem tm_up_n {f : Nat → Nat} {k x j : Nat} (h : j ≠ k) : tm_up f k x j = f j := by simp [tm_up, h]
theorem tm_upd (f : Nat → Nat) (i x : Nat) : upd (fun k => nI (f k)) i (nI x) = fun k => nI (tm_up f i x k) := by
  funext j
  unfold upd tm_up
  by_cases h : j = i
  · simp [h]
  · simp [h]
theorem tm_upd1 (f : Nat → Nat) (i x : Nat) : upd (fun k => nI (f k) - 1) i (nI x - 1) = fun k => nI (tm_up f i x k) - 1 := by
  funext j
  unfold upd tm_up
  by_cases h : j = i
  · simp [h]
  · simp [h]
theorem tm_b128 : ∀ n, n < 128 → vp_nar .byte (nI n) = nI n := by decide +kernel
theorem tm_b129 : ∀ n, n < 129 → vp_nar .byte (nI n - 1) = nI n - 1 := by decide +kernel
theorem tm_i2b : ∀ n, n < 128 → (nI n).toInt8.toInt32 = nI n := by decide +kernel
theorem tm_sl : ∀ n, n < 32 → ((nI n &&& 31).toBitVec.smod 32).toNat = n := by decide +kernel
theorem tm_and (a b : Nat) : nI a &&& nI b = nI (a &&& b) := by
  apply Int32.toBitVec_inj.1
  show BitVec.ofNat 32 a &&& BitVec.ofNat 32 b = BitVec.ofNat 32 (a &&& b)
  apply BitVec.eq_of_getLsbD_eq
  intro i hi
  simp [hi]
theorem tm_or (a b : Nat) : nI a ||| nI b = nI (a ||| b) := by
  apply Int32.toBitVec_inj.1
  show BitVec.ofNat 32 a ||| BitVec.ofNat 32 b = BitVec.ofNat 32 (a ||| b)
  apply BitVec.eq_of_getLsbD_eq
  intro i hi
  simp [hi]
theorem tm_shr {n k : Nat} (h : n < 2 ^ 31) (hk : k < 32) : nI n >>> (nI k &&& 31) = nI (n >>> k) := by
  rw [pk_shrN h _ k (tm_sl k hk), Nat.shiftRight_eq_div_pow]
theorem tm_shl {n k : Nat} (hk : k < 32) (h : n * 2 ^ k < 2 ^ 32) : nI n <<< (nI k &&& 31) = nI (n <<< k) := by
  rw [pk_shlN _ k (tm_sl k hk) h, Nat.shiftLeft_eq]
theorem tm_sub1 {a m : Nat} (h : m ≤ a + 1) : nI a - nI m + nI 1 = nI (a + 1 - m) := by
  rw [← pk_sub h, ← nI_add]
  grind
theorem tm_0 {a : Nat} (h : a < 2 ^ 31) : nI a = 0 ↔ a = 0 := by
  rw [← nI_0, nI_eq h (by omega)]
theorem tm_ofI {x : Int32} (h : 0 ≤ x.toInt) : ∃ X : Nat, x = nI X ∧ (X : Int) = x.toInt ∧ X < 2 ^ 31 := by
  have hx := Int32.toInt_lt x
  refine ⟨x.toInt.toNat, Int32.toInt_inj.mp ?_, by omega, by omega⟩
  rw [nI_toInt (by omega)]
  omega
theorem tm_z0 : (0 : Int32).toInt = 0 := by decide
/-- rowEnding: one less than a natural -/
theorem tm_e0 : ∀ n, n < 128 → (nI n - 1 < 0 ↔ n = 0) := by decide +kernel
theorem tm_e1 (n : Nat) : nI (n + 1) - 1 = nI n := nI_pred n
def tm_S (D : va_G) (dB dI : ClassId) (s : State) (Ad A : Nat → Prop) (H0 H : Heap) (locs : List Loc) (ws : va_W) : Prop :=
  va_K D xCl (xTy dB dI) s ∧ va_P D xCl ws H ∧ va_D Ad ws ∧ va_S A H0 H locs
theorem tm_tx1 : ∀ k, k < 16 → (TX1 k).1 = RX1 := by decide
theorem tm_tx2 : ∀ k, k < 6 → (TX2 k).1 = RX2 := by decide
section TMR
variable {p : Program} {l : Launch} {e : Env} {R : Room} {s : State} {m : MethodId} {args : Array Value} {below : List Frame} {meth : Method} {c : Code} {H : Heap} {locs : List Loc} {cells slots : Nat} {Q : State → Prop}
variable {cc : ByteArray} {pc : Nat} {ls : Array Slot} {rest : List Value} {D : va_G} {dB dI : ClassId} {Ad A : Nat → Prop} {H0 : Heap} {ws : va_W}
theorem tm_top {x y : Int32} (h : x = y) (k : W p l e R s m args below meth c H locs cells slots Q (F0 m pc ls (.int y :: rest))) : W p l e R s m args below meth c H locs cells slots Q (F0 m pc ls (.int x :: rest)) := by
  subst h; exact k
theorem tm_iadd (hx : p.tables.exec = Jvm.exec) (hb : c.code = cc) {a b : Nat} (hdg : decode cc pc = .ok (.iadd, 1)) (k : W p l e R s m args below meth c H locs cells slots Q (F0 m (pc + 1) ls (.int (nI (a + b)) :: rest))) : W p l e R s m args below meth c H locs cells slots Q (F0 m pc ls (.int (nI b) :: .int (nI a) :: rest)) := lv_iadd hx hb hdg (tm_top (nI_add a b) k)
theorem tm_imul (hx : p.tables.exec = Jvm.exec) (hb : c.code = cc) {a b : Nat} (hdg : decode cc pc = .ok (.imul, 1)) (k : W p l e R s m args below meth c H locs cells slots Q (F0 m (pc + 1) ls (.int (nI (a * b)) :: rest))) : W p l e R s m args below meth c H locs cells slots Q (F0 m pc ls (.int (nI b) :: .int (nI a) :: rest)) := lv_imul hx hb hdg (tm_top (pk_mul a b) k)
theorem tm_isub (hx : p.tables.exec = Jvm.exec) (hb : c.code = cc) {a b : Nat} (h : b ≤ a) (hdg : decode cc pc = .ok (.isub, 1)) (k : W p l e R s m args below meth c H locs cells slots Q (F0 m (pc + 1) ls (.int (nI (a - b)) :: rest))) : W p l e R s m args below meth c H locs cells slots Q (F0 m pc ls (.int (nI b) :: .int (nI a) :: rest)) := lv_isub hx hb hdg (tm_top (pk_sub h) k)
theorem tm_iand (hx : p.tables.exec = Jvm.exec) (hb : c.code = cc) {a b : Nat} (hdg : decode cc pc = .ok (.iand, 1)) (k : W p l e R s m args below meth c H locs cells slots Q (F0 m (pc + 1) ls (.int (nI (a &&& b)) :: rest))) : W p l e R s m args below meth c H locs cells slots Q (F0 m pc ls (.int (nI b) :: .int (nI a) :: rest)) := lv_iand hx hb hdg (tm_top (tm_and a b) k)
theorem tm_ior (hx : p.tables.exec = Jvm.exec) (hb : c.code = cc) {a b : Nat} (hdg : decode cc pc = .ok (.ior, 1)) (k : W p l e R s m args below meth c H locs cells slots Q (F0 m (pc + 1) ls (.int (nI (a ||| b)) :: rest))) : W p l e R s m args below meth c H locs cells slots Q (F0 m pc ls (.int (nI b) :: .int (nI a) :: rest)) := lv_ior hx hb hdg (tm_top (tm_or a b) k)
theorem tm_ishr (hx : p.tables.exec = Jvm.exec) (hb : c.code = cc) {a b : Nat} (ha : a < 2 ^ 31) (h : b < 32) (hdg : decode cc pc = .ok (.ishr, 1)) (k : W p l e R s m args below meth c H locs cells slots Q (F0 m (pc + 1) ls (.int (nI (a >>> b)) :: rest))) : W p l e R s m args below meth c H locs cells slots Q (F0 m pc ls (.int (nI b) :: .int (nI a) :: rest)) := lv_ishr hx hb hdg (tm_top (tm_shr ha h) k)
theorem tm_ishl (hx : p.tables.exec = Jvm.exec) (hb : c.code = cc) {a b : Nat} (h : b < 32) (ha : a * 2 ^ b < 2 ^ 32) (hdg : decode cc pc = .ok (.ishl, 1)) (k : W p l e R s m args below meth c H locs cells slots Q (F0 m (pc + 1) ls (.int (nI (a <<< b)) :: rest))) : W p l e R s m args below meth c H locs cells slots Q (F0 m pc ls (.int (nI b) :: .int (nI a) :: rest)) := lv_ishl hx hb hdg (tm_top (tm_shl h ha) k)
theorem tm_irem (hx : p.tables.exec = Jvm.exec) (hb : c.code = cc) {a b : Nat} (ha : a < 2 ^ 31) (h0 : 0 < b) (h : b < 2 ^ 31) (hdg : decode cc pc = .ok (.irem, 1)) (k : W p l e R s m args below meth c H locs cells slots Q (F0 m (pc + 1) ls (.int (nI (a % b)) :: rest))) : W p l e R s m args below meth c H locs cells slots Q (F0 m pc ls (.int (nI b) :: .int (nI a) :: rest)) := lv_irem hx hb hdg (fun q => absurd ((tm_0 h).mp q) (by omega)) (tm_top (pk_rem ha h0 h) k)
theorem tm_idiv (hx : p.tables.exec = Jvm.exec) (hb : c.code = cc) {a b : Nat} (ha : a < 2 ^ 31) (h0 : 0 < b) (h : b < 2 ^ 31) (hdg : decode cc pc = .ok (.idiv, 1)) (k : W p l e R s m args below meth c H locs cells slots Q (F0 m (pc + 1) ls (.int (nI (a / b)) :: rest))) : W p l e R s m args below meth c H locs cells slots Q (F0 m pc ls (.int (nI b) :: .int (nI a) :: rest)) := lv_idiv hx hb hdg (fun q => absurd ((tm_0 h).mp q) (by omega)) (tm_top (pk_div ha h0 h) k)
theorem tm_i2bN (hx : p.tables.exec = Jvm.exec) (hb : c.code = cc) {a : Nat} (ha : a < 128) (hdg : decode cc pc = .ok (.i2b, 1)) (k : W p l e R s m args below meth c H locs cells slots Q (F0 m (pc + 1) ls (.int (nI a) :: rest))) : W p l e R s m args below meth c H locs cells slots Q (F0 m pc ls (.int (nI a) :: rest)) := lv_i2b hx hb hdg (tm_i2b a ha) k
theorem tm_iinc (hx : p.tables.exec = Jvm.exec) (hb : c.code = cc) {i nL k a : Nat} {lv lv' : List (Nat × Value)} (hdg : decode cc pc = .ok (.iinc i 1, 3)) (h : lv_has ls nL lv) (hk : lv[k]? = some (i, .int (nI a))) (hn : i < nL) (hl : (i, Value.int (nI (a + 1))) :: lv.filter (fun q => !(q.1 == i) && !(q.1 + 1 == i && q.2.category == 2)) = lv')
    (kk : ∀ ls' : Array Slot, lv_has ls' nL lv' → W p l e R s m args below meth c H locs cells slots Q (F0 m (pc + 3) ls' rest)) : W p l e R s m args below meth c H locs cells slots Q (F0 m pc ls rest) := lv_iinc hx hb hdg h hk (nI_1 a) hn hl kk
-- branches over naturals
theorem tm_cge (hx : p.tables.exec = Jvm.exec) (hb : c.code = cc) {a b : Nat} {off : Int} {tgt : Nat} (ha : a < 2 ^ 31) (h : b < 2 ^ 31) (hdg : decode cc pc = .ok (.if_icmp .ge off, 3)) (ht : (pc : Int) + off = (tgt : Int)) (kt : b ≤ a → W p l e R s m args below meth c H locs cells slots Q (F0 m tgt ls rest)) (kf : a < b → W p l e R s m args below meth c H locs cells slots Q (F0 m (pc + 3) ls rest)) : W p l e R s m args below meth c H locs cells slots Q (F0 m pc ls (.int (nI b) :: .int (nI a) :: rest)) := lv_icmp_ge hx hb hdg ht (fun q => kt ((nI_leI h ha).mp q)) (fun q => kf (Nat.lt_of_not_le fun z => q ((nI_leI h ha).mpr z)))
theorem tm_clt (hx : p.tables.exec = Jvm.exec) (hb : c.code = cc) {a b : Nat} {off : Int} {tgt : Nat} (ha : a < 2 ^ 31) (h : b < 2 ^ 31) (hdg : decode cc pc = .ok (.if_icmp .lt off, 3)) (ht : (pc : Int) + off = (tgt : Int)) (kt : a < b → W p l e R s m args below meth c H locs cells slots Q (F0 m tgt ls rest)) (kf : b ≤ a → W p l e R s m args below meth c H locs cells slots Q (F0 m (pc + 3) ls rest)) : W p l e R s m args below meth c H locs cells slots Q (F0 m pc ls (.int (nI b) :: .int (nI a) :: rest)) := lv_icmp_lt hx hb hdg ht (fun q => kt ((nI_ltI ha h).mp q)) (fun q => kf (Nat.le_of_not_lt fun z => q ((nI_ltI ha h).mpr z)))
theorem tm_cgt (hx : p.tables.exec = Jvm.exec) (hb : c.code = cc) {a b : Nat} {off : Int} {tgt : Nat} (ha : a < 2 ^ 31) (h : b < 2 ^ 31) (hdg : decode cc pc = .ok (.if_icmp .gt off, 3)) (ht : (pc : Int) + off = (tgt : Int)) (kt : b < a → W p l e R s m args below meth c H locs cells slots Q (F0 m tgt ls rest)) (kf : a ≤ b → W p l e R s m args below meth c H locs cells slots Q (F0 m (pc + 3) ls rest)) : W p l e R s m args below meth c H locs cells slots Q (F0 m pc ls (.int (nI b) :: .int (nI a) :: rest)) := lv_icmp_gt hx hb hdg ht (fun q => kt ((nI_ltI h ha).mp q)) (fun q => kf (Nat.le_of_not_lt fun z => q ((nI_ltI h ha).mpr z)))
theorem tm_cle (hx : p.tables.exec = Jvm.exec) (hb : c.code = cc) {a b : Nat} {off : Int} {tgt : Nat} (ha : a < 2 ^ 31) (h : b < 2 ^ 31) (hdg : decode cc pc = .ok (.if_icmp .le off, 3)) (ht : (pc : Int) + off = (tgt : Int)) (kt : a ≤ b → W p l e R s m args below meth c H locs cells slots Q (F0 m tgt ls rest)) (kf : b < a → W p l e R s m args below meth c H locs cells slots Q (F0 m (pc + 3) ls rest)) : W p l e R s m args below meth c H locs cells slots Q (F0 m pc ls (.int (nI b) :: .int (nI a) :: rest)) := lv_icmp_le hx hb hdg ht (fun q => kt ((nI_leI ha h).mp q)) (fun q => kf (Nat.lt_of_not_le fun z => q ((nI_leI ha h).mpr z)))
theorem tm_ceq (hx : p.tables.exec = Jvm.exec) (hb : c.code = cc) {a b : Nat} {off : Int} {tgt : Nat} (ha : a < 2 ^ 31) (h : b < 2 ^ 31) (hdg : decode cc pc = .ok (.if_icmp .eq off, 3)) (ht : (pc : Int) + off = (tgt : Int)) (kt : a = b → W p l e R s m args below meth c H locs cells slots Q (F0 m tgt ls rest)) (kf : a ≠ b → W p l e R s m args below meth c H locs cells slots Q (F0 m (pc + 3) ls rest)) : W p l e R s m args below meth c H locs cells slots Q (F0 m pc ls (.int (nI b) :: .int (nI a) :: rest)) := lv_icmp_eq hx hb hdg ht (fun q => kt ((nI_eq ha h).mp q)) (fun q => kf (fun z => q ((nI_eq ha h).mpr z)))
theorem tm_cne (hx : p.tables.exec = Jvm.exec) (hb : c.code = cc) {a b : Nat} {off : Int} {tgt : Nat} (ha : a < 2 ^ 31) (h : b < 2 ^ 31) (hdg : decode cc pc = .ok (.if_icmp .ne off, 3)) (ht : (pc : Int) + off = (tgt : Int)) (kt : a ≠ b → W p l e R s m args below meth c H locs cells slots Q (F0 m tgt ls rest)) (kf : a = b → W p l e R s m args below meth c H locs cells slots Q (F0 m (pc + 3) ls rest)) : W p l e R s m args below meth c H locs cells slots Q (F0 m pc ls (.int (nI b) :: .int (nI a) :: rest)) := lv_icmp_ne hx hb hdg ht (fun q => kt (fun z => q ((nI_eq ha h).mpr z))) (fun q => kf ((nI_eq ha h).mp q))
theorem tm_zeq (hx : p.tables.exec = Jvm.exec) (hb : c.code = cc) {a : Nat} {off : Int} {tgt : Nat} (ha : a < 2 ^ 31) (hdg : decode cc pc = .ok (.ifCond .eq off, 3)) (ht : (pc : Int) + off = (tgt : Int)) (kt : a = 0 → W p l e R s m args below meth c H locs cells slots Q (F0 m tgt ls rest)) (kf : 0 < a → W p l e R s m args below meth c H locs cells slots Q (F0 m (pc + 3) ls rest)) : W p l e R s m args below meth c H locs cells slots Q (F0 m pc ls (.int (nI a) :: rest)) := lv_if_eq hx hb hdg ht (fun q => kt ((tm_0 ha).mp q)) (fun q => kf (Nat.pos_of_ne_zero fun z => q ((tm_0 ha).mpr z)))
theorem tm_zne (hx : p.tables.exec = Jvm.exec) (hb : c.code = cc) {a : Nat} {off : Int} {tgt : Nat} (ha : a < 2 ^ 31) (hdg : decode cc pc = .ok (.ifCond .ne off, 3)) (ht : (pc : Int) + off = (tgt : Int)) (kt : 0 < a → W p l e R s m args below meth c H locs cells slots Q (F0 m tgt ls rest)) (kf : a = 0 → W p l e R s m args below meth c H locs cells slots Q (F0 m (pc + 3) ls rest)) : W p l e R s m args below meth c H locs cells slots Q (F0 m pc ls (.int (nI a) :: rest)) := lv_if_ne hx hb hdg ht (fun q => kt (Nat.pos_of_ne_zero fun z => q ((tm_0 ha).mpr z))) (fun q => kf ((tm_0 ha).mp q))
theorem tm_zle (hx : p.tables.exec = Jvm.exec) (hb : c.code = cc) {a : Nat} {off : Int} {tgt : Nat} (ha : a < 2 ^ 31) (hdg : decode cc pc = .ok (.ifCond .le off, 3)) (ht : (pc : Int) + off = (tgt : Int)) (kt : a = 0 → W p l e R s m args below meth c H locs cells slots Q (F0 m tgt ls rest)) (kf : 0 < a → W p l e R s m args below meth c H locs cells slots Q (F0 m (pc + 3) ls rest)) : W p l e R s m args below meth c H locs cells slots Q (F0 m pc ls (.int (nI a) :: rest)) := by
  refine lv_if_le hx hb hdg ht (fun q => kt ?_) (fun q => kf (Nat.pos_of_ne_zero fun z => q ?_))
  · rcases Nat.eq_zero_or_pos a with h | h
    · exact h
    · exact absurd q (nI_nle h ha)
  · subst z; decide
-- branches over ints, told in Int
theorem tm_Ilt (hx : p.tables.exec = Jvm.exec) (hb : c.code = cc) {x y : Int32} (X Y : Int) (hX : x.toInt = X) (hY : y.toInt = Y) {off : Int} {tgt : Nat} (hdg : decode cc pc = .ok (.if_icmp .lt off, 3)) (ht : (pc : Int) + off = (tgt : Int)) (kt : X < Y → W p l e R s m args below meth c H locs cells slots Q (F0 m tgt ls rest)) (kf : Y ≤ X → W p l e R s m args below meth c H locs cells slots Q (F0 m (pc + 3) ls rest)) : W p l e R s m args below meth c H locs cells slots Q (F0 m pc ls (.int y :: .int x :: rest)) := by
  subst hX hY
  exact lv_icmp_lt hx hb hdg ht (fun q => kt (Int32.lt_iff_toInt_lt.mp q)) (fun q => kf (Int.not_lt.mp fun z => q (Int32.lt_iff_toInt_lt.mpr z)))
theorem tm_Ige (hx : p.tables.exec = Jvm.exec) (hb : c.code = cc) {x y : Int32} (X Y : Int) (hX : x.toInt = X) (hY : y.toInt = Y) {off : Int} {tgt : Nat} (hdg : decode cc pc = .ok (.if_icmp .ge off, 3)) (ht : (pc : Int) + off = (tgt : Int)) (kt : Y ≤ X → W p l e R s m args below meth c H locs cells slots Q (F0 m tgt ls rest)) (kf : X < Y → W p l e R s m args below meth c H locs cells slots Q (F0 m (pc + 3) ls rest)) : W p l e R s m args below meth c H locs cells slots Q (F0 m pc ls (.int y :: .int x :: rest)) := by
  subst hX hY
  exact lv_icmp_ge hx hb hdg ht (fun q => kt (Int32.le_iff_toInt_le.mp q)) (fun q => kf (Int.not_le.mp fun z => q (Int32.le_iff_toInt_le.mpr z)))
theorem tm_Igt (hx : p.tables.exec = Jvm.exec) (hb : c.code = cc) {x y : Int32} (X Y : Int) (hX : x.toInt = X) (hY : y.toInt = Y) {off : Int} {tgt : Nat} (hdg : decode cc pc = .ok (.if_icmp .gt off, 3)) (ht : (pc : Int) + off = (tgt : Int)) (kt : Y < X → W p l e R s m args below meth c H locs cells slots Q (F0 m tgt ls rest)) (kf : X ≤ Y → W p l e R s m args below meth c H locs cells slots Q (F0 m (pc + 3) ls rest)) : W p l e R s m args below meth c H locs cells slots Q (F0 m pc ls (.int y :: .int x :: rest)) := by
  subst hX hY
  exact lv_icmp_gt hx hb hdg ht (fun q => kt (Int32.lt_iff_toInt_lt.mp q)) (fun q => kf (Int.not_lt.mp fun z => q (Int32.lt_iff_toInt_lt.mpr z)))
theorem tm_Ile (hx : p.tables.exec = Jvm.exec) (hb : c.code = cc) {x y : Int32} (X Y : Int) (hX : x.toInt = X) (hY : y.toInt = Y) {off : Int} {tgt : Nat} (hdg : decode cc pc = .ok (.if_icmp .le off, 3)) (ht : (pc : Int) + off = (tgt : Int)) (kt : X ≤ Y → W p l e R s m args below meth c H locs cells slots Q (F0 m tgt ls rest)) (kf : Y < X → W p l e R s m args below meth c H locs cells slots Q (F0 m (pc + 3) ls rest)) : W p l e R s m args below meth c H locs cells slots Q (F0 m pc ls (.int y :: .int x :: rest)) := by
  subst hX hY
  exact lv_icmp_le hx hb hdg ht (fun q => kt (Int32.le_iff_toInt_le.mp q)) (fun q => kf (Int.not_le.mp fun z => q (Int32.le_iff_toInt_le.mpr z)))
theorem tm_Zlt (hx : p.tables.exec = Jvm.exec) (hb : c.code = cc) {x : Int32} (X : Int) (hX : x.toInt = X) {off : Int} {tgt : Nat} (hdg : decode cc pc = .ok (.ifCond .lt off, 3)) (ht : (pc : Int) + off = (tgt : Int)) (kt : X < 0 → W p l e R s m args below meth c H locs cells slots Q (F0 m tgt ls rest)) (kf : 0 ≤ X → W p l e R s m args below meth c H locs cells slots Q (F0 m (pc + 3) ls rest)) : W p l e R s m args below meth c H locs cells slots Q (F0 m pc ls (.int x :: rest)) := by
  subst hX
  exact lv_if_lt hx hb hdg ht (fun q => kt (by have := Int32.lt_iff_toInt_lt.mp q; rw [tm_z0] at this; exact this)) (fun q => kf (Int.not_lt.mp fun z => q (Int32.lt_iff_toInt_lt.mpr (by rw [tm_z0]; exact z))))
-- rowEnding's values: one less than a natural
theorem tm_Ege (hx : p.tables.exec = Jvm.exec) (hb : c.code = cc) {r : Nat} (h : r < 128) {off : Int} {tgt : Nat} (hdg : decode cc pc = .ok (.ifCond .ge off, 3)) (ht : (pc : Int) + off = (tgt : Int)) (kt : 0 < r → W p l e R s m args below meth c H locs cells slots Q (F0 m tgt ls rest)) (kf : r = 0 → W p l e R s m args below meth c H locs cells slots Q (F0 m (pc + 3) ls rest)) : W p l e R s m args below meth c H locs cells slots Q (F0 m pc ls (.int (nI r - 1) :: rest)) := by
  have h0 := tm_e0 r h
  refine lv_if_ge hx hb hdg ht (fun q => kt (Nat.pos_of_ne_zero fun z => ?_)) (fun q => kf (h0.mp ?_))
  · have := h0.mpr z
    rw [Int32.lt_iff_toInt_lt] at this
    rw [Int32.le_iff_toInt_le] at q
    omega
  · rw [Int32.lt_iff_toInt_lt]
    rw [Int32.le_iff_toInt_le] at q
    omega
theorem tm_eE {a r : Nat} (ha : a < 128) (h : r < 128) : nI a = nI r - 1 ↔ a + 1 = r := by
  constructor
  · intro q
    have : nI (a + 1) = nI r := by rw [← nI_1, q]; grind
    exact (nI_eq (by omega) (by omega)).mp this
  · intro q
    subst q
    exact (nI_pred a).symm
theorem tm_ceqE (hx : p.tables.exec = Jvm.exec) (hb : c.code = cc) {a r : Nat} (ha : a < 128) (h : r < 128) {off : Int} {tgt : Nat} (hdg : decode cc pc = .ok (.if_icmp .eq off, 3)) (ht : (pc : Int) + off = (tgt : Int)) (kt : a + 1 = r → W p l e R s m args below meth c H locs cells slots Q (F0 m tgt ls rest)) (kf : a + 1 ≠ r → W p l e R s m args below meth c H locs cells slots Q (F0 m (pc + 3) ls rest)) : W p l e R s m args below meth c H locs cells slots Q (F0 m pc ls (.int (nI r - 1) :: .int (nI a) :: rest)) := lv_icmp_eq hx hb hdg ht (fun q => kt ((tm_eE ha h).mp q)) (fun q => kf (fun z => q ((tm_eE ha h).mpr z)))
theorem tm_cneE (hx : p.tables.exec = Jvm.exec) (hb : c.code = cc) {a r : Nat} (ha : a < 128) (h : r < 128) {off : Int} {tgt : Nat} (hdg : decode cc pc = .ok (.if_icmp .ne off, 3)) (ht : (pc : Int) + off = (tgt : Int)) (kt : a + 1 ≠ r → W p l e R s m args below meth c H locs cells slots Q (F0 m tgt ls rest)) (kf : a + 1 = r → W p l e R s m args below meth c H locs cells slots Q (F0 m (pc + 3) ls rest)) : W p l e R s m args below meth c H locs cells slots Q (F0 m pc ls (.int (nI r - 1) :: .int (nI a) :: rest)) := lv_icmp_ne hx hb hdg ht (fun q => kt (fun z => q ((tm_eE ha h).mpr z))) (fun q => kf ((tm_eE ha h).mp q))
-- fields of this
theorem tm_gX (hx : p.tables.exec = Jvm.exec) (hb : c.code = cc) (hts : ∀ w ∈ lw_all, w.before args s = true) (hown : s.vm.findClass RX1 = some m.cls) (hS : tm_S D dB dI s Ad A H0 H locs ws) {aa : Nat} {fs : List Value} (he : ws[0]? = some (aa, .inr (0, fs))) (k : Nat) (hk : k < 16) {index : Nat} (hq : Cond.fieldLink RX1 index RX1 (TX1 k).2.1 (TX1 k).2.2.1 ∈ lw_all) {v : Value} (hv : fs[k]? = some v) (hdg : decode cc pc = .ok (.getfield index, 3))
    (kk : W p l e R s m args below meth c H locs cells slots Q (F0 m (pc + 3) ls (v :: rest))) : W p l e R s m args below meth c H locs cells slots Q (F0 m pc ls (.ref aa :: rest)) :=
  va_get (D := D) (ci := 0) (C := RX1) (T := TX1) (N := 16) hx hb hts in_X1 hown hS.1 hS.2.1 0 he rfl k hk (hts _ hq) (fun x h => by rw [tm_tx1 k hk] at h; exact h) hv hdg kk
theorem tm_gM (hx : p.tables.exec = Jvm.exec) (hb : c.code = cc) (hts : ∀ w ∈ lw_all, w.before args s = true) (hown : s.vm.findClass RX2 = some m.cls) (hS : tm_S D dB dI s Ad A H0 H locs ws) {aa : Nat} {fs : List Value} (he : ws[0]? = some (aa, .inr (1, fs))) (k : Nat) (hk : k < 6) {index : Nat} (hq : Cond.fieldLink RX2 index RX2 (TX2 k).2.1 (TX2 k).2.2.1 ∈ lw_all) {v : Value} (hv : fs[k]? = some v) (hdg : decode cc pc = .ok (.getfield index, 3))
    (kk : W p l e R s m args below meth c H locs cells slots Q (F0 m (pc + 3) ls (v :: rest))) : W p l e R s m args below meth c H locs cells slots Q (F0 m pc ls (.ref aa :: rest)) :=
  va_get (D := D) (ci := 1) (C := RX2) (T := TX2) (N := 6) hx hb hts in_X2 hown hS.1 hS.2.1 0 he rfl k hk (hts _ hq) (fun x h => by rw [tm_tx2 k hk] at h; exact h) hv hdg kk
theorem tm_pX (hx : p.tables.exec = Jvm.exec) (hb : c.code = cc) (hts : ∀ w ∈ lw_all, w.before args s = true) (hown : s.vm.findClass RX1 = some m.cls) (hS : tm_S D dB dI s A A H0 H locs ws) {aa : Nat} {fs : List Value} (he : ws[0]? = some (aa, .inr (0, fs))) (k : Nat) (hk : k < 16) {index : Nat} (hq : Cond.fieldLink RX1 index RX1 (TX1 k).2.1 (TX1 k).2.2.1 ∈ lw_all) (hfin : (TX1 k).2.2.2 = false) {ty : FieldType} {v : Value} (hd : parseFieldDescriptor (TX1 k).2.2.1 = some ty) (hn : narrow ty v = v) (hfit : fits ty v = true) (hl : k < fs.length) (ws' : va_W) (hw : ws.set 0 (aa, .inr (0, fs.set k v)) = ws') (hdg : decode cc pc = .ok (.putfield index, 3))
    (kk : ∀ (H1 : Heap) (locs1 : List Loc), tm_S D dB dI s A A H0 H1 locs1 ws' → W p l e R s m args below meth c H1 locs1 cells slots Q (F0 m (pc + 3) ls rest)) : W p l e R s m args below meth c H locs cells slots Q (F0 m pc ls (v :: .ref aa :: rest)) :=
  va_put (D := D) (ci := 0) (ty := ty) (C := RX1) (T := TX1) (N := 16) hx hb hts in_X1 tyX1 tyX1_ok nmX1 hown hS.1 hS.2.1 hS.2.2.1 hS.2.2.2 0 he rfl k hk (hts _ hq) (fun x h => by rw [tm_tx1 k hk] at h; exact h) hfin hd hn hfit hl hdg (fun H1 locs1 h1 h2 h3 => kk H1 locs1 ⟨hS.1, by rw [← hw]; exact h1, by rw [← hw]; exact h2, h3⟩)
-- arrays
theorem tm_bald (hx : p.tables.exec = Jvm.exec) (hb : c.code = cc) (hS : tm_S D dB dI s Ad A H0 H locs ws) (q0 : Nat) {aa n : Nat} {f : Nat → Nat} (he : ws[q0]? = some (aa, .inl (dB, n, .inl (fun k => nI (f k))))) {i : Nat} (hi : i < n) (hn : n < 2 ^ 31) (hdg : decode cc pc = .ok (.baload, 1))
    (kk : W p l e R s m args below meth c H locs cells slots Q (F0 m (pc + 1) ls (.int (nI (f i)) :: rest))) : W p l e R s m args below meth c H locs cells slots Q (F0 m pc ls (.int (nI i) :: .ref aa :: rest)) := by
  refine va_bald hx hb hS.1 hS.2.1 q0 0 he rfl (vp_in_nI hi hn) hdg ?_
  show W p l e R s m args below meth c H locs cells slots Q (F0 m (pc + 1) ls (.int (nI (f (nI i).toNatClampNeg)) :: rest))
  rw [nI_clamp (by omega)]
  exact kk
theorem tm_bald1 (hx : p.tables.exec = Jvm.exec) (hb : c.code = cc) (hS : tm_S D dB dI s Ad A H0 H locs ws) (q0 : Nat) {aa n : Nat} {f : Nat → Nat} (he : ws[q0]? = some (aa, .inl (dB, n, .inl (fun k => nI (f k) - 1)))) {i : Nat} (hi : i < n) (hn : n < 2 ^ 31) (hdg : decode cc pc = .ok (.baload, 1))
    (kk : W p l e R s m args below meth c H locs cells slots Q (F0 m (pc + 1) ls (.int (nI (f i) - 1) :: rest))) : W p l e R s m args below meth c H locs cells slots Q (F0 m pc ls (.int (nI i) :: .ref aa :: rest)) := by
  refine va_bald hx hb hS.1 hS.2.1 q0 0 he rfl (vp_in_nI hi hn) hdg ?_
  show W p l e R s m args below meth c H locs cells slots Q (F0 m (pc + 1) ls (.int (nI (f (nI i).toNatClampNeg) - 1) :: rest))
  rw [nI_clamp (by omega)]
  exact kk
theorem tm_iald (hx : p.tables.exec = Jvm.exec) (hb : c.code = cc) (hS : tm_S D dB dI s Ad A H0 H locs ws) (q0 : Nat) {aa n : Nat} {f : Nat → Nat} (he : ws[q0]? = some (aa, .inl (dI, n, .inl (fun k => nI (f k))))) {i : Nat} (hi : i < n) (hn : n < 2 ^ 31) (hdg : decode cc pc = .ok (.iaload, 1))
    (kk : W p l e R s m args below meth c H locs cells slots Q (F0 m (pc + 1) ls (.int (nI (f i)) :: rest))) : W p l e R s m args below meth c H locs cells slots Q (F0 m pc ls (.int (nI i) :: .ref aa :: rest)) := by
  refine va_iald hx hb hS.1 hS.2.1 q0 1 he rfl (vp_in_nI hi hn) hdg ?_
  show W p l e R s m args below meth c H locs cells slots Q (F0 m (pc + 1) ls (.int (nI (f (nI i).toNatClampNeg)) :: rest))
  rw [nI_clamp (by omega)]
  exact kk
theorem tm_bast (hx : p.tables.exec = Jvm.exec) (hb : c.code = cc) (hS : tm_S D dB dI s A A H0 H locs ws) (q0 : Nat) {aa n : Nat} {f : Nat → Nat} (he : ws[q0]? = some (aa, .inl (dB, n, .inl (fun k => nI (f k))))) {i x : Nat} (hi : i < n) (hn : n < 2 ^ 31) (h8 : x < 128) (ws' : va_W) (hw : ws.set q0 (aa, .inl (dB, n, .inl (fun k => nI (tm_up f i x k)))) = ws') (hdg : decode cc pc = .ok (.bastore, 1))
    (kk : ∀ (H1 : Heap) (locs1 : List Loc), tm_S D dB dI s A A H0 H1 locs1 ws' → W p l e R s m args below meth c H1 locs1 cells slots Q (F0 m (pc + 1) ls rest)) : W p l e R s m args below meth c H locs cells slots Q (F0 m pc ls (.int (nI x) :: .int (nI i) :: .ref aa :: rest)) := by
  refine va_bast hx hb hS.1 hS.2.1 hS.2.2.1 hS.2.2.2 q0 0 he rfl (vp_in_nI hi hn) hdg (fun H1 locs1 h1 h2 h3 => kk H1 locs1 ?_)
  rw [nI_clamp (by omega), tm_b128 x h8, tm_upd, hw] at h1 h2
  exact ⟨hS.1, h1, h2, h3⟩
theorem tm_bast1 (hx : p.tables.exec = Jvm.exec) (hb : c.code = cc) (hS : tm_S D dB dI s A A H0 H locs ws) (q0 : Nat) {aa n : Nat} {f : Nat → Nat} (he : ws[q0]? = some (aa, .inl (dB, n, .inl (fun k => nI (f k) - 1)))) {i : Nat} {v : Int32} (x : Nat) (hi : i < n) (hn : n < 2 ^ 31) (hv : v = nI x - 1) (h8 : x < 129) (ws' : va_W) (hw : ws.set q0 (aa, .inl (dB, n, .inl (fun k => nI (tm_up f i x k) - 1))) = ws') (hdg : decode cc pc = .ok (.bastore, 1))
    (kk : ∀ (H1 : Heap) (locs1 : List Loc), tm_S D dB dI s A A H0 H1 locs1 ws' → W p l e R s m args below meth c H1 locs1 cells slots Q (F0 m (pc + 1) ls rest)) : W p l e R s m args below meth c H locs cells slots Q (F0 m pc ls (.int v :: .int (nI i) :: .ref aa :: rest)) := by
  subst hv
  refine va_bast hx hb hS.1 hS.2.1 hS.2.2.1 hS.2.2.2 q0 0 he rfl (vp_in_nI hi hn) hdg (fun H1 locs1 h1 h2 h3 => kk H1 locs1 ?_)
  rw [nI_clamp (by omega), tm_b129 x h8, tm_upd1, hw] at h1 h2
  exact ⟨hS.1, h1, h2, h3⟩
theorem tm_iast (hx : p.tables.exec = Jvm.exec) (hb : c.code = cc) (hS : tm_S D dB dI s A A H0 H locs ws) (q0 : Nat) {aa n : Nat} {f : Nat → Nat} (he : ws[q0]? = some (aa, .inl (dI, n, .inl (fun k => nI (f k))))) {i x : Nat} (hi : i < n) (hn : n < 2 ^ 31) (ws' : va_W) (hw : ws.set q0 (aa, .inl (dI, n, .inl (fun k => nI (tm_up f i x k)))) = ws') (hdg : decode cc pc = .ok (.iastore, 1))
    (kk : ∀ (H1 : Heap) (locs1 : List Loc), tm_S D dB dI s A A H0 H1 locs1 ws' → W p l e R s m args below meth c H1 locs1 cells slots Q (F0 m (pc + 1) ls rest)) : W p l e R s m args below meth c H locs cells slots Q (F0 m pc ls (.int (nI x) :: .int (nI i) :: .ref aa :: rest)) := by
  refine va_iast hx hb hS.1 hS.2.1 hS.2.2.1 hS.2.2.2 q0 1 he rfl (vp_in_nI hi hn) hdg (fun H1 locs1 h1 h2 h3 => kk H1 locs1 ?_)
  rw [nI_clamp (by omega), tm_upd, hw] at h1 h2
  exact ⟨hS.1, h1, h2, h3⟩
end TMR
-- ===== contracts =====
abbrev tm_Pre (D : va_G) (dB dI : ClassId) (av : List Value) (sz : Nat) (ws : va_W) : Array Value → State → Prop := va_Pc av (fun U => U.heap.size = sz ∧ va_P D xCl ws U.heap ∧ va_K D xCl (xTy dB dI) U ∧ va_D (fun _ => True) ws)
def tm_B (D : va_G) (dB dI : ClassId) (A : Nat → Prop) (ws : va_W) (t : State) : Prop := va_P D xCl ws t.heap ∧ va_K D xCl (xTy dB dI) t ∧ va_D A ws
abbrev tm_Qv {S : Type} (D : va_G) (dB dI : ClassId) (ws0 : va_W) (sz : Nat) (post : S → Prop) (wf : S → va_W) : Array Value → State → Outcome → State → Prop := va_Qv post (fun u t => tm_B D dB dI (va_A ws0 sz) (wf u) t) (va_A ws0 sz)
abbrev tm_Qi {S : Type} (D : va_G) (dB dI : ClassId) (ws0 : va_W) (sz : Nat) (post : Int32 → S → Prop) (wf : S → va_W) : Array Value → State → Outcome → State → Prop := va_Qi post (fun u t => tm_B D dB dI (va_A ws0 sz) (wf u) t) (va_A ws0 sz)
abbrev tm_Qr (sz : Nat) (post : Int32 → Prop) : Array Value → State → Outcome → State → Prop := va_Qi (S := Unit) (fun r _ => post r) (fun _ _ => True) (va_A [] sz)
theorem tm_blind {D : va_G} {dB dI : ClassId} {av : List Value} {sz : Nat} {ws : va_W} : FrameBlind (tm_Pre D dB dI av sz ws) := fun a U g mk q => by
  obtain ⟨q0, q1, qP, qK, qD⟩ := q
  exact ⟨q0, q1, qP, va_K.moved (u := U) (U := U.calling g mk a) (Vm.Alike.refl U.vm) qK, qD⟩
/-- a method that may write its world -/
theorem tm_met {l : Launch} {y : MethodName} {cc : ByteArray} {nL : Nat} {ret : Option FieldType} {rm : Room} {D : va_G} {dB dI : ClassId} {av : List Value} {sz : Nat} {ws0 : va_W} {Qc : Array Value → State → Outcome → State → Prop} {mc ms : Nat} {free : Addr → Prop} (own : String) (ho : y.cls = own) (hy : plainName y.cls = true) (hav : (lg_sl av).length ≤ nL)
    (body : ∀ (p : Program) (e : Env) (s : State) (m : MethodId) (args : Array Value) (below : List Frame) (meth : Method) (c : Code) (ls : Array Slot) (A : Nat → Prop) (Q : State → Prop) (H : Heap) (locs : List Loc), p.tables.exec = Jvm.exec → c.code = cc → c.maxLocals = nL → s.vm.findClass own = some m.cls → (∀ w ∈ lw_all, w.before args s = true) → meth.sig.returnType = ret → meth.locks = false → meth.name = y.name → (∀ q, s.heap.size ≤ q → A q) → va_A ws0 sz = A → MQ below Qc args s mc ms free = Q → tm_S D dB dI s A A s.heap H locs ws0 → lv_has ls nL (lv_args 0 av) →
      W p l e rm s m args below meth c H locs 0 0 Q (F0 m 0 ls [])) : Met l y (ws_ y cc nL ret) rm (tm_Pre D dB dI av sz ws0) Qc mc ms free := by
  refine Met.ofW (cc := cc) (maxL := nL) (ret := ret) hy rfl ?_
  intro p e s m args below meth c s₁ B hml hv
  obtain ⟨rfl, hsz, hP, hK, hD0⟩ := hv
  have hts := atoms_spec (ws := ws_ y cc nL ret) B.pre
  have hts : ∀ w ∈ lw_all, w.before _ s = true := fun w h => hts w (List.mem_cons_of_mem _ h)
  have hown : s.vm.findClass y.cls = some m.cls := findClass_of_methodNamed B.named
  have hl := lv_entry av (n := nL) hav
  rw [lg_entry_eq]
  exact body p e s m _ below meth c _ _ _ _ _ B.exec B.bytes hml (ho ▸ hown) hts B.returns B.notSynchronized (name_of_methodNamed B.named B.method).1 (fun q hq => Or.inr (hsz ▸ hq)) rfl rfl ⟨hK, hP, hD0.self, va_S.rf⟩ hl
/-- a method that only reads -/
theorem tm_metR {l : Launch} {y : MethodName} {cc : ByteArray} {nL : Nat} {ret : Option FieldType} {rm : Room} {D : va_G} {dB dI : ClassId} {av : List Value} {sz : Nat} {ws0 : va_W} {Qc : Array Value → State → Outcome → State → Prop} {mc ms : Nat} {free : Addr → Prop} (own : String) (ho : y.cls = own) (hy : plainName y.cls = true) (hav : (lg_sl av).length ≤ nL)
    (body : ∀ (p : Program) (e : Env) (s : State) (m : MethodId) (args : Array Value) (below : List Frame) (meth : Method) (c : Code) (ls : Array Slot) (A : Nat → Prop) (Q : State → Prop) (H : Heap) (locs : List Loc), p.tables.exec = Jvm.exec → c.code = cc → c.maxLocals = nL → s.vm.findClass own = some m.cls → (∀ w ∈ lw_all, w.before args s = true) → meth.sig.returnType = ret → meth.locks = false → meth.name = y.name → (∀ q, s.heap.size ≤ q → A q) → va_A [] sz = A → MQ below Qc args s mc ms free = Q → tm_S D dB dI s (fun _ => True) A s.heap H locs ws0 → lv_has ls nL (lv_args 0 av) →
      W p l e rm s m args below meth c H locs 0 0 Q (F0 m 0 ls [])) : Met l y (ws_ y cc nL ret) rm (tm_Pre D dB dI av sz ws0) Qc mc ms free := by
  refine Met.ofW (cc := cc) (maxL := nL) (ret := ret) hy rfl ?_
  intro p e s m args below meth c s₁ B hml hv
  obtain ⟨rfl, hsz, hP, hK, hD0⟩ := hv
  have hts := atoms_spec (ws := ws_ y cc nL ret) B.pre
  have hts : ∀ w ∈ lw_all, w.before _ s = true := fun w h => hts w (List.mem_cons_of_mem _ h)
  have hown : s.vm.findClass y.cls = some m.cls := findClass_of_methodNamed B.named
  have hl := lv_entry av (n := nL) hav
  rw [lg_entry_eq]
  exact body p e s m _ below meth c _ _ _ _ _ B.exec B.bytes hml (ho ▸ hown) hts B.returns B.notSynchronized (name_of_methodNamed B.named B.method).1 (fun q hq => Or.inr (hsz ▸ hq)) rfl rfl ⟨hK, hP, hD0, va_S.rf⟩ hl
section TMC
variable {p : Program} {l : Launch} {e : Env} {R : Room} {s : State} {m : MethodId} {args : Array Value} {below : List Frame} {meth : Method} {c : Code} {H : Heap} {locs : List Loc} {cells slots : Nat} {Q : State → Prop}
variable {cc : ByteArray} {pc : Nat} {ls : Array Slot} {rest : List Value} {D : va_G} {dB dI : ClassId} {Ad A : Nat → Prop} {H0 : Heap} {ws ws0 : va_W} {sz : Nat} {S : Type}
-- ends
theorem tm_vret {post : S → Prop} {wf : S → va_W} (u : S) (hQ : MQ below (tm_Qv D dB dI ws0 sz post wf) args s 0 0 (va_A ws0 sz) = Q) (hAe : va_A ws0 sz = A) (hx : p.tables.exec = Jvm.exec) (hb : c.code = cc) (hr : meth.sig.returnType = none) (hlk : meth.locks = false) (hS : tm_S D dB dI s A A s.heap H locs (wf u)) (hp : post u) (hdg : decode cc pc = .ok (.return_, 1)) : W p l e R s m args below meth c H locs 0 0 Q (F0 m pc ls []) := by
  subst hQ hAe
  exact W.vret hx hb hr (fun t ht hW => ⟨⟨u, rfl, hp, by rw [ht]; exact hS.2.1, va_K.moved hW.alike hS.1, hS.2.2.1⟩, hS.2.2.2.F ht⟩) hS.2.2.2.2.2 hdg hlk
theorem tm_iret {post : Int32 → S → Prop} {wf : S → va_W} {v : Int32} (u : S) (hQ : MQ below (tm_Qi D dB dI ws0 sz post wf) args s 0 0 (va_A ws0 sz) = Q) (hAe : va_A ws0 sz = A) (hx : p.tables.exec = Jvm.exec) (hb : c.code = cc) (hr : meth.sig.returnType = some .int) (hlk : meth.locks = false) (hS : tm_S D dB dI s A A s.heap H locs (wf u)) (hp : post v u) (hdg : decode cc pc = .ok (.ireturn, 1)) : W p l e R s m args below meth c H locs 0 0 Q (F0 m pc ls [.int v]) := by
  subst hQ hAe
  exact W.iret hx hb hr (fun t ht hW => ⟨⟨v, u, rfl, hp, by rw [ht]; exact hS.2.1, va_K.moved hW.alike hS.1, hS.2.2.1⟩, hS.2.2.2.F ht⟩) hS.2.2.2.2.2 hdg hlk
theorem tm_zret {post : Int32 → S → Prop} {wf : S → va_W} {v : Int32} (u : S) (hQ : MQ below (tm_Qi D dB dI ws0 sz post wf) args s 0 0 (va_A ws0 sz) = Q) (hAe : va_A ws0 sz = A) (hx : p.tables.exec = Jvm.exec) (hb : c.code = cc) (hr : meth.sig.returnType = some .boolean) (hlk : meth.locks = false) (hn : narrow .boolean (.int v) = .int v) (hS : tm_S D dB dI s A A s.heap H locs (wf u)) (hp : post v u) (hdg : decode cc pc = .ok (.ireturn, 1)) : W p l e R s m args below meth c H locs 0 0 Q (F0 m pc ls [.int v]) := by
  subst hQ hAe
  exact W.zret hx hb hr hn (fun t ht hW => ⟨⟨v, u, rfl, hp, by rw [ht]; exact hS.2.1, va_K.moved hW.alike hS.1, hS.2.2.1⟩, hS.2.2.2.F ht⟩) hS.2.2.2.2.2 hdg hlk
theorem tm_iretR {post : Int32 → Prop} {v : Int32} (hQ : MQ below (tm_Qr sz post) args s 0 0 (va_A [] sz) = Q) (hAe : va_A [] sz = A) (hx : p.tables.exec = Jvm.exec) (hb : c.code = cc) (hr : meth.sig.returnType = some .int) (hlk : meth.locks = false) (hS : tm_S D dB dI s Ad A s.heap H locs ws) (hp : post v) (hdg : decode cc pc = .ok (.ireturn, 1)) : W p l e R s m args below meth c H locs 0 0 Q (F0 m pc ls [.int v]) := by
  subst hQ hAe
  exact W.iret hx hb hr (fun t ht hW => ⟨⟨v, (), rfl, hp, trivial⟩, hS.2.2.2.F ht⟩) hS.2.2.2.2.2 hdg hlk
theorem tm_zretR {post : Int32 → Prop} {v : Int32} (hQ : MQ below (tm_Qr sz post) args s 0 0 (va_A [] sz) = Q) (hAe : va_A [] sz = A) (hx : p.tables.exec = Jvm.exec) (hb : c.code = cc) (hr : meth.sig.returnType = some .boolean) (hlk : meth.locks = false) (hn : narrow .boolean (.int v) = .int v) (hS : tm_S D dB dI s Ad A s.heap H locs ws) (hp : post v) (hdg : decode cc pc = .ok (.ireturn, 1)) : W p l e R s m args below meth c H locs 0 0 Q (F0 m pc ls [.int v]) := by
  subst hQ hAe
  exact W.zret hx hb hr hn (fun t ht hW => ⟨⟨v, (), rfl, hp, trivial⟩, hS.2.2.2.F ht⟩) hS.2.2.2.2.2 hdg hlk
-- calls: a method of the same object, over the whole world
variable {y : MethodName} {bytes : ByteArray} {nL maxL index n ci a0 : Nat} {ret : Option FieldType} {rm : Room} {own C : String} {q : vw_C} {fs : List Value} {As st : List Value}
theorem tm_callR {post : Int32 → Prop} (F : CallFix p m c cc nL s args lw_all own) (hM : Met l y (ws_ y bytes maxL ret) rm (tm_Pre D dB dI (.ref a0 :: As) H.size ws) (tm_Qr H.size post) 0 0 (va_A [] H.size)) (cw : CallW R s args own q.1 index y bytes maxL ret (ws_ y bytes maxL ret) rm 0 0 n) (hS : tm_S D dB dI s Ad A H0 H locs ws) (hA : ∀ z, H0.size ≤ z → A z) (hc : xCl[ci]? = some q) (he : ws[0]? = some (a0, .inr (ci, fs))) (hn : As.length = n) (hl : ls.size = nL) (hst : st = As.reverse ++ .ref a0 :: rest) (hrm : (rest.map fun v => v.category).sum ≤ 8) (hdg : decode cc pc = .ok (.invokevirtual index, 3)) (hf : cells ≤ R.cells ∧ slots ≤ R.slots)
    (kk : ∀ (r : Int32) (H1 : Heap) (locs1 : List Loc), post r → tm_S D dB dI s Ad A H0 H1 locs1 ws → W p l e R s m args below meth c H1 locs1 cells slots Q (F0 m (pc + 3) ls (.int r :: rest))) : W p l e R s m args below meth c H locs cells slots Q (F0 m pc ls st) := by
  obtain ⟨hK, hP, hD, hSS⟩ := hS
  refine va_calli (va_runV (As := As) (rest := rest) F hM cw ⟨tm_blind, va_recv hK hP hc he, fun U hU hW => ⟨rfl, by rw [hU], by rw [hU]; exact hP, va_K.moved hW.alike hK, hD.weaken (fun _ _ _ _ => trivial)⟩⟩ rfl hn hl hst (lv_room hrm) hdg hf) hSS ?_ ?_ ?_
  · intro z hz h
    rcases h with ⟨k, e, h⟩ | h
    · simp at h
    · exact absurd hz (by omega)
  · intro z h
    rcases h with ⟨k, e, h⟩ | h
    · simp at h
    · exact hA z (Nat.le_trans hSS.1 h)
  · intro r u t H1 locs1 ht hvm hp hB hz hk hS1
    refine kk r H1 locs1 hp ⟨hK, hP.kept (fun k x hx => hk x.1 ((hP k x hx).lt) ?_), hD, hS1⟩
    intro h
    rcases h with ⟨k2, e, h⟩ | h
    · simp at h
    · exact absurd ((hP k x hx).lt) (by omega)
theorem tm_callv {post : S → Prop} {wf : S → va_W} (F : CallFix p m c cc nL s args lw_all own) (hM : Met l y (ws_ y bytes maxL ret) rm (tm_Pre D dB dI (.ref a0 :: As) H.size ws) (tm_Qv D dB dI ws H.size post wf) 0 0 (va_A ws H.size)) (cw : CallW R s args own q.1 index y bytes maxL ret (ws_ y bytes maxL ret) rm 0 0 n) (hS : tm_S D dB dI s A A H0 H locs ws) (hA : ∀ z, H0.size ≤ z → A z) (hc : xCl[ci]? = some q) (he : ws[0]? = some (a0, .inr (ci, fs))) (hn : As.length = n) (hl : ls.size = nL) (hst : st = As.reverse ++ .ref a0 :: rest) (hrm : (rest.map fun v => v.category).sum ≤ 8) (hdg : decode cc pc = .ok (.invokevirtual index, 3)) (hf : cells ≤ R.cells ∧ slots ≤ R.slots)
    (kk : ∀ (u : S) (H1 : Heap) (locs1 : List Loc), post u → tm_S D dB dI s A A H0 H1 locs1 (wf u) → W p l e R s m args below meth c H1 locs1 cells slots Q (F0 m (pc + 3) ls rest)) : W p l e R s m args below meth c H locs cells slots Q (F0 m pc ls st) := by
  obtain ⟨hK, hP, hD, hSS⟩ := hS
  have hF : ∀ z, va_A ws H.size z → A z := by
    intro z h
    rcases h with ⟨k, e, h⟩ | h
    · exact hD.2 k _ h
    · exact hA z (Nat.le_trans hSS.1 h)
  refine va_callv (va_runV (As := As) (rest := rest) F hM cw ⟨tm_blind, va_recv hK hP hc he, fun U hU hW => ⟨rfl, by rw [hU], by rw [hU]; exact hP, va_K.moved hW.alike hK, hD.weaken (fun _ _ _ _ => trivial)⟩⟩ rfl hn hl hst (lv_room hrm) hdg hf) hSS (fun z _ h => hF z h) hF ?_
  intro u t H1 locs1 ht hvm hp hB hz hk hS1
  obtain ⟨hP1, hK1, hD1⟩ := hB
  rw [ht] at hP1
  exact kk u H1 locs1 hp ⟨hK, hP1, hD1.weaken (fun _ x _ h => hF x.1 h), hS1⟩
theorem tm_calli {post : Int32 → S → Prop} {wf : S → va_W} (F : CallFix p m c cc nL s args lw_all own) (hM : Met l y (ws_ y bytes maxL ret) rm (tm_Pre D dB dI (.ref a0 :: As) H.size ws) (tm_Qi D dB dI ws H.size post wf) 0 0 (va_A ws H.size)) (cw : CallW R s args own q.1 index y bytes maxL ret (ws_ y bytes maxL ret) rm 0 0 n) (hS : tm_S D dB dI s A A H0 H locs ws) (hA : ∀ z, H0.size ≤ z → A z) (hc : xCl[ci]? = some q) (he : ws[0]? = some (a0, .inr (ci, fs))) (hn : As.length = n) (hl : ls.size = nL) (hst : st = As.reverse ++ .ref a0 :: rest) (hrm : (rest.map fun v => v.category).sum ≤ 8) (hdg : decode cc pc = .ok (.invokevirtual index, 3)) (hf : cells ≤ R.cells ∧ slots ≤ R.slots)
    (kk : ∀ (r : Int32) (u : S) (H1 : Heap) (locs1 : List Loc), post r u → tm_S D dB dI s A A H0 H1 locs1 (wf u) → W p l e R s m args below meth c H1 locs1 cells slots Q (F0 m (pc + 3) ls (.int r :: rest))) : W p l e R s m args below meth c H locs cells slots Q (F0 m pc ls st) := by
  obtain ⟨hK, hP, hD, hSS⟩ := hS
  have hF : ∀ z, va_A ws H.size z → A z := by
    intro z h
    rcases h with ⟨k, e, h⟩ | h
    · exact hD.2 k _ h
    · exact hA z (Nat.le_trans hSS.1 h)
  refine va_calli (va_runV (As := As) (rest := rest) F hM cw ⟨tm_blind, va_recv hK hP hc he, fun U hU hW => ⟨rfl, by rw [hU], by rw [hU]; exact hP, va_K.moved hW.alike hK, hD.weaken (fun _ _ _ _ => trivial)⟩⟩ rfl hn hl hst (lv_room hrm) hdg hf) hSS (fun z _ h => hF z h) hF ?_
  intro r u t H1 locs1 ht hvm hp hB hz hk hS1
  obtain ⟨hP1, hK1, hD1⟩ := hB
  rw [ht] at hP1
  exact kk r u H1 locs1 hp ⟨hK, hP1, hD1.weaken (fun _ x _ h => hF x.1 h), hS1⟩
end TMC
-- ===== the two worlds =====
/-- the matcher: scalars width, height, nodeCount, searched; arrays text, patternWidth, patternHeight, pattern, branch, fallback, nodeQueue, rowEnding (its values plus one), rowNumber, failure, found, progress -/
def wX (a : Nat → Nat) (dB dI : ClassId) (w h nc sd : Nat) (tx pw ph pt br fb nq re rn fa fo pr : Nat → Nat) : va_W :=
  [(a 0, .inr (0, [.int (nI w), .int (nI h), .ref (a 1), .ref (a 2), .ref (a 3), .ref (a 4), .int (nI nc), .ref (a 5), .ref (a 6), .ref (a 7), .ref (a 8), .ref (a 9), .ref (a 10), .int (nI sd), .ref (a 11), .ref (a 12)])),
   (a 1, .inl (dB, 144, .inl (fun k => nI (tx k)))), (a 2, .inl (dB, 3, .inl (fun k => nI (pw k)))), (a 3, .inl (dB, 3, .inl (fun k => nI (ph k)))), (a 4, .inl (dB, 48, .inl (fun k => nI (pt k)))),
   (a 5, .inl (dB, 147, .inl (fun k => nI (br k)))), (a 6, .inl (dB, 49, .inl (fun k => nI (fb k)))), (a 7, .inl (dB, 49, .inl (fun k => nI (nq k)))), (a 8, .inl (dB, 147, .inl (fun k => nI (re k) - 1))),
   (a 9, .inl (dB, 12, .inl (fun k => nI (rn k)))), (a 10, .inl (dB, 15, .inl (fun k => nI (fa k)))), (a 11, .inl (dI, 36, .inl (fun k => nI (fo k)))), (a 12, .inl (dB, 36, .inl (fun k => nI (pr k))))]
/-- the model: columns, rows; text, pattern, wide, high -/
def wM (b : Nat → Nat) (dI : ClassId) (w h : Nat) (tx pt pw ph : Nat → Nat) : va_W :=
  [(b 0, .inr (1, [.int (nI w), .int (nI h), .ref (b 1), .ref (b 2), .ref (b 3), .ref (b 4)])),
   (b 1, .inl (dI, 192, .inl (fun k => nI (tx k)))), (b 2, .inl (dI, 48, .inl (fun k => nI (pt k)))), (b 3, .inl (dI, 3, .inl (fun k => nI (pw k)))), (b 4, .inl (dI, 3, .inl (fun k => nI (ph k))))]
end
section
/-! WORDS AND THE TRIE: pure; no program here -/
/-- row i of pattern p, as a word -/
def tw_row (pt pw : Nat → Nat) (p i : Nat) : List Nat := (List.range (pw p)).map (fun j => pt (16 * p + 4 * i + j))
/-- the first x letters of the text's row y -/
def tw_seg (tx : Nat → Nat) (y x : Nat) : List Nat := (List.range x).map (fun c => tx (12 * y + c))
theorem tw_seg_s (tx : Nat → Nat) (y x : Nat) : tw_seg tx y (x + 1) = tw_seg tx y x ++ [tx (12 * y + x)] := by
  simp [tw_seg, List.range_succ]
theorem tw_row_len (pt pw : Nat → Nat) (p i : Nat) : (tw_row pt pw p i).length = pw p := by simp [tw_row]
theorem tw_snoc {a b : List Nat} {x y : Nat} (h : a ++ [x] = b ++ [y]) : a = b ∧ x = y := by
  have := List.append_inj' h rfl
  exact ⟨this.1, by simpa using this.2⟩
/-- nodes 0 .. nc-1 with their words: a trie in br -/
def tw_TI (br : Nat → Nat) (nc : Nat) (wd : Nat → List Nat) : Prop :=
  1 ≤ nc ∧ nc ≤ 49 ∧ wd 0 = [] ∧
  (∀ u, u < nc → ∀ l, l < 3 → br (3 * u + l) < nc ∧ (br (3 * u + l) ≠ 0 → wd (br (3 * u + l)) = wd u ++ [l])) ∧
  (∀ c, c < nc → c ≠ 0 → ∃ u l, u < nc ∧ l < 3 ∧ br (3 * u + l) = c) ∧
  (∀ u v, u < nc → v < nc → wd u = wd v → u = v) ∧
  (∀ k, 3 * nc ≤ k → k < 147 → br k = 0)
theorem tw_TI_0 {br : Nat → Nat} (h : ∀ k, k < 147 → br k = 0) : tw_TI br 1 (fun _ => []) := by
  refine ⟨by omega, by omega, rfl, ?_, ?_, ?_, ?_⟩
  · intro u hu l hl
    rw [h _ (by omega)]
    exact ⟨by omega, fun q => absurd rfl q⟩
  · intro c hc h0
    exact absurd hc (by omega)
  · intro u v hu hv _
    omega
  · intro k _ hk
    exact h k hk
/-- the words with a new node's -/
def tw_wu (wd : Nat → List Nat) (k : Nat) (x : List Nat) : Nat → List Nat := fun j => if j = k then x else wd j
theorem tw_wu_s (wd : Nat → List Nat) (k : Nat) (x : List Nat) : tw_wu wd k x k = x := by simp [tw_wu]
theorem tw_wu_n {wd : Nat → List Nat} {k j : Nat} {x : List Nat} (h : j ≠ k) : tw_wu wd k x j = wd j := by simp [tw_wu, h]
theorem tw_new {br : Nat → Nat} {nc : Nat} {wd : Nat → List Nat} {u l : Nat} (T : tw_TI br nc wd) (hn : nc < 49) (hu : u < nc) (hl : l < 3) (h0 : br (3 * u + l) = 0) : tw_TI (tm_up br (3 * u + l) nc) (nc + 1) (tw_wu wd nc (wd u ++ [l])) := by
  obtain ⟨t1, t2, t3, t4, t5, t6, t7⟩ := T
  refine ⟨by omega, by omega, ?_, ?_, ?_, ?_, ?_⟩
  · rw [tw_wu_n (by omega), t3]
  · intro v hv l' hl'
    by_cases he : 3 * v + l' = 3 * u + l
    · have e1 : v = u := by omega
      have e2 : l' = l := by omega
      subst e1 e2
      rw [tm_up_s, tw_wu_s, tw_wu_n (by omega)]
      exact ⟨by omega, fun _ => rfl⟩
    · rw [tm_up_n he]
      by_cases hv2 : v < nc
      · obtain ⟨a1, a2⟩ := t4 v hv2 l' hl'
        refine ⟨by omega, fun q => ?_⟩
        rw [tw_wu_n (by omega), tw_wu_n (by omega)]
        exact a2 q
      · rw [t7 (3 * v + l') (by omega) (by omega)]
        exact ⟨by omega, fun q => absurd rfl q⟩
  · intro c hc hc0
    by_cases he : c = nc
    · subst he
      exact ⟨u, l, by omega, hl, tm_up_s _ _ _⟩
    · obtain ⟨u', l', a1, a2, a3⟩ := t5 c (by omega) hc0
      refine ⟨u', l', by omega, a2, ?_⟩
      rw [tm_up_n, a3]
      intro q
      rw [q, h0] at a3
      exact hc0 a3.symm
  · have key : ∀ v, v < nc → wd u ++ [l] = wd v → False := by
      intro v hv q
      have hv0 : v ≠ 0 := by
        intro z
        subst z
        rw [t3] at q
        simp at q
      obtain ⟨u', l', a1, a2, a3⟩ := t5 v hv hv0
      have a4 := (t4 u' a1 l' a2).2 (by rw [a3]; exact hv0)
      rw [a3, ← q] at a4
      obtain ⟨b1, b2⟩ := tw_snoc a4
      have := t6 u u' hu a1 b1
      subst this
      subst b2
      rw [h0] at a3
      exact hv0 a3.symm
    intro x y hx hy q
    by_cases ex : x = nc
    · by_cases ey : y = nc
      · omega
      · subst ex
        rw [tw_wu_s, tw_wu_n ey] at q
        exact (key y (by omega) q).elim
    · by_cases ey : y = nc
      · subst ey
        rw [tw_wu_s, tw_wu_n ex] at q
        exact (key x (by omega) q.symm).elim
      · rw [tw_wu_n ex, tw_wu_n ey] at q
        exact t6 x y (by omega) (by omega) q
  · intro k hk hk2
    rw [tm_up_n (by omega)]
    exact t7 k (by omega) hk2
/-- every node's word but the root's: its parent's, and a letter -/
theorem tw_par {br : Nat → Nat} {nc : Nat} {wd : Nat → List Nat} (T : tw_TI br nc wd) {v : Nat} (hv : v < nc) {w : List Nat} {l : Nat} (h : wd v = w ++ [l]) : ∃ u, u < nc ∧ wd u = w ∧ l < 3 ∧ br (3 * u + l) = v := by
  obtain ⟨t1, t2, t3, t4, t5, t6, t7⟩ := T
  have hv0 : v ≠ 0 := by
    intro z
    subst z
    rw [t3] at h
    simp at h
  obtain ⟨u, l', a1, a2, a3⟩ := t5 v hv hv0
  have a4 := (t4 u a1 l' a2).2 (by rw [a3]; exact hv0)
  rw [a3, h] at a4
  obtain ⟨b1, b2⟩ := tw_snoc a4
  subst b2
  exact ⟨u, a1, b1.symm, a2, a3⟩
/-- the row numbers of pattern p: n rows are in -/
def tw_RI (pt pw : Nat → Nat) (nc : Nat) (wd : Nat → List Nat) (re rn : Nat → Nat) (p n : Nat) : Prop :=
  (∀ i, i < n → ∃ u, u < nc ∧ wd u = tw_row pt pw p i ∧ re (49 * p + u) = rn (4 * p + i) + 1) ∧
  (∀ u i, u < nc → re (49 * p + u) = i + 1 → i < n ∧ wd u = tw_row pt pw p i) ∧
  (∀ u, nc ≤ u → u < 49 → re (49 * p + u) = 0)
theorem tw_RI_0 {pt pw : Nat → Nat} {wd : Nat → List Nat} {re rn : Nat → Nat} {p : Nat} (hp : p < 3) (h : ∀ k, k < 147 → re k = 0) : tw_RI pt pw 1 wd re rn p 0 := by
  refine ⟨fun i hi => absurd hi (by omega), fun u i hu q => ?_, fun u _ hu => h _ (by omega)⟩
  rw [h _ (by omega)] at q
  omega
/-- the trie has grown -/
theorem tw_RI_grow {pt pw : Nat → Nat} {nc nc' : Nat} {wd wd' : Nat → List Nat} {re rn : Nat → Nat} {p n : Nat} (hc : nc ≤ nc') (hc' : nc' ≤ 49) (hw : ∀ u, u < nc → wd' u = wd u) (R : tw_RI pt pw nc wd re rn p n) : tw_RI pt pw nc' wd' re rn p n := by
  obtain ⟨r1, r2, r3⟩ := R
  refine ⟨fun i hi => ?_, fun u i hu q => ?_, fun u hu h49 => r3 u (by omega) h49⟩
  · obtain ⟨u, a1, a2, a3⟩ := r1 i hi
    exact ⟨u, by omega, by rw [hw u a1]; exact a2, a3⟩
  · by_cases h : u < nc
    · rw [hw u h]
      exact r2 u i h q
    · rw [r3 u (by omega) (by omega)] at q
      omega
/-- other cells have changed -/
theorem tw_RI_of {pt pw : Nat → Nat} {nc : Nat} {wd : Nat → List Nat} {re rn re' rn' : Nat → Nat} {p n : Nat} (hc : nc ≤ 49) (he : ∀ u, u < 49 → re' (49 * p + u) = re (49 * p + u)) (hr : ∀ i, i < n → rn' (4 * p + i) = rn (4 * p + i)) (R : tw_RI pt pw nc wd re rn p n) : tw_RI pt pw nc wd re' rn' p n := by
  obtain ⟨r1, r2, r3⟩ := R
  refine ⟨fun i hi => ?_, fun u i hu q => ?_, fun u hu h49 => by rw [he u h49]; exact r3 u hu h49⟩
  · obtain ⟨u, a1, a2, a3⟩ := r1 i hi
    exact ⟨u, a1, a2, by rw [he u (by omega), hr i hi]; exact a3⟩
  · rw [he u (by omega)] at q
    exact r2 u i hu q
/-- row i ends at node u: its number -/
theorem tw_RI_old {pt pw : Nat → Nat} {nc : Nat} {wd : Nat → List Nat} {re rn : Nat → Nat} {p i u : Nat} (hc : nc ≤ 49) (hu : u < nc) (hw : wd u = tw_row pt pw p i) (h0 : 0 < re (49 * p + u)) (R : tw_RI pt pw nc wd re rn p i) : tw_RI pt pw nc wd re (tm_up rn (4 * p + i) (re (49 * p + u) - 1)) p (i + 1) := by
  obtain ⟨r1, r2, r3⟩ := R
  refine ⟨fun j hj => ?_, fun v j hv q => ?_, r3⟩
  · by_cases he : j = i
    · subst he
      refine ⟨u, hu, hw, ?_⟩
      rw [tm_up_s]
      omega
    · obtain ⟨v, a1, a2, a3⟩ := r1 j (by omega)
      refine ⟨v, a1, a2, ?_⟩
      rw [tm_up_n (by omega)]
      exact a3
  · obtain ⟨a1, a2⟩ := r2 v j hv q
    exact ⟨by omega, a2⟩
theorem tw_RI_new {pt pw : Nat → Nat} {nc : Nat} {wd : Nat → List Nat} {re rn : Nat → Nat} {p i u : Nat} (hc : nc ≤ 49) (hu : u < nc) (hw : wd u = tw_row pt pw p i) (h0 : re (49 * p + u) = 0) (R : tw_RI pt pw nc wd re rn p i) : tw_RI pt pw nc wd (tm_up re (49 * p + u) (i + 1)) (tm_up rn (4 * p + i) i) p (i + 1) := by
  obtain ⟨r1, r2, r3⟩ := R
  refine ⟨fun j hj => ?_, fun v j hv q => ?_, fun v hv h49 => ?_⟩
  · by_cases he : j = i
    · subst he
      refine ⟨u, hu, hw, ?_⟩
      rw [tm_up_s, tm_up_s]
    · obtain ⟨v, a1, a2, a3⟩ := r1 j (by omega)
      refine ⟨v, a1, a2, ?_⟩
      have : 49 * p + v ≠ 49 * p + u := by
        intro q
        rw [q] at a3
        omega
      rw [tm_up_n this, tm_up_n (show 4 * p + j ≠ 4 * p + i by omega)]
      exact a3
  · by_cases he : v = u
    · subst he
      rw [tm_up_s] at q
      have : j = i := by omega
      subst this
      exact ⟨by omega, hw⟩
    · rw [tm_up_n (by omega)] at q
      obtain ⟨a1, a2⟩ := r2 v j hv q
      exact ⟨by omega, a2⟩
  · rw [tm_up_n (by omega)]
    exact r3 v hv h49
theorem tw_RI_lt {pt pw : Nat → Nat} {nc : Nat} {wd : Nat → List Nat} {re rn : Nat → Nat} {p n i : Nat} (R : tw_RI pt pw nc wd re rn p n) (hi : i < n) : rn (4 * p + i) < n := by
  obtain ⟨r1, r2, r3⟩ := R
  obtain ⟨u, a1, a2, a3⟩ := r1 i hi
  exact (r2 u _ a1 a3).1
theorem tw_RI_re {pt pw : Nat → Nat} {nc : Nat} {wd : Nat → List Nat} {re rn : Nat → Nat} {p n u : Nat} (R : tw_RI pt pw nc wd re rn p n) (hu : u < 49) : re (49 * p + u) ≤ n := by
  obtain ⟨r1, r2, r3⟩ := R
  rcases Nat.eq_zero_or_pos (re (49 * p + u)) with h | h
  · omega
  · by_cases hc : u < nc
    · have := (r2 u (re (49 * p + u) - 1) hc (by omega)).1
      omega
    · rw [r3 u (by omega) hu]
      omega
/-- equal numbers, equal rows -/
theorem tw_RI_eq {br : Nat → Nat} {pt pw : Nat → Nat} {nc : Nat} {wd : Nat → List Nat} {re rn : Nat → Nat} {p n i j : Nat} (T : tw_TI br nc wd) (R : tw_RI pt pw nc wd re rn p n) (hi : i < n) (hj : j < n) : rn (4 * p + i) = rn (4 * p + j) ↔ tw_row pt pw p i = tw_row pt pw p j := by
  obtain ⟨r1, r2, r3⟩ := R
  obtain ⟨u, a1, a2, a3⟩ := r1 i hi
  obtain ⟨v, b1, b2, b3⟩ := r1 j hj
  constructor
  · intro q
    have x1 := (r2 u _ a1 a3).2
    have x2 := (r2 v _ b1 b3).2
    rw [← a2, ← b2, x1, x2, q]
  · intro q
    have : u = v := T.2.2.2.2.2.1 u v a1 b1 (by rw [a2, b2, q])
    subst this
    omega
/-- c: the longest node word that w ends with -/
def tw_LS (nc : Nat) (wd : Nat → List Nat) (c : Nat) (w : List Nat) : Prop := c < nc ∧ wd c <:+ w ∧ ∀ v, v < nc → wd v <:+ w → (wd v).length ≤ (wd c).length
/-- s: the longest node word that u's ends with, but its own -/
def tw_LP (nc : Nat) (wd : Nat → List Nat) (s u : Nat) : Prop := s < nc ∧ wd s <:+ wd u ∧ (wd s).length < (wd u).length ∧ ∀ v, v < nc → wd v <:+ wd u → (wd v).length < (wd u).length → (wd v).length ≤ (wd s).length
/-- a node word that ends w ends the longest -/
theorem tw_LS_suf {nc : Nat} {wd : Nat → List Nat} {c v : Nat} {w : List Nat} (L : tw_LS nc wd c w) (hv : v < nc) (h : wd v <:+ w) : wd v <:+ wd c := List.suffix_of_suffix_length_le h L.2.1 (L.2.2 v hv h)
/-- one step of the automaton: the longest of w, then l -/
theorem tw_LS_step {br : Nat → Nat} {nc : Nat} {wd : Nat → List Nat} {c d l : Nat} {w : List Nat} (T : tw_TI br nc wd) (L : tw_LS nc wd c w) (L2 : tw_LS nc wd d (wd c ++ [l])) : tw_LS nc wd d (w ++ [l]) := by
  obtain ⟨d1, d2, d3⟩ := L2
  refine ⟨d1, ?_, fun v hv h => ?_⟩
  · obtain ⟨t, ht⟩ := L.2.1
    refine d2.trans ⟨t, ?_⟩
    rw [← List.append_assoc, ht]
  · rcases List.suffix_concat_iff.mp h with e | ⟨t, e, ht⟩
    · rw [e]
      simp
    · obtain ⟨u, u1, u2, -, -⟩ := tw_par T hv e
      have hs : wd u <:+ wd c := tw_LS_suf L u1 (by rw [u2]; exact ht)
      refine d3 v hv ?_
      rw [e, ← u2]
      exact List.suffix_concat_iff.mpr (Or.inr ⟨wd u, rfl, hs⟩)
/-- a missing branch -/
theorem tw_LS_miss {br : Nat → Nat} {nc : Nat} {wd : Nat → List Nat} {u s o l : Nat} (T : tw_TI br nc wd) (hu : u < nc) (P : tw_LP nc wd s u) (L : tw_LS nc wd o (wd s ++ [l])) (h0 : l < 3 → br (3 * u + l) = 0) : tw_LS nc wd o (wd u ++ [l]) := by
  obtain ⟨p1, p2, p3, p4⟩ := P
  obtain ⟨o1, o2, o3⟩ := L
  refine ⟨o1, ?_, fun v hv h => ?_⟩
  · obtain ⟨t, ht⟩ := p2
    refine o2.trans ⟨t, ?_⟩
    rw [← List.append_assoc, ht]
  · rcases List.suffix_concat_iff.mp h with e | ⟨t, e, ht⟩
    · rw [e]
      simp
    · obtain ⟨u', u1, u2, u3, u4⟩ := tw_par T hv e
      have hlt : (wd u').length < (wd u).length := by
        rcases Nat.lt_or_ge (wd u').length (wd u).length with q | q
        · exact q
        · have e1 : wd u' = wd u := (show wd u' <:+ wd u by rw [u2]; exact ht).eq_of_length_le q
          have e2 := T.2.2.2.2.2.1 u' u u1 hu e1
          subst e2
          have e3 := h0 u3
          rw [u4] at e3
          subst e3
          rw [T.2.2.1] at e
          simp at e
      have hs : wd u' <:+ wd s := List.suffix_of_suffix_length_le (show wd u' <:+ wd u by rw [u2]; exact ht) p2 (p4 u' u1 (by rw [u2]; exact ht) hlt)
      refine o3 v hv ?_
      rw [e, ← u2]
      exact List.suffix_concat_iff.mpr (Or.inr ⟨wd u', rfl, hs⟩)
/-- a branch that is there -/
theorem tw_LS_self {nc : Nat} {wd : Nat → List Nat} {c : Nat} {w : List Nat} (hc : c < nc) (h : wd c = w) : tw_LS nc wd c w := by
  refine ⟨hc, by rw [h]; exact List.suffix_refl _, fun v _ hv => ?_⟩
  rw [h]
  exact hv.length_le
/-- the child's fallback -/
theorem tw_LP_child {br : Nat → Nat} {nc : Nat} {wd : Nat → List Nat} {u s o l c : Nat} (T : tw_TI br nc wd) (hu : u < nc) (P : tw_LP nc wd s u) (L : tw_LS nc wd o (wd s ++ [l])) (hw : wd c = wd u ++ [l]) : tw_LP nc wd o c := by
  obtain ⟨p1, p2, p3, p4⟩ := P
  obtain ⟨o1, o2, o3⟩ := L
  refine ⟨o1, ?_, ?_, fun v hv h hlt => ?_⟩
  · rw [hw]
    obtain ⟨t, ht⟩ := p2
    refine o2.trans ⟨t, ?_⟩
    rw [← List.append_assoc, ht]
  · have := o2.length_le
    rw [hw]
    simp at this ⊢
    omega
  · rw [hw] at h hlt
    rcases List.suffix_concat_iff.mp h with e | ⟨t, e, ht⟩
    · rw [e]
      simp
    · obtain ⟨u', u1, u2, u3, u4⟩ := tw_par T hv e
      have hlt2 : (wd u').length < (wd u).length := by
        rw [e, ← u2] at hlt
        simp at hlt
        exact hlt
      have hs : wd u' <:+ wd s := List.suffix_of_suffix_length_le (show wd u' <:+ wd u by rw [u2]; exact ht) p2 (p4 u' u1 (by rw [u2]; exact ht) hlt2)
      refine o3 v hv ?_
      rw [e, ← u2]
      exact List.suffix_concat_iff.mpr (Or.inr ⟨wd u', rfl, hs⟩)
/-- the root's branches -/
theorem tw_LS_root {br : Nat → Nat} {nc : Nat} {wd : Nat → List Nat} {l : Nat} (T : tw_TI br nc wd) (h0 : l < 3 → br l = 0) : tw_LS nc wd 0 (wd 0 ++ [l]) := by
  refine ⟨T.1, List.suffix_concat_iff.mpr (Or.inl T.2.2.1), fun v hv h => ?_⟩
  rw [T.2.2.1] at h
  rcases List.suffix_concat_iff.mp h with e | ⟨t, e, ht⟩
  · rw [e]
    simp
  · obtain ⟨u', u1, u2, u3, u4⟩ := tw_par T hv e
    have e1 : wd u' = wd 0 := by
      rw [u2, T.2.2.1]
      exact List.suffix_nil.mp ht
    have e2 := T.2.2.2.2.2.1 u' 0 u1 T.1 e1
    subst e2
    have e3 := h0 u3
    rw [show 3 * 0 + l = l by omega, e3] at u4
    subst u4
    exact Nat.le_refl _
theorem tw_LP_root {br : Nat → Nat} {nc : Nat} {wd : Nat → List Nat} {l c : Nat} (T : tw_TI br nc wd) (hw : wd c = wd 0 ++ [l]) : tw_LP nc wd 0 c := by
  rw [T.2.2.1] at hw
  refine ⟨T.1, by rw [T.2.2.1]; exact List.nil_suffix, by rw [T.2.2.1, hw]; simp, fun v hv h hlt => ?_⟩
  rw [hw] at hlt
  simp at hlt
  rw [T.2.2.1, hlt]
  simp
end
section
/-! THE AUTOMATON: linking the nodes, from short words to long ones: pure -/
theorem tw_pig : ∀ (m n : Nat) (f : Nat → Nat), (∀ k, k < n → f k < m) → (∀ j k, j < n → k < n → f j = f k → j = k) → n ≤ m := by
  intro m
  induction m with
  | zero =>
    intro n f h1 h2
    rcases Nat.eq_zero_or_pos n with h | h
    · omega
    · exact absurd (h1 0 h) (by omega)
  | succ m ih =>
    intro n f h1 h2
    by_cases h : ∃ k, k < n ∧ f k = m
    · obtain ⟨k0, hk, hf⟩ := h
      have := ih (n - 1) (fun k => if k < k0 then f k else f (k + 1)) ?_ ?_
      · omega
      · intro k hk2
        by_cases hc : k < k0
        · simp only [hc, if_true]
          have a1 := h1 k (by omega)
          have a2 : f k ≠ m := fun q => by
            have := h2 k k0 (by omega) hk (by omega)
            omega
          omega
        · simp only [hc, if_false]
          have a1 := h1 (k + 1) (by omega)
          have a2 : f (k + 1) ≠ m := fun q => by
            have := h2 (k + 1) k0 (by omega) hk (by omega)
            omega
          omega
      · intro j k hj hk2 q
        by_cases cj : j < k0
        · by_cases ck : k < k0
          · simp only [cj, ck, if_true] at q
            exact h2 j k (by omega) (by omega) q
          · simp only [cj, ck, if_true, if_false] at q
            have := h2 j (k + 1) (by omega) (by omega) q
            omega
        · by_cases ck : k < k0
          · simp only [cj, ck, if_true, if_false] at q
            have := h2 (j + 1) k (by omega) (by omega) q
            omega
          · simp only [cj, ck, if_false] at q
            have := h2 (j + 1) (k + 1) (by omega) (by omega) q
            omega
    · have := ih n f (fun k hk => ?_) h2
      · omega
      · have a1 := h1 k hk
        have a2 : f k ≠ m := fun q => h ⟨k, hk, q⟩
        omega
/-- node u, letter l is done: u is in P, or it's at hand and l is behind -/
def tw_dn (P : Nat → Prop) (cur L u l : Nat) : Prop := P u ∨ (u = cur ∧ l < L)
def tw_LK (br0 : Nat → Nat) (nc : Nat) (wd : Nat → List Nat) (P : Nat → Prop) (cur L en : Nat) (br fb nq : Nat → Nat) : Prop :=
  (∀ k, k < en → nq k < nc ∧ nq k ≠ 0) ∧
  (∀ k k', k < en → k' < en → nq k = nq k' → k = k') ∧
  (∀ k k', k ≤ k' → k' < en → (wd (nq k)).length ≤ (wd (nq k')).length) ∧
  (∀ k, k < en → (wd (nq k)).length ≤ (wd cur).length + 1) ∧
  (∀ u l, u < nc → l < 3 → br0 (3 * u + l) ≠ 0 → (tw_dn P cur L u l ↔ ∃ k, k < en ∧ nq k = br0 (3 * u + l))) ∧
  (∀ u l, u < nc → l < 3 → (tw_dn P cur L u l → tw_LS nc wd (br (3 * u + l)) (wd u ++ [l])) ∧ (¬ tw_dn P cur L u l → br (3 * u + l) = br0 (3 * u + l))) ∧
  (∀ k, k < en → tw_LP nc wd (fb (nq k)) (nq k))
theorem tw_LK_en {br0 : Nat → Nat} {nc : Nat} {wd : Nat → List Nat} {P : Nat → Prop} {cur L en : Nat} {br fb nq : Nat → Nat} (T : tw_TI br0 nc wd) (K : tw_LK br0 nc wd P cur L en br fb nq) : en + 1 ≤ nc := by
  obtain ⟨k1, k2, -⟩ := K
  have h1 := T.1
  have := tw_pig (nc - 1) en (fun k => nq k - 1) (fun k hk => by have := k1 k hk; show nq k - 1 < nc - 1; omega) (fun j k hj hk q => by
    have a := k1 j hj
    have b := k1 k hk
    have q' : nq j - 1 = nq k - 1 := q
    exact k2 j k hj hk (by omega))
  omega
/-- the start: nothing is done, the root at hand -/
theorem tw_LK_0 {br0 : Nat → Nat} {nc : Nat} {wd : Nat → List Nat} {fb nq : Nat → Nat} : tw_LK br0 nc wd (fun _ => False) 0 0 0 br0 fb nq := by
  have hd : ∀ u l, ¬ tw_dn (fun _ => False) 0 0 u l := by
    intro u l h
    rcases h with h | h
    · exact h
    · omega
  refine ⟨fun k h => absurd h (by omega), fun k k' h => absurd h (by omega), fun k k' _ h => absurd h (by omega), fun k h => absurd h (by omega), ?_, ?_, fun k h => absurd h (by omega)⟩
  · intro u l _ _ _
    constructor
    · intro h
      exact absurd h (hd u l)
    · intro ⟨k, h, _⟩
      omega
  · intro u l _ _
    exact ⟨fun h => absurd h (hd u l), fun _ => rfl⟩
theorem tw_dn_s {P : Nat → Prop} {cur L u l : Nat} : tw_dn P cur (L + 1) u l ↔ tw_dn P cur L u l ∨ (u = cur ∧ l = L) := by
  unfold tw_dn
  constructor
  · rintro (h | ⟨h1, h2⟩)
    · exact Or.inl (Or.inl h)
    · by_cases e : l = L
      · exact Or.inr ⟨h1, e⟩
      · exact Or.inl (Or.inr ⟨h1, by omega⟩)
  · rintro ((h | ⟨h1, h2⟩) | ⟨h1, h2⟩)
    · exact Or.inl h
    · exact Or.inr ⟨h1, by omega⟩
    · exact Or.inr ⟨h1, by omega⟩
/-- a letter without child -/
theorem tw_LK_miss {br0 : Nat → Nat} {nc : Nat} {wd : Nat → List Nat} {P : Nat → Prop} {u l en o : Nat} {br br' fb nq : Nat → Nat} (K : tw_LK br0 nc wd P u l en br fb nq) (hl : l < 3) (h0 : br0 (3 * u + l) = 0) (hL : tw_LS nc wd o (wd u ++ [l])) (b1 : br' (3 * u + l) = o) (b2 : ∀ k, k ≠ 3 * u + l → br' k = br k) : tw_LK br0 nc wd P u (l + 1) en br' fb nq := by
  obtain ⟨k1, k2, k3, k4, k5, k6, k7⟩ := K
  refine ⟨k1, k2, k3, k4, ?_, ?_, k7⟩
  · intro v j hv hj hb
    rw [← k5 v j hv hj hb, tw_dn_s]
    constructor
    · rintro (h | ⟨h1, h2⟩)
      · exact h
      · subst h1 h2
        exact absurd h0 hb
    · exact Or.inl
  · intro v j hv hj
    by_cases he : v = u ∧ j = l
    · obtain ⟨e1, e2⟩ := he
      subst e1 e2
      refine ⟨fun _ => by rw [b1]; exact hL, fun h => absurd (tw_dn_s.mpr (Or.inr ⟨rfl, rfl⟩)) h⟩
    · rw [b2 _ (by omega)]
      obtain ⟨a1, a2⟩ := k6 v j hv hj
      refine ⟨fun h => a1 ?_, fun h => a2 (fun z => h (tw_dn_s.mpr (Or.inl z)))⟩
      rcases tw_dn_s.mp h with h | h
      · exact h
      · exact absurd h he
/-- a letter with a child: it comes to the queue's end -/
theorem tw_LK_child {br0 : Nat → Nat} {nc : Nat} {wd : Nat → List Nat} {P : Nat → Prop} {u l en o c : Nat} {br fb nq : Nat → Nat} (T : tw_TI br0 nc wd) (K : tw_LK br0 nc wd P u l en br fb nq) (hu : u < nc) (hP : ¬ P u) (hl : l < 3) (hc : br0 (3 * u + l) = c) (h0 : c ≠ 0) (hL : tw_LP nc wd o c) : tw_LK br0 nc wd P u (l + 1) (en + 1) br (tm_up fb c o) (tm_up nq en c) := by
  obtain ⟨k1, k2, k3, k4, k5, k6, k7⟩ := K
  have hnd : ¬ tw_dn P u l u l := by
    rintro (h | ⟨-, h⟩)
    · exact hP h
    · omega
  have t4 := T.2.2.2.1
  have hcn : c < nc := by rw [← hc]; exact (t4 u hu l hl).1
  have hwc : wd c = wd u ++ [l] := by
    have := (t4 u hu l hl).2 (by rw [hc]; exact h0)
    rw [hc] at this
    exact this
  have hnew : ∀ k, k < en → nq k ≠ c := by
    intro k hk q
    exact hnd ((k5 u l hu hl (by rw [hc]; exact h0)).mpr ⟨k, hk, by rw [hc]; exact q⟩)
  have hlen : (wd c).length = (wd u).length + 1 := by rw [hwc]; simp
  refine ⟨?_, ?_, ?_, ?_, ?_, ?_, ?_⟩
  · intro k hk
    by_cases e : k = en
    · subst e
      rw [tm_up_s]
      exact ⟨hcn, h0⟩
    · rw [tm_up_n e]
      exact k1 k (by omega)
  · intro k k' hk hk' q
    by_cases e : k = en
    · by_cases e' : k' = en
      · omega
      · rw [e, tm_up_s, tm_up_n e'] at q
        exact absurd q.symm (hnew k' (by omega))
    · by_cases e' : k' = en
      · rw [e', tm_up_s, tm_up_n e] at q
        exact absurd q (hnew k (by omega))
      · rw [tm_up_n e, tm_up_n e'] at q
        exact k2 k k' (by omega) (by omega) q
  · intro k k' hkk hk'
    by_cases e' : k' = en
    · rw [e', tm_up_s]
      by_cases e : k = en
      · rw [e, tm_up_s]
        exact Nat.le_refl _
      · rw [tm_up_n e]
        have := k4 k (by omega)
        omega
    · rw [tm_up_n (show k ≠ en by omega), tm_up_n e']
      exact k3 k k' hkk (by omega)
  · intro k hk
    by_cases e : k = en
    · rw [e, tm_up_s]
      omega
    · rw [tm_up_n e]
      exact k4 k (by omega)
  · intro v j hv hj hb
    rw [tw_dn_s, k5 v j hv hj hb]
    constructor
    · rintro (⟨k, a1, a2⟩ | ⟨e1, e2⟩)
      · exact ⟨k, by omega, by rw [tm_up_n (by omega)]; exact a2⟩
      · subst e1 e2
        exact ⟨en, by omega, by rw [tm_up_s]; exact hc.symm⟩
    · rintro ⟨k, a1, a2⟩
      by_cases e : k = en
      · rw [e, tm_up_s] at a2
        right
        have hw2 := (t4 v hv j hj).2 hb
        rw [← a2, hwc] at hw2
        obtain ⟨b1, b2⟩ := tw_snoc hw2
        exact ⟨(T.2.2.2.2.2.1 u v hu hv b1).symm, b2.symm⟩
      · rw [tm_up_n e] at a2
        exact Or.inl ⟨k, by omega, a2⟩
  · intro v j hv hj
    obtain ⟨a1, a2⟩ := k6 v j hv hj
    refine ⟨fun h => ?_, fun h => a2 (fun z => h (tw_dn_s.mpr (Or.inl z)))⟩
    rcases tw_dn_s.mp h with h | ⟨e1, e2⟩
    · exact a1 h
    · subst e1 e2
      rw [a2 hnd, hc]
      exact tw_LS_self hcn hwc
  · intro k hk
    by_cases e : k = en
    · rw [e, tm_up_s, tm_up_s]
      exact hL
    · rw [tm_up_n e, tm_up_n (hnew k (by omega))]
      exact k7 k (by omega)
/-- the node at hand is done; the next -/
theorem tw_LK_next {br0 : Nat → Nat} {nc : Nat} {wd : Nat → List Nat} {P P' : Nat → Prop} {u u' en : Nat} {br fb nq : Nat → Nat} (K : tw_LK br0 nc wd P u 3 en br fb nq) (hP : ∀ v, P' v ↔ P v ∨ v = u) (hlen : (wd u).length ≤ (wd u').length) : tw_LK br0 nc wd P' u' 0 en br fb nq := by
  obtain ⟨k1, k2, k3, k4, k5, k6, k7⟩ := K
  have hd : ∀ v l, l < 3 → (tw_dn P' u' 0 v l ↔ tw_dn P u 3 v l) := by
    intro v l hl
    unfold tw_dn
    rw [hP v]
    constructor
    · rintro ((h | h) | ⟨-, h⟩)
      · exact Or.inl h
      · exact Or.inr ⟨h, hl⟩
      · omega
    · rintro (h | ⟨h, -⟩)
      · exact Or.inl (Or.inl h)
      · exact Or.inl (Or.inr h)
  refine ⟨k1, k2, k3, fun k hk => by have := k4 k hk; omega, ?_, ?_, k7⟩
  · intro v l hv hl hb
    rw [hd v l hl]
    exact k5 v l hv hl hb
  · intro v l hv hl
    rw [hd v l hl]
    exact k6 v l hv hl
/-- another node to hand -/
theorem tw_LK_cur {br0 : Nat → Nat} {nc : Nat} {wd : Nat → List Nat} {P : Nat → Prop} {u u' en : Nat} {br fb nq : Nat → Nat} (K : tw_LK br0 nc wd P u 0 en br fb nq) (hlen : (wd u).length ≤ (wd u').length) : tw_LK br0 nc wd P u' 0 en br fb nq := by
  obtain ⟨k1, k2, k3, k4, k5, k6, k7⟩ := K
  have hd : ∀ v l, tw_dn P u' 0 v l ↔ tw_dn P u 0 v l := by
    intro v l
    unfold tw_dn
    simp
  refine ⟨k1, k2, k3, fun k hk => by have := k4 k hk; omega, ?_, ?_, k7⟩
  · intro v l hv hl hb
    rw [hd v l]
    exact k5 v l hv hl hb
  · intro v l hv hl
    rw [hd v l]
    exact k6 v l hv hl
/-- the nodes that are done: the root and the queue's first a -/
def tw_P (nq : Nat → Nat) (a : Nat) : Nat → Prop := fun v => v = 0 ∨ ∃ k, k < a ∧ nq k = v
theorem tw_P_s (nq : Nat → Nat) (a : Nat) : ∀ v, tw_P nq (a + 1) v ↔ tw_P nq a v ∨ v = nq a := by
  intro v
  unfold tw_P
  constructor
  · rintro (h | ⟨k, h1, h2⟩)
    · exact Or.inl (Or.inl h)
    · by_cases e : k = a
      · subst e
        exact Or.inr h2.symm
      · exact Or.inl (Or.inr ⟨k, by omega, h2⟩)
  · rintro ((h | ⟨k, h1, h2⟩) | h)
    · exact Or.inl h
    · exact Or.inr ⟨k, by omega, h2⟩
    · exact Or.inr ⟨a, by omega, h.symm⟩
theorem tw_P_up {nq : Nat → Nat} {a en c : Nat} (h : a ≤ en) : ∀ v, tw_P (tm_up nq en c) a v ↔ tw_P nq a v := by
  intro v
  unfold tw_P
  constructor
  · rintro (h1 | ⟨k, h1, h2⟩)
    · exact Or.inl h1
    · rw [tm_up_n (by omega)] at h2
      exact Or.inr ⟨k, h1, h2⟩
  · rintro (h1 | ⟨k, h1, h2⟩)
    · exact Or.inl h1
    · exact Or.inr ⟨k, h1, by rw [tm_up_n (by omega)]; exact h2⟩
/-- the same with an equal set -/
theorem tw_LK_P {br0 : Nat → Nat} {nc : Nat} {wd : Nat → List Nat} {P P' : Nat → Prop} {u L en : Nat} {br fb nq : Nat → Nat} (h : ∀ v, P' v ↔ P v) (K : tw_LK br0 nc wd P u L en br fb nq) : tw_LK br0 nc wd P' u L en br fb nq := by
  have : P' = P := funext fun v => propext (h v)
  rw [this]
  exact K
/-- nodes of shorter words than the first waiting one's are done -/
theorem tw_LK_short {br0 : Nat → Nat} {nc : Nat} {wd : Nat → List Nat} {cur en a : Nat} {br fb nq : Nat → Nat} (T : tw_TI br0 nc wd) (K : tw_LK br0 nc wd (tw_P nq a) cur 0 en br fb nq) (b : Nat) (hb : a < en → b ≤ (wd (nq a)).length) : ∀ n v, v < nc → (wd v).length ≤ n → (a < en → (wd v).length < b) → tw_P nq a v := by
  obtain ⟨k1, k2, k3, k4, k5, k6, k7⟩ := K
  intro n
  induction n with
  | zero =>
    intro v hv hn _
    left
    refine T.2.2.2.2.2.1 v 0 hv T.1 ?_
    rw [T.2.2.1]
    exact List.length_eq_zero_iff.mp (by omega)
  | succ n ih =>
    intro v hv hn hlt
    by_cases hv0 : v = 0
    · exact Or.inl hv0
    · obtain ⟨u, l, a1, a2, a3⟩ := T.2.2.2.2.1 v hv hv0
      have a4 := (T.2.2.2.1 u a1 l a2).2 (by rw [a3]; exact hv0)
      rw [a3] at a4
      have a5 : (wd v).length = (wd u).length + 1 := by rw [a4]; simp
      have hu := ih u a1 (by omega) (fun h => by have := hlt h; omega)
      obtain ⟨k, b1, b2⟩ := (k5 u l a1 a2 (by rw [a3]; exact hv0)).mp (Or.inl hu)
      rw [a3] at b2
      by_cases hk : k < a
      · exact Or.inr ⟨k, hk, b2⟩
      · have c1 := k3 a k (by omega) b1
        rw [b2] at c1
        have c2 := hb (by omega)
        have c3 := hlt (by omega)
        omega
/-- the finished automaton -/
def tw_AC (nc : Nat) (wd : Nat → List Nat) (br : Nat → Nat) : Prop := ∀ u l, u < nc → l < 3 → tw_LS nc wd (br (3 * u + l)) (wd u ++ [l])
theorem tw_LK_end {br0 : Nat → Nat} {nc : Nat} {wd : Nat → List Nat} {cur en a : Nat} {br fb nq : Nat → Nat} (T : tw_TI br0 nc wd) (h : en ≤ a) (K : tw_LK br0 nc wd (tw_P nq a) cur 0 en br fb nq) : (∀ v, v < nc → tw_P nq a v) ∧ tw_AC nc wd br := by
  have hall : ∀ v, v < nc → tw_P nq a v := fun v hv => tw_LK_short T K 0 (fun q => by omega) _ v hv (Nat.le_refl _) (fun q => by omega)
  exact ⟨hall, fun u l hu hl => (K.2.2.2.2.2.1 u l hu hl).1 (Or.inl (hall u hu))⟩
-- ===== rows at nodes =====
/-- node u tells which rows of pattern p its word ends with -/
def tw_RQ (pt pw ph : Nat → Nat) (wd : Nat → List Nat) (re rn : Nat → Nat) (p u : Nat) : Prop := ∀ i, i < ph p → (tw_row pt pw p i <:+ wd u ↔ re (49 * p + u) = rn (4 * p + i) + 1)
def tw_RE (pt pw ph : Nat → Nat) (nc : Nat) (wd : Nat → List Nat) (rn re0 : Nat → Nat) (G : Nat → Nat → Prop) (re : Nat → Nat) : Prop := ∀ p u, p < 3 → u < nc → (G p u → tw_RQ pt pw ph wd re rn p u) ∧ (¬ G p u → re (49 * p + u) = re0 (49 * p + u))
theorem tw_RE_0 {br0 : Nat → Nat} {pt pw ph : Nat → Nat} {nc : Nat} {wd : Nat → List Nat} {rn re0 : Nat → Nat} (T : tw_TI br0 nc wd) (hw : ∀ p, p < 3 → 1 ≤ pw p) (R : ∀ p, p < 3 → tw_RI pt pw nc wd re0 rn p (ph p)) : tw_RE pt pw ph nc wd rn re0 (fun _ v => v = 0) re0 := by
  intro p u hp hu
  refine ⟨fun e i hi => ?_, fun _ => rfl⟩
  subst e
  have h0 : re0 (49 * p + 0) = 0 := by
    rcases Nat.eq_zero_or_pos (re0 (49 * p + 0)) with h | h
    · exact h
    · have h2 := ((R p hp).2.1 0 (re0 (49 * p + 0) - 1) hu (by omega)).2
      have h3 := congrArg List.length h2
      rw [T.2.2.1, tw_row_len] at h3
      have := hw p hp
      simp at h3
      omega
  rw [T.2.2.1, h0]
  constructor
  · intro h
    have h3 := h.length_le
    rw [tw_row_len] at h3
    have := hw p hp
    simp at h3
    omega
  · intro h
    omega
/-- node u inherits -/
theorem tw_RE_step {br0 : Nat → Nat} {pt pw ph : Nat → Nat} {nc : Nat} {wd : Nat → List Nat} {rn re0 re re' : Nat → Nat} {G G' : Nat → Nat → Prop} {p u s : Nat} (T : tw_TI br0 nc wd) (R : tw_RI pt pw nc wd re0 rn p (ph p)) (E : tw_RE pt pw ph nc wd rn re0 G re) (hp : p < 3) (hu : u < nc) (P : tw_LP nc wd s u) (hGu : ¬ G p u) (hGs : G p s) (hG : ∀ q v, G' q v ↔ G q v ∨ (q = p ∧ v = u)) (r1 : re (49 * p + u) ≠ 0 → re' (49 * p + u) = re (49 * p + u)) (r2 : re (49 * p + u) = 0 → re' (49 * p + u) = re (49 * p + s)) (r3 : ∀ k, k ≠ 49 * p + u → re' k = re k) : tw_RE pt pw ph nc wd rn re0 G' re' := by
  have t2 := T.2.1
  intro q v hq hv
  by_cases he : q = p ∧ v = u
  · obtain ⟨e1, e2⟩ := he
    subst e1 e2
    refine ⟨fun _ i hi => ?_, fun h => absurd ((hG q v).mpr (Or.inr ⟨rfl, rfl⟩)) h⟩
    have hu0 := (E q v hp hu).2 hGu
    obtain ⟨w, w1, w2, w3⟩ := R.1 i hi
    by_cases h0 : re (49 * q + v) = 0
    · rw [r2 h0]
      have hs := (E q s hp P.1).1 hGs i hi
      rw [← hs]
      have hne : tw_row pt pw q i ≠ wd v := by
        intro z
        have : w = v := T.2.2.2.2.2.1 w v w1 hu (by rw [w2, z])
        subst this
        omega
      constructor
      · intro h
        have hlt : (tw_row pt pw q i).length < (wd v).length := by
          rcases Nat.lt_or_ge (tw_row pt pw q i).length (wd v).length with z | z
          · exact z
          · exact absurd (h.eq_of_length_le z) hne
        rw [← w2] at h hlt ⊢
        exact List.suffix_of_suffix_length_le h P.2.1 (P.2.2.2 w w1 h hlt)
      · intro h
        exact h.trans P.2.1
    · rw [r1 h0]
      have hr := (R.2.1 v (re (49 * q + v) - 1) hu (by rw [← hu0]; omega)).2
      constructor
      · intro h
        have e : tw_row pt pw q i = wd v := by
          refine h.eq_of_length ?_
          rw [hr, tw_row_len, tw_row_len]
        have : w = v := T.2.2.2.2.2.1 w v w1 hu (by rw [w2, e])
        subst this
        rw [hu0]
        exact w3
      · intro h
        have := (R.2.1 w (rn (4 * q + i)) w1 w3).2
        have e2 : re (49 * q + v) - 1 = rn (4 * q + i) := by omega
        rw [← w2, this, ← e2, ← hr]
        exact List.suffix_refl _
  · have hk : 49 * q + v ≠ 49 * p + u := by omega
    obtain ⟨a1, a2⟩ := E q v hq hv
    refine ⟨fun h => ?_, fun h => ?_⟩
    · rcases (hG q v).mp h with z | z
      · intro i hi
        rw [r3 _ hk]
        exact a1 z i hi
      · exact absurd z he
    · rw [r3 _ hk]
      exact a2 (fun z => h ((hG q v).mpr (Or.inl z)))
theorem tw_RE_G {pt pw ph : Nat → Nat} {nc : Nat} {wd : Nat → List Nat} {rn re0 re : Nat → Nat} {G G' : Nat → Nat → Prop} (h : ∀ q v, q < 3 → v < nc → (G' q v ↔ G q v)) (E : tw_RE pt pw ph nc wd rn re0 G re) : tw_RE pt pw ph nc wd rn re0 G' re := by
  intro q v hq hv
  rw [h q v hq hv]
  exact E q v hq hv
/-- what a text's place tells: the rows that end there -/
theorem tw_RQ_at {pt pw ph : Nat → Nat} {nc : Nat} {wd : Nat → List Nat} {re re0 rn : Nat → Nat} {p c : Nat} {w : List Nat} (R : tw_RI pt pw nc wd re0 rn p (ph p)) (Qr : tw_RQ pt pw ph wd re rn p c) (L : tw_LS nc wd c w) : ∀ i, i < ph p → (tw_row pt pw p i <:+ w ↔ re (49 * p + c) = rn (4 * p + i) + 1) := by
  intro i hi
  rw [← Qr i hi]
  obtain ⟨u, u1, u2, -⟩ := R.1 i hi
  constructor
  · intro h
    rw [← u2] at h ⊢
    exact tw_LS_suf L u1 h
  · intro h
    exact h.trans L.2.1
end
section
/-! MATCHING IN A COLUMN: pure -/
/-- the last m of y rows are the pattern's first m; E y i: what stands in row y is the pattern's row i -/
def tk_M (E : Nat → Nat → Prop) (h y m : Nat) : Prop := m ≤ h ∧ m ≤ y ∧ ∀ i, i < m → E (y - m + i) i
def tk_Bd (R : Nat → Nat) (m k : Nat) : Prop := ∀ i, i < m → R i = R (k - m + i)
/-- f: how far a match of k reaches back -/
def tk_F (R : Nat → Nat) (k f : Nat) : Prop := f < k ∧ tk_Bd R f k ∧ ∀ m, m < k → tk_Bd R m k → m ≤ f
/-- m rows match, no more -/
def tk_PG (E : Nat → Nat → Prop) (h y m : Nat) : Prop := tk_M E h y m ∧ ∀ m', tk_M E h y m' → m' ≤ m
def tk_I (E : Nat → Nat → Prop) (h y m : Nat) : Prop := m < h ∧ tk_M E h y m ∧ ∀ m', m' < h → tk_M E h y m' → E y m' → m' ≤ m
theorem tk_sub {E : Nat → Nat → Prop} {R : Nat → Nat} {h y m m' : Nat} (hE : ∀ y i j, i < h → j < h → E y j → (E y i ↔ R i = R j)) (M : tk_M E h y m) (hm : m' < m) : tk_M E h y m' ↔ tk_Bd R m' m := by
  obtain ⟨a1, a2, a3⟩ := M
  have key : ∀ i, i < m' → (E (y - m' + i) i ↔ R i = R (m - m' + i)) := by
    intro i hi
    have b := a3 (m - m' + i) (by omega)
    rw [show y - m + (m - m' + i) = y - m' + i by omega] at b
    exact hE _ i (m - m' + i) (by omega) (by omega) b
  constructor
  · intro ⟨b1, b2, b3⟩ i hi
    exact (key i hi).mp (b3 i hi)
  · intro B
    exact ⟨by omega, by omega, fun i hi => (key i hi).mpr (B i hi)⟩
theorem tk_next {E : Nat → Nat → Prop} {h y m : Nat} : tk_M E h (y + 1) (m + 1) ↔ m < h ∧ tk_M E h y m ∧ E y m := by
  constructor
  · intro ⟨a1, a2, a3⟩
    refine ⟨by omega, ⟨by omega, by omega, fun i hi => ?_⟩, ?_⟩
    · have := a3 i (by omega)
      rw [show y + 1 - (m + 1) + i = y - m + i by omega] at this
      exact this
    · have := a3 m (by omega)
      rw [show y + 1 - (m + 1) + m = y by omega] at this
      exact this
  · intro ⟨a1, ⟨b1, b2, b3⟩, c⟩
    refine ⟨by omega, by omega, fun i hi => ?_⟩
    rw [show y + 1 - (m + 1) + i = y - m + i by omega]
    by_cases e : i = m
    · subst e
      rw [show y - i + i = y by omega]
      exact c
    · exact b3 i (by omega)
theorem tk_PG_0 {E : Nat → Nat → Prop} {h : Nat} : tk_PG E h 0 0 := ⟨⟨by omega, by omega, fun i hi => absurd hi (by omega)⟩, fun m' ⟨_, b, _⟩ => b⟩
theorem tk_I_start {E : Nat → Nat → Prop} {h y m : Nat} (P : tk_PG E h y m) (hm : m < h) : tk_I E h y m := ⟨hm, P.1, fun m' _ b _ => P.2 m' b⟩
theorem tk_I_full {E : Nat → Nat → Prop} {R : Nat → Nat} {h y f : Nat} (hE : ∀ y i j, i < h → j < h → E y j → (E y i ↔ R i = R j)) (P : tk_PG E h y h) (F : tk_F R h f) : tk_I E h y f := by
  obtain ⟨f1, f2, f3⟩ := F
  refine ⟨f1, (tk_sub hE P.1 f1).mpr f2, fun m' a b _ => f3 m' a ((tk_sub hE P.1 a).mp b)⟩
theorem tk_I_fail {E : Nat → Nat → Prop} {R : Nat → Nat} {h y m f : Nat} (hE : ∀ y i j, i < h → j < h → E y j → (E y i ↔ R i = R j)) (I : tk_I E h y m) (hn : ¬ E y m) (F : tk_F R m f) : tk_I E h y f := by
  obtain ⟨i1, i2, i3⟩ := I
  obtain ⟨f1, f2, f3⟩ := F
  refine ⟨by omega, (tk_sub hE i2 f1).mpr f2, fun m' a b c => ?_⟩
  have d := i3 m' a b c
  have d2 : m' ≠ m := fun z => hn (z ▸ c)
  exact f3 m' (by omega) ((tk_sub hE i2 (by omega)).mp b)
theorem tk_I_hit {E : Nat → Nat → Prop} {h y m : Nat} (I : tk_I E h y m) (he : E y m) : tk_PG E h (y + 1) (m + 1) := by
  obtain ⟨i1, i2, i3⟩ := I
  refine ⟨tk_next.mpr ⟨i1, i2, he⟩, fun m' b => ?_⟩
  cases m' with
  | zero => omega
  | succ m' =>
    obtain ⟨c1, c2, c3⟩ := tk_next.mp b
    have := i3 m' c1 c2 c3
    omega
theorem tk_I_zero {E : Nat → Nat → Prop} {h y : Nat} (I : tk_I E h y 0) (hn : ¬ E y 0) : tk_PG E h (y + 1) 0 := by
  obtain ⟨i1, i2, i3⟩ := I
  refine ⟨⟨by omega, by omega, fun i hi => absurd hi (by omega)⟩, fun m' b => ?_⟩
  cases m' with
  | zero => omega
  | succ m' =>
    obtain ⟨c1, c2, c3⟩ := tk_next.mp b
    have := i3 m' c1 c2 c3
    have e : m' = 0 := by omega
    subst e
    exact absurd c3 hn
-- the failure function
def tk_J (R : Nat → Nat) (k m : Nat) : Prop := m < k ∧ tk_Bd R m k ∧ ∀ m', m' < k → tk_Bd R m' k → R m' = R k → m' ≤ m
theorem tk_F_1 {R : Nat → Nat} : tk_F R 1 0 := ⟨by omega, fun i hi => absurd hi (by omega), fun m hm _ => by omega⟩
theorem tk_J_start {R : Nat → Nat} {k m : Nat} (F : tk_F R k m) : tk_J R k m := ⟨F.1, F.2.1, fun m' a b _ => F.2.2 m' a b⟩
theorem tk_J_fail {R : Nat → Nat} {k m f : Nat} (J : tk_J R k m) (hn : R m ≠ R k) (F : tk_F R m f) : tk_J R k f := by
  obtain ⟨j1, j2, j3⟩ := J
  obtain ⟨f1, f2, f3⟩ := F
  refine ⟨by omega, fun i hi => ?_, fun m' a b c => ?_⟩
  · have x1 := f2 i hi
    have x2 := j2 (m - f + i) (by omega)
    rw [show k - m + (m - f + i) = k - f + i by omega] at x2
    rw [x1, x2]
  · have d := j3 m' a b c
    have d2 : m' ≠ m := fun z => hn (z ▸ c)
    refine f3 m' (by omega) (fun i hi => ?_)
    have x1 := b i hi
    have x2 := j2 (m - m' + i) (by omega)
    rw [show k - m + (m - m' + i) = k - m' + i by omega] at x2
    rw [x1, x2]
theorem tk_Bd_s {R : Nat → Nat} {k m : Nat} (hm : m ≤ k) : tk_Bd R (m + 1) (k + 1) ↔ tk_Bd R m k ∧ R m = R k := by
  constructor
  · intro B
    refine ⟨fun i hi => ?_, ?_⟩
    · have := B i (by omega)
      rw [show k + 1 - (m + 1) + i = k - m + i by omega] at this
      exact this
    · have := B m (by omega)
      rw [show k + 1 - (m + 1) + m = k by omega] at this
      exact this
  · intro ⟨B, e⟩ i hi
    rw [show k + 1 - (m + 1) + i = k - m + i by omega]
    by_cases z : i = m
    · subst z
      rw [show k - i + i = k by omega]
      exact e
    · exact B i (by omega)
theorem tk_J_hit {R : Nat → Nat} {k m : Nat} (J : tk_J R k m) (he : R m = R k) : tk_F R (k + 1) (m + 1) := by
  obtain ⟨j1, j2, j3⟩ := J
  refine ⟨by omega, (tk_Bd_s (by omega)).mpr ⟨j2, he⟩, fun m' a b => ?_⟩
  cases m' with
  | zero => omega
  | succ m' =>
    obtain ⟨c1, c2⟩ := (tk_Bd_s (by omega)).mp b
    have := j3 m' (by omega) c1 c2
    omega
theorem tk_J_zero {R : Nat → Nat} {k : Nat} (J : tk_J R k 0) (hn : R 0 ≠ R k) : tk_F R (k + 1) 0 := by
  obtain ⟨j1, j2, j3⟩ := J
  refine ⟨by omega, fun i hi => absurd hi (by omega), fun m' a b => ?_⟩
  cases m' with
  | zero => omega
  | succ m' =>
    obtain ⟨c1, c2⟩ := (tk_Bd_s (by omega)).mp b
    have := j3 m' (by omega) c1 c2
    have e : m' = 0 := by omega
    subst e
    exact absurd c2 hn
-- ===== what stands at a place =====
theorem tw_suf {tx pt pw : Nat → Nat} {p i y n : Nat} : tw_row pt pw p i <:+ tw_seg tx y n ↔ pw p ≤ n ∧ ∀ j, j < pw p → pt (16 * p + 4 * i + j) = tx (12 * y + (n - pw p + j)) := by
  have lr : (tw_row pt pw p i).length = pw p := tw_row_len _ _ _ _
  have ls : (tw_seg tx y n).length = n := by simp [tw_seg]
  constructor
  · intro h
    have hl := h.length_le
    rw [lr, ls] at hl
    refine ⟨hl, fun j hj => ?_⟩
    obtain ⟨t, ht⟩ := h
    have lt : t.length = n - pw p := by
      have := congrArg List.length ht
      rw [List.length_append, lr, ls] at this
      omega
    have g : (t ++ tw_row pt pw p i)[n - pw p + j]? = (tw_seg tx y n)[n - pw p + j]? := by rw [ht]
    rw [List.getElem?_append_right (by omega), lt, show n - pw p + j - (n - pw p) = j by omega] at g
    simp only [tw_row, tw_seg, List.getElem?_map, List.getElem?_range hj, List.getElem?_range (show n - pw p + j < n by omega), Option.map_some] at g
    exact Option.some.inj g
  · intro ⟨h1, h2⟩
    have e : tw_row pt pw p i = (tw_seg tx y n).drop (n - pw p) := by
      apply List.ext_getElem?
      intro k
      rw [List.getElem?_drop]
      by_cases hk : k < pw p
      · simp only [tw_row, tw_seg, List.getElem?_map, List.getElem?_range hk, List.getElem?_range (show n - pw p + k < n by omega), Option.map_some]
        rw [h2 k hk]
      · rw [List.getElem?_eq_none (by omega), List.getElem?_eq_none (by omega)]
    rw [e]
    exact List.drop_suffix _ _
/-- pattern p stands at (x, y); st: a text row's length in its array -/
def tk_occ (st w h : Nat) (tx pt pw ph : Nat → Nat) (p x y : Nat) : Prop := x + pw p ≤ w ∧ y + ph p ≤ h ∧ ∀ i, i < ph p → ∀ j, j < pw p → tx (st * (y + i) + x + j) = pt (16 * p + 4 * i + j)
/-- in row y the pattern's row i ends at column x -/
def tk_E (tx pt pw : Nat → Nat) (p x : Nat) : Nat → Nat → Prop := fun y i => tw_row pt pw p i <:+ tw_seg tx y (x + 1)
theorem tk_E_eq {br : Nat → Nat} {tx pt pw ph : Nat → Nat} {nc : Nat} {wd : Nat → List Nat} {re rn : Nat → Nat} {p x : Nat} (T : tw_TI br nc wd) (R : tw_RI pt pw nc wd re rn p (ph p)) : ∀ y i j, i < ph p → j < ph p → tk_E tx pt pw p x y j → (tk_E tx pt pw p x y i ↔ rn (4 * p + i) = rn (4 * p + j)) := by
  intro y i j hi hj hE
  rw [tw_RI_eq T R hi hj]
  constructor
  · intro h
    have h1 : tw_row pt pw p i <:+ tw_seg tx y (x + 1) := h
    have h2 : tw_row pt pw p j <:+ tw_seg tx y (x + 1) := hE
    exact (List.suffix_of_suffix_length_le h1 h2 (by rw [tw_row_len, tw_row_len]; exact Nat.le_refl _)).eq_of_length (by rw [tw_row_len, tw_row_len])
  · intro h
    show tw_row pt pw p i <:+ tw_seg tx y (x + 1)
    rw [h]
    exact hE
theorem tk_M_occ {tx pt pw ph : Nat → Nat} {w h p x y : Nat} (h1 : 1 ≤ ph p) (hx : x < w) (hy : y < h) : tk_M (tk_E tx pt pw p x) (ph p) (y + 1) (ph p) ↔ (pw p ≤ x + 1 ∧ ph p ≤ y + 1 ∧ tk_occ 12 w h tx pt pw ph p (x + 1 - pw p) (y + 1 - ph p)) := by
  constructor
  · intro ⟨_, a2, a3⟩
    have b : ∀ i, i < ph p → pw p ≤ x + 1 ∧ ∀ j, j < pw p → pt (16 * p + 4 * i + j) = tx (12 * (y + 1 - ph p + i) + (x + 1 - pw p + j)) := fun i hi => tw_suf.mp (a3 i hi)
    have b0 := (b 0 (by omega)).1
    refine ⟨b0, a2, by omega, by omega, fun i hi j hj => ?_⟩
    rw [(b i hi).2 j hj]
    congr 1
    omega
  · intro ⟨a1, a2, _, _, a3⟩
    refine ⟨Nat.le_refl _, a2, fun i hi => tw_suf.mpr ⟨a1, fun j hj => ?_⟩⟩
    rw [← a3 i hi j hj]
    congr 1
    omega
-- ===== the bits that are found =====
def tk_G (y x p : Nat) : Nat → Nat → Nat → Prop := fun q xe ye => ye < y ∨ (ye = y ∧ (xe < x ∨ (xe = x ∧ q < p)))
def tk_FO (w h : Nat) (tx pt pw ph : Nat → Nat) (G : Nat → Nat → Nat → Prop) (fo : Nat → Nat) : Prop := ∀ q y, q < 3 → y < 12 → fo (12 * q + y) < 4096 ∧ ∀ x, ((fo (12 * q + y)).testBit x = true ↔ (tk_occ 12 w h tx pt pw ph q x y ∧ G q (x + pw q - 1) (y + ph q - 1)))
theorem tk_FO_0 {w h : Nat} {tx pt pw ph fo : Nat → Nat} (h0 : ∀ k, k < 36 → fo k = 0) : tk_FO w h tx pt pw ph (tk_G 0 0 0) fo := by
  intro q y hq hy
  rw [h0 _ (by omega)]
  refine ⟨by omega, fun x => ?_⟩
  simp [tk_G]
theorem tk_FO_no {w h p x y : Nat} {tx pt pw ph fo : Nat → Nat} {G G' : Nat → Nat → Nat → Prop} (hw : ∀ q, q < 3 → 1 ≤ pw q ∧ 1 ≤ ph q) (F : tk_FO w h tx pt pw ph G fo) (hG : ∀ q xe ye, q < 3 → (G' q xe ye ↔ G q xe ye ∨ (q = p ∧ xe = x ∧ ye = y))) (hn : ¬ (pw p ≤ x + 1 ∧ ph p ≤ y + 1 ∧ tk_occ 12 w h tx pt pw ph p (x + 1 - pw p) (y + 1 - ph p))) : tk_FO w h tx pt pw ph G' fo := by
  intro q y' hq hy'
  obtain ⟨a1, a2⟩ := F q y' hq hy'
  refine ⟨a1, fun x' => ?_⟩
  rw [a2 x', hG _ _ _ hq]
  constructor
  · intro ⟨b1, b2⟩
    exact ⟨b1, Or.inl b2⟩
  · rintro ⟨b1, b2 | ⟨e1, e2, e3⟩⟩
    · exact ⟨b1, b2⟩
    · subst e1
      have := hw q hq
      exfalso
      apply hn
      refine ⟨by omega, by omega, ?_⟩
      rw [show x + 1 - pw q = x' by omega, show y + 1 - ph q = y' by omega]
      exact b1
theorem tk_FO_hit {w h p x y : Nat} {tx pt pw ph fo : Nat → Nat} {G G' : Nat → Nat → Nat → Prop} (hw : ∀ q, q < 3 → 1 ≤ pw q ∧ 1 ≤ ph q) (hp : p < 3) (hw12 : w ≤ 12) (hh12 : h ≤ 12) (F : tk_FO w h tx pt pw ph G fo) (hG : ∀ q xe ye, q < 3 → (G' q xe ye ↔ G q xe ye ∨ (q = p ∧ xe = x ∧ ye = y))) (o1 : pw p ≤ x + 1) (o2 : ph p ≤ y + 1) (o3 : tk_occ 12 w h tx pt pw ph p (x + 1 - pw p) (y + 1 - ph p)) : tk_FO w h tx pt pw ph G' (tm_up fo (12 * p + y + 1 - ph p) (fo (12 * p + y + 1 - ph p) ||| 1 <<< (x + 1 - pw p))) := by
  have hwp := hw p hp
  have hb1 := o3.1
  have hb2 := o3.2.1
  have ek : 12 * p + y + 1 - ph p = 12 * p + (y + 1 - ph p) := by omega
  intro q y' hq hy'
  obtain ⟨a1, a2⟩ := F q y' hq hy'
  by_cases he : q = p ∧ y' = y + 1 - ph p
  · obtain ⟨e1, e2⟩ := he
    subst e1 e2
    rw [ek, tm_up_s]
    refine ⟨Nat.or_lt_two_pow (n := 12) a1 ?_, fun x' => ?_⟩
    · rw [Nat.shiftLeft_eq, Nat.one_mul]
      exact Nat.pow_lt_pow_right (by omega) (by omega)
    · rw [Nat.testBit_or, Bool.or_eq_true, a2 x', hG _ _ _ hq, Nat.testBit_shiftLeft]
      constructor
      · rintro (⟨b1, b2⟩ | b)
        · exact ⟨b1, Or.inl b2⟩
        · simp only [Bool.and_eq_true, decide_eq_true_eq] at b
          have hx' : x' = x + 1 - pw q := by
            have b2 := b.2
            rcases Nat.eq_zero_or_pos (x' - (x + 1 - pw q)) with z | z
            · omega
            · rw [Nat.testBit_one_eq_true_iff_self_eq_zero] at b2
              omega
          subst hx'
          exact ⟨o3, Or.inr ⟨rfl, by omega, by omega⟩⟩
      · rintro ⟨b1, b2 | ⟨_, e2, e3⟩⟩
        · exact Or.inl ⟨b1, b2⟩
        · right
          have : x' = x + 1 - pw q := by omega
          subst this
          simp
  · have hk : 12 * q + y' ≠ 12 * p + y + 1 - ph p := by omega
    rw [tm_up_n hk]
    refine ⟨a1, fun x' => ?_⟩
    rw [a2 x', hG _ _ _ hq]
    constructor
    · intro ⟨b1, b2⟩
      exact ⟨b1, Or.inl b2⟩
    · rintro ⟨b1, b2 | ⟨e1, e2, e3⟩⟩
      · exact ⟨b1, b2⟩
      · subst e1
        have hwq := hw q hq
        exact absurd ⟨rfl, by omega⟩ he
theorem tk_G_p {y x p : Nat} : ∀ q xe ye, q < 3 → (tk_G y x (p + 1) q xe ye ↔ tk_G y x p q xe ye ∨ (q = p ∧ xe = x ∧ ye = y)) := by
  intro q xe ye _
  unfold tk_G
  omega
theorem tk_FO_G {w h : Nat} {tx pt pw ph fo : Nat → Nat} {G G' : Nat → Nat → Nat → Prop} (hG : ∀ q x y, q < 3 → tk_occ 12 w h tx pt pw ph q x y → (G' q (x + pw q - 1) (y + ph q - 1) ↔ G q (x + pw q - 1) (y + ph q - 1))) (F : tk_FO w h tx pt pw ph G fo) : tk_FO w h tx pt pw ph G' fo := by
  intro q y hq hy
  obtain ⟨a1, a2⟩ := F q y hq hy
  refine ⟨a1, fun x => ?_⟩
  rw [a2 x]
  constructor
  · intro ⟨b1, b2⟩
    exact ⟨b1, (hG q x y hq b1).mpr b2⟩
  · intro ⟨b1, b2⟩
    exact ⟨b1, (hG q x y hq b1).mp b2⟩
/-- what search leaves: a bit for each place where the pattern stands -/
def tk_FD (w h : Nat) (tx pt pw ph fo : Nat → Nat) : Prop := ∀ q y, q < 3 → y < 12 → fo (12 * q + y) < 4096 ∧ ∀ x, ((fo (12 * q + y)).testBit x = true ↔ tk_occ 12 w h tx pt pw ph q x y)
theorem tk_FO_end {w h : Nat} {tx pt pw ph fo : Nat → Nat} (hw : ∀ q, q < 3 → 1 ≤ pw q ∧ 1 ≤ ph q) (F : tk_FO w h tx pt pw ph (tk_G h 0 0) fo) : tk_FD w h tx pt pw ph fo := by
  intro q y hq hy
  obtain ⟨a1, a2⟩ := F q y hq hy
  refine ⟨a1, fun x => ?_⟩
  rw [a2 x]
  constructor
  · exact fun b => b.1
  · intro b
    refine ⟨b, Or.inl ?_⟩
    have h1 := b.2.1
    have h2 := hw q hq
    omega
end
section
/-! SUMS, COUNTS, WHAT THE ANSWERS ARE: pure -/
def tm_ok (wi hi : Nat) (tx pw ph pt : Nat → Nat) : Prop := (4 ≤ wi ∧ wi ≤ 12) ∧ (4 ≤ hi ∧ hi ≤ 12) ∧ (∀ k, k < 144 → tx k ≤ 2) ∧ (∀ q, q < 3 → 1 ≤ pw q ∧ pw q ≤ 4 ∧ 1 ≤ ph q ∧ ph q ≤ 4) ∧ (∀ k, k < 48 → pt k ≤ 2)
def tm_sm : Nat → (Nat → Nat) → Nat
  | 0, _ => 0
  | n + 1, f => tm_sm n f + f n
def tm_bor : Nat → (Nat → Nat) → Nat
  | 0, _ => 0
  | n + 1, f => tm_bor n f ||| f n
def tm_pop (b : Nat) : Nat := tm_sm 12 (fun k => b >>> k &&& 1)
end
section
/-! STEPS OF THE BUILDING METHODS: pure -/
theorem tw_add_of {pt pw : Nat → Nat} {nc : Nat} {wd : Nat → List Nat} {re rn re' rn' : Nat → Nat} {nr : Nat → Nat} {pp ii : Nat} (hc : nc ≤ 49) (hp : pp < 3) (hi : ii < 4) (hn : ∀ q, q < 3 → nr q ≤ 4) (he : ∀ q u, q ≠ pp → u < 49 → re' (49 * q + u) = re (49 * q + u)) (hr : ∀ k, k ≠ 4 * pp + ii → rn' k = rn k) (R : ∀ q, q < 3 → tw_RI pt pw nc wd re rn q (nr q)) (Rp : tw_RI pt pw nc wd re' rn' pp (ii + 1)) : ∀ q, q < 3 → tw_RI pt pw nc wd re' rn' q (if q = pp then ii + 1 else nr q) := by
  intro q hq
  by_cases e : q = pp
  · subst e
    simp only [if_true]
    exact Rp
  · simp only [e, if_false]
    refine tw_RI_of hc (fun u hu => he q u e hu) (fun j hj => hr _ ?_) (R q hq)
    have := hn q hq
    omega
theorem tw_add_old {pt pw : Nat → Nat} {nc : Nat} {wd : Nat → List Nat} {re rn : Nat → Nat} {nr : Nat → Nat} {pp ii u : Nat} (hc : nc ≤ 49) (hp : pp < 3) (hi : ii < 4) (hn : ∀ q, q < 3 → nr q ≤ 4) (hnr : nr pp = ii) (hu : u < nc) (hw : wd u = tw_row pt pw pp ii) (h0 : 0 < re (49 * pp + u)) (R : ∀ q, q < 3 → tw_RI pt pw nc wd re rn q (nr q)) : ∀ q, q < 3 → tw_RI pt pw nc wd re (tm_up rn (4 * pp + ii) (re (49 * pp + u) - 1)) q (if q = pp then ii + 1 else nr q) := by
  have Rp := R pp hp
  rw [hnr] at Rp
  exact tw_add_of hc hp hi hn (fun q u' _ _ => rfl) (fun k hk => tm_up_n hk) R (tw_RI_old hc hu hw h0 Rp)
theorem tw_add_new {pt pw : Nat → Nat} {nc : Nat} {wd : Nat → List Nat} {re rn : Nat → Nat} {nr : Nat → Nat} {pp ii u : Nat} (hc : nc ≤ 49) (hp : pp < 3) (hi : ii < 4) (hn : ∀ q, q < 3 → nr q ≤ 4) (hnr : nr pp = ii) (hu : u < nc) (hw : wd u = tw_row pt pw pp ii) (h0 : re (49 * pp + u) = 0) (R : ∀ q, q < 3 → tw_RI pt pw nc wd re rn q (nr q)) : ∀ q, q < 3 → tw_RI pt pw nc wd (tm_up re (49 * pp + u) (ii + 1)) (tm_up rn (4 * pp + ii) ii) q (if q = pp then ii + 1 else nr q) := by
  have Rp := R pp hp
  rw [hnr] at Rp
  exact tw_add_of hc hp hi hn (fun q u' hq hu' => tm_up_n (by omega)) (fun k hk => tm_up_n hk) R (tw_RI_new hc hu hw h0 Rp)
theorem tm_up_le {f : Nat → Nat} {k x b N : Nat} (hx : x ≤ b) (h : ∀ j, j < N → f j ≤ b) : ∀ j, j < N → tm_up f k x j ≤ b := by
  intro j hj
  by_cases e : j = k
  · rw [e, tm_up_s]
    exact hx
  · rw [tm_up_n e]
    exact h j hj
theorem tw_row_eq {pt pw : Nat → Nat} {pp ii j : Nat} (h : j = pw pp) : (List.range j).map (fun t => pt (16 * pp + 4 * ii + t)) = tw_row pt pw pp ii := by
  subst h
  rfl
theorem tw_row_s {pt : Nat → Nat} {pp ii j : Nat} : (List.range (j + 1)).map (fun t => pt (16 * pp + 4 * ii + t)) = (List.range j).map (fun t => pt (16 * pp + 4 * ii + t)) ++ [pt (16 * pp + 4 * ii + j)] := by
  simp [List.range_succ]
theorem tw_P_cg {nq nq' : Nat → Nat} {a : Nat} (h : ∀ j, j < a → nq' j = nq j) : ∀ v, tw_P nq' a v ↔ tw_P nq a v := by
  intro v
  unfold tw_P
  constructor
  · rintro (h1 | ⟨k, h1, h2⟩)
    · exact Or.inl h1
    · exact Or.inr ⟨k, h1, by rw [← h k h1]; exact h2⟩
  · rintro (h1 | ⟨k, h1, h2⟩)
    · exact Or.inl h1
    · exact Or.inr ⟨k, h1, by rw [h k h1]; exact h2⟩
theorem tw_P_0 (nq : Nat → Nat) : ∀ v, tw_P nq 0 v ↔ v = 0 := by
  intro v
  unfold tw_P
  constructor
  · rintro (h | ⟨k, h, _⟩)
    · exact h
    · omega
  · exact Or.inl
theorem tw_P_n {nq nq' : Nat → Nat} {a u en : Nat} (ha : a < en) (hu : u = nq a) (h : ∀ j, j < en → nq' j = nq j) : ∀ v, tw_P nq' (a + 1) v ↔ tw_P nq a v ∨ v = u := by
  intro v
  rw [tw_P_s, tw_P_cg (fun j hj => h j (by omega)) v, h a ha, hu]
theorem tw_link_in {br : Nat → Nat} {nc : Nat} {wd : Nat → List Nat} {en : Nat} {fb nq : Nat → Nat} (T : tw_TI br nc wd) (K : tw_LK br nc wd (fun _ => False) 0 3 en br fb nq) : tw_LK br nc wd (tw_P nq 0) 0 0 en br fb nq ∧ ∀ k, 0 ≤ k → k < en → (wd 0).length ≤ (wd (nq k)).length := by
  refine ⟨tw_LK_next K (fun v => ?_) (Nat.le_refl _), fun k _ _ => by rw [T.2.2.1]; exact Nat.zero_le _⟩
  rw [tw_P_0]
  simp
theorem tw_link_out {br : Nat → Nat} {nc : Nat} {wd : Nat → List Nat} {q u en en2 : Nat} {nq1 br2 fb2 nq2 : Nat → Nat} (hq : q < en) (he : en ≤ en2) (hu : u = nq1 q) (hn : ∀ j, j < en → nq2 j = nq1 j) (K : tw_LK br nc wd (tw_P nq1 q) u 3 en2 br2 fb2 nq2) : tw_LK br nc wd (tw_P nq2 (q + 1)) u 0 en2 br2 fb2 nq2 ∧ ∀ k, q + 1 ≤ k → k < en2 → (wd u).length ≤ (wd (nq2 k)).length := by
  refine ⟨tw_LK_next K (tw_P_n hq hu hn) (Nat.le_refl _), fun k hk1 hk2 => ?_⟩
  have := K.2.2.1 q k (by omega) hk2
  rw [hn q hq, ← hu] at this
  exact this
theorem tw_RE_in {br0 : Nat → Nat} {pt pw ph : Nat → Nat} {nc : Nat} {wd : Nat → List Nat} {rn re0 nq : Nat → Nat} (T : tw_TI br0 nc wd) (hw : ∀ p, p < 3 → 1 ≤ pw p) (R : ∀ p, p < 3 → tw_RI pt pw nc wd re0 rn p (ph p)) : tw_RE pt pw ph nc wd rn re0 (fun _ v => tw_P nq 0 v) re0 := tw_RE_G (fun q v _ _ => tw_P_0 nq v) (tw_RE_0 T hw R)
theorem tw_RE_mid {pt pw ph : Nat → Nat} {nc : Nat} {wd : Nat → List Nat} {rn re0 re1 nq1 : Nat → Nat} {q u : Nat} (E : tw_RE pt pw ph nc wd rn re0 (fun _ v => tw_P nq1 q v) re1) : tw_RE pt pw ph nc wd rn re0 (fun z v => tw_P nq1 q v ∨ (v = u ∧ z < 0)) re1 := tw_RE_G (fun z v _ _ => by simp) E
theorem tw_RE_out {pt pw ph : Nat → Nat} {nc : Nat} {wd : Nat → List Nat} {rn re0 re2 nq1 nq2 : Nat → Nat} {q u en : Nat} (hq : q < en) (hu : u = nq1 q) (hn : ∀ j, j < en → nq2 j = nq1 j) (E : tw_RE pt pw ph nc wd rn re0 (fun z v => tw_P nq1 q v ∨ (v = u ∧ z < 3)) re2) : tw_RE pt pw ph nc wd rn re0 (fun _ v => tw_P nq2 (q + 1) v) re2 := by
  refine tw_RE_G (fun z v hz _ => ?_) E
  rw [tw_P_n hq hu hn v]
  constructor
  · rintro (h | h)
    · exact Or.inl h
    · exact Or.inr ⟨h, hz⟩
  · rintro (h | h)
    · exact Or.inl h
    · exact Or.inr h.1
/-- inheriting, by what the method does -/
theorem tw_RE_inh {br0 : Nat → Nat} {pt pw ph : Nat → Nat} {nc : Nat} {wd : Nat → List Nat} {rn re0 re re' nq1 : Nat → Nat} {g u sh q : Nat} (T : tw_TI br0 nc wd) (R : tw_RI pt pw nc wd re0 rn g (ph g)) (E : tw_RE pt pw ph nc wd rn re0 (fun z v => tw_P nq1 q v ∨ (v = u ∧ z < g)) re) (hg : g < 3) (hu : u < nc) (P : tw_LP nc wd sh u) (hPu : ¬ tw_P nq1 q u) (hPs : tw_P nq1 q sh) (h : (re (49 * g + u) ≠ 0 ∧ re' = re) ∨ (re (49 * g + u) = 0 ∧ re' = tm_up re (49 * g + u) (re (49 * g + sh)))) : tw_RE pt pw ph nc wd rn re0 (fun z v => tw_P nq1 q v ∨ (v = u ∧ z < g + 1)) re' := by
  refine tw_RE_step (p := g) (u := u) (s := sh) T R E hg hu P ?_ (Or.inl hPs) ?_ ?_ ?_ ?_
  · rintro (z | z)
    · exact hPu z
    · omega
  · intro z v
    constructor
    · rintro (z1 | ⟨z1, z2⟩)
      · exact Or.inl (Or.inl z1)
      · by_cases e : z = g
        · exact Or.inr ⟨e, z1⟩
        · exact Or.inl (Or.inr ⟨z1, by omega⟩)
    · rintro ((z1 | ⟨z1, z2⟩) | ⟨z1, z2⟩)
      · exact Or.inl z1
      · exact Or.inr ⟨z1, by omega⟩
      · exact Or.inr ⟨z2, by omega⟩
  · intro z
    rcases h with ⟨-, h⟩ | ⟨h1, -⟩
    · rw [h]
    · exact absurd h1 z
  · intro z
    rcases h with ⟨h1, -⟩ | ⟨-, h⟩
    · exact absurd z h1
    · rw [h, tm_up_s]
  · intro k hk
    rcases h with ⟨-, h⟩ | ⟨-, h⟩
    · rw [h]
    · rw [h, tm_up_n hk]
/-- what the automaton's builder leaves -/
def tw_OK (pt pw ph : Nat → Nat) (nc : Nat) (br re rn : Nat → Nat) : Prop := ∃ (wd : Nat → List Nat) (br0 re0 : Nat → Nat), tw_TI br0 nc wd ∧ (∀ q, q < 3 → tw_RI pt pw nc wd re0 rn q (ph q)) ∧ tw_AC nc wd br ∧ (∀ q u, q < 3 → u < nc → tw_RQ pt pw ph wd re rn q u) ∧ ∀ k, k < 147 → re k ≤ 4
/-- rectangles: cells d i j get v i j, row by row; i rows and j more are done -/
def tm_rc (d v : Nat → Nat → Nat) (w i j : Nat) (f f' : Nat → Nat) : Prop := (∀ i' j', j' < w → (i' < i ∨ (i' = i ∧ j' < j)) → f' (d i' j') = v i' j') ∧ ∀ k, (∀ i' j', j' < w → (i' < i ∨ (i' = i ∧ j' < j)) → k ≠ d i' j') → f' k = f k
theorem tm_rc_0 {d v : Nat → Nat → Nat} {w : Nat} {f : Nat → Nat} : tm_rc d v w 0 0 f f := ⟨fun i' j' _ h => absurd h (by omega), fun _ _ => rfl⟩
theorem tm_rc_j {d v : Nat → Nat → Nat} {w i j : Nat} {f f' : Nat → Nat} (hj : j < w) (hd : ∀ i' j', j' < w → (i' < i ∨ (i' = i ∧ j' < j)) → d i' j' ≠ d i j) (R : tm_rc d v w i j f f') : tm_rc d v w i (j + 1) f (tm_up f' (d i j) (v i j)) := by
  obtain ⟨r1, r2⟩ := R
  refine ⟨fun i' j' hj' h => ?_, fun k hk => ?_⟩
  · by_cases e : i' = i ∧ j' = j
    · rw [e.1, e.2, tm_up_s]
    · have h2 : i' < i ∨ (i' = i ∧ j' < j) := by omega
      rw [tm_up_n (hd i' j' hj' h2)]
      exact r1 i' j' hj' h2
  · rw [tm_up_n (hk i j hj (by omega))]
    exact r2 k (fun i' j' a b => hk i' j' a (by omega))
theorem tm_rc_i {d v : Nat → Nat → Nat} {w i : Nat} {f f' : Nat → Nat} (R : tm_rc d v w i w f f') : tm_rc d v w (i + 1) 0 f f' := by
  obtain ⟨r1, r2⟩ := R
  exact ⟨fun i' j' hj' h => r1 i' j' hj' (by omega), fun k hk => r2 k (fun i' j' a b => hk i' j' a (by omega))⟩
def tm_clr (f : Nat → Nat) (b n : Nat) : Nat → Nat := fun k => if b ≤ k ∧ k < b + n then 0 else f k
theorem tm_clr_0 (f : Nat → Nat) (b : Nat) : f = tm_clr f b 0 := by
  funext k
  unfold tm_clr
  rw [if_neg (by omega)]
theorem tm_clr_s (f : Nat → Nat) (b n : Nat) : tm_up (tm_clr f b n) (b + n) 0 = tm_clr f b (n + 1) := by
  funext k
  unfold tm_up tm_clr
  by_cases h : k = b + n
  · rw [if_pos h, if_pos (by omega)]
  · rw [if_neg h]
    by_cases h2 : b ≤ k ∧ k < b + n
    · rw [if_pos h2, if_pos (by omega)]
    · rw [if_neg h2, if_neg (by omega)]
end
section
/-! ONE PLACE OF THE TEXT, ONE PATTERN: what advance does to the found bits and the progress: pure -/
theorem tk_step_fo {wi hi g x y mm : Nat} {tx pt pw ph fo fo' : Nat → Nat} (hw : ∀ q, q < 3 → 1 ≤ pw q ∧ 1 ≤ ph q) (hg : g < 3) (h12 : wi ≤ 12) (h12' : hi ≤ 12) (hx : x < wi) (hy : y < hi) (F : tk_FO wi hi tx pt pw ph (tk_G y x g) fo) (P : tk_PG (tk_E tx pt pw g x) (ph g) (y + 1) mm) (h : (mm = ph g ∧ fo' = tm_up fo (12 * g + y + 1 - ph g) (fo (12 * g + y + 1 - ph g) ||| 1 <<< (x + 1 - pw g))) ∨ (mm ≠ ph g ∧ fo' = fo)) : tk_FO wi hi tx pt pw ph (tk_G y x (g + 1)) fo' := by
  have hwg := hw g hg
  rcases h with ⟨e, h⟩ | ⟨e, h⟩
  · rw [h]
    have hM := P.1
    rw [e] at hM
    obtain ⟨o1, o2, o3⟩ := (tk_M_occ (w := wi) (h := hi) hwg.2 hx hy).mp hM
    exact tk_FO_hit hw hg h12 h12' F tk_G_p o1 o2 o3
  · rw [h]
    refine tk_FO_no hw F tk_G_p (fun z => e ?_)
    exact Nat.le_antisymm P.1.1 (P.2 _ ((tk_M_occ (w := wi) (h := hi) hwg.2 hx hy).mpr z))
theorem tk_step_pr {wi g x y mm : Nat} {tx pt pw ph pr pr' : Nat → Nat} (h12 : wi ≤ 12) (hx : x < wi) (P : ∀ q x', q < 3 → x' < wi → tk_PG (tk_E tx pt pw q x') (ph q) (if x' < x ∨ (x' = x ∧ q < g) then y + 1 else y) (pr (12 * q + x'))) (h : pr' = tm_up pr (12 * g + x) mm) (hm : tk_PG (tk_E tx pt pw g x) (ph g) (y + 1) mm) : ∀ q x', q < 3 → x' < wi → tk_PG (tk_E tx pt pw q x') (ph q) (if x' < x ∨ (x' = x ∧ q < g + 1) then y + 1 else y) (pr' (12 * q + x')) := by
  intro q x' hq hx'
  rw [h]
  by_cases e : q = g ∧ x' = x
  · obtain ⟨e1, e2⟩ := e
    subst e1 e2
    rw [tm_up_s, if_pos (by omega)]
    exact hm
  · rw [tm_up_n (by omega)]
    have z := P q x' hq hx'
    by_cases c : x' < x ∨ (x' = x ∧ q < g)
    · rw [if_pos c] at z
      rw [if_pos (by omega)]
      exact z
    · rw [if_neg c] at z
      rw [if_neg (by omega)]
      exact z
theorem tk_pr_in {wi x y : Nat} {tx pt pw ph pr : Nat → Nat} (P : ∀ q x', q < 3 → x' < wi → tk_PG (tk_E tx pt pw q x') (ph q) (if x' < x then y + 1 else y) (pr (12 * q + x'))) : ∀ q x', q < 3 → x' < wi → tk_PG (tk_E tx pt pw q x') (ph q) (if x' < x ∨ (x' = x ∧ q < 0) then y + 1 else y) (pr (12 * q + x')) := by
  intro q x' hq hx'
  have z := P q x' hq hx'
  by_cases c : x' < x
  · rw [if_pos c] at z
    rw [if_pos (by omega)]
    exact z
  · rw [if_neg c] at z
    rw [if_neg (by omega)]
    exact z
theorem tk_pr_out {wi x y : Nat} {tx pt pw ph pr : Nat → Nat} (P : ∀ q x', q < 3 → x' < wi → tk_PG (tk_E tx pt pw q x') (ph q) (if x' < x ∨ (x' = x ∧ q < 3) then y + 1 else y) (pr (12 * q + x'))) : ∀ q x', q < 3 → x' < wi → tk_PG (tk_E tx pt pw q x') (ph q) (if x' < x + 1 then y + 1 else y) (pr (12 * q + x')) := by
  intro q x' hq hx'
  have z := P q x' hq hx'
  by_cases c : x' < x ∨ (x' = x ∧ q < 3)
  · rw [if_pos c] at z
    rw [if_pos (by omega)]
    exact z
  · rw [if_neg c] at z
    rw [if_neg (by omega)]
    exact z
theorem tk_fo_out {wi hi x y : Nat} {tx pt pw ph fo : Nat → Nat} (F : tk_FO wi hi tx pt pw ph (tk_G y x 3) fo) : tk_FO wi hi tx pt pw ph (tk_G y (x + 1) 0) fo := tk_FO_G (fun q x' y' hq _ => by unfold tk_G; omega) F
theorem tk_fo_row {wi hi y : Nat} {tx pt pw ph fo : Nat → Nat} (hw : ∀ q, q < 3 → 1 ≤ pw q ∧ 1 ≤ ph q) (F : tk_FO wi hi tx pt pw ph (tk_G y wi 0) fo) : tk_FO wi hi tx pt pw ph (tk_G (y + 1) 0 0) fo := tk_FO_G (fun q x' y' hq ho => by have h1 := ho.1; have h2 := hw q hq; unfold tk_G; omega) F
end
section
/-! COUNTS: sums over places, the answers as numbers: pure -/
theorem tm_sm_cg {n : Nat} {f g : Nat → Nat} (h : ∀ k, k < n → f k = g k) : tm_sm n f = tm_sm n g := by
  induction n with
  | zero => rfl
  | succ n ih =>
    show tm_sm n f + f n = tm_sm n g + g n
    rw [ih (fun k hk => h k (by omega)), h n (by omega)]
theorem tm_sm_z {n : Nat} {f : Nat → Nat} (h : ∀ k, k < n → f k = 0) : tm_sm n f = 0 := by
  induction n with
  | zero => rfl
  | succ n ih =>
    show tm_sm n f + f n = 0
    rw [ih (fun k hk => h k (by omega)), h n (by omega)]
theorem tm_sm_plus (n : Nat) (f g : Nat → Nat) : tm_sm n (fun k => f k + g k) = tm_sm n f + tm_sm n g := by
  induction n with
  | zero => rfl
  | succ n ih =>
    show tm_sm n (fun k => f k + g k) + (f n + g n) = (tm_sm n f + f n) + (tm_sm n g + g n)
    rw [ih]
    omega
theorem tm_sm_app (a b : Nat) (f : Nat → Nat) : tm_sm (a + b) f = tm_sm a f + tm_sm b (fun k => f (a + k)) := by
  induction b with
  | zero => rfl
  | succ b ih =>
    show tm_sm (a + b) f + f (a + b) = tm_sm a f + (tm_sm b (fun k => f (a + k)) + f (a + b))
    rw [ih]
    omega
theorem tm_sm_cut {m n : Nat} {f : Nat → Nat} (h : m ≤ n) (h0 : ∀ k, m ≤ k → k < n → f k = 0) : tm_sm n f = tm_sm m f := by
  obtain ⟨d, rfl⟩ : ∃ d, n = m + d := ⟨n - m, by omega⟩
  rw [tm_sm_app, tm_sm_z (n := d) (fun k hk => h0 (m + k) (by omega) (by omega)), Nat.add_zero]
theorem tm_sm_swap (n m : Nat) (f : Nat → Nat → Nat) : tm_sm n (fun x => tm_sm m (fun y => f x y)) = tm_sm m (fun y => tm_sm n (fun x => f x y)) := by
  induction n with
  | zero =>
    exact (tm_sm_z (fun k _ => rfl)).symm
  | succ n ih =>
    show tm_sm n (fun x => tm_sm m (fun y => f x y)) + tm_sm m (fun y => f n y) = tm_sm m (fun y => tm_sm n (fun x => f x y) + f n y)
    rw [tm_sm_plus, ih]
theorem tm_sm_rows (n : Nat) (f : Nat → Nat) : tm_sm (16 * n) f = tm_sm n (fun y => tm_sm 16 (fun x => f (16 * y + x))) := by
  induction n with
  | zero => rfl
  | succ n ih =>
    rw [show 16 * (n + 1) = 16 * n + 16 by omega, tm_sm_app, ih]
    rfl
theorem tm_sm_pt (n a : Nat) (h : Nat → Nat) : tm_sm n (fun k => if k = a then h k else 0) = if a < n then h a else 0 := by
  induction n with
  | zero => rfl
  | succ n ih =>
    show tm_sm n (fun k => if k = a then h k else 0) + (if n = a then h n else 0) = _
    rw [ih]
    by_cases e : n = a
    · subst e
      rw [if_neg (by omega), if_pos rfl, if_pos (by omega), Nat.zero_add]
    · rw [if_neg e, Nat.add_zero]
      by_cases e2 : a < n
      · rw [if_pos e2, if_pos (by omega)]
      · rw [if_neg e2, if_neg (by omega)]
/-- a window of a sum -/
theorem tm_sm_win {n a : Nat} {h : Nat → Nat} (h0 : ∀ k, n ≤ k → h k = 0) (w : Nat) : tm_sm n (fun k => if a ≤ k ∧ k < a + w then h k else 0) = tm_sm w (fun c => h (a + c)) := by
  induction w with
  | zero =>
    exact tm_sm_z (fun k _ => by rw [if_neg (by omega)])
  | succ w ih =>
    have e : tm_sm n (fun k => if a ≤ k ∧ k < a + (w + 1) then h k else 0) = tm_sm n (fun k => (if a ≤ k ∧ k < a + w then h k else 0) + (if k = a + w then h k else 0)) := by
      refine tm_sm_cg (fun k _ => ?_)
      split <;> split <;> split <;> omega
    rw [e, tm_sm_plus, ih, tm_sm_pt]
    show _ = tm_sm w (fun c => h (a + c)) + h (a + w)
    by_cases c : a + w < n
    · rw [if_pos c]
    · rw [if_neg c, h0 (a + w) (by omega)]
-- ===== truth as a number =====
noncomputable def tc_b (P : Prop) : Nat := @ite Nat P (Classical.propDecidable P) 1 0
theorem tc_b1 {P : Prop} (h : P) : tc_b P = 1 := by unfold tc_b; exact if_pos h
theorem tc_b0 {P : Prop} (h : ¬ P) : tc_b P = 0 := by unfold tc_b; exact if_neg h
theorem tc_cg {P Q : Prop} (h : P ↔ Q) : tc_b P = tc_b Q := by rw [propext h]
theorem tc_and (P Q : Prop) : tc_b (P ∧ Q) = tc_b P * tc_b Q := by
  by_cases h : P
  · by_cases h2 : Q
    · rw [tc_b1 h, tc_b1 h2, tc_b1 ⟨h, h2⟩]
    · rw [tc_b0 h2, tc_b0 (fun z => h2 z.2), Nat.mul_zero]
  · rw [tc_b0 h, tc_b0 (fun z => h z.1), Nat.zero_mul]
theorem tc_bit (b k : Nat) : b >>> k &&& 1 = tc_b (b.testBit k = true) := by
  rw [Nat.and_one_is_mod, Nat.shiftRight_eq_div_pow]
  by_cases h : b.testBit k = true
  · rw [tc_b1 h]
    rw [Nat.testBit_eq_decide_div_mod_eq, decide_eq_true_eq] at h
    exact h
  · rw [tc_b0 h]
    rw [Nat.testBit_eq_decide_div_mod_eq, decide_eq_true_eq] at h
    have := Nat.mod_lt (b / 2 ^ k) (show 0 < 2 by omega)
    omega
theorem tc_bit0 {b k : Nat} (h : b >>> k &&& 1 = 0) : ¬ b.testBit k = true := by
  intro z
  rw [tc_bit, tc_b1 z] at h
  omega
theorem tc_bit1 {b k : Nat} (h : 0 < b >>> k &&& 1) : b.testBit k = true := by
  rw [tc_bit] at h
  by_cases z : b.testBit k = true
  · exact z
  · rw [tc_b0 z] at h
    omega
theorem tc_pop (b : Nat) : tm_pop b = tm_sm 12 (fun k => tc_b (b.testBit k = true)) := tm_sm_cg (fun k _ => tc_bit b k)
theorem tm_bor_bit (n : Nat) (f : Nat → Nat) (k : Nat) : (tm_bor n f).testBit k = true ↔ ∃ i, i < n ∧ (f i).testBit k = true := by
  induction n with
  | zero =>
    show (0 : Nat).testBit k = true ↔ _
    rw [Nat.zero_testBit]
    constructor
    · intro h
      exact absurd h (by decide)
    · rintro ⟨i, h, _⟩
      omega
  | succ n ih =>
    show (tm_bor n f ||| f n).testBit k = true ↔ _
    rw [Nat.testBit_or, Bool.or_eq_true, ih]
    constructor
    · rintro (⟨i, h1, h2⟩ | h)
      · exact ⟨i, by omega, h2⟩
      · exact ⟨n, by omega, h⟩
    · rintro ⟨i, h1, h2⟩
      by_cases e : i = n
      · subst e
        exact Or.inr h2
      · exact Or.inl ⟨i, by omega, h2⟩
theorem tm_bor_lt (n : Nat) (f : Nat → Nat) (b : Nat) (h : ∀ i, i < n → f i < 2 ^ b) : tm_bor n f < 2 ^ b := by
  induction n with
  | zero => exact Nat.two_pow_pos b
  | succ n ih => exact Nat.or_lt_two_pow (ih (fun i hi => h i (by omega))) (h n (by omega))
-- ===== the answers =====
noncomputable def tn_occ (O : Nat → Nat → Prop) : Nat := tm_sm 192 (fun k => tc_b (O (k % 16) (k / 16)))
def tn_nx (O : Nat → Nat → Prop) (fr : Int) (r : Int32) : Prop := (∃ k : Nat, k < 192 ∧ fr ≤ (k : Int) ∧ O (k % 16) (k / 16) ∧ (∀ j : Nat, j < k → fr ≤ (j : Int) → ¬ O (j % 16) (j / 16)) ∧ r = nI k) ∨ ((∀ j : Nat, j < 192 → fr ≤ (j : Int) → ¬ O (j % 16) (j / 16)) ∧ r = -2)
theorem tn_nx_eq {O : Nat → Nat → Prop} {fr : Int} {r r' : Int32} (h : tn_nx O fr r) (h' : tn_nx O fr r') : r = r' := by
  rcases h with ⟨k, k1, k2, k3, k4, k5⟩ | ⟨k1, k2⟩
  · rcases h' with ⟨j, j1, j2, j3, j4, j5⟩ | ⟨j1, j2⟩
    · have : k = j := by
        rcases Nat.lt_trichotomy k j with z | z | z
        · exact absurd k3 (j4 k z k2)
        · exact z
        · exact absurd j3 (k4 j z j2)
      rw [k5, j5, this]
    · exact absurd k3 (j1 k k1 k2)
  · rcases h' with ⟨j, j1, j2, j3, j4, j5⟩ | ⟨j1, j2⟩
    · exact absurd j3 (k1 j j1 j2)
    · rw [k2, j2]
/-- (x, y) is covered by pattern q -/
def tn_cb (pw ph : Nat → Nat) (O : Nat → Nat → Nat → Prop) (q x y : Nat) : Prop := ∃ i j, i < ph q ∧ j < pw q ∧ i ≤ y ∧ j ≤ x ∧ O q (x - j) (y - i)
noncomputable def tn_cov (wi hi : Nat) (pw ph : Nat → Nat) (O : Nat → Nat → Nat → Prop) : Nat := tm_sm 192 (fun k => tc_b ((k % 16 < wi ∧ k / 16 < hi) ∧ ∃ q, q < 3 ∧ tn_cb pw ph O q (k % 16) (k / 16)))
def tn_near (w h k j : Nat) : Prop := j % 16 < k % 16 + w ∧ k % 16 < j % 16 + w ∧ j / 16 < k / 16 + h
noncomputable def tn_ov (w h : Nat) (O : Nat → Nat → Prop) : Nat := tm_sm 192 (fun k => tm_sm 192 (fun j => tc_b (k < j ∧ tn_near w h k j ∧ O (k % 16) (k / 16) ∧ O (j % 16) (j / 16))))
/-- what meetings adds up -/
def tn_mt (b t dn : Nat) : Nat → Nat := fun ac => if dn = 0 ∧ ac = 0 then 0 else tm_pop (b &&& t >>> ac) + (if 0 < dn ∧ 0 < ac then tm_pop (b >>> ac &&& t) else 0)
-- ===== the matcher's sums are these =====
theorem tn_grid (f : Nat → Nat → Nat) : tm_sm 192 (fun k => f (k % 16) (k / 16)) = tm_sm 12 (fun y => tm_sm 16 (fun x => f x y)) := by
  rw [show (192 : Nat) = 16 * 12 from rfl, tm_sm_rows]
  refine tm_sm_cg (fun y _ => tm_sm_cg (fun x hx => ?_))
  rw [show (16 * y + x) % 16 = x by omega, show (16 * y + x) / 16 = y by omega]
theorem tn_X_occ {wi hi q : Nat} {tx pt pw ph fo : Nat → Nat} (hok : tm_ok wi hi tx pw ph pt) (hF : tk_FD wi hi tx pt pw ph fo) (hq : q < 3) : tm_sm hi (fun y => tm_pop (fo (12 * q + y))) = tn_occ (tk_occ 12 wi hi tx pt pw ph q) := by
  obtain ⟨⟨ok1, ok2⟩, ⟨ok3, ok4⟩, ok5, ok6, ok7⟩ := hok
  have okq := ok6 q hq
  unfold tn_occ
  rw [tn_grid (fun x y => tc_b (tk_occ 12 wi hi tx pt pw ph q x y)), tm_sm_cut (m := hi) ok4 (fun y h1 h2 => tm_sm_z (fun x _ => tc_b0 (fun z => by have := z.2.1; omega)))]
  refine tm_sm_cg (fun y hy => ?_)
  rw [tm_sm_cut (m := 12) (by omega) (fun x h1 h2 => tc_b0 (fun z => by have := z.1; omega)), tc_pop]
  exact tm_sm_cg (fun x _ => tc_cg ((hF q y hq (by omega)).2 x))
/-- what coveredInRow answers -/
def tn_cr (pw ph fo : Nat → Nat) (q y : Nat) : Nat := tm_bor (pw q) (fun j => tm_bor (min (ph q) (y + 1)) (fun u => fo (12 * q + y - u)) <<< j)
theorem tn_cr_bit {wi hi q y : Nat} {tx pt pw ph fo : Nat → Nat} (hF : tk_FD wi hi tx pt pw ph fo) (hq : q < 3) (hy : y < 12) (x : Nat) : (tn_cr pw ph fo q y).testBit x = true ↔ tn_cb pw ph (fun q => tk_occ 12 wi hi tx pt pw ph q) q x y := by
  unfold tn_cr
  rw [tm_bor_bit]
  constructor
  · rintro ⟨j, j1, j2⟩
    rw [Nat.testBit_shiftLeft, Bool.and_eq_true, decide_eq_true_eq, tm_bor_bit] at j2
    obtain ⟨j3, u, u1, u2⟩ := j2
    rw [show 12 * q + y - u = 12 * q + (y - u) by omega] at u2
    exact ⟨u, j, by omega, j1, by omega, j3, ((hF q (y - u) hq (by omega)).2 _).mp u2⟩
  · rintro ⟨i, j, h1, h2, h3, h4, h5⟩
    refine ⟨j, h2, ?_⟩
    rw [Nat.testBit_shiftLeft, Bool.and_eq_true, decide_eq_true_eq, tm_bor_bit]
    refine ⟨h4, i, by omega, ?_⟩
    rw [show 12 * q + y - i = 12 * q + (y - i) by omega]
    exact ((hF q (y - i) hq (by omega)).2 _).mpr h5
theorem tn_X_cov {wi hi : Nat} {tx pt pw ph fo : Nat → Nat} (hok : tm_ok wi hi tx pw ph pt) (hF : tk_FD wi hi tx pt pw ph fo) : tm_sm hi (fun y => tm_pop (tm_bor 3 (fun q => tn_cr pw ph fo q y))) = tn_cov wi hi pw ph (fun q => tk_occ 12 wi hi tx pt pw ph q) := by
  obtain ⟨⟨ok1, ok2⟩, ⟨ok3, ok4⟩, ok5, ok6, ok7⟩ := hok
  unfold tn_cov
  rw [tn_grid (fun x y => tc_b ((x < wi ∧ y < hi) ∧ ∃ q, q < 3 ∧ tn_cb pw ph (fun q => tk_occ 12 wi hi tx pt pw ph q) q x y)), tm_sm_cut (m := hi) ok4 (fun y h1 h2 => tm_sm_z (fun x _ => tc_b0 (fun z => by have := z.1.2; omega)))]
  refine tm_sm_cg (fun y hy => ?_)
  rw [tm_sm_cut (m := 12) (by omega) (fun x h1 h2 => tc_b0 (fun z => by have := z.1.1; omega)), tc_pop]
  refine tm_sm_cg (fun x hx => tc_cg ?_)
  rw [tm_bor_bit]
  constructor
  · rintro ⟨q, q1, q2⟩
    have h := (tn_cr_bit hF q1 (by omega) x).mp q2
    refine ⟨⟨?_, hy⟩, q, q1, h⟩
    obtain ⟨i, j, h1, h2, h3, h4, h5⟩ := h
    have := h5.1
    omega
  · rintro ⟨-, q, q1, q2⟩
    exact ⟨q, q1, (tn_cr_bit hF q1 (by omega) x).mpr q2⟩
/-- two rows of places, ac apart -/
theorem tn_pair {b t : Nat} {f g : Nat → Nat} (hb : ∀ x, tc_b (b.testBit x = true) = f x) (ht : ∀ x, tc_b (t.testBit x = true) = g x) (ac : Nat) : tm_pop (b &&& t >>> ac) = tm_sm 12 (fun x => f x * g (x + ac)) ∧ tm_pop (b >>> ac &&& t) = tm_sm 12 (fun x => f (x + ac) * g x) := by
  constructor
  · rw [tc_pop]
    refine tm_sm_cg (fun x _ => ?_)
    rw [Nat.testBit_and, Nat.testBit_shiftRight, Bool.and_eq_true, tc_and, hb, ht, Nat.add_comm ac x]
  · rw [tc_pop]
    refine tm_sm_cg (fun x _ => ?_)
    rw [Nat.testBit_and, Nat.testBit_shiftRight, Bool.and_eq_true, tc_and, hb, ht, Nat.add_comm ac x]
theorem tn_meet {b t dn w : Nat} {f g : Nat → Nat} (hb : ∀ x, tc_b (b.testBit x = true) = f x) (ht : ∀ x, tc_b (t.testBit x = true) = g x) (hf : ∀ x, 12 ≤ x → f x = 0) (hg : ∀ x, 12 ≤ x → g x = 0) : tm_sm w (tn_mt b t dn) = tm_sm 12 (fun x => tm_sm 12 (fun x' => tc_b ((0 < dn ∨ x < x') ∧ x' < x + w ∧ x < x' + w) * (f x * g x'))) := by
  have e1 : tm_sm w (tn_mt b t dn) = tm_sm w (fun ac => tm_sm 12 (fun x => tc_b (0 < dn ∨ 0 < ac) * (f x * g (x + ac)))) + tm_sm w (fun ac => tm_sm 12 (fun x => tc_b (0 < dn ∧ 0 < ac) * (f (x + ac) * g x))) := by
    rw [← tm_sm_plus]
    refine tm_sm_cg (fun ac _ => ?_)
    obtain ⟨p1, p2⟩ := tn_pair hb ht ac
    unfold tn_mt
    by_cases c1 : dn = 0 ∧ ac = 0
    · rw [if_pos c1, tm_sm_z (fun x _ => by rw [tc_b0 (by omega), Nat.zero_mul]), tm_sm_z (fun x _ => by rw [tc_b0 (by omega), Nat.zero_mul])]
    · rw [if_neg c1, p1]
      congr 1
      · exact tm_sm_cg (fun x _ => by rw [tc_b1 (by omega), Nat.one_mul])
      · by_cases c2 : 0 < dn ∧ 0 < ac
        · rw [if_pos c2, p2]
          exact tm_sm_cg (fun x _ => by rw [tc_b1 c2, Nat.one_mul])
        · rw [if_neg c2]
          exact (tm_sm_z (fun x _ => by rw [tc_b0 c2, Nat.zero_mul])).symm
  have e2 : tm_sm 12 (fun x => tm_sm 12 (fun x' => tc_b ((0 < dn ∨ x < x') ∧ x' < x + w ∧ x < x' + w) * (f x * g x'))) = tm_sm 12 (fun x => tm_sm 12 (fun x' => if x ≤ x' ∧ x' < x + w then tc_b (0 < dn ∨ 0 < x' - x) * (f x * g x') else 0)) + tm_sm 12 (fun x' => tm_sm 12 (fun x => if x' ≤ x ∧ x < x' + w then tc_b (0 < dn ∧ 0 < x - x') * (f x * g x') else 0)) := by
    rw [tm_sm_swap 12 12 (fun x' x => if x' ≤ x ∧ x < x' + w then tc_b (0 < dn ∧ 0 < x - x') * (f x * g x') else 0), ← tm_sm_plus]
    refine tm_sm_cg (fun x _ => ?_)
    rw [← tm_sm_plus]
    refine tm_sm_cg (fun x' _ => ?_)
    by_cases c1 : x < x'
    · by_cases c2 : x' < x + w
      · rw [if_pos (by omega), if_neg (by omega), tc_b1 (by omega), tc_b1 (by omega), Nat.add_zero]
      · rw [if_neg (by omega), if_neg (by omega), tc_b0 (by omega), Nat.zero_mul]
    · by_cases c3 : x = x'
      · subst c3
        by_cases c2 : 0 < w
        · rw [if_pos (by omega), if_pos (by omega), tc_b0 (P := 0 < dn ∧ 0 < x - x) (by omega), Nat.zero_mul, Nat.add_zero]
          congr 1
          exact tc_cg (by omega)
        · rw [if_neg (by omega), if_neg (by omega), tc_b0 (by omega), Nat.zero_mul]
      · by_cases c2 : x < x' + w
        · rw [if_neg (by omega), if_pos (by omega), Nat.zero_add]
          congr 1
          exact tc_cg (by omega)
        · rw [if_neg (by omega), if_neg (by omega), tc_b0 (by omega), Nat.zero_mul]
  rw [e1, e2]
  congr 1
  · rw [tm_sm_swap]
    refine tm_sm_cg (fun x _ => ?_)
    rw [tm_sm_win (n := 12) (a := x) (h := fun x' => tc_b (0 < dn ∨ 0 < x' - x) * (f x * g x')) (fun k hk => by show tc_b _ * (f x * g k) = 0; rw [hg k hk, Nat.mul_zero, Nat.mul_zero]) w]
    refine tm_sm_cg (fun ac _ => ?_)
    show _ = tc_b (0 < dn ∨ 0 < x + ac - x) * (f x * g (x + ac))
    rw [show x + ac - x = ac by omega]
  · rw [tm_sm_swap]
    refine tm_sm_cg (fun x' _ => ?_)
    rw [tm_sm_win (n := 12) (a := x') (h := fun x => tc_b (0 < dn ∧ 0 < x - x') * (f x * g x')) (fun k hk => by show tc_b _ * (f k * g x') = 0; rw [hf k hk, Nat.zero_mul, Nat.mul_zero]) w]
    refine tm_sm_cg (fun ac _ => ?_)
    show _ = tc_b (0 < dn ∧ 0 < x' + ac - x') * (f (x' + ac) * g x')
    rw [show x' + ac - x' = ac by omega]
end
section
/-! COUPLES THAT MEET: the matcher's sum is the count of couples: pure -/
theorem tn_X_ov {wi hi q : Nat} {tx pt pw ph fo : Nat → Nat} (hok : tm_ok wi hi tx pw ph pt) (hF : tk_FD wi hi tx pt pw ph fo) (hq : q < 3) : tm_sm hi (fun y => tm_sm (min (ph q) (hi - y)) (fun dn => tm_sm (pw q) (tn_mt (fo (12 * q + y)) (fo (12 * q + y + dn)) dn))) = tn_ov (pw q) (ph q) (tk_occ 12 wi hi tx pt pw ph q) := by
  obtain ⟨⟨ok1, ok2⟩, ⟨ok3, ok4⟩, ok5, ok6, ok7⟩ := hok
  have okq := ok6 q hq
  have hO : ∀ x y, tk_occ 12 wi hi tx pt pw ph q x y → x < 12 ∧ y < hi := fun x y z => by
    have h1 := z.1
    have h2 := z.2.1
    omega
  have hB : ∀ y, y < 12 → ∀ x, tc_b ((fo (12 * q + y)).testBit x = true) = tc_b (tk_occ 12 wi hi tx pt pw ph q x y) := fun y hy x => tc_cg ((hF q y hq hy).2 x)
  generalize tk_occ 12 wi hi tx pt pw ph q = O at hO hB ⊢
  unfold tn_ov
  have e1 : ∀ k, k < 192 → tm_sm 192 (fun j => tc_b (k < j ∧ tn_near (pw q) (ph q) k j ∧ O (k % 16) (k / 16) ∧ O (j % 16) (j / 16))) = tm_sm 12 (fun y' => tm_sm 16 (fun x' => tc_b ((k / 16 < y' ∨ (k / 16 = y' ∧ k % 16 < x')) ∧ (x' < k % 16 + pw q ∧ k % 16 < x' + pw q ∧ y' < k / 16 + ph q) ∧ O (k % 16) (k / 16) ∧ O x' y'))) := by
    intro k hk
    rw [← tn_grid (fun x' y' => tc_b ((k / 16 < y' ∨ (k / 16 = y' ∧ k % 16 < x')) ∧ (x' < k % 16 + pw q ∧ k % 16 < x' + pw q ∧ y' < k / 16 + ph q) ∧ O (k % 16) (k / 16) ∧ O x' y'))]
    refine tm_sm_cg (fun j _ => tc_cg ?_)
    have hlt : k < j ↔ (k / 16 < j / 16 ∨ (k / 16 = j / 16 ∧ k % 16 < j % 16)) := by omega
    rw [hlt]
    rfl
  rw [tm_sm_cg e1]
  rw [tn_grid (fun x y => tm_sm 12 (fun y' => tm_sm 16 (fun x' => tc_b ((y < y' ∨ (y = y' ∧ x < x')) ∧ (x' < x + pw q ∧ x < x' + pw q ∧ y' < y + ph q) ∧ O x y ∧ O x' y')))), tm_sm_cut (m := hi) ok4 (fun y h1 h2 => tm_sm_z (fun x _ => tm_sm_z (fun y' _ => tm_sm_z (fun x' _ => tc_b0 (fun z => by have := hO _ _ z.2.2.1; omega)))))]
  refine tm_sm_cg (fun y hy => ?_)
  rw [tm_sm_swap 16 12 (fun x y' => tm_sm 16 (fun x' => tc_b ((y < y' ∨ (y = y' ∧ x < x')) ∧ (x' < x + pw q ∧ x < x' + pw q ∧ y' < y + ph q) ∧ O x y ∧ O x' y')))]
  have e2 : tm_sm 12 (fun y' => tm_sm 16 (fun x => tm_sm 16 (fun x' => tc_b ((y < y' ∨ (y = y' ∧ x < x')) ∧ (x' < x + pw q ∧ x < x' + pw q ∧ y' < y + ph q) ∧ O x y ∧ O x' y')))) = tm_sm (y + (12 - y)) (fun y' => tm_sm 16 (fun x => tm_sm 16 (fun x' => tc_b ((y < y' ∨ (y = y' ∧ x < x')) ∧ (x' < x + pw q ∧ x < x' + pw q ∧ y' < y + ph q) ∧ O x y ∧ O x' y')))) := by
    rw [show y + (12 - y) = 12 by omega]
  rw [e2, tm_sm_app, tm_sm_z (n := y) (fun y' h1 => tm_sm_z (fun x _ => tm_sm_z (fun x' _ => tc_b0 (fun z => by have := z.1; omega)))), Nat.zero_add]
  rw [tm_sm_cut (m := min (ph q) (hi - y)) (by omega) (fun d h1 h2 => tm_sm_z (fun x _ => tm_sm_z (fun x' _ => tc_b0 (fun z => by have a1 := z.2.1.2.2; have a2 := hO _ _ z.2.2.2; omega))))]
  refine tm_sm_cg (fun dn hd => ?_)
  rw [tn_meet (f := fun x => tc_b (O x y)) (g := fun x => tc_b (O x (y + dn))) (hB y (by omega)) (fun x => by rw [Nat.add_assoc]; exact hB (y + dn) (by omega) x) (fun x hx => tc_b0 (fun z => by have := hO _ _ z; omega)) (fun x hx => tc_b0 (fun z => by have := hO _ _ z; omega))]
  rw [tm_sm_cut (m := 12) (n := 16) (by omega) (fun x h1 h2 => tm_sm_z (fun x' _ => tc_b0 (fun z => by have := hO _ _ z.2.2.1; omega)))]
  refine tm_sm_cg (fun x _ => ?_)
  rw [tm_sm_cut (m := 12) (n := 16) (by omega) (fun x' h1 h2 => tc_b0 (fun z => by have := hO _ _ z.2.2.2; omega))]
  refine tm_sm_cg (fun x' _ => ?_)
  rw [← tc_and, ← tc_and]
  refine tc_cg ?_
  constructor
  · rintro ⟨⟨h1, h2, h3⟩, h4, h5⟩
    exact ⟨by omega, ⟨h2, h3, by omega⟩, h4, h5⟩
  · rintro ⟨h1, ⟨h2, h3, h4⟩, h5, h6⟩
    exact ⟨⟨by omega, h2, h3⟩, h5, h6⟩
end
section
/-! small pure rows for the answers -/
theorem tn_cr_lt {wi hi q y : Nat} {tx pw ph pt fo : Nat → Nat} (hok : tm_ok wi hi tx pw ph pt) (hfo : ∀ k, k < 36 → fo k < 4096) (hq : q < 3) (hy : y < 12) : tn_cr pw ph fo q y < 2 ^ 16 := by
  have okq := hok.2.2.2.1 q hq
  unfold tn_cr
  refine tm_bor_lt _ _ _ (fun j hj => ?_)
  have hb : tm_bor (min (ph q) (y + 1)) (fun u => fo (12 * q + y - u)) < 2 ^ 12 := tm_bor_lt _ _ _ (fun u hu => hfo _ (by omega))
  rw [Nat.shiftLeft_eq]
  exact Nat.lt_of_le_of_lt (Nat.mul_le_mul (show _ ≤ 4095 by omega) (Nat.pow_le_pow_right (show 0 < 2 by omega) (show j ≤ 3 by omega))) (by decide)
theorem tk_FD_lt {wi hi : Nat} {tx pt pw ph fo : Nat → Nat} (hF : tk_FD wi hi tx pt pw ph fo) : ∀ k, k < 36 → fo k < 4096 := by
  intro k hk
  have := (hF (k / 12) (k % 12) (by omega) (by omega)).1
  rw [show 12 * (k / 12) + k % 12 = k by omega] at this
  exact this
theorem tn_mt_a {b t dn ac : Nat} (h1 : dn = 0) (h2 : ac = 0) : tn_mt b t dn ac = 0 := by
  unfold tn_mt
  rw [if_pos ⟨h1, h2⟩]
theorem tn_mt_b {b t dn ac : Nat} (h1 : ¬ (dn = 0 ∧ ac = 0)) (h2 : ¬ (0 < dn ∧ 0 < ac)) : tn_mt b t dn ac = tm_pop (b &&& t >>> ac) := by
  unfold tn_mt
  rw [if_neg h1, if_neg h2, Nat.add_zero]
theorem tn_mt_c {b t dn ac : Nat} (h1 : ¬ (dn = 0 ∧ ac = 0)) (h2 : 0 < dn ∧ 0 < ac) : tn_mt b t dn ac = tm_pop (b &&& t >>> ac) + tm_pop (b >>> ac &&& t) := by
  unfold tn_mt
  rw [if_neg h1, if_pos h2]
-- ===== the model's =====
def tm_om (wi hi : Nat) (tx pt pw ph : Nat → Nat) : Prop := (4 ≤ wi ∧ wi ≤ 12) ∧ (4 ≤ hi ∧ hi ≤ 12) ∧ (∀ k, k < 192 → tx k ≤ 2) ∧ (∀ q, q < 3 → 1 ≤ pw q ∧ pw q ≤ 4 ∧ 1 ≤ ph q ∧ ph q ≤ 4) ∧ (∀ k, k < 48 → pt k ≤ 2)
theorem tm_tn {n : Nat} (h : n < 2 ^ 31) : (nI n).toInt.toNat = n := by
  rw [nI_toInt h]
  omega
theorem tm_negsub {a b : Nat} (ha : a < 2 ^ 30) (hb : b < 2 ^ 30) : (-(nI a - nI b)).toInt = (b : Int) - (a : Int) := by
  rw [show -(nI a - nI b) = nI b - nI a by grind]
  exact pk_sub_toInt hb ha
theorem tm_oM {wi hi P x y : Nat} {tx pt pw ph : Nat → Nat} (hP : P < 3) (h1 : 1 ≤ pw P) (h2 : 1 ≤ ph P) (hx : x < 2 ^ 31) (hy : y < 2 ^ 31) : ((0 ≤ (nI P).toInt ∧ (nI P).toInt ≤ 2) ∧ (0 ≤ (nI x).toInt ∧ (nI x).toInt < wi ∧ 0 ≤ (nI y).toInt ∧ (nI y).toInt < hi) ∧ tk_occ 16 wi hi tx pt pw ph (nI P).toInt.toNat (nI x).toInt.toNat (nI y).toInt.toNat) ↔ tk_occ 16 wi hi tx pt pw ph P x y := by
  rw [tm_tn (show P < 2 ^ 31 by omega), tm_tn hx, tm_tn hy, nI_toInt (show P < 2 ^ 31 by omega), nI_toInt hx, nI_toInt hy]
  constructor
  · exact fun h => h.2.2
  · intro h
    have a1 := h.1
    have a2 := h.2.1
    exact ⟨by omega, by omega, h⟩
theorem tm_oM2 {wi hi P x y i j : Nat} {tx pt pw ph : Nat → Nat} (hP : P < 3) (h1 : 1 ≤ pw P) (h2 : 1 ≤ ph P) (hx : x < 2 ^ 30) (hy : y < 2 ^ 30) (hi_ : i < 2 ^ 30) (hj : j < 2 ^ 30) : ((0 ≤ (nI P).toInt ∧ (nI P).toInt ≤ 2) ∧ (0 ≤ (nI x - nI j).toInt ∧ (nI x - nI j).toInt < wi ∧ 0 ≤ (nI y - nI i).toInt ∧ (nI y - nI i).toInt < hi) ∧ tk_occ 16 wi hi tx pt pw ph (nI P).toInt.toNat (nI x - nI j).toInt.toNat (nI y - nI i).toInt.toNat) ↔ (i ≤ y ∧ j ≤ x ∧ tk_occ 16 wi hi tx pt pw ph P (x - j) (y - i)) := by
  rw [tm_tn (show P < 2 ^ 31 by omega), nI_toInt (show P < 2 ^ 31 by omega), pk_sub_toInt hx hj, pk_sub_toInt hy hi_]
  constructor
  · rintro ⟨h3, h4, h5⟩
    refine ⟨by omega, by omega, ?_⟩
    rw [show ((x : Int) - (j : Int)).toNat = x - j by omega, show ((y : Int) - (i : Int)).toNat = y - i by omega] at h5
    exact h5
  · rintro ⟨h3, h4, h5⟩
    have a1 := h5.1
    have a2 := h5.2.1
    refine ⟨by omega, by omega, ?_⟩
    rw [show ((x : Int) - (j : Int)).toNat = x - j by omega, show ((y : Int) - (i : Int)).toNat = y - i by omega]
    exact h5
end
section
set_option maxRecDepth 100000
abbrev rX1_isPattern : Room := { frames := 0, cells := 0, slots := 0, locals := 0 }
set_option maxHeartbeats 8000000 in
set_option maxRecDepth 100000 in
/-- isPattern -/
theorem kX1_isPattern (l : Launch) (D : va_G) (dB dI : ClassId) (a : Nat → Nat) (sz wi hi nc sd : Nat) (tx pw ph pt br fb nq re rn fa fo pr : Nat → Nat) (pp : Int32) : Met l yX1_isPattern (ws_ yX1_isPattern cX1_isPattern 2 (some .boolean)) rX1_isPattern (tm_Pre D dB dI [.ref (a 0), .int (pp)] sz (wX a dB dI wi hi nc sd tx pw ph pt br fb nq re rn fa fo pr)) (tm_Qr sz (fun r => ((0 ≤ (pp).toInt ∧ (pp).toInt ≤ 2) ∧ r = nI 1) ∨ (¬ (0 ≤ (pp).toInt ∧ (pp).toInt ≤ 2) ∧ r = nI 0))) 0 0 (va_A [] sz) := by
  refine tm_metR (nL := 2) (ret := (some .boolean)) RX1 rfl (by decide) (Nat.le_of_ble_eq_true rfl) ?_
  intro p e s m args below meth c ls A Q H locs hx hb hml hown hts hr hlk hnm hA hAe hQ hS hl
  have hl : lv_has ls 2 [(0, .ref (a 0)), (1, .int (pp))] := hl
  refine lv_iload_n hx hb dX1_isPattern_0 rfl (lv_at hl 1 rfl) ?_
  refine tm_Zlt hx hb (pp).toInt rfl (tgt := 13) dX1_isPattern_1 (by decide) (fun c_1 => ?_) (fun c_1 => ?_)
  · skip
    refine lv_iconst (v := nI 0) hx hb dX1_isPattern_13 (by decide) ?_
    exact tm_zretR hQ hAe hx hb hr hlk (by first | rfl | decide) hS (Or.inr ⟨by omega, rfl⟩) dX1_isPattern_14
  · skip
    refine lv_iload_n hx hb dX1_isPattern_4 rfl (lv_at hl 1 rfl) ?_
    refine lv_iconst (v := nI 2) hx hb dX1_isPattern_5 (by decide) ?_
    refine tm_Igt hx hb (pp).toInt ((2 : Nat) : Int) rfl (nI_toInt (by omega)) (tgt := 13) dX1_isPattern_6 (by decide) (fun c_6 => ?_) (fun c_6 => ?_)
    · skip
      refine lv_iconst (v := nI 0) hx hb dX1_isPattern_13 (by decide) ?_
      exact tm_zretR hQ hAe hx hb hr hlk (by first | rfl | decide) hS (Or.inr ⟨by omega, rfl⟩) dX1_isPattern_14
    · skip
      refine lv_iconst (v := nI 1) hx hb dX1_isPattern_9 (by decide) ?_
      refine lv_goto (tgt := 14) hx hb dX1_isPattern_10 (by decide) ?_
      exact tm_zretR hQ hAe hx hb hr hlk (by first | rfl | decide) hS (Or.inl ⟨by omega, rfl⟩) dX1_isPattern_14
abbrev rX1_inText : Room := { frames := 0, cells := 0, slots := 0, locals := 0 }
set_option maxHeartbeats 8000000 in
set_option maxRecDepth 100000 in
/-- inText -/
theorem kX1_inText (l : Launch) (D : va_G) (dB dI : ClassId) (a : Nat → Nat) (sz wi hi nc sd : Nat) (tx pw ph pt br fb nq re rn fa fo pr : Nat → Nat) (x : Int32) (y : Int32) (hwi : wi ≤ 12) (hhi : hi ≤ 12) : Met l yX1_inText (ws_ yX1_inText cX1_inText 3 (some .boolean)) rX1_inText (tm_Pre D dB dI [.ref (a 0), .int (x), .int (y)] sz (wX a dB dI wi hi nc sd tx pw ph pt br fb nq re rn fa fo pr)) (tm_Qr sz (fun r => ((0 ≤ (x).toInt ∧ (x).toInt < wi ∧ 0 ≤ (y).toInt ∧ (y).toInt < hi) ∧ r = nI 1) ∨ (¬ (0 ≤ (x).toInt ∧ (x).toInt < wi ∧ 0 ≤ (y).toInt ∧ (y).toInt < hi) ∧ r = nI 0))) 0 0 (va_A [] sz) := by
  refine tm_metR (nL := 3) (ret := (some .boolean)) RX1 rfl (by decide) (Nat.le_of_ble_eq_true rfl) ?_
  intro p e s m args below meth c ls A Q H locs hx hb hml hown hts hr hlk hnm hA hAe hQ hS hl
  have hl : lv_has ls 3 [(0, .ref (a 0)), (1, .int (x)), (2, .int (y))] := hl
  refine lv_iload_n hx hb dX1_inText_0 rfl (lv_at hl 1 rfl) ?_
  refine tm_Zlt hx hb (x).toInt rfl (tgt := 28) dX1_inText_1 (by decide) (fun c_1 => ?_) (fun c_1 => ?_)
  · skip
    refine lv_iconst (v := nI 0) hx hb dX1_inText_28 (by decide) ?_
    exact tm_zretR hQ hAe hx hb hr hlk (by first | rfl | decide) hS (Or.inr ⟨by omega, rfl⟩) dX1_inText_29
  · skip
    refine lv_iload_n hx hb dX1_inText_4 rfl (lv_at hl 1 rfl) ?_
    refine lv_aload_n hx hb dX1_inText_5 rfl (lv_at hl 0 rfl) ?_
    refine tm_gX hx hb hts hown hS rfl 0 (by decide) q30 rfl dX1_inText_6 ?_
    refine tm_Ige hx hb (x).toInt ((wi : Nat) : Int) rfl (nI_toInt (by omega)) (tgt := 28) dX1_inText_9 (by decide) (fun c_9 => ?_) (fun c_9 => ?_)
    · skip
      refine lv_iconst (v := nI 0) hx hb dX1_inText_28 (by decide) ?_
      exact tm_zretR hQ hAe hx hb hr hlk (by first | rfl | decide) hS (Or.inr ⟨by omega, rfl⟩) dX1_inText_29
    · skip
      refine lv_iload_n hx hb dX1_inText_12 rfl (lv_at hl 2 rfl) ?_
      refine tm_Zlt hx hb (y).toInt rfl (tgt := 28) dX1_inText_13 (by decide) (fun c_13 => ?_) (fun c_13 => ?_)
      · skip
        refine lv_iconst (v := nI 0) hx hb dX1_inText_28 (by decide) ?_
        exact tm_zretR hQ hAe hx hb hr hlk (by first | rfl | decide) hS (Or.inr ⟨by omega, rfl⟩) dX1_inText_29
      · skip
        refine lv_iload_n hx hb dX1_inText_16 rfl (lv_at hl 2 rfl) ?_
        refine lv_aload_n hx hb dX1_inText_17 rfl (lv_at hl 0 rfl) ?_
        refine tm_gX hx hb hts hown hS rfl 1 (by decide) q31 rfl dX1_inText_18 ?_
        refine tm_Ige hx hb (y).toInt ((hi : Nat) : Int) rfl (nI_toInt (by omega)) (tgt := 28) dX1_inText_21 (by decide) (fun c_21 => ?_) (fun c_21 => ?_)
        · skip
          refine lv_iconst (v := nI 0) hx hb dX1_inText_28 (by decide) ?_
          exact tm_zretR hQ hAe hx hb hr hlk (by first | rfl | decide) hS (Or.inr ⟨by omega, rfl⟩) dX1_inText_29
        · skip
          refine lv_iconst (v := nI 1) hx hb dX1_inText_24 (by decide) ?_
          refine lv_goto (tgt := 29) hx hb dX1_inText_25 (by decide) ?_
          exact tm_zretR hQ hAe hx hb hr hlk (by first | rfl | decide) hS (Or.inl ⟨by omega, rfl⟩) dX1_inText_29
abbrev rX1_fits : Room := { frames := 0, cells := 0, slots := 0, locals := 0 }
set_option maxHeartbeats 8000000 in
set_option maxRecDepth 100000 in
/-- fits -/
theorem kX1_fits (l : Launch) (D : va_G) (dB dI : ClassId) (a : Nat → Nat) (sz wi hi nc sd : Nat) (tx pw ph pt br fb nq re rn fa fo pr : Nat → Nat) (pp : Nat) (x : Int32) (y : Int32) (hpp : pp < 3) (hok : tm_ok wi hi tx pw ph pt) : Met l yX1_fits (ws_ yX1_fits cX1_fits 4 (some .boolean)) rX1_fits (tm_Pre D dB dI [.ref (a 0), .int (nI (pp)), .int (x), .int (y)] sz (wX a dB dI wi hi nc sd tx pw ph pt br fb nq re rn fa fo pr)) (tm_Qr sz (fun r => ((0 ≤ (x).toInt ∧ (x).toInt + pw pp ≤ wi ∧ 0 ≤ (y).toInt ∧ (y).toInt + ph pp ≤ hi) ∧ r = nI 1) ∨ (¬ (0 ≤ (x).toInt ∧ (x).toInt + pw pp ≤ wi ∧ 0 ≤ (y).toInt ∧ (y).toInt + ph pp ≤ hi) ∧ r = nI 0))) 0 0 (va_A [] sz) := by
  refine tm_metR (nL := 4) (ret := (some .boolean)) RX1 rfl (by decide) (Nat.le_of_ble_eq_true rfl) ?_
  intro p e s m args below meth c ls A Q H locs hx hb hml hown hts hr hlk hnm hA hAe hQ hS hl
  have hl : lv_has ls 4 [(0, .ref (a 0)), (1, .int (nI (pp))), (2, .int (x)), (3, .int (y))] := hl
  obtain ⟨⟨ok1, ok2⟩, ⟨ok3, ok4⟩, ok5, ok6, ok7⟩ := hok
  have okp := ok6 pp hpp
  refine lv_iload_n hx hb dX1_fits_0 rfl (lv_at hl 2 rfl) ?_
  refine tm_Zlt hx hb (x).toInt rfl (tgt := 42) dX1_fits_1 (by decide) (fun c_1 => ?_) (fun c_1 => ?_)
  · skip
    refine lv_iconst (v := nI 0) hx hb dX1_fits_42 (by decide) ?_
    exact tm_zretR hQ hAe hx hb hr hlk (by first | rfl | decide) hS (Or.inr ⟨by omega, rfl⟩) dX1_fits_43
  · skip
    refine lv_iload_n hx hb dX1_fits_4 rfl (lv_at hl 2 rfl) ?_
    refine lv_aload_n hx hb dX1_fits_5 rfl (lv_at hl 0 rfl) ?_
    refine tm_gX hx hb hts hown hS rfl 0 (by decide) q30 rfl dX1_fits_6 ?_
    refine lv_aload_n hx hb dX1_fits_9 rfl (lv_at hl 0 rfl) ?_
    refine tm_gX hx hb hts hown hS rfl 3 (by decide) q33 rfl dX1_fits_10 ?_
    refine lv_iload_n hx hb dX1_fits_13 rfl (lv_at hl 1 rfl) ?_
    refine tm_bald (f := pw) hx hb hS 2 rfl (by omega) (by decide) dX1_fits_14 ?_
    refine tm_isub hx hb (by omega) dX1_fits_15 ?_
    refine tm_Igt hx hb (x).toInt ((wi - pw pp : Nat) : Int) rfl (nI_toInt (by omega)) (tgt := 42) dX1_fits_16 (by decide) (fun c_16 => ?_) (fun c_16 => ?_)
    · skip
      refine lv_iconst (v := nI 0) hx hb dX1_fits_42 (by decide) ?_
      exact tm_zretR hQ hAe hx hb hr hlk (by first | rfl | decide) hS (Or.inr ⟨by omega, rfl⟩) dX1_fits_43
    · skip
      refine lv_iload_n hx hb dX1_fits_19 rfl (lv_at hl 3 rfl) ?_
      refine tm_Zlt hx hb (y).toInt rfl (tgt := 42) dX1_fits_20 (by decide) (fun c_20 => ?_) (fun c_20 => ?_)
      · skip
        refine lv_iconst (v := nI 0) hx hb dX1_fits_42 (by decide) ?_
        exact tm_zretR hQ hAe hx hb hr hlk (by first | rfl | decide) hS (Or.inr ⟨by omega, rfl⟩) dX1_fits_43
      · skip
        refine lv_iload_n hx hb dX1_fits_23 rfl (lv_at hl 3 rfl) ?_
        refine lv_aload_n hx hb dX1_fits_24 rfl (lv_at hl 0 rfl) ?_
        refine tm_gX hx hb hts hown hS rfl 1 (by decide) q31 rfl dX1_fits_25 ?_
        refine lv_aload_n hx hb dX1_fits_28 rfl (lv_at hl 0 rfl) ?_
        refine tm_gX hx hb hts hown hS rfl 4 (by decide) q34 rfl dX1_fits_29 ?_
        refine lv_iload_n hx hb dX1_fits_32 rfl (lv_at hl 1 rfl) ?_
        refine tm_bald (f := ph) hx hb hS 3 rfl (by omega) (by decide) dX1_fits_33 ?_
        refine tm_isub hx hb (by omega) dX1_fits_34 ?_
        refine tm_Igt hx hb (y).toInt ((hi - ph pp : Nat) : Int) rfl (nI_toInt (by omega)) (tgt := 42) dX1_fits_35 (by decide) (fun c_35 => ?_) (fun c_35 => ?_)
        · skip
          refine lv_iconst (v := nI 0) hx hb dX1_fits_42 (by decide) ?_
          exact tm_zretR hQ hAe hx hb hr hlk (by first | rfl | decide) hS (Or.inr ⟨by omega, rfl⟩) dX1_fits_43
        · skip
          refine lv_iconst (v := nI 1) hx hb dX1_fits_38 (by decide) ?_
          refine lv_goto (tgt := 43) hx hb dX1_fits_39 (by decide) ?_
          exact tm_zretR hQ hAe hx hb hr hlk (by first | rfl | decide) hS (Or.inl ⟨by omega, rfl⟩) dX1_fits_43
abbrev rX1_letter : Room := { frames := 1, cells := 0, slots := 0, locals := 22 }
set_option maxHeartbeats 8000000 in
set_option maxRecDepth 100000 in
/-- letter -/
theorem kX1_letter (l : Launch) (D : va_G) (dB dI : ClassId) (a : Nat → Nat) (sz wi hi nc sd : Nat) (tx pw ph pt br fb nq re rn fa fo pr : Nat → Nat) (x : Int32) (y : Int32) (hwi : wi ≤ 12) (hhi : hi ≤ 12) : Met l yX1_letter (ws_ yX1_letter cX1_letter 3 (some .int)) rX1_letter (tm_Pre D dB dI [.ref (a 0), .int (x), .int (y)] sz (wX a dB dI wi hi nc sd tx pw ph pt br fb nq re rn fa fo pr)) (tm_Qr sz (fun r => ((0 ≤ (x).toInt ∧ (x).toInt < wi ∧ 0 ≤ (y).toInt ∧ (y).toInt < hi) → r = nI (tx (12 * (y).toInt.toNat + (x).toInt.toNat))) ∧ (¬ (0 ≤ (x).toInt ∧ (x).toInt < wi ∧ 0 ≤ (y).toInt ∧ (y).toInt < hi) → r = -1))) 0 0 (va_A [] sz) := by
  refine tm_metR (nL := 3) (ret := (some .int)) RX1 rfl (by decide) (Nat.le_of_ble_eq_true rfl) ?_
  intro p e s m args below meth c ls A Q H locs hx hb hml hown hts hr hlk hnm hA hAe hQ hS hl
  have hl : lv_has ls 3 [(0, .ref (a 0)), (1, .int (x)), (2, .int (y))] := hl
  refine lv_aload_n hx hb dX1_letter_0 rfl (lv_at hl 0 rfl) ?_
  refine lv_iload_n hx hb dX1_letter_1 rfl (lv_at hl 1 rfl) ?_
  refine lv_iload_n hx hb dX1_letter_2 rfl (lv_at hl 2 rfl) ?_
  refine tm_callR (q := (RX1, TX1, 16)) (As := [.int (x), .int (y)]) (rest := []) ⟨hx, hb, hml, hown, hts⟩ (kX1_inText l D dB dI a H.size wi hi nc sd tx pw ph pt br fb nq re rn fa fo pr x y hwi hhi) (cwV 2 hts (lw_V q85 q87 qs0 q20 q88) rfl rfl rfl (by decide +kernel) ⟨Nat.le_of_ble_eq_true rfl, Nat.le_of_ble_eq_true rfl⟩) hS hA rfl rfl rfl hl.1 rfl (Nat.le_of_ble_eq_true rfl) dX1_letter_3 ⟨Nat.zero_le _, Nat.zero_le _⟩ (fun r H locs hr_3 hS => ?_)
  rcases hr_3 with ⟨h_3, rfl⟩ | ⟨h_3, rfl⟩
  · skip
    obtain ⟨X, rfl, eX, bX⟩ := tm_ofI (show 0 ≤ (x).toInt from h_3.1)
    obtain ⟨Y, rfl, eY, bY⟩ := tm_ofI (show 0 ≤ (y).toInt from h_3.2.2.1)
    refine tm_zeq hx hb (by omega) (tgt := 23) dX1_letter_6 (by decide) (fun c_6 => absurd c_6 (by decide)) (fun c_6 => ?_)
    refine lv_aload_n hx hb dX1_letter_9 rfl (lv_at hl 0 rfl) ?_
    refine tm_gX hx hb hts hown hS rfl 2 (by decide) q32 rfl dX1_letter_10 ?_
    refine lv_bipush (v := nI 12) hx hb dX1_letter_13 (by decide) ?_
    refine lv_iload_n hx hb dX1_letter_15 rfl (lv_at hl 2 rfl) ?_
    refine tm_imul hx hb dX1_letter_16 ?_
    refine lv_iload_n hx hb dX1_letter_17 rfl (lv_at hl 1 rfl) ?_
    refine tm_iadd hx hb dX1_letter_18 ?_
    refine tm_bald (f := tx) hx hb hS 1 rfl (by omega) (by decide) dX1_letter_19 ?_
    refine lv_goto (tgt := 24) hx hb dX1_letter_20 (by decide) ?_
    exact tm_iretR hQ hAe hx hb hr hlk hS ⟨fun _ => by rw [show (nI X).toInt.toNat = X by omega, show (nI Y).toInt.toNat = Y by omega], fun h => absurd h_3 h⟩ dX1_letter_24
  · skip
    refine tm_zeq hx hb (by omega) (tgt := 23) dX1_letter_6 (by decide) (fun c_6 => ?_) (fun c_6 => absurd c_6 (by decide))
    refine lv_iconst (v := -1) hx hb dX1_letter_23 (by decide) ?_
    exact tm_iretR hQ hAe hx hb hr hlk hS ⟨fun h => absurd h h_3, fun _ => rfl⟩ dX1_letter_24
abbrev rX1_bitsIn : Room := { frames := 0, cells := 0, slots := 0, locals := 0 }
set_option maxHeartbeats 8000000 in
set_option maxRecDepth 100000 in
/-- bitsIn -/
theorem kX1_bitsIn (l : Launch) (D : va_G) (dB dI : ClassId) (a : Nat → Nat) (sz wi hi nc sd : Nat) (tx pw ph pt br fb nq re rn fa fo pr : Nat → Nat) (bs : Nat) (hbs : bs < 2 ^ 31) : Met l yX1_bitsIn (ws_ yX1_bitsIn cX1_bitsIn 4 (some .int)) rX1_bitsIn (tm_Pre D dB dI [.ref (a 0), .int (nI (bs))] sz (wX a dB dI wi hi nc sd tx pw ph pt br fb nq re rn fa fo pr)) (tm_Qr sz (fun r => r = nI (tm_pop bs))) 0 0 (va_A [] sz) := by
  refine tm_metR (nL := 4) (ret := (some .int)) RX1 rfl (by decide) (Nat.le_of_ble_eq_true rfl) ?_
  intro p e s m args below meth c ls A Q H locs hx hb hml hown hts hr hlk hnm hA hAe hQ hS hl
  have hl : lv_has ls 4 [(0, .ref (a 0)), (1, .int (nI (bs)))] := hl
  have L4 : ∀ (n : Nat) (b : Nat), (12 - b < n) → (b ≤ 12) → ∀ (H : Heap) (locs : List Loc) (ls : Array Slot), tm_S D dB dI s (fun _ => True) A s.heap H locs (wX a dB dI wi hi nc sd tx pw ph pt br fb nq re rn fa fo pr) → lv_has ls 4 [(0, .ref (a 0)), (1, .int (nI (bs))), (2, .int (nI (tm_sm b (fun k => bs >>> k &&& 1)))), (3, .int (nI (b)))] → W p l e rX1_bitsIn s m args below meth c H locs 0 0 Q (F0 m 4 ls []) := by
    intro n
    induction n with
    | zero => intros; omega
    | succ n ih =>
      intro b hn hb12 H locs ls hS hl
      refine lv_iload_n hx hb dX1_bitsIn_4 rfl (lv_at hl 3 rfl) ?_
      refine lv_bipush (v := nI 12) hx hb dX1_bitsIn_5 (by decide) ?_
      refine tm_cge hx hb (by omega) (by omega) (tgt := 24) dX1_bitsIn_7 (by decide) (fun c_7 => ?_) (fun c_7 => ?_)
      · skip
        refine lv_iload_n hx hb dX1_bitsIn_24 rfl (lv_at hl 2 rfl) ?_
        exact tm_iretR hQ hAe hx hb hr hlk hS (show nI _ = nI _ by rw [show b = 12 by omega]; rfl) dX1_bitsIn_25
      · skip
        refine lv_iload_n hx hb dX1_bitsIn_10 rfl (lv_at hl 2 rfl) ?_
        refine lv_iload_n hx hb dX1_bitsIn_11 rfl (lv_at hl 1 rfl) ?_
        refine lv_iload_n hx hb dX1_bitsIn_12 rfl (lv_at hl 3 rfl) ?_
        refine tm_ishr hx hb (by omega) (by omega) dX1_bitsIn_13 ?_
        refine lv_iconst (v := nI 1) hx hb dX1_bitsIn_14 (by decide) ?_
        refine tm_iand hx hb dX1_bitsIn_15 ?_
        refine tm_iadd hx hb dX1_bitsIn_16 ?_
        refine lv_istore_n (lv' := [(2, .int (nI (tm_sm b (fun k => bs >>> k &&& 1) + ((bs >>> b) &&& 1)))), (0, .ref (a 0)), (1, .int (nI (bs))), (3, .int (nI (b)))]) hx hb dX1_bitsIn_17 rfl hl (by decide) rfl (fun ls hl => ?_)
        refine tm_iinc (lv' := [(3, .int (nI (b + 1))), (2, .int (nI (tm_sm b (fun k => bs >>> k &&& 1) + ((bs >>> b) &&& 1)))), (0, .ref (a 0)), (1, .int (nI (bs)))]) hx hb dX1_bitsIn_18 hl (k := 3) rfl (by decide) rfl (fun ls hl => ?_)
        refine lv_goto (tgt := 4) hx hb dX1_bitsIn_21 (by decide) ?_
        exact ih (b + 1) (by omega) (by omega) _ _ _ hS (lv_sub hl [2, 3, 1, 0] rfl)
  refine lv_iconst (v := nI 0) hx hb dX1_bitsIn_0 (by decide) ?_
  refine lv_istore_n (lv' := [(2, .int (nI (0))), (0, .ref (a 0)), (1, .int (nI (bs)))]) hx hb dX1_bitsIn_1 rfl hl (by decide) rfl (fun ls hl => ?_)
  refine lv_iconst (v := nI 0) hx hb dX1_bitsIn_2 (by decide) ?_
  refine lv_istore_n (lv' := [(3, .int (nI (0))), (2, .int (nI (0))), (0, .ref (a 0)), (1, .int (nI (bs)))]) hx hb dX1_bitsIn_3 rfl hl (by decide) rfl (fun ls hl => ?_)
  exact L4 13 0 (by omega) (by omega) _ _ _ hS (lv_sub hl [2, 3, 1, 0] rfl)
end
section
set_option maxRecDepth 100000
abbrev rX1_write : Room := { frames := 1, cells := 0, slots := 0, locals := 22 }
set_option maxHeartbeats 8000000 in
set_option maxRecDepth 100000 in
/-- write -/
theorem kX1_write (l : Launch) (D : va_G) (dB dI : ClassId) (a : Nat → Nat) (sz wi hi nc sd : Nat) (tx pw ph pt br fb nq re rn fa fo pr : Nat → Nat) (x : Int32) (y : Int32) (lt : Int32) (hwi : wi ≤ 12) (hhi : hi ≤ 12) : Met l yX1_write (ws_ yX1_write cX1_write 4 (some .boolean)) rX1_write (tm_Pre D dB dI [.ref (a 0), .int (x), .int (y), .int (lt)] sz (wX a dB dI wi hi nc sd tx pw ph pt br fb nq re rn fa fo pr)) (tm_Qi (S := Nat × (Nat → Nat)) D dB dI (wX a dB dI wi hi nc sd tx pw ph pt br fb nq re rn fa fo pr) sz (fun r u => (((0 ≤ (x).toInt ∧ (x).toInt < wi ∧ 0 ≤ (y).toInt ∧ (y).toInt < hi) ∧ 0 ≤ (lt).toInt ∧ (lt).toInt ≤ 2) ∧ r = nI 1 ∧ u.1 = 0 ∧ u.2 = tm_up tx (12 * (y).toInt.toNat + (x).toInt.toNat) (lt).toInt.toNat) ∨ (¬ ((0 ≤ (x).toInt ∧ (x).toInt < wi ∧ 0 ≤ (y).toInt ∧ (y).toInt < hi) ∧ 0 ≤ (lt).toInt ∧ (lt).toInt ≤ 2) ∧ r = nI 0 ∧ u.1 = sd ∧ u.2 = tx)) (fun u => wX a dB dI wi hi nc u.1 u.2 pw ph pt br fb nq re rn fa fo pr)) 0 0 (va_A (wX a dB dI wi hi nc sd tx pw ph pt br fb nq re rn fa fo pr) sz) := by
  refine tm_met (nL := 4) (ret := (some .boolean)) RX1 rfl (by decide) (Nat.le_of_ble_eq_true rfl) ?_
  intro p e s m args below meth c ls A Q H locs hx hb hml hown hts hr hlk hnm hA hAe hQ hS hl
  have hl : lv_has ls 4 [(0, .ref (a 0)), (1, .int (x)), (2, .int (y)), (3, .int (lt))] := hl
  refine lv_aload_n hx hb dX1_write_0 rfl (lv_at hl 0 rfl) ?_
  refine lv_iload_n hx hb dX1_write_1 rfl (lv_at hl 1 rfl) ?_
  refine lv_iload_n hx hb dX1_write_2 rfl (lv_at hl 2 rfl) ?_
  refine tm_callR (q := (RX1, TX1, 16)) (As := [.int (x), .int (y)]) (rest := []) ⟨hx, hb, hml, hown, hts⟩ (kX1_inText l D dB dI a H.size wi hi nc sd tx pw ph pt br fb nq re rn fa fo pr x y hwi hhi) (cwV 2 hts (lw_V q85 q87 qs0 q20 q88) rfl rfl rfl (by decide +kernel) ⟨Nat.le_of_ble_eq_true rfl, Nat.le_of_ble_eq_true rfl⟩) hS hA rfl rfl rfl hl.1 rfl (Nat.le_of_ble_eq_true rfl) dX1_write_3 ⟨Nat.zero_le _, Nat.zero_le _⟩ (fun r H locs hr_3 hS => ?_)
  rcases hr_3 with ⟨h_3, rfl⟩ | ⟨h_3, rfl⟩
  · skip
    obtain ⟨X, rfl, eX, bX⟩ := tm_ofI (show 0 ≤ (x).toInt from h_3.1)
    obtain ⟨Y, rfl, eY, bY⟩ := tm_ofI (show 0 ≤ (y).toInt from h_3.2.2.1)
    refine tm_zeq hx hb (by omega) (tgt := 18) dX1_write_6 (by decide) (fun c_6 => absurd c_6 (by decide)) (fun c_6 => ?_)
    refine lv_iload_n hx hb dX1_write_9 rfl (lv_at hl 3 rfl) ?_
    refine tm_Zlt hx hb (lt).toInt rfl (tgt := 18) dX1_write_10 (by decide) (fun c_10 => ?_) (fun c_10 => ?_)
    · skip
      refine lv_iconst (v := nI 0) hx hb dX1_write_18 (by decide) ?_
      exact tm_zret (S := Nat × (Nat → Nat)) (sd, tx) hQ hAe hx hb hr hlk (by first | rfl | decide) hS (Or.inr ⟨by omega, rfl, rfl, rfl⟩) dX1_write_19
    · skip
      refine lv_iload_n hx hb dX1_write_13 rfl (lv_at hl 3 rfl) ?_
      refine lv_iconst (v := nI 2) hx hb dX1_write_14 (by decide) ?_
      refine tm_Ile hx hb (lt).toInt ((2 : Nat) : Int) rfl (nI_toInt (by omega)) (tgt := 20) dX1_write_15 (by decide) (fun c_15 => ?_) (fun c_15 => ?_)
      · skip
        obtain ⟨Lt, rfl, eLt, bLt⟩ := tm_ofI (show 0 ≤ (lt).toInt from c_10)
        refine lv_aload_n hx hb dX1_write_20 rfl (lv_at hl 0 rfl) ?_
        refine tm_gX hx hb hts hown hS rfl 2 (by decide) q32 rfl dX1_write_21 ?_
        refine lv_bipush (v := nI 12) hx hb dX1_write_24 (by decide) ?_
        refine lv_iload_n hx hb dX1_write_26 rfl (lv_at hl 2 rfl) ?_
        refine tm_imul hx hb dX1_write_27 ?_
        refine lv_iload_n hx hb dX1_write_28 rfl (lv_at hl 1 rfl) ?_
        refine tm_iadd hx hb dX1_write_29 ?_
        refine lv_iload_n hx hb dX1_write_30 rfl (lv_at hl 3 rfl) ?_
        refine tm_i2bN hx hb (by omega) dX1_write_31 ?_
        refine tm_bast (f := tx) hx hb hS 1 rfl (by omega) (by decide) (by omega) (wX a dB dI wi hi nc sd (tm_up tx (12 * Y + X) Lt) pw ph pt br fb nq re rn fa fo pr) rfl dX1_write_32 (fun H locs hS => ?_)
        refine lv_aload_n hx hb dX1_write_33 rfl (lv_at hl 0 rfl) ?_
        refine lv_iconst (v := nI 0) hx hb dX1_write_34 (by decide) ?_
        refine tm_pX (ty := .boolean) hx hb hts hown hS rfl 13 (by decide) q43 rfl (tyX1_ok 13 (by decide)) (by first | rfl | decide) (by first | rfl | decide) (Nat.le_of_ble_eq_true rfl) (wX a dB dI wi hi nc 0 (tm_up tx (12 * Y + X) Lt) pw ph pt br fb nq re rn fa fo pr) rfl dX1_write_35 (fun H locs hS => ?_)
        refine lv_iconst (v := nI 1) hx hb dX1_write_38 (by decide) ?_
        exact tm_zret (S := Nat × (Nat → Nat)) (0, tm_up tx (12 * Y + X) Lt) hQ hAe hx hb hr hlk (by first | rfl | decide) hS (Or.inl ⟨by omega, rfl, rfl, by rw [show (nI X).toInt.toNat = X by omega, show (nI Y).toInt.toNat = Y by omega, show (nI Lt).toInt.toNat = Lt by omega]⟩) dX1_write_39
      · skip
        refine lv_iconst (v := nI 0) hx hb dX1_write_18 (by decide) ?_
        exact tm_zret (S := Nat × (Nat → Nat)) (sd, tx) hQ hAe hx hb hr hlk (by first | rfl | decide) hS (Or.inr ⟨by omega, rfl, rfl, rfl⟩) dX1_write_19
  · skip
    refine tm_zeq hx hb (by omega) (tgt := 18) dX1_write_6 (by decide) (fun c_6 => ?_) (fun c_6 => absurd c_6 (by decide))
    refine lv_iconst (v := nI 0) hx hb dX1_write_18 (by decide) ?_
    exact tm_zret (S := Nat × (Nat → Nat)) (sd, tx) hQ hAe hx hb hr hlk (by first | rfl | decide) hS (Or.inr ⟨by omega, rfl, rfl, rfl⟩) dX1_write_19
abbrev rX1_shape : Room := { frames := 1, cells := 0, slots := 0, locals := 21 }
set_option maxHeartbeats 8000000 in
set_option maxRecDepth 100000 in
/-- shape -/
theorem kX1_shape (l : Launch) (D : va_G) (dB dI : ClassId) (a : Nat → Nat) (sz wi hi nc sd : Nat) (tx pw ph pt br fb nq re rn fa fo pr : Nat → Nat) (pp : Int32) (cs : Int32) (rs : Int32) : Met l yX1_shape (ws_ yX1_shape cX1_shape 5 (some .boolean)) rX1_shape (tm_Pre D dB dI [.ref (a 0), .int (pp), .int (cs), .int (rs)] sz (wX a dB dI wi hi nc sd tx pw ph pt br fb nq re rn fa fo pr)) (tm_Qi (S := Nat × (Nat → Nat) × (Nat → Nat) × (Nat → Nat)) D dB dI (wX a dB dI wi hi nc sd tx pw ph pt br fb nq re rn fa fo pr) sz (fun r u => (((0 ≤ (pp).toInt ∧ (pp).toInt ≤ 2) ∧ 1 ≤ (cs).toInt ∧ (cs).toInt ≤ 4 ∧ 1 ≤ (rs).toInt ∧ (rs).toInt ≤ 4) ∧ r = nI 1 ∧ u.1 = 0 ∧ u.2.1 = tm_up pw (pp).toInt.toNat (cs).toInt.toNat ∧ u.2.2.1 = tm_up ph (pp).toInt.toNat (rs).toInt.toNat ∧ u.2.2.2 = tm_clr pt (16 * (pp).toInt.toNat) 16) ∨ (¬ ((0 ≤ (pp).toInt ∧ (pp).toInt ≤ 2) ∧ 1 ≤ (cs).toInt ∧ (cs).toInt ≤ 4 ∧ 1 ≤ (rs).toInt ∧ (rs).toInt ≤ 4) ∧ r = nI 0 ∧ u.1 = sd ∧ u.2.1 = pw ∧ u.2.2.1 = ph ∧ u.2.2.2 = pt)) (fun u => wX a dB dI wi hi nc u.1 tx u.2.1 u.2.2.1 u.2.2.2 br fb nq re rn fa fo pr)) 0 0 (va_A (wX a dB dI wi hi nc sd tx pw ph pt br fb nq re rn fa fo pr) sz) := by
  refine tm_met (nL := 5) (ret := (some .boolean)) RX1 rfl (by decide) (Nat.le_of_ble_eq_true rfl) ?_
  intro p e s m args below meth c ls A Q H locs hx hb hml hown hts hr hlk hnm hA hAe hQ hS hl
  have hl : lv_has ls 5 [(0, .ref (a 0)), (1, .int (pp)), (2, .int (cs)), (3, .int (rs))] := hl
  refine lv_aload_n hx hb dX1_shape_0 rfl (lv_at hl 0 rfl) ?_
  refine lv_iload_n hx hb dX1_shape_1 rfl (lv_at hl 1 rfl) ?_
  refine tm_callR (q := (RX1, TX1, 16)) (As := [.int (pp)]) (rest := []) ⟨hx, hb, hml, hown, hts⟩ (kX1_isPattern l D dB dI a H.size wi hi nc sd tx pw ph pt br fb nq re rn fa fo pr pp) (cwV 1 hts (lw_V q93 q95 qs1 q20 q96) rfl rfl rfl (by decide +kernel) ⟨Nat.le_of_ble_eq_true rfl, Nat.le_of_ble_eq_true rfl⟩) hS hA rfl rfl rfl hl.1 rfl (Nat.le_of_ble_eq_true rfl) dX1_shape_2 ⟨Nat.zero_le _, Nat.zero_le _⟩ (fun r H locs hr_2 hS => ?_)
  rcases hr_2 with ⟨h_2, rfl⟩ | ⟨h_2, rfl⟩
  · skip
    obtain ⟨P, rfl, eP, bP⟩ := tm_ofI (show 0 ≤ (pp).toInt from h_2.1)
    refine tm_zeq hx hb (by omega) (tgt := 28) dX1_shape_5 (by decide) (fun c_5 => absurd c_5 (by decide)) (fun c_5 => ?_)
    refine lv_iload_n hx hb dX1_shape_8 rfl (lv_at hl 2 rfl) ?_
    refine lv_iconst (v := nI 1) hx hb dX1_shape_9 (by decide) ?_
    refine tm_Ilt hx hb (cs).toInt ((1 : Nat) : Int) rfl (nI_toInt (by omega)) (tgt := 28) dX1_shape_10 (by decide) (fun c_10 => ?_) (fun c_10 => ?_)
    · skip
      refine lv_iconst (v := nI 0) hx hb dX1_shape_28 (by decide) ?_
      exact tm_zret (S := Nat × (Nat → Nat) × (Nat → Nat) × (Nat → Nat)) (sd, pw, ph, pt) hQ hAe hx hb hr hlk (by first | rfl | decide) hS (Or.inr ⟨by omega, rfl, rfl, rfl, rfl, rfl⟩) dX1_shape_29
    · skip
      refine lv_iload_n hx hb dX1_shape_13 rfl (lv_at hl 2 rfl) ?_
      refine lv_iconst (v := nI 4) hx hb dX1_shape_14 (by decide) ?_
      refine tm_Igt hx hb (cs).toInt ((4 : Nat) : Int) rfl (nI_toInt (by omega)) (tgt := 28) dX1_shape_15 (by decide) (fun c_15 => ?_) (fun c_15 => ?_)
      · skip
        refine lv_iconst (v := nI 0) hx hb dX1_shape_28 (by decide) ?_
        exact tm_zret (S := Nat × (Nat → Nat) × (Nat → Nat) × (Nat → Nat)) (sd, pw, ph, pt) hQ hAe hx hb hr hlk (by first | rfl | decide) hS (Or.inr ⟨by omega, rfl, rfl, rfl, rfl, rfl⟩) dX1_shape_29
      · skip
        refine lv_iload_n hx hb dX1_shape_18 rfl (lv_at hl 3 rfl) ?_
        refine lv_iconst (v := nI 1) hx hb dX1_shape_19 (by decide) ?_
        refine tm_Ilt hx hb (rs).toInt ((1 : Nat) : Int) rfl (nI_toInt (by omega)) (tgt := 28) dX1_shape_20 (by decide) (fun c_20 => ?_) (fun c_20 => ?_)
        · skip
          refine lv_iconst (v := nI 0) hx hb dX1_shape_28 (by decide) ?_
          exact tm_zret (S := Nat × (Nat → Nat) × (Nat → Nat) × (Nat → Nat)) (sd, pw, ph, pt) hQ hAe hx hb hr hlk (by first | rfl | decide) hS (Or.inr ⟨by omega, rfl, rfl, rfl, rfl, rfl⟩) dX1_shape_29
        · skip
          refine lv_iload_n hx hb dX1_shape_23 rfl (lv_at hl 3 rfl) ?_
          refine lv_iconst (v := nI 4) hx hb dX1_shape_24 (by decide) ?_
          refine tm_Ile hx hb (rs).toInt ((4 : Nat) : Int) rfl (nI_toInt (by omega)) (tgt := 30) dX1_shape_25 (by decide) (fun c_25 => ?_) (fun c_25 => ?_)
          · skip
            obtain ⟨Cs, rfl, eCs, bCs⟩ := tm_ofI (show 0 ≤ (cs).toInt from (by omega))
            obtain ⟨Rs, rfl, eRs, bRs⟩ := tm_ofI (show 0 ≤ (rs).toInt from (by omega))
            refine lv_aload_n hx hb dX1_shape_30 rfl (lv_at hl 0 rfl) ?_
            refine tm_gX hx hb hts hown hS rfl 3 (by decide) q33 rfl dX1_shape_31 ?_
            refine lv_iload_n hx hb dX1_shape_34 rfl (lv_at hl 1 rfl) ?_
            refine lv_iload_n hx hb dX1_shape_35 rfl (lv_at hl 2 rfl) ?_
            refine tm_i2bN hx hb (by omega) dX1_shape_36 ?_
            refine tm_bast (f := pw) hx hb hS 2 rfl (by omega) (by decide) (by omega) (wX a dB dI wi hi nc sd tx (tm_up pw P Cs) ph pt br fb nq re rn fa fo pr) rfl dX1_shape_37 (fun H locs hS => ?_)
            refine lv_aload_n hx hb dX1_shape_38 rfl (lv_at hl 0 rfl) ?_
            refine tm_gX hx hb hts hown hS rfl 4 (by decide) q34 rfl dX1_shape_39 ?_
            refine lv_iload_n hx hb dX1_shape_42 rfl (lv_at hl 1 rfl) ?_
            refine lv_iload_n hx hb dX1_shape_43 rfl (lv_at hl 3 rfl) ?_
            refine tm_i2bN hx hb (by omega) dX1_shape_44 ?_
            refine tm_bast (f := ph) hx hb hS 3 rfl (by omega) (by decide) (by omega) (wX a dB dI wi hi nc sd tx (tm_up pw P Cs) (tm_up ph P Rs) pt br fb nq re rn fa fo pr) rfl dX1_shape_45 (fun H locs hS => ?_)
            refine lv_iconst (v := nI 0) hx hb dX1_shape_46 (by decide) ?_
            refine lv_istore (lv' := [(4, .int (nI (0))), (0, .ref (a 0)), (1, .int (nI (P))), (2, .int (nI (Cs))), (3, .int (nI (Rs)))]) hx hb dX1_shape_47 hl (by decide) rfl (fun ls hl => ?_)
            have L49 : ∀ (n : Nat) (k : Nat) (pt1 : Nat → Nat), (16 - k < n) → (k ≤ 16) → (pt1 = tm_clr pt (16 * P) k) → ∀ (H : Heap) (locs : List Loc) (ls : Array Slot), tm_S D dB dI s A A s.heap H locs (wX a dB dI wi hi nc sd tx (tm_up pw P Cs) (tm_up ph P Rs) pt1 br fb nq re rn fa fo pr) → lv_has ls 5 [(0, .ref (a 0)), (1, .int (nI (P))), (4, .int (nI (k)))] → W p l e rX1_shape s m args below meth c H locs 0 0 Q (F0 m 49 ls []) := by
              intro n
              induction n with
              | zero => intros; omega
              | succ n ih =>
                intro k pt1 hn hk hpt H locs ls hS hl
                refine lv_iload hx hb dX1_shape_49 (lv_at hl 2 rfl) ?_
                refine lv_bipush (v := nI 16) hx hb dX1_shape_51 (by decide) ?_
                refine tm_cge hx hb (by omega) (by omega) (tgt := 75) dX1_shape_53 (by decide) (fun c_53 => ?_) (fun c_53 => ?_)
                · skip
                  refine lv_aload_n hx hb dX1_shape_75 rfl (lv_at hl 0 rfl) ?_
                  refine lv_iconst (v := nI 0) hx hb dX1_shape_76 (by decide) ?_
                  refine tm_pX (ty := .boolean) hx hb hts hown hS rfl 13 (by decide) q43 rfl (tyX1_ok 13 (by decide)) (by first | rfl | decide) (by first | rfl | decide) (Nat.le_of_ble_eq_true rfl) (wX a dB dI wi hi nc 0 tx (tm_up pw P Cs) (tm_up ph P Rs) pt1 br fb nq re rn fa fo pr) rfl dX1_shape_77 (fun H locs hS => ?_)
                  refine lv_iconst (v := nI 1) hx hb dX1_shape_80 (by decide) ?_
                  exact tm_zret (S := Nat × (Nat → Nat) × (Nat → Nat) × (Nat → Nat)) (0, tm_up pw P Cs, tm_up ph P Rs, pt1) hQ hAe hx hb hr hlk (by first | rfl | decide) hS (Or.inl ⟨by omega, rfl, rfl, by rw [show (nI P).toInt.toNat = P by omega, show (nI Cs).toInt.toNat = Cs by omega], by rw [show (nI P).toInt.toNat = P by omega, show (nI Rs).toInt.toNat = Rs by omega], by rw [show (nI P).toInt.toNat = P by omega, hpt, show k = 16 by omega]⟩) dX1_shape_81
                · skip
                  refine lv_aload_n hx hb dX1_shape_56 rfl (lv_at hl 0 rfl) ?_
                  refine tm_gX hx hb hts hown hS rfl 5 (by decide) q35 rfl dX1_shape_57 ?_
                  refine lv_bipush (v := nI 16) hx hb dX1_shape_60 (by decide) ?_
                  refine lv_iload_n hx hb dX1_shape_62 rfl (lv_at hl 1 rfl) ?_
                  refine tm_imul hx hb dX1_shape_63 ?_
                  refine lv_iload hx hb dX1_shape_64 (lv_at hl 2 rfl) ?_
                  refine tm_iadd hx hb dX1_shape_66 ?_
                  refine lv_iconst (v := nI 0) hx hb dX1_shape_67 (by decide) ?_
                  refine tm_bast (f := pt1) hx hb hS 4 rfl (by omega) (by decide) (by omega) (wX a dB dI wi hi nc sd tx (tm_up pw P Cs) (tm_up ph P Rs) (tm_up pt1 (16 * P + k) 0) br fb nq re rn fa fo pr) rfl dX1_shape_68 (fun H locs hS => ?_)
                  refine tm_iinc (lv' := [(4, .int (nI (k + 1))), (0, .ref (a 0)), (1, .int (nI (P)))]) hx hb dX1_shape_69 hl (k := 2) rfl (by decide) rfl (fun ls hl => ?_)
                  refine lv_goto (tgt := 49) hx hb dX1_shape_72 (by decide) ?_
                  exact ih (k + 1) (tm_up pt1 (16 * P + k) 0) (by omega) (by omega) (by rw [hpt]; exact tm_clr_s pt _ k) _ _ _ hS (lv_sub hl [1, 2, 0] rfl)
            exact L49 17 0 pt (by omega) (by omega) (tm_clr_0 pt _) _ _ _ hS (lv_sub hl [1, 2, 0] rfl)
          · skip
            refine lv_iconst (v := nI 0) hx hb dX1_shape_28 (by decide) ?_
            exact tm_zret (S := Nat × (Nat → Nat) × (Nat → Nat) × (Nat → Nat)) (sd, pw, ph, pt) hQ hAe hx hb hr hlk (by first | rfl | decide) hS (Or.inr ⟨by omega, rfl, rfl, rfl, rfl, rfl⟩) dX1_shape_29
  · skip
    refine tm_zeq hx hb (by omega) (tgt := 28) dX1_shape_5 (by decide) (fun c_5 => ?_) (fun c_5 => absurd c_5 (by decide))
    refine lv_iconst (v := nI 0) hx hb dX1_shape_28 (by decide) ?_
    exact tm_zret (S := Nat × (Nat → Nat) × (Nat → Nat) × (Nat → Nat)) (sd, pw, ph, pt) hQ hAe hx hb hr hlk (by first | rfl | decide) hS (Or.inr ⟨by omega, rfl, rfl, rfl, rfl, rfl⟩) dX1_shape_29
abbrev rX1_paint : Room := { frames := 1, cells := 0, slots := 0, locals := 21 }
set_option maxHeartbeats 8000000 in
set_option maxRecDepth 100000 in
/-- paint -/
theorem kX1_paint (l : Launch) (D : va_G) (dB dI : ClassId) (a : Nat → Nat) (sz wi hi nc sd : Nat) (tx pw ph pt br fb nq re rn fa fo pr : Nat → Nat) (pp : Int32) (jj : Int32) (ii : Int32) (lt : Int32) (hok : tm_ok wi hi tx pw ph pt) : Met l yX1_paint (ws_ yX1_paint cX1_paint 5 (some .boolean)) rX1_paint (tm_Pre D dB dI [.ref (a 0), .int (pp), .int (jj), .int (ii), .int (lt)] sz (wX a dB dI wi hi nc sd tx pw ph pt br fb nq re rn fa fo pr)) (tm_Qi (S := Nat × (Nat → Nat)) D dB dI (wX a dB dI wi hi nc sd tx pw ph pt br fb nq re rn fa fo pr) sz (fun r u => (((0 ≤ (pp).toInt ∧ (pp).toInt ≤ 2) ∧ 0 ≤ (lt).toInt ∧ (lt).toInt ≤ 2 ∧ 0 ≤ (jj).toInt ∧ (jj).toInt < pw (pp).toInt.toNat ∧ 0 ≤ (ii).toInt ∧ (ii).toInt < ph (pp).toInt.toNat) ∧ r = nI 1 ∧ u.1 = 0 ∧ u.2 = tm_up pt (16 * (pp).toInt.toNat + 4 * (ii).toInt.toNat + (jj).toInt.toNat) (lt).toInt.toNat) ∨ (¬ ((0 ≤ (pp).toInt ∧ (pp).toInt ≤ 2) ∧ 0 ≤ (lt).toInt ∧ (lt).toInt ≤ 2 ∧ 0 ≤ (jj).toInt ∧ (jj).toInt < pw (pp).toInt.toNat ∧ 0 ≤ (ii).toInt ∧ (ii).toInt < ph (pp).toInt.toNat) ∧ r = nI 0 ∧ u.1 = sd ∧ u.2 = pt)) (fun u => wX a dB dI wi hi nc u.1 tx pw ph u.2 br fb nq re rn fa fo pr)) 0 0 (va_A (wX a dB dI wi hi nc sd tx pw ph pt br fb nq re rn fa fo pr) sz) := by
  refine tm_met (nL := 5) (ret := (some .boolean)) RX1 rfl (by decide) (Nat.le_of_ble_eq_true rfl) ?_
  intro p e s m args below meth c ls A Q H locs hx hb hml hown hts hr hlk hnm hA hAe hQ hS hl
  have hl : lv_has ls 5 [(0, .ref (a 0)), (1, .int (pp)), (2, .int (jj)), (3, .int (ii)), (4, .int (lt))] := hl
  obtain ⟨⟨ok1, ok2⟩, ⟨ok3, ok4⟩, ok5, ok6, ok7⟩ := hok
  refine lv_aload_n hx hb dX1_paint_0 rfl (lv_at hl 0 rfl) ?_
  refine lv_iload_n hx hb dX1_paint_1 rfl (lv_at hl 1 rfl) ?_
  refine tm_callR (q := (RX1, TX1, 16)) (As := [.int (pp)]) (rest := []) ⟨hx, hb, hml, hown, hts⟩ (kX1_isPattern l D dB dI a H.size wi hi nc sd tx pw ph pt br fb nq re rn fa fo pr pp) (cwV 1 hts (lw_V q93 q95 qs1 q20 q96) rfl rfl rfl (by decide +kernel) ⟨Nat.le_of_ble_eq_true rfl, Nat.le_of_ble_eq_true rfl⟩) hS hA rfl rfl rfl hl.1 rfl (Nat.le_of_ble_eq_true rfl) dX1_paint_2 ⟨Nat.zero_le _, Nat.zero_le _⟩ (fun r H locs hr_2 hS => ?_)
  rcases hr_2 with ⟨h_2, rfl⟩ | ⟨h_2, rfl⟩
  · skip
    obtain ⟨P, rfl, eP, bP⟩ := tm_ofI (show 0 ≤ (pp).toInt from h_2.1)
    have okp := ok6 P (by omega)
    have eP2 : (nI P).toInt.toNat = P := by omega
    refine tm_zeq hx hb (by omega) (tgt := 19) dX1_paint_5 (by decide) (fun c_5 => absurd c_5 (by decide)) (fun c_5 => ?_)
    refine lv_iload hx hb dX1_paint_8 (lv_at hl 4 rfl) ?_
    refine tm_Zlt hx hb (lt).toInt rfl (tgt := 19) dX1_paint_10 (by decide) (fun c_10 => ?_) (fun c_10 => ?_)
    · skip
      refine lv_iconst (v := nI 0) hx hb dX1_paint_19 (by decide) ?_
      exact tm_zret (S := Nat × (Nat → Nat)) (sd, pt) hQ hAe hx hb hr hlk (by first | rfl | decide) hS (Or.inr ⟨by first | omega | (rw [eP2]; omega), rfl, rfl, rfl⟩) dX1_paint_20
    · skip
      refine lv_iload hx hb dX1_paint_13 (lv_at hl 4 rfl) ?_
      refine lv_iconst (v := nI 2) hx hb dX1_paint_15 (by decide) ?_
      refine tm_Ile hx hb (lt).toInt ((2 : Nat) : Int) rfl (nI_toInt (by omega)) (tgt := 21) dX1_paint_16 (by decide) (fun c_16 => ?_) (fun c_16 => ?_)
      · skip
        refine lv_iload_n hx hb dX1_paint_21 rfl (lv_at hl 2 rfl) ?_
        refine tm_Zlt hx hb (jj).toInt rfl (tgt := 49) dX1_paint_22 (by decide) (fun c_22 => ?_) (fun c_22 => ?_)
        · skip
          refine lv_iconst (v := nI 0) hx hb dX1_paint_49 (by decide) ?_
          exact tm_zret (S := Nat × (Nat → Nat)) (sd, pt) hQ hAe hx hb hr hlk (by first | rfl | decide) hS (Or.inr ⟨by first | omega | (rw [eP2]; omega), rfl, rfl, rfl⟩) dX1_paint_50
        · skip
          refine lv_iload_n hx hb dX1_paint_25 rfl (lv_at hl 2 rfl) ?_
          refine lv_aload_n hx hb dX1_paint_26 rfl (lv_at hl 0 rfl) ?_
          refine tm_gX hx hb hts hown hS rfl 3 (by decide) q33 rfl dX1_paint_27 ?_
          refine lv_iload_n hx hb dX1_paint_30 rfl (lv_at hl 1 rfl) ?_
          refine tm_bald (f := pw) hx hb hS 2 rfl (by omega) (by decide) dX1_paint_31 ?_
          refine tm_Ige hx hb (jj).toInt ((pw P : Nat) : Int) rfl (nI_toInt (by omega)) (tgt := 49) dX1_paint_32 (by decide) (fun c_32 => ?_) (fun c_32 => ?_)
          · skip
            refine lv_iconst (v := nI 0) hx hb dX1_paint_49 (by decide) ?_
            exact tm_zret (S := Nat × (Nat → Nat)) (sd, pt) hQ hAe hx hb hr hlk (by first | rfl | decide) hS (Or.inr ⟨by first | omega | (rw [eP2]; omega), rfl, rfl, rfl⟩) dX1_paint_50
          · skip
            refine lv_iload_n hx hb dX1_paint_35 rfl (lv_at hl 3 rfl) ?_
            refine tm_Zlt hx hb (ii).toInt rfl (tgt := 49) dX1_paint_36 (by decide) (fun c_36 => ?_) (fun c_36 => ?_)
            · skip
              refine lv_iconst (v := nI 0) hx hb dX1_paint_49 (by decide) ?_
              exact tm_zret (S := Nat × (Nat → Nat)) (sd, pt) hQ hAe hx hb hr hlk (by first | rfl | decide) hS (Or.inr ⟨by first | omega | (rw [eP2]; omega), rfl, rfl, rfl⟩) dX1_paint_50
            · skip
              refine lv_iload_n hx hb dX1_paint_39 rfl (lv_at hl 3 rfl) ?_
              refine lv_aload_n hx hb dX1_paint_40 rfl (lv_at hl 0 rfl) ?_
              refine tm_gX hx hb hts hown hS rfl 4 (by decide) q34 rfl dX1_paint_41 ?_
              refine lv_iload_n hx hb dX1_paint_44 rfl (lv_at hl 1 rfl) ?_
              refine tm_bald (f := ph) hx hb hS 3 rfl (by omega) (by decide) dX1_paint_45 ?_
              refine tm_Ilt hx hb (ii).toInt ((ph P : Nat) : Int) rfl (nI_toInt (by omega)) (tgt := 51) dX1_paint_46 (by decide) (fun c_46 => ?_) (fun c_46 => ?_)
              · skip
                obtain ⟨J, rfl, eJ, bJ⟩ := tm_ofI (show 0 ≤ (jj).toInt from c_22)
                obtain ⟨I, rfl, eI, bI⟩ := tm_ofI (show 0 ≤ (ii).toInt from c_36)
                obtain ⟨Lt, rfl, eLt, bLt⟩ := tm_ofI (show 0 ≤ (lt).toInt from c_10)
                refine lv_aload_n hx hb dX1_paint_51 rfl (lv_at hl 0 rfl) ?_
                refine tm_gX hx hb hts hown hS rfl 5 (by decide) q35 rfl dX1_paint_52 ?_
                refine lv_bipush (v := nI 16) hx hb dX1_paint_55 (by decide) ?_
                refine lv_iload_n hx hb dX1_paint_57 rfl (lv_at hl 1 rfl) ?_
                refine tm_imul hx hb dX1_paint_58 ?_
                refine lv_iconst (v := nI 4) hx hb dX1_paint_59 (by decide) ?_
                refine lv_iload_n hx hb dX1_paint_60 rfl (lv_at hl 3 rfl) ?_
                refine tm_imul hx hb dX1_paint_61 ?_
                refine tm_iadd hx hb dX1_paint_62 ?_
                refine lv_iload_n hx hb dX1_paint_63 rfl (lv_at hl 2 rfl) ?_
                refine tm_iadd hx hb dX1_paint_64 ?_
                refine lv_iload hx hb dX1_paint_65 (lv_at hl 4 rfl) ?_
                refine tm_i2bN hx hb (by omega) dX1_paint_67 ?_
                refine tm_bast (f := pt) hx hb hS 4 rfl (by omega) (by decide) (by omega) (wX a dB dI wi hi nc sd tx pw ph (tm_up pt (16 * P + 4 * I + J) Lt) br fb nq re rn fa fo pr) rfl dX1_paint_68 (fun H locs hS => ?_)
                refine lv_aload_n hx hb dX1_paint_69 rfl (lv_at hl 0 rfl) ?_
                refine lv_iconst (v := nI 0) hx hb dX1_paint_70 (by decide) ?_
                refine tm_pX (ty := .boolean) hx hb hts hown hS rfl 13 (by decide) q43 rfl (tyX1_ok 13 (by decide)) (by first | rfl | decide) (by first | rfl | decide) (Nat.le_of_ble_eq_true rfl) (wX a dB dI wi hi nc 0 tx pw ph (tm_up pt (16 * P + 4 * I + J) Lt) br fb nq re rn fa fo pr) rfl dX1_paint_71 (fun H locs hS => ?_)
                refine lv_iconst (v := nI 1) hx hb dX1_paint_74 (by decide) ?_
                exact tm_zret (S := Nat × (Nat → Nat)) (0, tm_up pt (16 * P + 4 * I + J) Lt) hQ hAe hx hb hr hlk (by first | rfl | decide) hS (Or.inl ⟨by rw [eP2]; omega, rfl, rfl, by rw [show (nI P).toInt.toNat = P by omega, show (nI I).toInt.toNat = I by omega, show (nI J).toInt.toNat = J by omega, show (nI Lt).toInt.toNat = Lt by omega]⟩) dX1_paint_75
              · skip
                refine lv_iconst (v := nI 0) hx hb dX1_paint_49 (by decide) ?_
                exact tm_zret (S := Nat × (Nat → Nat)) (sd, pt) hQ hAe hx hb hr hlk (by first | rfl | decide) hS (Or.inr ⟨by first | omega | (rw [eP2]; omega), rfl, rfl, rfl⟩) dX1_paint_50
      · skip
        refine lv_iconst (v := nI 0) hx hb dX1_paint_19 (by decide) ?_
        exact tm_zret (S := Nat × (Nat → Nat)) (sd, pt) hQ hAe hx hb hr hlk (by first | rfl | decide) hS (Or.inr ⟨by first | omega | (rw [eP2]; omega), rfl, rfl, rfl⟩) dX1_paint_20
  · skip
    refine tm_zeq hx hb (by omega) (tgt := 19) dX1_paint_5 (by decide) (fun c_5 => ?_) (fun c_5 => absurd c_5 (by decide))
    refine lv_iconst (v := nI 0) hx hb dX1_paint_19 (by decide) ?_
    exact tm_zret (S := Nat × (Nat → Nat)) (sd, pt) hQ hAe hx hb hr hlk (by first | rfl | decide) hS (Or.inr ⟨by first | omega | (rw [eP2]; omega), rfl, rfl, rfl⟩) dX1_paint_20
abbrev rX1_copy : Room := { frames := 1, cells := 0, slots := 0, locals := 23 }
set_option maxHeartbeats 8000000 in
set_option maxRecDepth 100000 in
/-- copy -/
theorem kX1_copy (l : Launch) (D : va_G) (dB dI : ClassId) (a : Nat → Nat) (sz wi hi nc sd : Nat) (tx pw ph pt br fb nq re rn fa fo pr : Nat → Nat) (pp : Int32) (x : Int32) (y : Int32) (hok : tm_ok wi hi tx pw ph pt) : Met l yX1_copy (ws_ yX1_copy cX1_copy 6 (some .boolean)) rX1_copy (tm_Pre D dB dI [.ref (a 0), .int (pp), .int (x), .int (y)] sz (wX a dB dI wi hi nc sd tx pw ph pt br fb nq re rn fa fo pr)) (tm_Qi (S := Nat × (Nat → Nat)) D dB dI (wX a dB dI wi hi nc sd tx pw ph pt br fb nq re rn fa fo pr) sz (fun r u => (((0 ≤ (pp).toInt ∧ (pp).toInt ≤ 2) ∧ (0 ≤ (x).toInt ∧ (x).toInt + pw (pp).toInt.toNat ≤ wi ∧ 0 ≤ (y).toInt ∧ (y).toInt + ph (pp).toInt.toNat ≤ hi)) ∧ r = nI 1 ∧ u.1 = 0 ∧ tm_rc (fun i j => 16 * (pp).toInt.toNat + 4 * i + j) (fun i j => tx (12 * ((y).toInt.toNat + i) + (x).toInt.toNat + j)) (pw (pp).toInt.toNat) (ph (pp).toInt.toNat) 0 pt u.2) ∨ (¬ ((0 ≤ (pp).toInt ∧ (pp).toInt ≤ 2) ∧ (0 ≤ (x).toInt ∧ (x).toInt + pw (pp).toInt.toNat ≤ wi ∧ 0 ≤ (y).toInt ∧ (y).toInt + ph (pp).toInt.toNat ≤ hi)) ∧ r = nI 0 ∧ u.1 = sd ∧ u.2 = pt)) (fun u => wX a dB dI wi hi nc u.1 tx pw ph u.2 br fb nq re rn fa fo pr)) 0 0 (va_A (wX a dB dI wi hi nc sd tx pw ph pt br fb nq re rn fa fo pr) sz) := by
  refine tm_met (nL := 6) (ret := (some .boolean)) RX1 rfl (by decide) (Nat.le_of_ble_eq_true rfl) ?_
  intro p e s m args below meth c ls A Q H locs hx hb hml hown hts hr hlk hnm hA hAe hQ hS hl
  have hl : lv_has ls 6 [(0, .ref (a 0)), (1, .int (pp)), (2, .int (x)), (3, .int (y))] := hl
  have hok2 := hok
  obtain ⟨⟨ok1, ok2⟩, ⟨ok3, ok4⟩, ok5, ok6, ok7⟩ := hok
  refine lv_aload_n hx hb dX1_copy_0 rfl (lv_at hl 0 rfl) ?_
  refine lv_iload_n hx hb dX1_copy_1 rfl (lv_at hl 1 rfl) ?_
  refine tm_callR (q := (RX1, TX1, 16)) (As := [.int (pp)]) (rest := []) ⟨hx, hb, hml, hown, hts⟩ (kX1_isPattern l D dB dI a H.size wi hi nc sd tx pw ph pt br fb nq re rn fa fo pr pp) (cwV 1 hts (lw_V q93 q95 qs1 q20 q96) rfl rfl rfl (by decide +kernel) ⟨Nat.le_of_ble_eq_true rfl, Nat.le_of_ble_eq_true rfl⟩) hS hA rfl rfl rfl hl.1 rfl (Nat.le_of_ble_eq_true rfl) dX1_copy_2 ⟨Nat.zero_le _, Nat.zero_le _⟩ (fun r H locs hr_2 hS => ?_)
  rcases hr_2 with ⟨h_2, rfl⟩ | ⟨h_2, rfl⟩
  · skip
    obtain ⟨P, rfl, eP, bP⟩ := tm_ofI (show 0 ≤ (pp).toInt from h_2.1)
    have hP : P < 3 := by omega
    have okp := ok6 P hP
    have eP2 : (nI P).toInt.toNat = P := by omega
    refine tm_zeq hx hb (by omega) (tgt := 18) dX1_copy_5 (by decide) (fun c_5 => absurd c_5 (by decide)) (fun c_5 => ?_)
    refine lv_aload_n hx hb dX1_copy_8 rfl (lv_at hl 0 rfl) ?_
    refine lv_iload_n hx hb dX1_copy_9 rfl (lv_at hl 1 rfl) ?_
    refine lv_iload_n hx hb dX1_copy_10 rfl (lv_at hl 2 rfl) ?_
    refine lv_iload_n hx hb dX1_copy_11 rfl (lv_at hl 3 rfl) ?_
    refine tm_callR (q := (RX1, TX1, 16)) (As := [.int (nI (P)), .int (x), .int (y)]) (rest := []) ⟨hx, hb, hml, hown, hts⟩ (kX1_fits l D dB dI a H.size wi hi nc sd tx pw ph pt br fb nq re rn fa fo pr P x y hP hok2) (cwV 3 hts (lw_V q105 q107 qs2 q20 q108) rfl rfl rfl (by decide +kernel) ⟨Nat.le_of_ble_eq_true rfl, Nat.le_of_ble_eq_true rfl⟩) hS hA rfl rfl rfl hl.1 rfl (Nat.le_of_ble_eq_true rfl) dX1_copy_12 ⟨Nat.zero_le _, Nat.zero_le _⟩ (fun r H locs hr_12 hS => ?_)
    rcases hr_12 with ⟨h_12, rfl⟩ | ⟨h_12, rfl⟩
    · skip
      obtain ⟨X, rfl, eX, bX⟩ := tm_ofI (show 0 ≤ (x).toInt from h_12.1)
      obtain ⟨Y, rfl, eY, bY⟩ := tm_ofI (show 0 ≤ (y).toInt from h_12.2.2.1)
      refine tm_zne hx hb (by omega) (tgt := 20) dX1_copy_15 (by decide) (fun c_15 => ?_) (fun c_15 => absurd c_15 (by decide))
      refine lv_iconst (v := nI 0) hx hb dX1_copy_20 (by decide) ?_
      refine lv_istore (lv' := [(4, .int (nI (0))), (0, .ref (a 0)), (1, .int (nI (P))), (2, .int (nI (X))), (3, .int (nI (Y)))]) hx hb dX1_copy_21 hl (by decide) rfl (fun ls hl => ?_)
      have L23 : ∀ (n : Nat) (i : Nat) (pt1 : Nat → Nat), (ph P - i < n) → (i ≤ ph P) → (tm_rc (fun i j => 16 * P + 4 * i + j) (fun i j => tx (12 * (Y + i) + X + j)) (pw P) i 0 pt pt1) → ∀ (H : Heap) (locs : List Loc) (ls : Array Slot), tm_S D dB dI s A A s.heap H locs (wX a dB dI wi hi nc sd tx pw ph pt1 br fb nq re rn fa fo pr) → lv_has ls 6 [(0, .ref (a 0)), (1, .int (nI (P))), (2, .int (nI (X))), (3, .int (nI (Y))), (4, .int (nI (i)))] → W p l e rX1_copy s m args below meth c H locs 0 0 Q (F0 m 23 ls []) := by
        intro n
        induction n with
        | zero => intros; omega
        | succ n ih =>
          intro i pt1 hn hi_ hrc H locs ls hS hl
          refine lv_iload hx hb dX1_copy_23 (lv_at hl 4 rfl) ?_
          refine lv_aload_n hx hb dX1_copy_25 rfl (lv_at hl 0 rfl) ?_
          refine tm_gX hx hb hts hown hS rfl 4 (by decide) q34 rfl dX1_copy_26 ?_
          refine lv_iload_n hx hb dX1_copy_29 rfl (lv_at hl 1 rfl) ?_
          refine tm_bald (f := ph) hx hb hS 3 rfl (by omega) (by decide) dX1_copy_30 ?_
          refine tm_cge hx hb (by omega) (by omega) (tgt := 94) dX1_copy_31 (by decide) (fun c_31 => ?_) (fun c_31 => ?_)
          · skip
            refine lv_aload_n hx hb dX1_copy_94 rfl (lv_at hl 0 rfl) ?_
            refine lv_iconst (v := nI 0) hx hb dX1_copy_95 (by decide) ?_
            refine tm_pX (ty := .boolean) hx hb hts hown hS rfl 13 (by decide) q43 rfl (tyX1_ok 13 (by decide)) (by first | rfl | decide) (by first | rfl | decide) (Nat.le_of_ble_eq_true rfl) (wX a dB dI wi hi nc 0 tx pw ph pt1 br fb nq re rn fa fo pr) rfl dX1_copy_96 (fun H locs hS => ?_)
            refine lv_iconst (v := nI 1) hx hb dX1_copy_99 (by decide) ?_
            exact tm_zret (S := Nat × (Nat → Nat)) (0, pt1) hQ hAe hx hb hr hlk (by first | rfl | decide) hS (Or.inl ⟨by rw [eP2]; omega, rfl, rfl, by rw [show (nI P).toInt.toNat = P by omega, show (nI X).toInt.toNat = X by omega, show (nI Y).toInt.toNat = Y by omega, show ph P = i by omega]; exact hrc⟩) dX1_copy_100
          · skip
            have L37 : ∀ (n : Nat) (j : Nat) (pt2 : Nat → Nat), (pw P - j < n) → (j ≤ pw P) → (tm_rc (fun i j => 16 * P + 4 * i + j) (fun i j => tx (12 * (Y + i) + X + j)) (pw P) i j pt pt2) → ∀ (H : Heap) (locs : List Loc) (ls : Array Slot), tm_S D dB dI s A A s.heap H locs (wX a dB dI wi hi nc sd tx pw ph pt2 br fb nq re rn fa fo pr) → lv_has ls 6 [(0, .ref (a 0)), (1, .int (nI (P))), (2, .int (nI (X))), (3, .int (nI (Y))), (4, .int (nI (i))), (5, .int (nI (j)))] → W p l e rX1_copy s m args below meth c H locs 0 0 Q (F0 m 37 ls []) := by
              intro n
              induction n with
              | zero => intros; omega
              | succ n ih2 =>
                intro j pt2 hn hj hrc2 H locs ls hS hl
                refine lv_iload hx hb dX1_copy_37 (lv_at hl 5 rfl) ?_
                refine lv_aload_n hx hb dX1_copy_39 rfl (lv_at hl 0 rfl) ?_
                refine tm_gX hx hb hts hown hS rfl 3 (by decide) q33 rfl dX1_copy_40 ?_
                refine lv_iload_n hx hb dX1_copy_43 rfl (lv_at hl 1 rfl) ?_
                refine tm_bald (f := pw) hx hb hS 2 rfl (by omega) (by decide) dX1_copy_44 ?_
                refine tm_cge hx hb (by omega) (by omega) (tgt := 88) dX1_copy_45 (by decide) (fun c_45 => ?_) (fun c_45 => ?_)
                · skip
                  refine tm_iinc (lv' := [(4, .int (nI (i + 1))), (0, .ref (a 0)), (1, .int (nI (P))), (2, .int (nI (X))), (3, .int (nI (Y))), (5, .int (nI (j)))]) hx hb dX1_copy_88 hl (k := 4) rfl (by decide) rfl (fun ls hl => ?_)
                  refine lv_goto (tgt := 23) hx hb dX1_copy_91 (by decide) ?_
                  exact ih (i + 1) pt2 (by omega) (by omega) (tm_rc_i ((show j = pw P by omega) ▸ hrc2)) _ _ _ hS (lv_sub hl [1, 2, 3, 4, 0] rfl)
                · skip
                  refine lv_aload_n hx hb dX1_copy_48 rfl (lv_at hl 0 rfl) ?_
                  refine tm_gX hx hb hts hown hS rfl 5 (by decide) q35 rfl dX1_copy_49 ?_
                  refine lv_bipush (v := nI 16) hx hb dX1_copy_52 (by decide) ?_
                  refine lv_iload_n hx hb dX1_copy_54 rfl (lv_at hl 1 rfl) ?_
                  refine tm_imul hx hb dX1_copy_55 ?_
                  refine lv_iconst (v := nI 4) hx hb dX1_copy_56 (by decide) ?_
                  refine lv_iload hx hb dX1_copy_57 (lv_at hl 4 rfl) ?_
                  refine tm_imul hx hb dX1_copy_59 ?_
                  refine tm_iadd hx hb dX1_copy_60 ?_
                  refine lv_iload hx hb dX1_copy_61 (lv_at hl 5 rfl) ?_
                  refine tm_iadd hx hb dX1_copy_63 ?_
                  refine lv_aload_n hx hb dX1_copy_64 rfl (lv_at hl 0 rfl) ?_
                  refine tm_gX hx hb hts hown hS rfl 2 (by decide) q32 rfl dX1_copy_65 ?_
                  refine lv_bipush (v := nI 12) hx hb dX1_copy_68 (by decide) ?_
                  refine lv_iload_n hx hb dX1_copy_70 rfl (lv_at hl 3 rfl) ?_
                  refine lv_iload hx hb dX1_copy_71 (lv_at hl 4 rfl) ?_
                  refine tm_iadd hx hb dX1_copy_73 ?_
                  refine tm_imul hx hb dX1_copy_74 ?_
                  refine lv_iload_n hx hb dX1_copy_75 rfl (lv_at hl 2 rfl) ?_
                  refine tm_iadd hx hb dX1_copy_76 ?_
                  refine lv_iload hx hb dX1_copy_77 (lv_at hl 5 rfl) ?_
                  refine tm_iadd hx hb dX1_copy_79 ?_
                  refine tm_bald (f := tx) hx hb hS 1 rfl (by omega) (by decide) dX1_copy_80 ?_
                  refine tm_bast (f := pt2) hx hb hS 4 rfl (by omega) (by decide) (Nat.lt_of_le_of_lt (ok5 _ (by omega)) (by omega)) (wX a dB dI wi hi nc sd tx pw ph (tm_up pt2 (16 * P + 4 * i + j) (tx (12 * (Y + i) + X + j))) br fb nq re rn fa fo pr) rfl dX1_copy_81 (fun H locs hS => ?_)
                  refine tm_iinc (lv' := [(5, .int (nI (j + 1))), (0, .ref (a 0)), (1, .int (nI (P))), (2, .int (nI (X))), (3, .int (nI (Y))), (4, .int (nI (i)))]) hx hb dX1_copy_82 hl (k := 5) rfl (by decide) rfl (fun ls hl => ?_)
                  refine lv_goto (tgt := 37) hx hb dX1_copy_85 (by decide) ?_
                  exact ih2 (j + 1) (tm_up pt2 (16 * P + 4 * i + j) (tx (12 * (Y + i) + X + j))) (by omega) (by omega) (tm_rc_j (by omega) (fun i1 j1 q1 q2 => by omega) hrc2) _ _ _ hS (lv_sub hl [1, 2, 3, 4, 5, 0] rfl)
            refine lv_iconst (v := nI 0) hx hb dX1_copy_34 (by decide) ?_
            refine lv_istore (lv' := [(5, .int (nI (0))), (0, .ref (a 0)), (1, .int (nI (P))), (2, .int (nI (X))), (3, .int (nI (Y))), (4, .int (nI (i)))]) hx hb dX1_copy_35 hl (by decide) rfl (fun ls hl => ?_)
            exact L37 (pw P + 1) 0 pt1 (by omega) (by omega) hrc _ _ _ hS (lv_sub hl [1, 2, 3, 4, 5, 0] rfl)
      exact L23 (ph P + 1) 0 pt (by omega) (by omega) tm_rc_0 _ _ _ hS (lv_sub hl [1, 2, 3, 4, 0] rfl)
    · skip
      refine tm_zne hx hb (by omega) (tgt := 20) dX1_copy_15 (by decide) (fun c_15 => absurd c_15 (by decide)) (fun c_15 => ?_)
      refine lv_iconst (v := nI 0) hx hb dX1_copy_18 (by decide) ?_
      exact tm_zret (S := Nat × (Nat → Nat)) (sd, pt) hQ hAe hx hb hr hlk (by first | rfl | decide) hS (Or.inr ⟨by first | omega | (rw [eP2]; omega), rfl, rfl, rfl⟩) dX1_copy_19
  · skip
    refine tm_zeq hx hb (by omega) (tgt := 18) dX1_copy_5 (by decide) (fun c_5 => ?_) (fun c_5 => absurd c_5 (by decide))
    refine lv_iconst (v := nI 0) hx hb dX1_copy_18 (by decide) ?_
    exact tm_zret (S := Nat × (Nat → Nat)) (sd, pt) hQ hAe hx hb hr hlk (by first | rfl | decide) hS (Or.inr ⟨by first | omega | (rw [eP2]; omega), rfl, rfl, rfl⟩) dX1_copy_19
abbrev rX1_stamp : Room := { frames := 1, cells := 0, slots := 0, locals := 23 }
set_option maxHeartbeats 8000000 in
set_option maxRecDepth 100000 in
/-- stamp -/
theorem kX1_stamp (l : Launch) (D : va_G) (dB dI : ClassId) (a : Nat → Nat) (sz wi hi nc sd : Nat) (tx pw ph pt br fb nq re rn fa fo pr : Nat → Nat) (pp : Int32) (x : Int32) (y : Int32) (hok : tm_ok wi hi tx pw ph pt) : Met l yX1_stamp (ws_ yX1_stamp cX1_stamp 6 (some .boolean)) rX1_stamp (tm_Pre D dB dI [.ref (a 0), .int (pp), .int (x), .int (y)] sz (wX a dB dI wi hi nc sd tx pw ph pt br fb nq re rn fa fo pr)) (tm_Qi (S := Nat × (Nat → Nat)) D dB dI (wX a dB dI wi hi nc sd tx pw ph pt br fb nq re rn fa fo pr) sz (fun r u => (((0 ≤ (pp).toInt ∧ (pp).toInt ≤ 2) ∧ (0 ≤ (x).toInt ∧ (x).toInt + pw (pp).toInt.toNat ≤ wi ∧ 0 ≤ (y).toInt ∧ (y).toInt + ph (pp).toInt.toNat ≤ hi)) ∧ r = nI 1 ∧ u.1 = 0 ∧ tm_rc (fun i j => 12 * ((y).toInt.toNat + i) + (x).toInt.toNat + j) (fun i j => pt (16 * (pp).toInt.toNat + 4 * i + j)) (pw (pp).toInt.toNat) (ph (pp).toInt.toNat) 0 tx u.2) ∨ (¬ ((0 ≤ (pp).toInt ∧ (pp).toInt ≤ 2) ∧ (0 ≤ (x).toInt ∧ (x).toInt + pw (pp).toInt.toNat ≤ wi ∧ 0 ≤ (y).toInt ∧ (y).toInt + ph (pp).toInt.toNat ≤ hi)) ∧ r = nI 0 ∧ u.1 = sd ∧ u.2 = tx)) (fun u => wX a dB dI wi hi nc u.1 u.2 pw ph pt br fb nq re rn fa fo pr)) 0 0 (va_A (wX a dB dI wi hi nc sd tx pw ph pt br fb nq re rn fa fo pr) sz) := by
  refine tm_met (nL := 6) (ret := (some .boolean)) RX1 rfl (by decide) (Nat.le_of_ble_eq_true rfl) ?_
  intro p e s m args below meth c ls A Q H locs hx hb hml hown hts hr hlk hnm hA hAe hQ hS hl
  have hl : lv_has ls 6 [(0, .ref (a 0)), (1, .int (pp)), (2, .int (x)), (3, .int (y))] := hl
  have hok2 := hok
  obtain ⟨⟨ok1, ok2⟩, ⟨ok3, ok4⟩, ok5, ok6, ok7⟩ := hok
  refine lv_aload_n hx hb dX1_stamp_0 rfl (lv_at hl 0 rfl) ?_
  refine lv_iload_n hx hb dX1_stamp_1 rfl (lv_at hl 1 rfl) ?_
  refine tm_callR (q := (RX1, TX1, 16)) (As := [.int (pp)]) (rest := []) ⟨hx, hb, hml, hown, hts⟩ (kX1_isPattern l D dB dI a H.size wi hi nc sd tx pw ph pt br fb nq re rn fa fo pr pp) (cwV 1 hts (lw_V q93 q95 qs1 q20 q96) rfl rfl rfl (by decide +kernel) ⟨Nat.le_of_ble_eq_true rfl, Nat.le_of_ble_eq_true rfl⟩) hS hA rfl rfl rfl hl.1 rfl (Nat.le_of_ble_eq_true rfl) dX1_stamp_2 ⟨Nat.zero_le _, Nat.zero_le _⟩ (fun r H locs hr_2 hS => ?_)
  rcases hr_2 with ⟨h_2, rfl⟩ | ⟨h_2, rfl⟩
  · skip
    obtain ⟨P, rfl, eP, bP⟩ := tm_ofI (show 0 ≤ (pp).toInt from h_2.1)
    have hP : P < 3 := by omega
    have okp := ok6 P hP
    have eP2 : (nI P).toInt.toNat = P := by omega
    refine tm_zeq hx hb (by omega) (tgt := 18) dX1_stamp_5 (by decide) (fun c_5 => absurd c_5 (by decide)) (fun c_5 => ?_)
    refine lv_aload_n hx hb dX1_stamp_8 rfl (lv_at hl 0 rfl) ?_
    refine lv_iload_n hx hb dX1_stamp_9 rfl (lv_at hl 1 rfl) ?_
    refine lv_iload_n hx hb dX1_stamp_10 rfl (lv_at hl 2 rfl) ?_
    refine lv_iload_n hx hb dX1_stamp_11 rfl (lv_at hl 3 rfl) ?_
    refine tm_callR (q := (RX1, TX1, 16)) (As := [.int (nI (P)), .int (x), .int (y)]) (rest := []) ⟨hx, hb, hml, hown, hts⟩ (kX1_fits l D dB dI a H.size wi hi nc sd tx pw ph pt br fb nq re rn fa fo pr P x y hP hok2) (cwV 3 hts (lw_V q105 q107 qs2 q20 q108) rfl rfl rfl (by decide +kernel) ⟨Nat.le_of_ble_eq_true rfl, Nat.le_of_ble_eq_true rfl⟩) hS hA rfl rfl rfl hl.1 rfl (Nat.le_of_ble_eq_true rfl) dX1_stamp_12 ⟨Nat.zero_le _, Nat.zero_le _⟩ (fun r H locs hr_12 hS => ?_)
    rcases hr_12 with ⟨h_12, rfl⟩ | ⟨h_12, rfl⟩
    · skip
      obtain ⟨X, rfl, eX, bX⟩ := tm_ofI (show 0 ≤ (x).toInt from h_12.1)
      obtain ⟨Y, rfl, eY, bY⟩ := tm_ofI (show 0 ≤ (y).toInt from h_12.2.2.1)
      refine tm_zne hx hb (by omega) (tgt := 20) dX1_stamp_15 (by decide) (fun c_15 => ?_) (fun c_15 => absurd c_15 (by decide))
      refine lv_iconst (v := nI 0) hx hb dX1_stamp_20 (by decide) ?_
      refine lv_istore (lv' := [(4, .int (nI (0))), (0, .ref (a 0)), (1, .int (nI (P))), (2, .int (nI (X))), (3, .int (nI (Y)))]) hx hb dX1_stamp_21 hl (by decide) rfl (fun ls hl => ?_)
      have L23 : ∀ (n : Nat) (i : Nat) (tx1 : Nat → Nat), (ph P - i < n) → (i ≤ ph P) → (tm_rc (fun i j => 12 * (Y + i) + X + j) (fun i j => pt (16 * P + 4 * i + j)) (pw P) i 0 tx tx1) → ∀ (H : Heap) (locs : List Loc) (ls : Array Slot), tm_S D dB dI s A A s.heap H locs (wX a dB dI wi hi nc sd tx1 pw ph pt br fb nq re rn fa fo pr) → lv_has ls 6 [(0, .ref (a 0)), (1, .int (nI (P))), (2, .int (nI (X))), (3, .int (nI (Y))), (4, .int (nI (i)))] → W p l e rX1_stamp s m args below meth c H locs 0 0 Q (F0 m 23 ls []) := by
        intro n
        induction n with
        | zero => intros; omega
        | succ n ih =>
          intro i tx1 hn hi_ hrc H locs ls hS hl
          refine lv_iload hx hb dX1_stamp_23 (lv_at hl 4 rfl) ?_
          refine lv_aload_n hx hb dX1_stamp_25 rfl (lv_at hl 0 rfl) ?_
          refine tm_gX hx hb hts hown hS rfl 4 (by decide) q34 rfl dX1_stamp_26 ?_
          refine lv_iload_n hx hb dX1_stamp_29 rfl (lv_at hl 1 rfl) ?_
          refine tm_bald (f := ph) hx hb hS 3 rfl (by omega) (by decide) dX1_stamp_30 ?_
          refine tm_cge hx hb (by omega) (by omega) (tgt := 94) dX1_stamp_31 (by decide) (fun c_31 => ?_) (fun c_31 => ?_)
          · skip
            refine lv_aload_n hx hb dX1_stamp_94 rfl (lv_at hl 0 rfl) ?_
            refine lv_iconst (v := nI 0) hx hb dX1_stamp_95 (by decide) ?_
            refine tm_pX (ty := .boolean) hx hb hts hown hS rfl 13 (by decide) q43 rfl (tyX1_ok 13 (by decide)) (by first | rfl | decide) (by first | rfl | decide) (Nat.le_of_ble_eq_true rfl) (wX a dB dI wi hi nc 0 tx1 pw ph pt br fb nq re rn fa fo pr) rfl dX1_stamp_96 (fun H locs hS => ?_)
            refine lv_iconst (v := nI 1) hx hb dX1_stamp_99 (by decide) ?_
            exact tm_zret (S := Nat × (Nat → Nat)) (0, tx1) hQ hAe hx hb hr hlk (by first | rfl | decide) hS (Or.inl ⟨by rw [eP2]; omega, rfl, rfl, by rw [show (nI P).toInt.toNat = P by omega, show (nI X).toInt.toNat = X by omega, show (nI Y).toInt.toNat = Y by omega, show ph P = i by omega]; exact hrc⟩) dX1_stamp_100
          · skip
            have L37 : ∀ (n : Nat) (j : Nat) (tx2 : Nat → Nat), (pw P - j < n) → (j ≤ pw P) → (tm_rc (fun i j => 12 * (Y + i) + X + j) (fun i j => pt (16 * P + 4 * i + j)) (pw P) i j tx tx2) → ∀ (H : Heap) (locs : List Loc) (ls : Array Slot), tm_S D dB dI s A A s.heap H locs (wX a dB dI wi hi nc sd tx2 pw ph pt br fb nq re rn fa fo pr) → lv_has ls 6 [(0, .ref (a 0)), (1, .int (nI (P))), (2, .int (nI (X))), (3, .int (nI (Y))), (4, .int (nI (i))), (5, .int (nI (j)))] → W p l e rX1_stamp s m args below meth c H locs 0 0 Q (F0 m 37 ls []) := by
              intro n
              induction n with
              | zero => intros; omega
              | succ n ih2 =>
                intro j tx2 hn hj hrc2 H locs ls hS hl
                refine lv_iload hx hb dX1_stamp_37 (lv_at hl 5 rfl) ?_
                refine lv_aload_n hx hb dX1_stamp_39 rfl (lv_at hl 0 rfl) ?_
                refine tm_gX hx hb hts hown hS rfl 3 (by decide) q33 rfl dX1_stamp_40 ?_
                refine lv_iload_n hx hb dX1_stamp_43 rfl (lv_at hl 1 rfl) ?_
                refine tm_bald (f := pw) hx hb hS 2 rfl (by omega) (by decide) dX1_stamp_44 ?_
                refine tm_cge hx hb (by omega) (by omega) (tgt := 88) dX1_stamp_45 (by decide) (fun c_45 => ?_) (fun c_45 => ?_)
                · skip
                  refine tm_iinc (lv' := [(4, .int (nI (i + 1))), (0, .ref (a 0)), (1, .int (nI (P))), (2, .int (nI (X))), (3, .int (nI (Y))), (5, .int (nI (j)))]) hx hb dX1_stamp_88 hl (k := 4) rfl (by decide) rfl (fun ls hl => ?_)
                  refine lv_goto (tgt := 23) hx hb dX1_stamp_91 (by decide) ?_
                  exact ih (i + 1) tx2 (by omega) (by omega) (tm_rc_i ((show j = pw P by omega) ▸ hrc2)) _ _ _ hS (lv_sub hl [1, 2, 3, 4, 0] rfl)
                · skip
                  refine lv_aload_n hx hb dX1_stamp_48 rfl (lv_at hl 0 rfl) ?_
                  refine tm_gX hx hb hts hown hS rfl 2 (by decide) q32 rfl dX1_stamp_49 ?_
                  refine lv_bipush (v := nI 12) hx hb dX1_stamp_52 (by decide) ?_
                  refine lv_iload_n hx hb dX1_stamp_54 rfl (lv_at hl 3 rfl) ?_
                  refine lv_iload hx hb dX1_stamp_55 (lv_at hl 4 rfl) ?_
                  refine tm_iadd hx hb dX1_stamp_57 ?_
                  refine tm_imul hx hb dX1_stamp_58 ?_
                  refine lv_iload_n hx hb dX1_stamp_59 rfl (lv_at hl 2 rfl) ?_
                  refine tm_iadd hx hb dX1_stamp_60 ?_
                  refine lv_iload hx hb dX1_stamp_61 (lv_at hl 5 rfl) ?_
                  refine tm_iadd hx hb dX1_stamp_63 ?_
                  refine lv_aload_n hx hb dX1_stamp_64 rfl (lv_at hl 0 rfl) ?_
                  refine tm_gX hx hb hts hown hS rfl 5 (by decide) q35 rfl dX1_stamp_65 ?_
                  refine lv_bipush (v := nI 16) hx hb dX1_stamp_68 (by decide) ?_
                  refine lv_iload_n hx hb dX1_stamp_70 rfl (lv_at hl 1 rfl) ?_
                  refine tm_imul hx hb dX1_stamp_71 ?_
                  refine lv_iconst (v := nI 4) hx hb dX1_stamp_72 (by decide) ?_
                  refine lv_iload hx hb dX1_stamp_73 (lv_at hl 4 rfl) ?_
                  refine tm_imul hx hb dX1_stamp_75 ?_
                  refine tm_iadd hx hb dX1_stamp_76 ?_
                  refine lv_iload hx hb dX1_stamp_77 (lv_at hl 5 rfl) ?_
                  refine tm_iadd hx hb dX1_stamp_79 ?_
                  refine tm_bald (f := pt) hx hb hS 4 rfl (by omega) (by decide) dX1_stamp_80 ?_
                  refine tm_bast (f := tx2) hx hb hS 1 rfl (by omega) (by decide) (Nat.lt_of_le_of_lt (ok7 _ (by omega)) (by omega)) (wX a dB dI wi hi nc sd (tm_up tx2 (12 * (Y + i) + X + j) (pt (16 * P + 4 * i + j))) pw ph pt br fb nq re rn fa fo pr) rfl dX1_stamp_81 (fun H locs hS => ?_)
                  refine tm_iinc (lv' := [(5, .int (nI (j + 1))), (0, .ref (a 0)), (1, .int (nI (P))), (2, .int (nI (X))), (3, .int (nI (Y))), (4, .int (nI (i)))]) hx hb dX1_stamp_82 hl (k := 5) rfl (by decide) rfl (fun ls hl => ?_)
                  refine lv_goto (tgt := 37) hx hb dX1_stamp_85 (by decide) ?_
                  exact ih2 (j + 1) (tm_up tx2 (12 * (Y + i) + X + j) (pt (16 * P + 4 * i + j))) (by omega) (by omega) (tm_rc_j (by omega) (fun i1 j1 q1 q2 => by omega) hrc2) _ _ _ hS (lv_sub hl [1, 2, 3, 4, 5, 0] rfl)
            refine lv_iconst (v := nI 0) hx hb dX1_stamp_34 (by decide) ?_
            refine lv_istore (lv' := [(5, .int (nI (0))), (0, .ref (a 0)), (1, .int (nI (P))), (2, .int (nI (X))), (3, .int (nI (Y))), (4, .int (nI (i)))]) hx hb dX1_stamp_35 hl (by decide) rfl (fun ls hl => ?_)
            exact L37 (pw P + 1) 0 tx1 (by omega) (by omega) hrc _ _ _ hS (lv_sub hl [1, 2, 3, 4, 5, 0] rfl)
      exact L23 (ph P + 1) 0 tx (by omega) (by omega) tm_rc_0 _ _ _ hS (lv_sub hl [1, 2, 3, 4, 0] rfl)
    · skip
      refine tm_zne hx hb (by omega) (tgt := 20) dX1_stamp_15 (by decide) (fun c_15 => absurd c_15 (by decide)) (fun c_15 => ?_)
      refine lv_iconst (v := nI 0) hx hb dX1_stamp_18 (by decide) ?_
      exact tm_zret (S := Nat × (Nat → Nat)) (sd, tx) hQ hAe hx hb hr hlk (by first | rfl | decide) hS (Or.inr ⟨by first | omega | (rw [eP2]; omega), rfl, rfl, rfl⟩) dX1_stamp_19
  · skip
    refine tm_zeq hx hb (by omega) (tgt := 18) dX1_stamp_5 (by decide) (fun c_5 => ?_) (fun c_5 => absurd c_5 (by decide))
    refine lv_iconst (v := nI 0) hx hb dX1_stamp_18 (by decide) ?_
    exact tm_zret (S := Nat × (Nat → Nat)) (sd, tx) hQ hAe hx hb hr hlk (by first | rfl | decide) hS (Or.inr ⟨by first | omega | (rw [eP2]; omega), rfl, rfl, rfl⟩) dX1_stamp_19
end
section
set_option maxRecDepth 100000
abbrev rX1_inheritRow : Room := { frames := 0, cells := 0, slots := 0, locals := 0 }
set_option maxHeartbeats 8000000 in
set_option maxRecDepth 100000 in
/-- inheritRow -/
theorem kX1_inheritRow (l : Launch) (D : va_G) (dB dI : ClassId) (a : Nat → Nat) (sz wi hi nc sd : Nat) (tx pw ph pt br fb nq re rn fa fo pr : Nat → Nat) (gg : Nat) (nd : Nat) (sh : Nat) (hgg : gg < 3) (hnd : nd < 49) (hsh : sh < 49) (hre : ∀ k, k < 147 → re k ≤ 4) : Met l yX1_inheritRow (ws_ yX1_inheritRow cX1_inheritRow 4 none) rX1_inheritRow (tm_Pre D dB dI [.ref (a 0), .int (nI (gg)), .int (nI (nd)), .int (nI (sh))] sz (wX a dB dI wi hi nc sd tx pw ph pt br fb nq re rn fa fo pr)) (tm_Qv (S := (Nat → Nat)) D dB dI (wX a dB dI wi hi nc sd tx pw ph pt br fb nq re rn fa fo pr) sz (fun u => (re (49 * gg + nd) ≠ 0 ∧ u = re) ∨ (re (49 * gg + nd) = 0 ∧ u = tm_up re (49 * gg + nd) (re (49 * gg + sh)))) (fun u => wX a dB dI wi hi nc sd tx pw ph pt br fb nq u rn fa fo pr)) 0 0 (va_A (wX a dB dI wi hi nc sd tx pw ph pt br fb nq re rn fa fo pr) sz) := by
  refine tm_met (nL := 4) (ret := none) RX1 rfl (by decide) (Nat.le_of_ble_eq_true rfl) ?_
  intro p e s m args below meth c ls A Q H locs hx hb hml hown hts hr hlk hnm hA hAe hQ hS hl
  have hl : lv_has ls 4 [(0, .ref (a 0)), (1, .int (nI (gg))), (2, .int (nI (nd))), (3, .int (nI (sh)))] := hl
  have b1 := hre (49 * gg + nd) (by omega)
  have b2 := hre (49 * gg + sh) (by omega)
  refine lv_aload_n hx hb dX1_inheritRow_0 rfl (lv_at hl 0 rfl) ?_
  refine tm_gX hx hb hts hown hS rfl 10 (by decide) q40 rfl dX1_inheritRow_1 ?_
  refine lv_bipush (v := nI 49) hx hb dX1_inheritRow_4 (by decide) ?_
  refine lv_iload_n hx hb dX1_inheritRow_6 rfl (lv_at hl 1 rfl) ?_
  refine tm_imul hx hb dX1_inheritRow_7 ?_
  refine lv_iload_n hx hb dX1_inheritRow_8 rfl (lv_at hl 2 rfl) ?_
  refine tm_iadd hx hb dX1_inheritRow_9 ?_
  refine tm_bald1 (f := re) hx hb hS 8 rfl (by omega) (by decide) dX1_inheritRow_10 ?_
  refine tm_Ege hx hb (by omega) (tgt := 36) dX1_inheritRow_11 (by decide) (fun c_11 => ?_) (fun c_11 => ?_)
  · skip
    exact tm_vret (S := (Nat → Nat)) (re) hQ hAe hx hb hr hlk hS (Or.inl ⟨by omega, rfl⟩) dX1_inheritRow_36
  · skip
    refine lv_aload_n hx hb dX1_inheritRow_14 rfl (lv_at hl 0 rfl) ?_
    refine tm_gX hx hb hts hown hS rfl 10 (by decide) q40 rfl dX1_inheritRow_15 ?_
    refine lv_bipush (v := nI 49) hx hb dX1_inheritRow_18 (by decide) ?_
    refine lv_iload_n hx hb dX1_inheritRow_20 rfl (lv_at hl 1 rfl) ?_
    refine tm_imul hx hb dX1_inheritRow_21 ?_
    refine lv_iload_n hx hb dX1_inheritRow_22 rfl (lv_at hl 2 rfl) ?_
    refine tm_iadd hx hb dX1_inheritRow_23 ?_
    refine lv_aload_n hx hb dX1_inheritRow_24 rfl (lv_at hl 0 rfl) ?_
    refine tm_gX hx hb hts hown hS rfl 10 (by decide) q40 rfl dX1_inheritRow_25 ?_
    refine lv_bipush (v := nI 49) hx hb dX1_inheritRow_28 (by decide) ?_
    refine lv_iload_n hx hb dX1_inheritRow_30 rfl (lv_at hl 1 rfl) ?_
    refine tm_imul hx hb dX1_inheritRow_31 ?_
    refine lv_iload_n hx hb dX1_inheritRow_32 rfl (lv_at hl 3 rfl) ?_
    refine tm_iadd hx hb dX1_inheritRow_33 ?_
    refine tm_bald1 (f := re) hx hb hS 8 rfl (by omega) (by decide) dX1_inheritRow_34 ?_
    refine tm_bast1 (f := re) hx hb hS 8 rfl (re (49 * gg + sh)) (by omega) (by decide) rfl (by omega) (wX a dB dI wi hi nc sd tx pw ph pt br fb nq (tm_up re (49 * gg + nd) (re (49 * gg + sh))) rn fa fo pr) rfl dX1_inheritRow_35 (fun H locs hS => ?_)
    exact tm_vret (S := (Nat → Nat)) (tm_up re (49 * gg + nd) (re (49 * gg + sh))) hQ hAe hx hb hr hlk hS (Or.inr ⟨by omega, rfl⟩) dX1_inheritRow_36
abbrev rX1_addRow : Room := { frames := 0, cells := 0, slots := 0, locals := 0 }
set_option maxHeartbeats 8000000 in
set_option maxRecDepth 100000 in
/-- addRow -/
theorem kX1_addRow (l : Launch) (D : va_G) (dB dI : ClassId) (a : Nat → Nat) (sz wi hi nc sd : Nat) (tx pw ph pt br fb nq re rn fa fo pr : Nat → Nat) (pp : Nat) (ii : Nat) (hok : tm_ok wi hi tx pw ph pt) (hpp : pp < 3) (hii : ii < ph pp) (wd : Nat → List Nat) (T : tw_TI br nc wd) (hnc : nc + 4 ≤ 49) (nr : Nat → Nat) (hnr : nr pp = ii) (hn4 : ∀ q, q < 3 → nr q ≤ 4) (R : ∀ q, q < 3 → tw_RI pt pw nc wd re rn q (nr q)) (hre : ∀ k, k < 147 → re k ≤ 4) : Met l yX1_addRow (ws_ yX1_addRow cX1_addRow 6 none) rX1_addRow (tm_Pre D dB dI [.ref (a 0), .int (nI (pp)), .int (nI (ii))] sz (wX a dB dI wi hi nc sd tx pw ph pt br fb nq re rn fa fo pr)) (tm_Qv (S := Nat × (Nat → Nat) × (Nat → Nat) × (Nat → Nat)) D dB dI (wX a dB dI wi hi nc sd tx pw ph pt br fb nq re rn fa fo pr) sz (fun u => ∃ wd2, tw_TI u.2.1 u.1 wd2 ∧ u.1 ≤ nc + 4 ∧ (∀ q, q < 3 → tw_RI pt pw u.1 wd2 u.2.2.1 u.2.2.2 q (if q = pp then ii + 1 else nr q)) ∧ ∀ k, k < 147 → u.2.2.1 k ≤ 4) (fun u => wX a dB dI wi hi u.1 sd tx pw ph pt u.2.1 fb nq u.2.2.1 u.2.2.2 fa fo pr)) 0 0 (va_A (wX a dB dI wi hi nc sd tx pw ph pt br fb nq re rn fa fo pr) sz) := by
  refine tm_met (nL := 6) (ret := none) RX1 rfl (by decide) (Nat.le_of_ble_eq_true rfl) ?_
  intro p e s m args below meth c ls A Q H locs hx hb hml hown hts hr hlk hnm hA hAe hQ hS hl
  have hl : lv_has ls 6 [(0, .ref (a 0)), (1, .int (nI (pp))), (2, .int (nI (ii)))] := hl
  obtain ⟨⟨ok1, ok2⟩, ⟨ok3, ok4⟩, ok5, ok6, ok7⟩ := hok
  have okp := ok6 pp hpp
  have L5 : ∀ (n : Nat) (j : Nat) (nd : Nat) (br1 : Nat → Nat) (nc1 : Nat) (wd1 : Nat → List Nat), (pw pp - j < n) → (j ≤ pw pp) → (tw_TI br1 nc1 wd1) → (nd < nc1) → (wd1 nd = (List.range j).map (fun t => pt (16 * pp + 4 * ii + t))) → (nc1 ≤ nc + j) → (∀ q, q < 3 → tw_RI pt pw nc1 wd1 re rn q (nr q)) → ∀ (H : Heap) (locs : List Loc) (ls : Array Slot), tm_S D dB dI s A A s.heap H locs (wX a dB dI wi hi nc1 sd tx pw ph pt br1 fb nq re rn fa fo pr) → lv_has ls 6 [(0, .ref (a 0)), (1, .int (nI (pp))), (2, .int (nI (ii))), (3, .int (nI (nd))), (4, .int (nI (j)))] → W p l e rX1_addRow s m args below meth c H locs 0 0 Q (F0 m 5 ls []) := by
    intro n
    induction n with
    | zero => intros; omega
    | succ n ih =>
      intro j nd br1 nc1 wd1 hn hj T1 hnd hw1 hn1 R1 H locs ls hS hl
      refine lv_iload hx hb dX1_addRow_5 (lv_at hl 4 rfl) ?_
      refine lv_aload_n hx hb dX1_addRow_7 rfl (lv_at hl 0 rfl) ?_
      refine tm_gX hx hb hts hown hS rfl 3 (by decide) q33 rfl dX1_addRow_8 ?_
      refine lv_iload_n hx hb dX1_addRow_11 rfl (lv_at hl 1 rfl) ?_
      refine tm_bald (f := pw) hx hb hS 2 rfl (by omega) (by decide) dX1_addRow_12 ?_
      refine tm_cge hx hb (by omega) (by omega) (tgt := 84) dX1_addRow_13 (by decide) (fun c_13 => ?_) (fun c_13 => ?_)
      · skip
        have hT49 := T1.2.1
        have hw3 : wd1 nd = tw_row pt pw pp ii := by rw [hw1]; exact tw_row_eq (by omega)
        have hrb := hre (49 * pp + nd) (by omega)
        refine lv_bipush (v := nI 49) hx hb dX1_addRow_84 (by decide) ?_
        refine lv_iload_n hx hb dX1_addRow_86 rfl (lv_at hl 1 rfl) ?_
        refine tm_imul hx hb dX1_addRow_87 ?_
        refine lv_iload_n hx hb dX1_addRow_88 rfl (lv_at hl 3 rfl) ?_
        refine tm_iadd hx hb dX1_addRow_89 ?_
        refine lv_istore (lv' := [(4, .int (nI (49 * pp + nd))), (0, .ref (a 0)), (1, .int (nI (pp))), (2, .int (nI (ii))), (3, .int (nI (nd)))]) hx hb dX1_addRow_90 hl (by decide) rfl (fun ls hl => ?_)
        refine lv_aload_n hx hb dX1_addRow_92 rfl (lv_at hl 1 rfl) ?_
        refine tm_gX hx hb hts hown hS rfl 10 (by decide) q40 rfl dX1_addRow_93 ?_
        refine lv_iload hx hb dX1_addRow_96 (lv_at hl 0 rfl) ?_
        refine tm_bald1 (f := re) hx hb hS 8 rfl (by omega) (by decide) dX1_addRow_98 ?_
        refine tm_Ege hx hb (by omega) (tgt := 111) dX1_addRow_99 (by decide) (fun c_99 => ?_) (fun c_99 => ?_)
        · skip
          refine lv_aload_n hx hb dX1_addRow_111 rfl (lv_at hl 1 rfl) ?_
          refine tm_gX hx hb hts hown hS rfl 11 (by decide) q41 rfl dX1_addRow_112 ?_
          refine lv_iconst (v := nI 4) hx hb dX1_addRow_115 (by decide) ?_
          refine lv_iload_n hx hb dX1_addRow_116 rfl (lv_at hl 2 rfl) ?_
          refine tm_imul hx hb dX1_addRow_117 ?_
          refine lv_iload_n hx hb dX1_addRow_118 rfl (lv_at hl 3 rfl) ?_
          refine tm_iadd hx hb dX1_addRow_119 ?_
          refine lv_aload_n hx hb dX1_addRow_120 rfl (lv_at hl 1 rfl) ?_
          refine tm_gX hx hb hts hown hS rfl 10 (by decide) q40 rfl dX1_addRow_121 ?_
          refine lv_iload hx hb dX1_addRow_124 (lv_at hl 0 rfl) ?_
          refine tm_bald1 (f := re) hx hb hS 8 rfl (by omega) (by decide) dX1_addRow_126 ?_
          refine tm_top (y := nI (re (49 * pp + nd) - 1)) (by rw [← tm_e1 (re (49 * pp + nd) - 1), show re (49 * pp + nd) - 1 + 1 = re (49 * pp + nd) by omega]) ?_
          refine tm_bast (f := rn) hx hb hS 9 rfl (by omega) (by decide) (by omega) (wX a dB dI wi hi nc1 sd tx pw ph pt br1 fb nq re (tm_up rn (4 * pp + ii) (re (49 * pp + nd) - 1)) fa fo pr) rfl dX1_addRow_127 (fun H locs hS => ?_)
          exact tm_vret (S := Nat × (Nat → Nat) × (Nat → Nat) × (Nat → Nat)) (nc1, br1, re, tm_up rn (4 * pp + ii) (re (49 * pp + nd) - 1)) hQ hAe hx hb hr hlk hS ⟨wd1, T1, by omega, tw_add_old hT49 hpp (by omega) hn4 hnr hnd hw3 c_99 R1, hre⟩ dX1_addRow_128
        · skip
          refine lv_aload_n hx hb dX1_addRow_102 rfl (lv_at hl 1 rfl) ?_
          refine tm_gX hx hb hts hown hS rfl 10 (by decide) q40 rfl dX1_addRow_103 ?_
          refine lv_iload hx hb dX1_addRow_106 (lv_at hl 0 rfl) ?_
          refine lv_iload_n hx hb dX1_addRow_108 rfl (lv_at hl 3 rfl) ?_
          refine tm_i2bN hx hb (by omega) dX1_addRow_109 ?_
          refine tm_bast1 (f := re) hx hb hS 8 rfl (ii + 1) (by omega) (by decide) (tm_e1 _).symm (by omega) (wX a dB dI wi hi nc1 sd tx pw ph pt br1 fb nq (tm_up re (49 * pp + nd) (ii + 1)) rn fa fo pr) rfl dX1_addRow_110 (fun H locs hS => ?_)
          refine lv_aload_n hx hb dX1_addRow_111 rfl (lv_at hl 1 rfl) ?_
          refine tm_gX hx hb hts hown hS rfl 11 (by decide) q41 rfl dX1_addRow_112 ?_
          refine lv_iconst (v := nI 4) hx hb dX1_addRow_115 (by decide) ?_
          refine lv_iload_n hx hb dX1_addRow_116 rfl (lv_at hl 2 rfl) ?_
          refine tm_imul hx hb dX1_addRow_117 ?_
          refine lv_iload_n hx hb dX1_addRow_118 rfl (lv_at hl 3 rfl) ?_
          refine tm_iadd hx hb dX1_addRow_119 ?_
          refine lv_aload_n hx hb dX1_addRow_120 rfl (lv_at hl 1 rfl) ?_
          refine tm_gX hx hb hts hown hS rfl 10 (by decide) q40 rfl dX1_addRow_121 ?_
          refine lv_iload hx hb dX1_addRow_124 (lv_at hl 0 rfl) ?_
          refine tm_bald1 (f := tm_up re (49 * pp + nd) (ii + 1)) hx hb hS 8 rfl (by omega) (by decide) dX1_addRow_126 ?_
          refine tm_top (y := nI (ii)) (by rw [tm_up_s]; exact tm_e1 ii) ?_
          refine tm_bast (f := rn) hx hb hS 9 rfl (by omega) (by decide) (by omega) (wX a dB dI wi hi nc1 sd tx pw ph pt br1 fb nq (tm_up re (49 * pp + nd) (ii + 1)) (tm_up rn (4 * pp + ii) ii) fa fo pr) rfl dX1_addRow_127 (fun H locs hS => ?_)
          exact tm_vret (S := Nat × (Nat → Nat) × (Nat → Nat) × (Nat → Nat)) (nc1, br1, tm_up re (49 * pp + nd) (ii + 1), tm_up rn (4 * pp + ii) ii) hQ hAe hx hb hr hlk hS ⟨wd1, T1, by omega, tw_add_new hT49 hpp (by omega) hn4 hnr hnd hw3 c_99 R1, tm_up_le (by omega) hre⟩ dX1_addRow_128
      · skip
        have hlt := ok7 (16 * pp + 4 * ii + j) (by omega)
        have hT49 := T1.2.1
        have hbr := T1.2.2.2.1 nd hnd (pt (16 * pp + 4 * ii + j)) (by omega)
        have J70 : ∀ (br2 : Nat → Nat) (nc2 : Nat) (wd2 : Nat → List Nat), (tw_TI br2 nc2 wd2) → (nd < nc2) → (wd2 nd = (List.range j).map (fun t => pt (16 * pp + 4 * ii + t))) → (0 < br2 (3 * nd + pt (16 * pp + 4 * ii + j))) → (nc2 ≤ nc + (j + 1)) → (∀ q, q < 3 → tw_RI pt pw nc2 wd2 re rn q (nr q)) → ∀ (H : Heap) (locs : List Loc) (ls : Array Slot), tm_S D dB dI s A A s.heap H locs (wX a dB dI wi hi nc2 sd tx pw ph pt br2 fb nq re rn fa fo pr) → lv_has ls 6 [(0, .ref (a 0)), (1, .int (nI (pp))), (2, .int (nI (ii))), (3, .int (nI (nd))), (4, .int (nI (j))), (5, .int (nI (3 * nd + pt (16 * pp + 4 * ii + j))))] → W p l e rX1_addRow s m args below meth c H locs 0 0 Q (F0 m 70 ls []) := by
          intro br2 nc2 wd2 T2 hnd2 hw2 hz2 hn2 R2 H locs ls hS hl
          have hb2 := T2.2.2.2.1 nd (by omega) (pt (16 * pp + 4 * ii + j)) (by omega)
          refine lv_aload_n hx hb dX1_addRow_70 rfl (lv_at hl 0 rfl) ?_
          refine tm_gX hx hb hts hown hS rfl 7 (by decide) q37 rfl dX1_addRow_71 ?_
          refine lv_iload hx hb dX1_addRow_74 (lv_at hl 5 rfl) ?_
          refine tm_bald (f := br2) hx hb hS 5 rfl (by omega) (by decide) dX1_addRow_76 ?_
          refine lv_istore_n (lv' := [(3, .int (nI (br2 (3 * nd + pt (16 * pp + 4 * ii + j))))), (0, .ref (a 0)), (1, .int (nI (pp))), (2, .int (nI (ii))), (4, .int (nI (j))), (5, .int (nI (3 * nd + pt (16 * pp + 4 * ii + j))))]) hx hb dX1_addRow_77 rfl hl (by decide) rfl (fun ls hl => ?_)
          refine tm_iinc (lv' := [(4, .int (nI (j + 1))), (3, .int (nI (br2 (3 * nd + pt (16 * pp + 4 * ii + j))))), (0, .ref (a 0)), (1, .int (nI (pp))), (2, .int (nI (ii))), (5, .int (nI (3 * nd + pt (16 * pp + 4 * ii + j))))]) hx hb dX1_addRow_78 hl (k := 4) rfl (by decide) rfl (fun ls hl => ?_)
          refine lv_goto (tgt := 5) hx hb dX1_addRow_81 (by decide) ?_
          exact ih (j + 1) (br2 (3 * nd + pt (16 * pp + 4 * ii + j))) br2 nc2 wd2 (by omega) (by omega) T2 hb2.1 (by rw [hb2.2 (by omega), hw2]; exact tw_row_s.symm) (by omega) R2 _ _ _ hS (lv_sub hl [2, 3, 4, 1, 0] rfl)
        refine lv_iconst (v := nI 3) hx hb dX1_addRow_16 (by decide) ?_
        refine lv_iload_n hx hb dX1_addRow_17 rfl (lv_at hl 3 rfl) ?_
        refine tm_imul hx hb dX1_addRow_18 ?_
        refine lv_aload_n hx hb dX1_addRow_19 rfl (lv_at hl 0 rfl) ?_
        refine tm_gX hx hb hts hown hS rfl 5 (by decide) q35 rfl dX1_addRow_20 ?_
        refine lv_bipush (v := nI 16) hx hb dX1_addRow_23 (by decide) ?_
        refine lv_iload_n hx hb dX1_addRow_25 rfl (lv_at hl 1 rfl) ?_
        refine tm_imul hx hb dX1_addRow_26 ?_
        refine lv_iconst (v := nI 4) hx hb dX1_addRow_27 (by decide) ?_
        refine lv_iload_n hx hb dX1_addRow_28 rfl (lv_at hl 2 rfl) ?_
        refine tm_imul hx hb dX1_addRow_29 ?_
        refine tm_iadd hx hb dX1_addRow_30 ?_
        refine lv_iload hx hb dX1_addRow_31 (lv_at hl 4 rfl) ?_
        refine tm_iadd hx hb dX1_addRow_33 ?_
        refine tm_bald (f := pt) hx hb hS 4 rfl (by omega) (by decide) dX1_addRow_34 ?_
        refine tm_iadd hx hb dX1_addRow_35 ?_
        refine lv_istore (lv' := [(5, .int (nI (3 * nd + pt (16 * pp + 4 * ii + j)))), (0, .ref (a 0)), (1, .int (nI (pp))), (2, .int (nI (ii))), (3, .int (nI (nd))), (4, .int (nI (j)))]) hx hb dX1_addRow_36 hl (by decide) rfl (fun ls hl => ?_)
        refine lv_aload_n hx hb dX1_addRow_38 rfl (lv_at hl 1 rfl) ?_
        refine tm_gX hx hb hts hown hS rfl 7 (by decide) q37 rfl dX1_addRow_39 ?_
        refine lv_iload hx hb dX1_addRow_42 (lv_at hl 0 rfl) ?_
        refine tm_bald (f := br1) hx hb hS 5 rfl (by omega) (by decide) dX1_addRow_44 ?_
        refine tm_zne hx hb (by omega) (tgt := 70) dX1_addRow_45 (by decide) (fun c_45 => ?_) (fun c_45 => ?_)
        · skip
          exact J70 br1 nc1 wd1 T1 hnd hw1 c_45 (by omega) R1 _ _ _ hS (lv_sub hl [1, 2, 3, 4, 5, 0] rfl)
        · skip
          refine lv_aload_n hx hb dX1_addRow_48 rfl (lv_at hl 1 rfl) ?_
          refine tm_gX hx hb hts hown hS rfl 7 (by decide) q37 rfl dX1_addRow_49 ?_
          refine lv_iload hx hb dX1_addRow_52 (lv_at hl 0 rfl) ?_
          refine lv_aload_n hx hb dX1_addRow_54 rfl (lv_at hl 1 rfl) ?_
          refine tm_gX hx hb hts hown hS rfl 6 (by decide) q36 rfl dX1_addRow_55 ?_
          refine tm_i2bN hx hb (by omega) dX1_addRow_58 ?_
          refine tm_bast (f := br1) hx hb hS 5 rfl (by omega) (by decide) (by omega) (wX a dB dI wi hi nc1 sd tx pw ph pt (tm_up br1 (3 * nd + pt (16 * pp + 4 * ii + j)) nc1) fb nq re rn fa fo pr) rfl dX1_addRow_59 (fun H locs hS => ?_)
          refine lv_aload_n hx hb dX1_addRow_60 rfl (lv_at hl 1 rfl) ?_
          refine lv_dup hx hb dX1_addRow_61 rfl ?_
          refine tm_gX hx hb hts hown hS rfl 6 (by decide) q36 rfl dX1_addRow_62 ?_
          refine lv_iconst (v := nI 1) hx hb dX1_addRow_65 (by decide) ?_
          refine tm_iadd hx hb dX1_addRow_66 ?_
          refine tm_pX (ty := .int) hx hb hts hown hS rfl 6 (by decide) q36 rfl (tyX1_ok 6 (by decide)) (by first | rfl | decide) (by first | rfl | decide) (Nat.le_of_ble_eq_true rfl) (wX a dB dI wi hi (nc1 + 1) sd tx pw ph pt (tm_up br1 (3 * nd + pt (16 * pp + 4 * ii + j)) nc1) fb nq re rn fa fo pr) rfl dX1_addRow_67 (fun H locs hS => ?_)
          exact J70 (tm_up br1 (3 * nd + pt (16 * pp + 4 * ii + j)) nc1) (nc1 + 1) (tw_wu wd1 nc1 (wd1 nd ++ [pt (16 * pp + 4 * ii + j)])) (tw_new T1 (by omega) hnd (by omega) c_45) (by omega) (by rw [tw_wu_n (by omega)]; exact hw1) (by rw [tm_up_s]; exact T1.1) (by omega) (fun q hq => tw_RI_grow (by omega) (by omega) (fun u hu => tw_wu_n (by omega)) (R1 q hq)) _ _ _ hS (lv_sub hl [1, 2, 3, 4, 5, 0] rfl)
  refine lv_iconst (v := nI 0) hx hb dX1_addRow_0 (by decide) ?_
  refine lv_istore_n (lv' := [(3, .int (nI (0))), (0, .ref (a 0)), (1, .int (nI (pp))), (2, .int (nI (ii)))]) hx hb dX1_addRow_1 rfl hl (by decide) rfl (fun ls hl => ?_)
  refine lv_iconst (v := nI 0) hx hb dX1_addRow_2 (by decide) ?_
  refine lv_istore (lv' := [(4, .int (nI (0))), (3, .int (nI (0))), (0, .ref (a 0)), (1, .int (nI (pp))), (2, .int (nI (ii)))]) hx hb dX1_addRow_3 hl (by decide) rfl (fun ls hl => ?_)
  exact L5 (pw pp + 1) 0 0 br nc wd (by omega) (by omega) T T.1 (by rw [T.2.2.1]; rfl) (by omega) R _ _ _ hS (lv_sub hl [2, 3, 4, 1, 0] rfl)
end
section
set_option maxRecDepth 100000
abbrev rX1_linkNodes : Room := { frames := 1, cells := 0, slots := 0, locals := 23 }
set_option maxHeartbeats 8000000 in
set_option maxRecDepth 100000 in
/-- linkNodes -/
theorem kX1_linkNodes (l : Launch) (D : va_G) (dB dI : ClassId) (a : Nat → Nat) (sz wi hi nc sd : Nat) (tx pw ph pt br fb nq re rn fa fo pr : Nat → Nat) (hok : tm_ok wi hi tx pw ph pt) (wd : Nat → List Nat) (T : tw_TI br nc wd) (R : ∀ q, q < 3 → tw_RI pt pw nc wd re rn q (ph q)) (hre : ∀ k, k < 147 → re k ≤ 4) : Met l yX1_linkNodes (ws_ yX1_linkNodes cX1_linkNodes 8 none) rX1_linkNodes (tm_Pre D dB dI [.ref (a 0)] sz (wX a dB dI wi hi nc sd tx pw ph pt br fb nq re rn fa fo pr)) (tm_Qv (S := (Nat → Nat) × (Nat → Nat) × (Nat → Nat) × (Nat → Nat)) D dB dI (wX a dB dI wi hi nc sd tx pw ph pt br fb nq re rn fa fo pr) sz (fun u => tw_AC nc wd u.1 ∧ (∀ q v, q < 3 → v < nc → tw_RQ pt pw ph wd u.2.2.2 rn q v) ∧ ∀ k, k < 147 → u.2.2.2 k ≤ 4) (fun u => wX a dB dI wi hi nc sd tx pw ph pt u.1 u.2.1 u.2.2.1 u.2.2.2 rn fa fo pr)) 0 0 (va_A (wX a dB dI wi hi nc sd tx pw ph pt br fb nq re rn fa fo pr) sz) := by
  refine tm_met (nL := 8) (ret := none) RX1 rfl (by decide) (Nat.le_of_ble_eq_true rfl) ?_
  intro p e s m args below meth c ls A Q H locs hx hb hml hown hts hr hlk hnm hA hAe hQ hS hl
  have hl : lv_has ls 8 [(0, .ref (a 0))] := hl
  obtain ⟨⟨ok1, ok2⟩, ⟨ok3, ok4⟩, ok5, ok6, ok7⟩ := hok
  have hT49 := T.2.1
  have hT1 := T.1
  have L56 : ∀ (n : Nat) (q : Nat) (en : Nat) (cur : Nat) (br1 : Nat → Nat) (fb1 : Nat → Nat) (nq1 : Nat → Nat) (re1 : Nat → Nat), (49 - q < n) → (q ≤ en) → (tw_LK br nc wd (tw_P nq1 q) cur 0 en br1 fb1 nq1) → (∀ k, q ≤ k → k < en → (wd cur).length ≤ (wd (nq1 k)).length) → (tw_RE pt pw ph nc wd rn re (fun _ v => tw_P nq1 q v) re1) → (∀ k, k < 147 → re1 k ≤ 4) → ∀ (H : Heap) (locs : List Loc) (ls : Array Slot), tm_S D dB dI s A A s.heap H locs (wX a dB dI wi hi nc sd tx pw ph pt br1 fb1 nq1 re1 rn fa fo pr) → lv_has ls 8 [(0, .ref (a 0)), (1, .int (nI (en))), (2, .int (nI (q)))] → W p l e rX1_linkNodes s m args below meth c H locs 0 0 Q (F0 m 56 ls []) := by
    intro n
    induction n with
    | zero => intros; omega
    | succ n ih =>
      intro q en cur br1 fb1 nq1 re1 hn hq hK hlen hE hre1 H locs ls hS hl
      have hen := tw_LK_en T hK
      refine lv_iload_n hx hb dX1_linkNodes_56 rfl (lv_at hl 2 rfl) ?_
      refine lv_iload_n hx hb dX1_linkNodes_57 rfl (lv_at hl 1 rfl) ?_
      refine tm_cge hx hb (by omega) (by omega) (tgt := 192) dX1_linkNodes_58 (by decide) (fun c_58 => ?_) (fun c_58 => ?_)
      · skip
        have hF := tw_LK_end T c_58 hK
        exact tm_vret (S := (Nat → Nat) × (Nat → Nat) × (Nat → Nat) × (Nat → Nat)) (br1, fb1, nq1, re1) hQ hAe hx hb hr hlk hS ⟨hF.2, fun z v hz hv => (hE z v hz hv).1 (hF.1 v hv), hre1⟩ dX1_linkNodes_192
      · skip
        have hu1 := hK.1 q c_58
        have hLP := hK.2.2.2.2.2.2 q c_58
        have hKu := tw_LK_cur hK (hlen q (Nat.le_refl _) c_58)
        have hPs := tw_LK_short T hK (wd (nq1 q)).length (fun _ => Nat.le_refl _) _ (fb1 (nq1 q)) hLP.1 (Nat.le_refl _) (fun _ => hLP.2.2.1)
        have hPu : ¬ tw_P nq1 q (nq1 q) := by
          rintro (h | ⟨k, h1, h2⟩)
          · exact hu1.2 h
          · have := hK.2.1 k q (by omega) c_58 h2
            omega
        have hsb := hLP.1
        refine lv_aload_n hx hb dX1_linkNodes_61 rfl (lv_at hl 0 rfl) ?_
        refine tm_gX hx hb hts hown hS rfl 9 (by decide) q39 rfl dX1_linkNodes_62 ?_
        refine lv_iload_n hx hb dX1_linkNodes_65 rfl (lv_at hl 2 rfl) ?_
        refine tm_bald (f := nq1) hx hb hS 7 rfl (by omega) (by decide) dX1_linkNodes_66 ?_
        refine lv_istore_n (lv' := [(3, .int (nI (nq1 q))), (0, .ref (a 0)), (1, .int (nI (en))), (2, .int (nI (q)))]) hx hb dX1_linkNodes_67 rfl hl (by decide) rfl (fun ls hl => ?_)
        obtain ⟨u, hu⟩ : ∃ z, z = nq1 q := ⟨_, rfl⟩
        rw [← hu] at hl
        rw [← hu] at hu1 hLP hKu hPs hPu hsb
        refine lv_aload_n hx hb dX1_linkNodes_68 rfl (lv_at hl 1 rfl) ?_
        refine tm_gX hx hb hts hown hS rfl 8 (by decide) q38 rfl dX1_linkNodes_69 ?_
        refine lv_iload_n hx hb dX1_linkNodes_72 rfl (lv_at hl 0 rfl) ?_
        refine tm_bald (f := fb1) hx hb hS 6 rfl (by omega) (by decide) dX1_linkNodes_73 ?_
        refine lv_istore (lv' := [(4, .int (nI (fb1 u))), (3, .int (nI (u))), (0, .ref (a 0)), (1, .int (nI (en))), (2, .int (nI (q)))]) hx hb dX1_linkNodes_74 hl (by decide) rfl (fun ls hl => ?_)
        obtain ⟨sh, hsh⟩ : ∃ z, z = fb1 u := ⟨_, rfl⟩
        rw [← hsh] at hl
        rw [← hsh] at hLP hPs hsb
        refine lv_iconst (v := nI 0) hx hb dX1_linkNodes_76 (by decide) ?_
        refine lv_istore (lv' := [(5, .int (nI (0))), (4, .int (nI (sh))), (3, .int (nI (u))), (0, .ref (a 0)), (1, .int (nI (en))), (2, .int (nI (q)))]) hx hb dX1_linkNodes_77 hl (by decide) rfl (fun ls hl => ?_)
        have L79 : ∀ (n : Nat) (g : Nat) (re2 : Nat → Nat), (3 - g < n) → (g ≤ 3) → (tw_RE pt pw ph nc wd rn re (fun z v => tw_P nq1 q v ∨ (v = u ∧ z < g)) re2) → (∀ k, k < 147 → re2 k ≤ 4) → ∀ (H : Heap) (locs : List Loc) (ls : Array Slot), tm_S D dB dI s A A s.heap H locs (wX a dB dI wi hi nc sd tx pw ph pt br1 fb1 nq1 re2 rn fa fo pr) → lv_has ls 8 [(0, .ref (a 0)), (1, .int (nI (en))), (2, .int (nI (q))), (3, .int (nI (u))), (4, .int (nI (sh))), (5, .int (nI (g)))] → W p l e rX1_linkNodes s m args below meth c H locs 0 0 Q (F0 m 79 ls []) := by
          intro n
          induction n with
          | zero => intros; omega
          | succ n ih2 =>
            intro g re2 hn hg hE2 hre2 H locs ls hS hl
            refine lv_iload hx hb dX1_linkNodes_79 (lv_at hl 5 rfl) ?_
            refine lv_iconst (v := nI 3) hx hb dX1_linkNodes_81 (by decide) ?_
            refine tm_cge hx hb (by omega) (by omega) (tgt := 100) dX1_linkNodes_82 (by decide) (fun c_82 => ?_) (fun c_82 => ?_)
            · skip
              have hE3 : tw_RE pt pw ph nc wd rn re (fun z v => tw_P nq1 q v ∨ (v = u ∧ z < 3)) re2 := (show g = 3 by omega) ▸ hE2
              have L103 : ∀ (n : Nat) (k : Nat) (en2 : Nat) (br2 : Nat → Nat) (fb2 : Nat → Nat) (nq2 : Nat → Nat), (3 - k < n) → (k ≤ 3) → (tw_LK br nc wd (tw_P nq1 q) u k en2 br2 fb2 nq2) → (en ≤ en2) → (∀ j, j < en → nq2 j = nq1 j) → ∀ (H : Heap) (locs : List Loc) (ls : Array Slot), tm_S D dB dI s A A s.heap H locs (wX a dB dI wi hi nc sd tx pw ph pt br2 fb2 nq2 re2 rn fa fo pr) → lv_has ls 8 [(0, .ref (a 0)), (1, .int (nI (en2))), (2, .int (nI (q))), (3, .int (nI (u))), (4, .int (nI (sh))), (5, .int (nI (k)))] → W p l e rX1_linkNodes s m args below meth c H locs 0 0 Q (F0 m 103 ls []) := by
                intro n
                induction n with
                | zero => intros; omega
                | succ n ih3 =>
                  intro k en2 br2 fb2 nq2 hn hk hK2 hen3 hnq2 H locs ls hS hl
                  refine lv_iload hx hb dX1_linkNodes_103 (lv_at hl 5 rfl) ?_
                  refine lv_iconst (v := nI 3) hx hb dX1_linkNodes_105 (by decide) ?_
                  refine tm_cge hx hb (by omega) (by omega) (tgt := 186) dX1_linkNodes_106 (by decide) (fun c_106 => ?_) (fun c_106 => ?_)
                  · skip
                    have hK3 : tw_LK br nc wd (tw_P nq1 q) u 3 en2 br2 fb2 nq2 := (show k = 3 by omega) ▸ hK2
                    have hO := tw_link_out c_58 hen3 hu hnq2 hK3
                    have hen2 := tw_LK_en T hK2
                    refine tm_iinc (lv' := [(2, .int (nI (q + 1))), (0, .ref (a 0)), (1, .int (nI (en2))), (3, .int (nI (u))), (4, .int (nI (sh))), (5, .int (nI (k)))]) hx hb dX1_linkNodes_186 hl (k := 2) rfl (by decide) rfl (fun ls hl => ?_)
                    refine lv_goto (tgt := 56) hx hb dX1_linkNodes_189 (by decide) ?_
                    exact ih (q + 1) en2 u br2 fb2 nq2 re2 (by omega) (by omega) hO.1 hO.2 (tw_RE_out c_58 hu hnq2 hE3) hre2 _ _ _ hS (lv_sub hl [1, 2, 0] rfl)
                  · skip
                    have hen2 := tw_LK_en T hK2
                    have hS2 := (hK2.2.2.2.2.2.1 sh k hLP.1 (by omega)).1 (Or.inl hPs)
                    have hS3 := hS2.1
                    have hbu := (hK2.2.2.2.2.2.1 u k hu1.1 (by omega)).2 (by rintro (h | h); exact hPu h; omega)
                    have hbc := T.2.2.2.1 u hu1.1 k (by omega)
                    have hbc1 := hbc.1
                    rw [← hbu] at hbc1
                    refine lv_aload_n hx hb dX1_linkNodes_109 rfl (lv_at hl 0 rfl) ?_
                    refine tm_gX hx hb hts hown hS rfl 7 (by decide) q37 rfl dX1_linkNodes_110 ?_
                    refine lv_iconst (v := nI 3) hx hb dX1_linkNodes_113 (by decide) ?_
                    refine lv_iload_n hx hb dX1_linkNodes_114 rfl (lv_at hl 3 rfl) ?_
                    refine tm_imul hx hb dX1_linkNodes_115 ?_
                    refine lv_iload hx hb dX1_linkNodes_116 (lv_at hl 5 rfl) ?_
                    refine tm_iadd hx hb dX1_linkNodes_118 ?_
                    refine tm_bald (f := br2) hx hb hS 5 rfl (by omega) (by decide) dX1_linkNodes_119 ?_
                    refine lv_istore (lv' := [(6, .int (nI (br2 (3 * u + k)))), (0, .ref (a 0)), (1, .int (nI (en2))), (2, .int (nI (q))), (3, .int (nI (u))), (4, .int (nI (sh))), (5, .int (nI (k)))]) hx hb dX1_linkNodes_120 hl (by decide) rfl (fun ls hl => ?_)
                    refine lv_aload_n hx hb dX1_linkNodes_122 rfl (lv_at hl 1 rfl) ?_
                    refine tm_gX hx hb hts hown hS rfl 7 (by decide) q37 rfl dX1_linkNodes_123 ?_
                    refine lv_iconst (v := nI 3) hx hb dX1_linkNodes_126 (by decide) ?_
                    refine lv_iload hx hb dX1_linkNodes_127 (lv_at hl 5 rfl) ?_
                    refine tm_imul hx hb dX1_linkNodes_129 ?_
                    refine lv_iload hx hb dX1_linkNodes_130 (lv_at hl 6 rfl) ?_
                    refine tm_iadd hx hb dX1_linkNodes_132 ?_
                    refine tm_bald (f := br2) hx hb hS 5 rfl (by omega) (by decide) dX1_linkNodes_133 ?_
                    refine lv_istore (lv' := [(7, .int (nI (br2 (3 * sh + k)))), (6, .int (nI (br2 (3 * u + k)))), (0, .ref (a 0)), (1, .int (nI (en2))), (2, .int (nI (q))), (3, .int (nI (u))), (4, .int (nI (sh))), (5, .int (nI (k)))]) hx hb dX1_linkNodes_134 hl (by decide) rfl (fun ls hl => ?_)
                    refine lv_iload hx hb dX1_linkNodes_136 (lv_at hl 1 rfl) ?_
                    refine tm_zne hx hb (by omega) (tgt := 158) dX1_linkNodes_138 (by decide) (fun c_138 => ?_) (fun c_138 => ?_)
                    · skip
                      refine lv_aload_n hx hb dX1_linkNodes_158 rfl (lv_at hl 2 rfl) ?_
                      refine tm_gX hx hb hts hown hS rfl 8 (by decide) q38 rfl dX1_linkNodes_159 ?_
                      refine lv_iload hx hb dX1_linkNodes_162 (lv_at hl 1 rfl) ?_
                      refine lv_iload hx hb dX1_linkNodes_164 (lv_at hl 0 rfl) ?_
                      refine tm_i2bN hx hb (by omega) dX1_linkNodes_166 ?_
                      refine tm_bast (f := fb2) hx hb hS 6 rfl (by omega) (by decide) (by omega) (wX a dB dI wi hi nc sd tx pw ph pt br2 (tm_up fb2 (br2 (3 * u + k)) (br2 (3 * sh + k))) nq2 re2 rn fa fo pr) rfl dX1_linkNodes_167 (fun H locs hS => ?_)
                      refine lv_aload_n hx hb dX1_linkNodes_168 rfl (lv_at hl 2 rfl) ?_
                      refine tm_gX hx hb hts hown hS rfl 9 (by decide) q39 rfl dX1_linkNodes_169 ?_
                      refine lv_iload_n hx hb dX1_linkNodes_172 rfl (lv_at hl 3 rfl) ?_
                      refine lv_iload hx hb dX1_linkNodes_173 (lv_at hl 1 rfl) ?_
                      refine tm_i2bN hx hb (by omega) dX1_linkNodes_175 ?_
                      refine tm_bast (f := nq2) hx hb hS 7 rfl (by omega) (by decide) (by omega) (wX a dB dI wi hi nc sd tx pw ph pt br2 (tm_up fb2 (br2 (3 * u + k)) (br2 (3 * sh + k))) (tm_up nq2 en2 (br2 (3 * u + k))) re2 rn fa fo pr) rfl dX1_linkNodes_176 (fun H locs hS => ?_)
                      refine tm_iinc (lv' := [(1, .int (nI (en2 + 1))), (7, .int (nI (br2 (3 * sh + k)))), (6, .int (nI (br2 (3 * u + k)))), (0, .ref (a 0)), (2, .int (nI (q))), (3, .int (nI (u))), (4, .int (nI (sh))), (5, .int (nI (k)))]) hx hb dX1_linkNodes_177 hl (k := 3) rfl (by decide) rfl (fun ls hl => ?_)
                      refine tm_iinc (lv' := [(5, .int (nI (k + 1))), (1, .int (nI (en2 + 1))), (7, .int (nI (br2 (3 * sh + k)))), (6, .int (nI (br2 (3 * u + k)))), (0, .ref (a 0)), (2, .int (nI (q))), (3, .int (nI (u))), (4, .int (nI (sh)))]) hx hb dX1_linkNodes_180 hl (k := 7) rfl (by decide) rfl (fun ls hl => ?_)
                      refine lv_goto (tgt := 103) hx hb dX1_linkNodes_183 (by decide) ?_
                      exact ih3 (k + 1) (en2 + 1) br2 (tm_up fb2 (br2 (3 * u + k)) (br2 (3 * sh + k))) (tm_up nq2 en2 (br2 (3 * u + k))) (by omega) (by omega) (tw_LK_child T hK2 hu1.1 hPu (by omega) hbu.symm (by omega) (tw_LP_child T hu1.1 hLP hS2 (by rw [hbu]; exact hbc.2 (by omega)))) (by omega) (fun z hz => by rw [tm_up_n (by omega)]; exact hnq2 z hz) _ _ _ hS (lv_sub hl [4, 1, 5, 6, 7, 0] rfl)
                    · skip
                      refine lv_aload_n hx hb dX1_linkNodes_141 rfl (lv_at hl 2 rfl) ?_
                      refine tm_gX hx hb hts hown hS rfl 7 (by decide) q37 rfl dX1_linkNodes_142 ?_
                      refine lv_iconst (v := nI 3) hx hb dX1_linkNodes_145 (by decide) ?_
                      refine lv_iload_n hx hb dX1_linkNodes_146 rfl (lv_at hl 5 rfl) ?_
                      refine tm_imul hx hb dX1_linkNodes_147 ?_
                      refine lv_iload hx hb dX1_linkNodes_148 (lv_at hl 7 rfl) ?_
                      refine tm_iadd hx hb dX1_linkNodes_150 ?_
                      refine lv_iload hx hb dX1_linkNodes_151 (lv_at hl 0 rfl) ?_
                      refine tm_i2bN hx hb (by omega) dX1_linkNodes_153 ?_
                      refine tm_bast (f := br2) hx hb hS 5 rfl (by omega) (by decide) (by omega) (wX a dB dI wi hi nc sd tx pw ph pt (tm_up br2 (3 * u + k) (br2 (3 * sh + k))) fb2 nq2 re2 rn fa fo pr) rfl dX1_linkNodes_154 (fun H locs hS => ?_)
                      refine lv_goto (tgt := 180) hx hb dX1_linkNodes_155 (by decide) ?_
                      refine tm_iinc (lv' := [(5, .int (nI (k + 1))), (7, .int (nI (br2 (3 * sh + k)))), (6, .int (nI (br2 (3 * u + k)))), (0, .ref (a 0)), (1, .int (nI (en2))), (2, .int (nI (q))), (3, .int (nI (u))), (4, .int (nI (sh)))]) hx hb dX1_linkNodes_180 hl (k := 7) rfl (by decide) rfl (fun ls hl => ?_)
                      refine lv_goto (tgt := 103) hx hb dX1_linkNodes_183 (by decide) ?_
                      exact ih3 (k + 1) en2 (tm_up br2 (3 * u + k) (br2 (3 * sh + k))) fb2 nq2 (by omega) (by omega) (tw_LK_miss hK2 (by omega) (by rw [← hbu]; exact c_138) (tw_LS_miss T hu1.1 hLP hS2 (fun _ => by rw [← hbu]; exact c_138)) (tm_up_s _ _ _) (fun z hz => tm_up_n hz)) hen3 hnq2 _ _ _ hS (lv_sub hl [3, 4, 5, 6, 7, 0] rfl)
              refine lv_iconst (v := nI 0) hx hb dX1_linkNodes_100 (by decide) ?_
              refine lv_istore (lv' := [(5, .int (nI (0))), (0, .ref (a 0)), (1, .int (nI (en))), (2, .int (nI (q))), (3, .int (nI (u))), (4, .int (nI (sh)))]) hx hb dX1_linkNodes_101 hl (by decide) rfl (fun ls hl => ?_)
              exact L103 4 0 en br1 fb1 nq1 (by omega) (by omega) hKu (Nat.le_refl _) (fun _ _ => rfl) _ _ _ hS (lv_sub hl [1, 2, 3, 4, 5, 0] rfl)
            · skip
              refine lv_aload_n hx hb dX1_linkNodes_85 rfl (lv_at hl 0 rfl) ?_
              refine lv_iload hx hb dX1_linkNodes_86 (lv_at hl 5 rfl) ?_
              refine lv_iload_n hx hb dX1_linkNodes_88 rfl (lv_at hl 3 rfl) ?_
              refine lv_iload hx hb dX1_linkNodes_89 (lv_at hl 4 rfl) ?_
              refine tm_callv (q := (RX1, TX1, 16)) (As := [.int (nI (g)), .int (nI (u)), .int (nI (sh))]) (rest := []) ⟨hx, hb, hml, hown, hts⟩ (kX1_inheritRow l D dB dI a H.size wi hi nc sd tx pw ph pt br1 fb1 nq1 re2 rn fa fo pr g u sh (by omega) (by omega) (by omega) hre2) (cwV 3 hts (lw_V q137 q139 qs7 q20 q140) rfl rfl rfl (by decide +kernel) ⟨Nat.le_of_ble_eq_true rfl, Nat.le_of_ble_eq_true rfl⟩) hS hA rfl rfl rfl hl.1 rfl (Nat.le_of_ble_eq_true rfl) dX1_linkNodes_91 ⟨Nat.zero_le _, Nat.zero_le _⟩ (fun re3 H locs hp_91 hS => ?_)
              have hp_91 : (re2 (49 * g + u) ≠ 0 ∧ re3 = re2) ∨ (re2 (49 * g + u) = 0 ∧ re3 = tm_up re2 (49 * g + u) (re2 (49 * g + sh))) := hp_91
              have hS : tm_S D dB dI s A A s.heap H locs (wX a dB dI wi hi nc sd tx pw ph pt br1 fb1 nq1 re3 rn fa fo pr) := hS
              refine tm_iinc (lv' := [(5, .int (nI (g + 1))), (0, .ref (a 0)), (1, .int (nI (en))), (2, .int (nI (q))), (3, .int (nI (u))), (4, .int (nI (sh)))]) hx hb dX1_linkNodes_94 hl (k := 5) rfl (by decide) rfl (fun ls hl => ?_)
              refine lv_goto (tgt := 79) hx hb dX1_linkNodes_97 (by decide) ?_
              exact ih2 (g + 1) re3 (by omega) (by omega) (tw_RE_inh T (R g (by omega)) hE2 (by omega) hu1.1 hLP hPu hPs hp_91) (fun z hz => by rcases hp_91 with ⟨_, h⟩ | ⟨_, h⟩ <;> rw [h]; exact hre2 z hz; exact tm_up_le (hre2 _ (by omega)) hre2 z hz) _ _ _ hS (lv_sub hl [1, 2, 3, 4, 5, 0] rfl)
        exact L79 4 0 re1 (by omega) (by omega) (tw_RE_mid hE) hre1 _ _ _ hS (lv_sub hl [3, 4, 5, 2, 1, 0] rfl)
  have L11 : ∀ (n : Nat) (k : Nat) (en : Nat) (fb1 : Nat → Nat) (nq1 : Nat → Nat), (3 - k < n) → (k ≤ 3) → (tw_LK br nc wd (fun _ => False) 0 k en br fb1 nq1) → ∀ (H : Heap) (locs : List Loc) (ls : Array Slot), tm_S D dB dI s A A s.heap H locs (wX a dB dI wi hi nc sd tx pw ph pt br fb1 nq1 re rn fa fo pr) → lv_has ls 8 [(0, .ref (a 0)), (1, .int (nI (en))), (2, .int (nI (k)))] → W p l e rX1_linkNodes s m args below meth c H locs 0 0 Q (F0 m 11 ls []) := by
    intro n
    induction n with
    | zero => intros; omega
    | succ n ih =>
      intro k en fb1 nq1 hn hk hK0 H locs ls hS hl
      refine lv_iload_n hx hb dX1_linkNodes_11 rfl (lv_at hl 2 rfl) ?_
      refine lv_iconst (v := nI 3) hx hb dX1_linkNodes_12 (by decide) ?_
      refine tm_cge hx hb (by omega) (by omega) (tgt := 54) dX1_linkNodes_13 (by decide) (fun c_13 => ?_) (fun c_13 => ?_)
      · skip
        have hK3 : tw_LK br nc wd (fun _ => False) 0 3 en br fb1 nq1 := (show k = 3 by omega) ▸ hK0
        have hI := tw_link_in T hK3
        refine lv_iconst (v := nI 0) hx hb dX1_linkNodes_54 (by decide) ?_
        refine lv_istore_n (lv' := [(2, .int (nI (0))), (0, .ref (a 0)), (1, .int (nI (en)))]) hx hb dX1_linkNodes_55 rfl hl (by decide) rfl (fun ls hl => ?_)
        exact L56 50 0 en 0 br fb1 nq1 re (by omega) (by omega) hI.1 hI.2 (tw_RE_in T (fun z hz => (ok6 z hz).1) R) hre _ _ _ hS (lv_sub hl [1, 2, 0] rfl)
      · skip
        have hen := tw_LK_en T hK0
        have hb0 := T.2.2.2.1 0 T.1 k (by omega)
        rw [show 3 * 0 + k = k by omega] at hb0
        have hb1 := hb0.1
        refine lv_aload_n hx hb dX1_linkNodes_16 rfl (lv_at hl 0 rfl) ?_
        refine tm_gX hx hb hts hown hS rfl 7 (by decide) q37 rfl dX1_linkNodes_17 ?_
        refine lv_iload_n hx hb dX1_linkNodes_20 rfl (lv_at hl 2 rfl) ?_
        refine tm_bald (f := br) hx hb hS 5 rfl (by omega) (by decide) dX1_linkNodes_21 ?_
        refine lv_istore_n (lv' := [(3, .int (nI (br k))), (0, .ref (a 0)), (1, .int (nI (en))), (2, .int (nI (k)))]) hx hb dX1_linkNodes_22 rfl hl (by decide) rfl (fun ls hl => ?_)
        refine lv_iload_n hx hb dX1_linkNodes_23 rfl (lv_at hl 0 rfl) ?_
        refine tm_zne hx hb (by omega) (tgt := 30) dX1_linkNodes_24 (by decide) (fun c_24 => ?_) (fun c_24 => ?_)
        · skip
          refine lv_aload_n hx hb dX1_linkNodes_30 rfl (lv_at hl 1 rfl) ?_
          refine tm_gX hx hb hts hown hS rfl 8 (by decide) q38 rfl dX1_linkNodes_31 ?_
          refine lv_iload_n hx hb dX1_linkNodes_34 rfl (lv_at hl 0 rfl) ?_
          refine lv_iconst (v := nI 0) hx hb dX1_linkNodes_35 (by decide) ?_
          refine tm_bast (f := fb1) hx hb hS 6 rfl (by omega) (by decide) (by omega) (wX a dB dI wi hi nc sd tx pw ph pt br (tm_up fb1 (br k) 0) nq1 re rn fa fo pr) rfl dX1_linkNodes_36 (fun H locs hS => ?_)
          refine lv_aload_n hx hb dX1_linkNodes_37 rfl (lv_at hl 1 rfl) ?_
          refine tm_gX hx hb hts hown hS rfl 9 (by decide) q39 rfl dX1_linkNodes_38 ?_
          refine lv_iload_n hx hb dX1_linkNodes_41 rfl (lv_at hl 2 rfl) ?_
          refine lv_iload_n hx hb dX1_linkNodes_42 rfl (lv_at hl 0 rfl) ?_
          refine tm_i2bN hx hb (by omega) dX1_linkNodes_43 ?_
          refine tm_bast (f := nq1) hx hb hS 7 rfl (by omega) (by decide) (by omega) (wX a dB dI wi hi nc sd tx pw ph pt br (tm_up fb1 (br k) 0) (tm_up nq1 en (br k)) re rn fa fo pr) rfl dX1_linkNodes_44 (fun H locs hS => ?_)
          refine tm_iinc (lv' := [(1, .int (nI (en + 1))), (3, .int (nI (br k))), (0, .ref (a 0)), (2, .int (nI (k)))]) hx hb dX1_linkNodes_45 hl (k := 2) rfl (by decide) rfl (fun ls hl => ?_)
          refine tm_iinc (lv' := [(2, .int (nI (k + 1))), (1, .int (nI (en + 1))), (3, .int (nI (br k))), (0, .ref (a 0))]) hx hb dX1_linkNodes_48 hl (k := 3) rfl (by decide) rfl (fun ls hl => ?_)
          refine lv_goto (tgt := 11) hx hb dX1_linkNodes_51 (by decide) ?_
          exact ih (k + 1) (en + 1) (tm_up fb1 (br k) 0) (tm_up nq1 en (br k)) (by omega) (by omega) (tw_LK_child T hK0 T.1 (fun h => h) (by omega) (by rw [show 3 * 0 + k = k by omega]) (by omega) (tw_LP_root T (hb0.2 (by omega)))) _ _ _ hS (lv_sub hl [3, 1, 0] rfl)
        · skip
          refine lv_goto (tgt := 48) hx hb dX1_linkNodes_27 (by decide) ?_
          refine tm_iinc (lv' := [(2, .int (nI (k + 1))), (3, .int (nI (br k))), (0, .ref (a 0)), (1, .int (nI (en)))]) hx hb dX1_linkNodes_48 hl (k := 3) rfl (by decide) rfl (fun ls hl => ?_)
          refine lv_goto (tgt := 11) hx hb dX1_linkNodes_51 (by decide) ?_
          exact ih (k + 1) en fb1 nq1 (by omega) (by omega) (tw_LK_miss hK0 (by omega) (by rw [show 3 * 0 + k = k by omega]; exact c_24) (tw_LS_root T (fun _ => c_24)) (by rw [show 3 * 0 + k = k by omega]; exact c_24) (fun _ _ => rfl)) _ _ _ hS (lv_sub hl [2, 3, 0] rfl)
  refine lv_iconst (v := nI 0) hx hb dX1_linkNodes_0 (by decide) ?_
  refine lv_istore_n (lv' := [(1, .int (nI (0))), (0, .ref (a 0))]) hx hb dX1_linkNodes_1 rfl hl (by decide) rfl (fun ls hl => ?_)
  refine lv_aload_n hx hb dX1_linkNodes_2 rfl (lv_at hl 1 rfl) ?_
  refine tm_gX hx hb hts hown hS rfl 8 (by decide) q38 rfl dX1_linkNodes_3 ?_
  refine lv_iconst (v := nI 0) hx hb dX1_linkNodes_6 (by decide) ?_
  refine lv_iconst (v := nI 0) hx hb dX1_linkNodes_7 (by decide) ?_
  refine tm_bast (f := fb) hx hb hS 6 rfl (by omega) (by decide) (by omega) (wX a dB dI wi hi nc sd tx pw ph pt br (tm_up fb 0 0) nq re rn fa fo pr) rfl dX1_linkNodes_8 (fun H locs hS => ?_)
  refine lv_iconst (v := nI 0) hx hb dX1_linkNodes_9 (by decide) ?_
  refine lv_istore_n (lv' := [(2, .int (nI (0))), (1, .int (nI (0))), (0, .ref (a 0))]) hx hb dX1_linkNodes_10 rfl hl (by decide) rfl (fun ls hl => ?_)
  exact L11 4 0 0 (tm_up fb 0 0) nq (by omega) (by omega) tw_LK_0 _ _ _ hS (lv_sub hl [2, 1, 0] rfl)
end
section
set_option maxRecDepth 100000
abbrev rX1_buildAutomaton : Room := { frames := 2, cells := 0, slots := 0, locals := 50 }
set_option maxHeartbeats 8000000 in
set_option maxRecDepth 100000 in
/-- buildAutomaton -/
theorem kX1_buildAutomaton (l : Launch) (D : va_G) (dB dI : ClassId) (a : Nat → Nat) (sz wi hi nc sd : Nat) (tx pw ph pt br fb nq re rn fa fo pr : Nat → Nat) (hok : tm_ok wi hi tx pw ph pt) : Met l yX1_buildAutomaton (ws_ yX1_buildAutomaton cX1_buildAutomaton 3 none) rX1_buildAutomaton (tm_Pre D dB dI [.ref (a 0)] sz (wX a dB dI wi hi nc sd tx pw ph pt br fb nq re rn fa fo pr)) (tm_Qv (S := Nat × (Nat → Nat) × (Nat → Nat) × (Nat → Nat) × (Nat → Nat) × (Nat → Nat)) D dB dI (wX a dB dI wi hi nc sd tx pw ph pt br fb nq re rn fa fo pr) sz (fun u => tw_OK pt pw ph u.1 u.2.1 u.2.2.2.2.1 u.2.2.2.2.2) (fun u => wX a dB dI wi hi u.1 sd tx pw ph pt u.2.1 u.2.2.1 u.2.2.2.1 u.2.2.2.2.1 u.2.2.2.2.2 fa fo pr)) 0 0 (va_A (wX a dB dI wi hi nc sd tx pw ph pt br fb nq re rn fa fo pr) sz) := by
  refine tm_met (nL := 3) (ret := none) RX1 rfl (by decide) (Nat.le_of_ble_eq_true rfl) ?_
  intro p e s m args below meth c ls A Q H locs hx hb hml hown hts hr hlk hnm hA hAe hQ hS hl
  have hl : lv_has ls 3 [(0, .ref (a 0))] := hl
  have hok2 := hok
  obtain ⟨⟨ok1, ok2⟩, ⟨ok3, ok4⟩, ok5, ok6, ok7⟩ := hok
  have L36 : ∀ (n : Nat) (g : Nat) (nc1 : Nat) (br1 : Nat → Nat) (re1 : Nat → Nat) (rn1 : Nat → Nat) (wd1 : Nat → List Nat), (3 - g < n) → (g ≤ 3) → (tw_TI br1 nc1 wd1) → (nc1 ≤ 1 + 16 * g) → (∀ q, q < 3 → tw_RI pt pw nc1 wd1 re1 rn1 q (if q < g then ph q else 0)) → (∀ k, k < 147 → re1 k ≤ 4) → ∀ (H : Heap) (locs : List Loc) (ls : Array Slot), tm_S D dB dI s A A s.heap H locs (wX a dB dI wi hi nc1 sd tx pw ph pt br1 fb nq re1 rn1 fa fo pr) → lv_has ls 3 [(0, .ref (a 0)), (1, .int (nI (g)))] → W p l e rX1_buildAutomaton s m args below meth c H locs 0 0 Q (F0 m 36 ls []) := by
    intro n
    induction n with
    | zero => intros; omega
    | succ n ih =>
      intro g nc1 br1 re1 rn1 wd1 hn hg T1 hn1 R1 hre1 H locs ls hS hl
      refine lv_iload_n hx hb dX1_buildAutomaton_36 rfl (lv_at hl 1 rfl) ?_
      refine lv_iconst (v := nI 3) hx hb dX1_buildAutomaton_37 (by decide) ?_
      refine tm_cge hx hb (by omega) (by omega) (tgt := 71) dX1_buildAutomaton_38 (by decide) (fun c_38 => ?_) (fun c_38 => ?_)
      · skip
        have R9 : ∀ q, q < 3 → tw_RI pt pw nc1 wd1 re1 rn1 q (ph q) := fun q hq => by have h := R1 q hq; rw [if_pos (by omega)] at h; exact h
        refine lv_aload_n hx hb dX1_buildAutomaton_71 rfl (lv_at hl 0 rfl) ?_
        refine tm_callv (q := (RX1, TX1, 16)) (As := []) (rest := []) ⟨hx, hb, hml, hown, hts⟩ (kX1_linkNodes l D dB dI a H.size wi hi nc1 sd tx pw ph pt br1 fb nq re1 rn1 fa fo pr  hok2 wd1 T1 R9 hre1) (cwV 0 hts (lw_V q133 q135 qs6 q20 q136) rfl rfl rfl (by decide +kernel) ⟨Nat.le_of_ble_eq_true rfl, Nat.le_of_ble_eq_true rfl⟩) hS hA rfl rfl rfl hl.1 rfl (Nat.le_of_ble_eq_true rfl) dX1_buildAutomaton_72 ⟨Nat.zero_le _, Nat.zero_le _⟩ (fun u H locs hp_72 hS => ?_)
        obtain ⟨br4, fb4, nq4, re4⟩ := u
        have hp_72 : tw_AC nc1 wd1 br4 ∧ (∀ q v, q < 3 → v < nc1 → tw_RQ pt pw ph wd1 re4 rn1 q v) ∧ ∀ k, k < 147 → re4 k ≤ 4 := hp_72
        have hS : tm_S D dB dI s A A s.heap H locs (wX a dB dI wi hi nc1 sd tx pw ph pt br4 fb4 nq4 re4 rn1 fa fo pr) := hS
        exact tm_vret (S := Nat × (Nat → Nat) × (Nat → Nat) × (Nat → Nat) × (Nat → Nat) × (Nat → Nat)) (nc1, br4, fb4, nq4, re4, rn1) hQ hAe hx hb hr hlk hS ⟨wd1, br1, re1, T1, R9, hp_72.1, hp_72.2.1, hp_72.2.2⟩ dX1_buildAutomaton_75
      · skip
        have okg := ok6 g (by omega)
        have L43 : ∀ (n : Nat) (i : Nat) (nc2 : Nat) (br2 : Nat → Nat) (re2 : Nat → Nat) (rn2 : Nat → Nat) (wd2 : Nat → List Nat), (ph g - i < n) → (i ≤ ph g) → (tw_TI br2 nc2 wd2) → (nc2 ≤ 1 + 16 * g + 4 * i) → (∀ q, q < 3 → tw_RI pt pw nc2 wd2 re2 rn2 q (if q < g then ph q else if q = g then i else 0)) → (∀ k, k < 147 → re2 k ≤ 4) → ∀ (H : Heap) (locs : List Loc) (ls : Array Slot), tm_S D dB dI s A A s.heap H locs (wX a dB dI wi hi nc2 sd tx pw ph pt br2 fb nq re2 rn2 fa fo pr) → lv_has ls 3 [(0, .ref (a 0)), (1, .int (nI (g))), (2, .int (nI (i)))] → W p l e rX1_buildAutomaton s m args below meth c H locs 0 0 Q (F0 m 43 ls []) := by
          intro n
          induction n with
          | zero => intros; omega
          | succ n ih2 =>
            intro i nc2 br2 re2 rn2 wd2 hn hi_ T2 hn2 R2 hre2 H locs ls hS hl
            refine lv_iload_n hx hb dX1_buildAutomaton_43 rfl (lv_at hl 2 rfl) ?_
            refine lv_aload_n hx hb dX1_buildAutomaton_44 rfl (lv_at hl 0 rfl) ?_
            refine tm_gX hx hb hts hown hS rfl 4 (by decide) q34 rfl dX1_buildAutomaton_45 ?_
            refine lv_iload_n hx hb dX1_buildAutomaton_48 rfl (lv_at hl 1 rfl) ?_
            refine tm_bald (f := ph) hx hb hS 3 rfl (by omega) (by decide) dX1_buildAutomaton_49 ?_
            refine tm_cge hx hb (by omega) (by omega) (tgt := 65) dX1_buildAutomaton_50 (by decide) (fun c_50 => ?_) (fun c_50 => ?_)
            · skip
              refine tm_iinc (lv' := [(1, .int (nI (g + 1))), (0, .ref (a 0)), (2, .int (nI (i)))]) hx hb dX1_buildAutomaton_65 hl (k := 1) rfl (by decide) rfl (fun ls hl => ?_)
              refine lv_goto (tgt := 36) hx hb dX1_buildAutomaton_68 (by decide) ?_
              exact ih (g + 1) nc2 br2 re2 rn2 wd2 (by omega) (by omega) T2 (by omega) (fun q hq => by rw [show (if q < g + 1 then ph q else 0) = (if q < g then ph q else if q = g then i else 0) from (by by_cases e : q = g; subst e; simp; omega; by_cases e2 : q < g; rw [if_pos e2, if_pos (by omega)]; rw [if_neg e2, if_neg e, if_neg (by omega)])]; exact R2 q hq) hre2 _ _ _ hS (lv_sub hl [1, 0] rfl)
            · skip
              refine lv_aload_n hx hb dX1_buildAutomaton_53 rfl (lv_at hl 0 rfl) ?_
              refine lv_iload_n hx hb dX1_buildAutomaton_54 rfl (lv_at hl 1 rfl) ?_
              refine lv_iload_n hx hb dX1_buildAutomaton_55 rfl (lv_at hl 2 rfl) ?_
              refine tm_callv (q := (RX1, TX1, 16)) (As := [.int (nI (g)), .int (nI (i))]) (rest := []) ⟨hx, hb, hml, hown, hts⟩ (kX1_addRow l D dB dI a H.size wi hi nc2 sd tx pw ph pt br2 fb nq re2 rn2 fa fo pr g i hok2 (by omega) (by omega) wd2 T2 (by omega) (fun q => (if q < g then ph q else if q = g then i else 0)) (by simp) (fun q hq => by show (if q < g then ph q else if q = g then i else 0) ≤ 4; have h1 := ok6 q hq; split; omega; split; omega; omega) R2 hre2) (cwV 2 hts (lw_V q129 q131 qs5 q20 q132) rfl rfl rfl (by decide +kernel) ⟨Nat.le_of_ble_eq_true rfl, Nat.le_of_ble_eq_true rfl⟩) hS hA rfl rfl rfl hl.1 rfl (Nat.le_of_ble_eq_true rfl) dX1_buildAutomaton_56 ⟨Nat.zero_le _, Nat.zero_le _⟩ (fun u H locs hp_56 hS => ?_)
              obtain ⟨nc3, br3, re3, rn3⟩ := u
              have hp_56 : ∃ wd2, tw_TI br3 nc3 wd2 ∧ nc3 ≤ nc2 + 4 ∧ (∀ q, q < 3 → tw_RI pt pw nc3 wd2 re3 rn3 q (if q = g then i + 1 else (fun q => (if q < g then ph q else if q = g then i else 0)) q)) ∧ ∀ k, k < 147 → re3 k ≤ 4 := hp_56
              have hS : tm_S D dB dI s A A s.heap H locs (wX a dB dI wi hi nc3 sd tx pw ph pt br3 fb nq re3 rn3 fa fo pr) := hS
              refine tm_iinc (lv' := [(2, .int (nI (i + 1))), (0, .ref (a 0)), (1, .int (nI (g)))]) hx hb dX1_buildAutomaton_59 hl (k := 2) rfl (by decide) rfl (fun ls hl => ?_)
              refine lv_goto (tgt := 43) hx hb dX1_buildAutomaton_62 (by decide) ?_
              obtain ⟨wd3, T3, hn3, R3, hre3⟩ := hp_56
              exact ih2 (i + 1) nc3 br3 re3 rn3 wd3 (by omega) (by omega) T3 (by omega) (fun q hq => by have h := R3 q hq; by_cases e1 : q = g; subst e1; simpa using h; simpa [e1] using h) hre3 _ _ _ hS (lv_sub hl [1, 2, 0] rfl)
        refine lv_iconst (v := nI 0) hx hb dX1_buildAutomaton_41 (by decide) ?_
        refine lv_istore_n (lv' := [(2, .int (nI (0))), (0, .ref (a 0)), (1, .int (nI (g)))]) hx hb dX1_buildAutomaton_42 rfl hl (by decide) rfl (fun ls hl => ?_)
        exact L43 (ph g + 1) 0 nc1 br1 re1 rn1 wd1 (by omega) (by omega) T1 (by omega) (fun q hq => by have h := R1 q hq; by_cases e : q < g; rw [if_pos e] at h ⊢; exact h; rw [if_neg e] at h ⊢; by_cases e2 : q = g; rw [if_pos e2]; exact h; rw [if_neg e2]; exact h) hre1 _ _ _ hS (lv_sub hl [1, 2, 0] rfl)
  have L7 : ∀ (n : Nat) (k : Nat) (br1 : Nat → Nat) (re1 : Nat → Nat), (147 - k < n) → (k ≤ 147) → (∀ j, j < k → br1 j = 0 ∧ re1 j = 0) → ∀ (H : Heap) (locs : List Loc) (ls : Array Slot), tm_S D dB dI s A A s.heap H locs (wX a dB dI wi hi 1 sd tx pw ph pt br1 fb nq re1 rn fa fo pr) → lv_has ls 3 [(0, .ref (a 0)), (1, .int (nI (k)))] → W p l e rX1_buildAutomaton s m args below meth c H locs 0 0 Q (F0 m 7 ls []) := by
    intro n
    induction n with
    | zero => intros; omega
    | succ n ih =>
      intro k br1 re1 hn hk hz H locs ls hS hl
      refine lv_iload_n hx hb dX1_buildAutomaton_7 rfl (lv_at hl 1 rfl) ?_
      refine lv_sipush (v := nI 147) hx hb dX1_buildAutomaton_8 (by decide) ?_
      refine tm_cge hx hb (by omega) (by omega) (tgt := 34) dX1_buildAutomaton_11 (by decide) (fun c_11 => ?_) (fun c_11 => ?_)
      · skip
        refine lv_iconst (v := nI 0) hx hb dX1_buildAutomaton_34 (by decide) ?_
        refine lv_istore_n (lv' := [(1, .int (nI (0))), (0, .ref (a 0))]) hx hb dX1_buildAutomaton_35 rfl hl (by decide) rfl (fun ls hl => ?_)
        exact L36 4 0 1 br1 re1 rn (fun _ => []) (by omega) (by omega) (tw_TI_0 (fun j hj => (hz j (by omega)).1)) (by omega) (fun q hq => by rw [if_neg (by omega)]; exact tw_RI_0 hq (fun j hj => (hz j (by omega)).2)) (fun j hj => by rw [(hz j (by omega)).2]; omega) _ _ _ hS (lv_sub hl [1, 0] rfl)
      · skip
        refine lv_aload_n hx hb dX1_buildAutomaton_14 rfl (lv_at hl 0 rfl) ?_
        refine tm_gX hx hb hts hown hS rfl 7 (by decide) q37 rfl dX1_buildAutomaton_15 ?_
        refine lv_iload_n hx hb dX1_buildAutomaton_18 rfl (lv_at hl 1 rfl) ?_
        refine lv_iconst (v := nI 0) hx hb dX1_buildAutomaton_19 (by decide) ?_
        refine tm_bast (f := br1) hx hb hS 5 rfl (by omega) (by decide) (by omega) (wX a dB dI wi hi 1 sd tx pw ph pt (tm_up br1 k 0) fb nq re1 rn fa fo pr) rfl dX1_buildAutomaton_20 (fun H locs hS => ?_)
        refine lv_aload_n hx hb dX1_buildAutomaton_21 rfl (lv_at hl 0 rfl) ?_
        refine tm_gX hx hb hts hown hS rfl 10 (by decide) q40 rfl dX1_buildAutomaton_22 ?_
        refine lv_iload_n hx hb dX1_buildAutomaton_25 rfl (lv_at hl 1 rfl) ?_
        refine lv_iconst (v := -1) hx hb dX1_buildAutomaton_26 (by decide) ?_
        refine tm_bast1 (f := re1) hx hb hS 8 rfl 0 (by omega) (by decide) (by decide) (by omega) (wX a dB dI wi hi 1 sd tx pw ph pt (tm_up br1 k 0) fb nq (tm_up re1 k 0) rn fa fo pr) rfl dX1_buildAutomaton_27 (fun H locs hS => ?_)
        refine tm_iinc (lv' := [(1, .int (nI (k + 1))), (0, .ref (a 0))]) hx hb dX1_buildAutomaton_28 hl (k := 1) rfl (by decide) rfl (fun ls hl => ?_)
        refine lv_goto (tgt := 7) hx hb dX1_buildAutomaton_31 (by decide) ?_
        exact ih (k + 1) (tm_up br1 k 0) (tm_up re1 k 0) (by omega) (by omega) (fun j hj => by by_cases e : j = k; rw [e]; exact ⟨tm_up_s _ _ _, tm_up_s _ _ _⟩; rw [tm_up_n e, tm_up_n e]; exact hz j (by omega)) _ _ _ hS (lv_sub hl [1, 0] rfl)
  refine lv_aload_n hx hb dX1_buildAutomaton_0 rfl (lv_at hl 0 rfl) ?_
  refine lv_iconst (v := nI 1) hx hb dX1_buildAutomaton_1 (by decide) ?_
  refine tm_pX (ty := .int) hx hb hts hown hS rfl 6 (by decide) q36 rfl (tyX1_ok 6 (by decide)) (by first | rfl | decide) (by first | rfl | decide) (Nat.le_of_ble_eq_true rfl) (wX a dB dI wi hi 1 sd tx pw ph pt br fb nq re rn fa fo pr) rfl dX1_buildAutomaton_2 (fun H locs hS => ?_)
  refine lv_iconst (v := nI 0) hx hb dX1_buildAutomaton_5 (by decide) ?_
  refine lv_istore_n (lv' := [(1, .int (nI (0))), (0, .ref (a 0))]) hx hb dX1_buildAutomaton_6 rfl hl (by decide) rfl (fun ls hl => ?_)
  exact L7 148 0 br re (by omega) (by omega) (fun j hj => absurd hj (by omega)) _ _ _ hS (lv_sub hl [1, 0] rfl)
abbrev rX1_buildFailure : Room := { frames := 0, cells := 0, slots := 0, locals := 0 }
set_option maxHeartbeats 8000000 in
set_option maxRecDepth 100000 in
/-- buildFailure -/
theorem kX1_buildFailure (l : Launch) (D : va_G) (dB dI : ClassId) (a : Nat → Nat) (sz wi hi nc sd : Nat) (tx pw ph pt br fb nq re rn fa fo pr : Nat → Nat) (pp : Nat) (hok : tm_ok wi hi tx pw ph pt) (hpp : pp < 3) (rnb : ∀ i, i < ph pp → rn (4 * pp + i) < 4) : Met l yX1_buildFailure (ws_ yX1_buildFailure cX1_buildFailure 5 none) rX1_buildFailure (tm_Pre D dB dI [.ref (a 0), .int (nI (pp))] sz (wX a dB dI wi hi nc sd tx pw ph pt br fb nq re rn fa fo pr)) (tm_Qv (S := (Nat → Nat)) D dB dI (wX a dB dI wi hi nc sd tx pw ph pt br fb nq re rn fa fo pr) sz (fun u => (∀ j, 1 ≤ j → j ≤ ph pp → tk_F (fun i => rn (4 * pp + i)) j (u (5 * pp + j))) ∧ ∀ z, (z < 5 * pp ∨ 5 * pp + 5 ≤ z) → u z = fa z) (fun u => wX a dB dI wi hi nc sd tx pw ph pt br fb nq re rn u fo pr)) 0 0 (va_A (wX a dB dI wi hi nc sd tx pw ph pt br fb nq re rn fa fo pr) sz) := by
  refine tm_met (nL := 5) (ret := none) RX1 rfl (by decide) (Nat.le_of_ble_eq_true rfl) ?_
  intro p e s m args below meth c ls A Q H locs hx hb hml hown hts hr hlk hnm hA hAe hQ hS hl
  have hl : lv_has ls 5 [(0, .ref (a 0)), (1, .int (nI (pp)))] := hl
  obtain ⟨⟨ok1, ok2⟩, ⟨ok3, ok4⟩, ok5, ok6, ok7⟩ := hok
  have okp := ok6 pp hpp
  have L25 : ∀ (n : Nat) (mm : Nat) (k : Nat) (fa1 : Nat → Nat), (ph pp - k < n) → (1 ≤ k) → (k ≤ ph pp) → (tk_F (fun i => rn (4 * pp + i)) k mm) → (∀ j, 1 ≤ j → j ≤ k → tk_F (fun i => rn (4 * pp + i)) j (fa1 (5 * pp + j))) → (∀ z, (z < 5 * pp ∨ 5 * pp + 5 ≤ z) → fa1 z = fa z) → ∀ (H : Heap) (locs : List Loc) (ls : Array Slot), tm_S D dB dI s A A s.heap H locs (wX a dB dI wi hi nc sd tx pw ph pt br fb nq re rn fa1 fo pr) → lv_has ls 5 [(0, .ref (a 0)), (1, .int (nI (pp))), (2, .int (nI (5 * pp))), (3, .int (nI (mm))), (4, .int (nI (k)))] → W p l e rX1_buildFailure s m args below meth c H locs 0 0 Q (F0 m 25 ls []) := by
    intro n
    induction n with
    | zero => intros; omega
    | succ n ih =>
      intro mm k fa1 hn hk1 hk2 F1 FA keep H locs ls hS hl
      refine lv_iload hx hb dX1_buildFailure_25 (lv_at hl 4 rfl) ?_
      refine lv_aload_n hx hb dX1_buildFailure_27 rfl (lv_at hl 0 rfl) ?_
      refine tm_gX hx hb hts hown hS rfl 4 (by decide) q34 rfl dX1_buildFailure_28 ?_
      refine lv_iload_n hx hb dX1_buildFailure_31 rfl (lv_at hl 1 rfl) ?_
      refine tm_bald (f := ph) hx hb hS 3 rfl (by omega) (by decide) dX1_buildFailure_32 ?_
      refine tm_cge hx hb (by omega) (by omega) (tgt := 122) dX1_buildFailure_33 (by decide) (fun c_33 => ?_) (fun c_33 => ?_)
      · skip
        exact tm_vret (S := (Nat → Nat)) (fa1) hQ hAe hx hb hr hlk hS ⟨fun j h1 h2 => FA j h1 (by omega), keep⟩ dX1_buildFailure_122
      · skip
        have hrk := rnb k c_33
        have J103 : ∀ (mm4 : Nat), (tk_F (fun i => rn (4 * pp + i)) (k + 1) mm4) → ∀ (H : Heap) (locs : List Loc) (ls : Array Slot), tm_S D dB dI s A A s.heap H locs (wX a dB dI wi hi nc sd tx pw ph pt br fb nq re rn fa1 fo pr) → lv_has ls 5 [(0, .ref (a 0)), (1, .int (nI (pp))), (2, .int (nI (5 * pp))), (3, .int (nI (mm4))), (4, .int (nI (k)))] → W p l e rX1_buildFailure s m args below meth c H locs 0 0 Q (F0 m 103 ls []) := by
          intro mm4 F4 H locs ls hS hl
          have hm4 := F4.1
          refine lv_aload_n hx hb dX1_buildFailure_103 rfl (lv_at hl 0 rfl) ?_
          refine tm_gX hx hb hts hown hS rfl 12 (by decide) q42 rfl dX1_buildFailure_104 ?_
          refine lv_iload_n hx hb dX1_buildFailure_107 rfl (lv_at hl 2 rfl) ?_
          refine lv_iload hx hb dX1_buildFailure_108 (lv_at hl 4 rfl) ?_
          refine tm_iadd hx hb dX1_buildFailure_110 ?_
          refine lv_iconst (v := nI 1) hx hb dX1_buildFailure_111 (by decide) ?_
          refine tm_iadd hx hb dX1_buildFailure_112 ?_
          refine lv_iload_n hx hb dX1_buildFailure_113 rfl (lv_at hl 3 rfl) ?_
          refine tm_i2bN hx hb (by omega) dX1_buildFailure_114 ?_
          refine tm_bast (f := fa1) hx hb hS 10 rfl (by omega) (by decide) (by omega) (wX a dB dI wi hi nc sd tx pw ph pt br fb nq re rn (tm_up fa1 (5 * pp + k + 1) mm4) fo pr) rfl dX1_buildFailure_115 (fun H locs hS => ?_)
          refine tm_iinc (lv' := [(4, .int (nI (k + 1))), (0, .ref (a 0)), (1, .int (nI (pp))), (2, .int (nI (5 * pp))), (3, .int (nI (mm4)))]) hx hb dX1_buildFailure_116 hl (k := 4) rfl (by decide) rfl (fun ls hl => ?_)
          refine lv_goto (tgt := 25) hx hb dX1_buildFailure_119 (by decide) ?_
          exact ih mm4 (k + 1) (tm_up fa1 (5 * pp + k + 1) mm4) (by omega) (by omega) (by omega) F4 (fun j h1 h2 => by by_cases e : j = k + 1; rw [e, show 5 * pp + (k + 1) = 5 * pp + k + 1 by omega, tm_up_s]; exact F4; rw [tm_up_n (by omega)]; exact FA j h1 (by omega)) (fun z hz => by rw [tm_up_n (by omega)]; exact keep z hz) _ _ _ hS (lv_sub hl [1, 2, 3, 4, 0] rfl)
        have J76 : ∀ (mm3 : Nat), (tk_J (fun i => rn (4 * pp + i)) k mm3) → (mm3 = 0 ∨ rn (4 * pp + mm3) = rn (4 * pp + k)) → ∀ (H : Heap) (locs : List Loc) (ls : Array Slot), tm_S D dB dI s A A s.heap H locs (wX a dB dI wi hi nc sd tx pw ph pt br fb nq re rn fa1 fo pr) → lv_has ls 5 [(0, .ref (a 0)), (1, .int (nI (pp))), (2, .int (nI (5 * pp))), (3, .int (nI (mm3))), (4, .int (nI (k)))] → W p l e rX1_buildFailure s m args below meth c H locs 0 0 Q (F0 m 76 ls []) := by
          intro mm3 J3 h3 H locs ls hS hl
          have hJ3 := J3.1
          have hrm := rnb mm3 (by omega)
          refine lv_aload_n hx hb dX1_buildFailure_76 rfl (lv_at hl 0 rfl) ?_
          refine tm_gX hx hb hts hown hS rfl 11 (by decide) q41 rfl dX1_buildFailure_77 ?_
          refine lv_iconst (v := nI 4) hx hb dX1_buildFailure_80 (by decide) ?_
          refine lv_iload_n hx hb dX1_buildFailure_81 rfl (lv_at hl 1 rfl) ?_
          refine tm_imul hx hb dX1_buildFailure_82 ?_
          refine lv_iload_n hx hb dX1_buildFailure_83 rfl (lv_at hl 3 rfl) ?_
          refine tm_iadd hx hb dX1_buildFailure_84 ?_
          refine tm_bald (f := rn) hx hb hS 9 rfl (by omega) (by decide) dX1_buildFailure_85 ?_
          refine lv_aload_n hx hb dX1_buildFailure_86 rfl (lv_at hl 0 rfl) ?_
          refine tm_gX hx hb hts hown hS rfl 11 (by decide) q41 rfl dX1_buildFailure_87 ?_
          refine lv_iconst (v := nI 4) hx hb dX1_buildFailure_90 (by decide) ?_
          refine lv_iload_n hx hb dX1_buildFailure_91 rfl (lv_at hl 1 rfl) ?_
          refine tm_imul hx hb dX1_buildFailure_92 ?_
          refine lv_iload hx hb dX1_buildFailure_93 (lv_at hl 4 rfl) ?_
          refine tm_iadd hx hb dX1_buildFailure_95 ?_
          refine tm_bald (f := rn) hx hb hS 9 rfl (by omega) (by decide) dX1_buildFailure_96 ?_
          refine tm_cne hx hb (by omega) (by omega) (tgt := 103) dX1_buildFailure_97 (by decide) (fun c_97 => ?_) (fun c_97 => ?_)
          · skip
            exact J103 mm3 (by rcases h3 with h | h; subst h; exact tk_J_zero J3 c_97; exact absurd h c_97) _ _ _ hS (lv_sub hl [0, 1, 2, 3, 4] rfl)
          · skip
            refine tm_iinc (lv' := [(3, .int (nI (mm3 + 1))), (0, .ref (a 0)), (1, .int (nI (pp))), (2, .int (nI (5 * pp))), (4, .int (nI (k)))]) hx hb dX1_buildFailure_100 hl (k := 3) rfl (by decide) rfl (fun ls hl => ?_)
            exact J103 (mm3 + 1) (tk_J_hit J3 c_97) _ _ _ hS (lv_sub hl [1, 2, 3, 0, 4] rfl)
        have L36 : ∀ (n : Nat) (mm2 : Nat), (mm2 < n) → (tk_J (fun i => rn (4 * pp + i)) k mm2) → ∀ (H : Heap) (locs : List Loc) (ls : Array Slot), tm_S D dB dI s A A s.heap H locs (wX a dB dI wi hi nc sd tx pw ph pt br fb nq re rn fa1 fo pr) → lv_has ls 5 [(0, .ref (a 0)), (1, .int (nI (pp))), (2, .int (nI (5 * pp))), (3, .int (nI (mm2))), (4, .int (nI (k)))] → W p l e rX1_buildFailure s m args below meth c H locs 0 0 Q (F0 m 36 ls []) := by
          intro n
          induction n with
          | zero => intros; omega
          | succ n ih2 =>
            intro mm2 hn J2 H locs ls hS hl
            have hJ2 := J2.1
            have hrm := rnb mm2 (by omega)
            refine lv_iload_n hx hb dX1_buildFailure_36 rfl (lv_at hl 3 rfl) ?_
            refine tm_zle hx hb (by omega) (tgt := 76) dX1_buildFailure_37 (by decide) (fun c_37 => ?_) (fun c_37 => ?_)
            · skip
              exact J76 mm2 J2 (by first | exact Or.inl c_37 | exact Or.inr c_61) _ _ _ hS (lv_sub hl [0, 1, 2, 3, 4] rfl)
            · skip
              refine lv_aload_n hx hb dX1_buildFailure_40 rfl (lv_at hl 0 rfl) ?_
              refine tm_gX hx hb hts hown hS rfl 11 (by decide) q41 rfl dX1_buildFailure_41 ?_
              refine lv_iconst (v := nI 4) hx hb dX1_buildFailure_44 (by decide) ?_
              refine lv_iload_n hx hb dX1_buildFailure_45 rfl (lv_at hl 1 rfl) ?_
              refine tm_imul hx hb dX1_buildFailure_46 ?_
              refine lv_iload_n hx hb dX1_buildFailure_47 rfl (lv_at hl 3 rfl) ?_
              refine tm_iadd hx hb dX1_buildFailure_48 ?_
              refine tm_bald (f := rn) hx hb hS 9 rfl (by omega) (by decide) dX1_buildFailure_49 ?_
              refine lv_aload_n hx hb dX1_buildFailure_50 rfl (lv_at hl 0 rfl) ?_
              refine tm_gX hx hb hts hown hS rfl 11 (by decide) q41 rfl dX1_buildFailure_51 ?_
              refine lv_iconst (v := nI 4) hx hb dX1_buildFailure_54 (by decide) ?_
              refine lv_iload_n hx hb dX1_buildFailure_55 rfl (lv_at hl 1 rfl) ?_
              refine tm_imul hx hb dX1_buildFailure_56 ?_
              refine lv_iload hx hb dX1_buildFailure_57 (lv_at hl 4 rfl) ?_
              refine tm_iadd hx hb dX1_buildFailure_59 ?_
              refine tm_bald (f := rn) hx hb hS 9 rfl (by omega) (by decide) dX1_buildFailure_60 ?_
              refine tm_ceq hx hb (by omega) (by omega) (tgt := 76) dX1_buildFailure_61 (by decide) (fun c_61 => ?_) (fun c_61 => ?_)
              · skip
                exact J76 mm2 J2 (by first | exact Or.inl c_37 | exact Or.inr c_61) _ _ _ hS (lv_sub hl [0, 1, 2, 3, 4] rfl)
              · skip
                have hF := FA mm2 (by omega) (by omega)
                have hF1 := hF.1
                refine lv_aload_n hx hb dX1_buildFailure_64 rfl (lv_at hl 0 rfl) ?_
                refine tm_gX hx hb hts hown hS rfl 12 (by decide) q42 rfl dX1_buildFailure_65 ?_
                refine lv_iload_n hx hb dX1_buildFailure_68 rfl (lv_at hl 2 rfl) ?_
                refine lv_iload_n hx hb dX1_buildFailure_69 rfl (lv_at hl 3 rfl) ?_
                refine tm_iadd hx hb dX1_buildFailure_70 ?_
                refine tm_bald (f := fa1) hx hb hS 10 rfl (by omega) (by decide) dX1_buildFailure_71 ?_
                refine lv_istore_n (lv' := [(3, .int (nI (fa1 (5 * pp + mm2)))), (0, .ref (a 0)), (1, .int (nI (pp))), (2, .int (nI (5 * pp))), (4, .int (nI (k)))]) hx hb dX1_buildFailure_72 rfl hl (by decide) rfl (fun ls hl => ?_)
                refine lv_goto (tgt := 36) hx hb dX1_buildFailure_73 (by decide) ?_
                exact ih2 (fa1 (5 * pp + mm2)) (by omega) (tk_J_fail J2 c_61 hF) _ _ _ hS (lv_sub hl [1, 2, 3, 0, 4] rfl)
        exact L36 (mm + 1) mm (by omega) (tk_J_start F1) _ _ _ hS (lv_sub hl [0, 1, 2, 3, 4] rfl)
  refine lv_iconst (v := nI 5) hx hb dX1_buildFailure_0 (by decide) ?_
  refine lv_iload_n hx hb dX1_buildFailure_1 rfl (lv_at hl 1 rfl) ?_
  refine tm_imul hx hb dX1_buildFailure_2 ?_
  refine lv_istore_n (lv' := [(2, .int (nI (5 * pp))), (0, .ref (a 0)), (1, .int (nI (pp)))]) hx hb dX1_buildFailure_3 rfl hl (by decide) rfl (fun ls hl => ?_)
  refine lv_aload_n hx hb dX1_buildFailure_4 rfl (lv_at hl 1 rfl) ?_
  refine tm_gX hx hb hts hown hS rfl 12 (by decide) q42 rfl dX1_buildFailure_5 ?_
  refine lv_iload_n hx hb dX1_buildFailure_8 rfl (lv_at hl 0 rfl) ?_
  refine lv_iconst (v := nI 0) hx hb dX1_buildFailure_9 (by decide) ?_
  refine tm_bast (f := fa) hx hb hS 10 rfl (by omega) (by decide) (by omega) (wX a dB dI wi hi nc sd tx pw ph pt br fb nq re rn (tm_up fa (5 * pp) 0) fo pr) rfl dX1_buildFailure_10 (fun H locs hS => ?_)
  refine lv_aload_n hx hb dX1_buildFailure_11 rfl (lv_at hl 1 rfl) ?_
  refine tm_gX hx hb hts hown hS rfl 12 (by decide) q42 rfl dX1_buildFailure_12 ?_
  refine lv_iload_n hx hb dX1_buildFailure_15 rfl (lv_at hl 0 rfl) ?_
  refine lv_iconst (v := nI 1) hx hb dX1_buildFailure_16 (by decide) ?_
  refine tm_iadd hx hb dX1_buildFailure_17 ?_
  refine lv_iconst (v := nI 0) hx hb dX1_buildFailure_18 (by decide) ?_
  refine tm_bast (f := tm_up fa (5 * pp) 0) hx hb hS 10 rfl (by omega) (by decide) (by omega) (wX a dB dI wi hi nc sd tx pw ph pt br fb nq re rn (tm_up (tm_up fa (5 * pp) 0) (5 * pp + 1) 0) fo pr) rfl dX1_buildFailure_19 (fun H locs hS => ?_)
  refine lv_iconst (v := nI 0) hx hb dX1_buildFailure_20 (by decide) ?_
  refine lv_istore_n (lv' := [(3, .int (nI (0))), (2, .int (nI (5 * pp))), (0, .ref (a 0)), (1, .int (nI (pp)))]) hx hb dX1_buildFailure_21 rfl hl (by decide) rfl (fun ls hl => ?_)
  refine lv_iconst (v := nI 1) hx hb dX1_buildFailure_22 (by decide) ?_
  refine lv_istore (lv' := [(4, .int (nI (1))), (3, .int (nI (0))), (2, .int (nI (5 * pp))), (0, .ref (a 0)), (1, .int (nI (pp)))]) hx hb dX1_buildFailure_23 hl (by decide) rfl (fun ls hl => ?_)
  exact L25 (ph pp) 0 1 (tm_up (tm_up fa (5 * pp) 0) (5 * pp + 1) 0) (by omega) (by omega) (by omega) tk_F_1 (fun j h1 h2 => by rw [show j = 1 by omega, tm_up_s]; exact tk_F_1) (fun z hz => by rw [tm_up_n (by omega), tm_up_n (by omega)]) _ _ _ hS (lv_sub hl [3, 4, 2, 1, 0] rfl)
end
section
set_option maxRecDepth 100000
abbrev rX1_advance : Room := { frames := 0, cells := 0, slots := 0, locals := 0 }
set_option maxHeartbeats 8000000 in
set_option maxRecDepth 100000 in
/-- advance -/
theorem kX1_advance (l : Launch) (D : va_G) (dB dI : ClassId) (a : Nat → Nat) (sz wi hi nc sd : Nat) (tx pw ph pt br fb nq re rn fa fo pr : Nat → Nat) (pp : Nat) (x : Nat) (y : Nat) (rw_ : Nat) (hok : tm_ok wi hi tx pw ph pt) (hpp : pp < 3) (hx_ : x < wi) (hy_ : y < hi) (hr4 : rw_ ≤ 4) (rnb : ∀ i, i < ph pp → rn (4 * pp + i) < 4) (FA : ∀ j, 1 ≤ j → j ≤ ph pp → tk_F (fun i => rn (4 * pp + i)) j (fa (5 * pp + j))) (hE : ∀ y i j, i < ph pp → j < ph pp → tk_E tx pt pw pp x y j → (tk_E tx pt pw pp x y i ↔ rn (4 * pp + i) = rn (4 * pp + j))) (hr_ : ∀ i, i < ph pp → (tk_E tx pt pw pp x y i ↔ rw_ = rn (4 * pp + i) + 1)) (PG : tk_PG (tk_E tx pt pw pp x) (ph pp) y (pr (12 * pp + x))) : Met l yX1_advance (ws_ yX1_advance cX1_advance 7 none) rX1_advance (tm_Pre D dB dI [.ref (a 0), .int (nI (pp)), .int (nI (x)), .int (nI (y)), .int (nI (rw_) - 1)] sz (wX a dB dI wi hi nc sd tx pw ph pt br fb nq re rn fa fo pr)) (tm_Qv (S := (Nat → Nat) × (Nat → Nat)) D dB dI (wX a dB dI wi hi nc sd tx pw ph pt br fb nq re rn fa fo pr) sz (fun u => ∃ mm, u.2 = tm_up pr (12 * pp + x) mm ∧ tk_PG (tk_E tx pt pw pp x) (ph pp) (y + 1) mm ∧ ((mm = ph pp ∧ u.1 = tm_up fo (12 * pp + y + 1 - ph pp) (fo (12 * pp + y + 1 - ph pp) ||| 1 <<< (x + 1 - pw pp))) ∨ (mm ≠ ph pp ∧ u.1 = fo))) (fun u => wX a dB dI wi hi nc sd tx pw ph pt br fb nq re rn fa u.1 u.2)) 0 0 (va_A (wX a dB dI wi hi nc sd tx pw ph pt br fb nq re rn fa fo pr) sz) := by
  refine tm_met (nL := 7) (ret := none) RX1 rfl (by decide) (Nat.le_of_ble_eq_true rfl) ?_
  intro p e s m args below meth c ls A Q H locs hx hb hml hown hts hr hlk hnm hA hAe hQ hS hl
  have hl : lv_has ls 7 [(0, .ref (a 0)), (1, .int (nI (pp))), (2, .int (nI (x))), (3, .int (nI (y))), (4, .int (nI (rw_) - 1))] := hl
  obtain ⟨⟨ok1, ok2⟩, ⟨ok3, ok4⟩, ok5, ok6, ok7⟩ := hok
  have okp := ok6 pp hpp
  have J97 : ∀ (mm4 : Nat), (tk_PG (tk_E tx pt pw pp x) (ph pp) (y + 1) mm4) → ∀ (H : Heap) (locs : List Loc) (ls : Array Slot), tm_S D dB dI s A A s.heap H locs (wX a dB dI wi hi nc sd tx pw ph pt br fb nq re rn fa fo pr) → lv_has ls 7 [(0, .ref (a 0)), (1, .int (nI (pp))), (2, .int (nI (x))), (3, .int (nI (y))), (4, .int (nI (rw_) - 1)), (5, .int (nI (12 * pp + x))), (6, .int (nI (mm4)))] → W p l e rX1_advance s m args below meth c H locs 0 0 Q (F0 m 97 ls []) := by
    intro mm4 P4 H locs ls hS hl
    have hm4 := P4.1.1
    refine lv_aload_n hx hb dX1_advance_97 rfl (lv_at hl 0 rfl) ?_
    refine tm_gX hx hb hts hown hS rfl 15 (by decide) q45 rfl dX1_advance_98 ?_
    refine lv_iload hx hb dX1_advance_101 (lv_at hl 5 rfl) ?_
    refine lv_iload hx hb dX1_advance_103 (lv_at hl 6 rfl) ?_
    refine tm_i2bN hx hb (by omega) dX1_advance_105 ?_
    refine tm_bast (f := pr) hx hb hS 12 rfl (by omega) (by decide) (by omega) (wX a dB dI wi hi nc sd tx pw ph pt br fb nq re rn fa fo (tm_up pr (12 * pp + x) mm4)) rfl dX1_advance_106 (fun H locs hS => ?_)
    refine lv_iload hx hb dX1_advance_107 (lv_at hl 6 rfl) ?_
    refine lv_aload_n hx hb dX1_advance_109 rfl (lv_at hl 0 rfl) ?_
    refine tm_gX hx hb hts hown hS rfl 4 (by decide) q34 rfl dX1_advance_110 ?_
    refine lv_iload_n hx hb dX1_advance_113 rfl (lv_at hl 1 rfl) ?_
    refine tm_bald (f := ph) hx hb hS 3 rfl (by omega) (by decide) dX1_advance_114 ?_
    refine tm_cne hx hb (by omega) (by omega) (tgt := 149) dX1_advance_115 (by decide) (fun c_115 => ?_) (fun c_115 => ?_)
    · skip
      exact tm_vret (S := (Nat → Nat) × (Nat → Nat)) (fo, tm_up pr (12 * pp + x) mm4) hQ hAe hx hb hr hlk hS ⟨mm4, rfl, P4, Or.inr ⟨c_115, rfl⟩⟩ dX1_advance_149
    · skip
      have hoc := (tk_M_occ (w := wi) (h := hi) okp.2.2.1 hx_ hy_).mp (by have h := P4.1; rw [c_115] at h; exact h)
      have hoc1 := hoc.1
      have hoc2 := hoc.2.1
      refine lv_aload_n hx hb dX1_advance_118 rfl (lv_at hl 0 rfl) ?_
      refine tm_gX hx hb hts hown hS rfl 14 (by decide) q44 rfl dX1_advance_119 ?_
      refine lv_bipush (v := nI 12) hx hb dX1_advance_122 (by decide) ?_
      refine lv_iload_n hx hb dX1_advance_124 rfl (lv_at hl 1 rfl) ?_
      refine tm_imul hx hb dX1_advance_125 ?_
      refine lv_iload_n hx hb dX1_advance_126 rfl (lv_at hl 3 rfl) ?_
      refine tm_iadd hx hb dX1_advance_127 ?_
      refine lv_iload hx hb dX1_advance_128 (lv_at hl 6 rfl) ?_
      refine lv_isub hx hb dX1_advance_130 ?_
      refine lv_iconst (v := nI 1) hx hb dX1_advance_131 (by decide) ?_
      refine lv_iadd hx hb dX1_advance_132 ?_
      refine tm_top (y := nI (12 * pp + y + 1 - mm4)) (tm_sub1 (by omega)) ?_
      refine lv_dup2_11 hx hb dX1_advance_133 rfl rfl ?_
      refine tm_iald (f := fo) hx hb hS 11 rfl (by omega) (by decide) dX1_advance_134 ?_
      refine lv_iconst (v := nI 1) hx hb dX1_advance_135 (by decide) ?_
      refine lv_iload_n hx hb dX1_advance_136 rfl (lv_at hl 2 rfl) ?_
      refine lv_aload_n hx hb dX1_advance_137 rfl (lv_at hl 0 rfl) ?_
      refine tm_gX hx hb hts hown hS rfl 3 (by decide) q33 rfl dX1_advance_138 ?_
      refine lv_iload_n hx hb dX1_advance_141 rfl (lv_at hl 1 rfl) ?_
      refine tm_bald (f := pw) hx hb hS 2 rfl (by omega) (by decide) dX1_advance_142 ?_
      refine lv_isub hx hb dX1_advance_143 ?_
      refine lv_iconst (v := nI 1) hx hb dX1_advance_144 (by decide) ?_
      refine lv_iadd hx hb dX1_advance_145 ?_
      refine tm_top (y := nI (x + 1 - pw pp)) (tm_sub1 (by omega)) ?_
      refine tm_ishl hx hb (by omega) (by rw [Nat.one_mul]; exact Nat.pow_lt_pow_right (by omega) (by omega)) dX1_advance_146 ?_
      refine tm_ior hx hb dX1_advance_147 ?_
      refine tm_iast (f := fo) hx hb hS 11 rfl (by omega) (by decide) (wX a dB dI wi hi nc sd tx pw ph pt br fb nq re rn fa (tm_up fo (12 * pp + y + 1 - mm4) (fo (12 * pp + y + 1 - mm4) ||| (1 <<< (x + 1 - pw pp)))) (tm_up pr (12 * pp + x) mm4)) rfl dX1_advance_148 (fun H locs hS => ?_)
      exact tm_vret (S := (Nat → Nat) × (Nat → Nat)) (tm_up fo (12 * pp + y + 1 - mm4) (fo (12 * pp + y + 1 - mm4) ||| (1 <<< (x + 1 - pw pp))), tm_up pr (12 * pp + x) mm4) hQ hAe hx hb hr hlk hS ⟨mm4, rfl, P4, Or.inl ⟨c_115, by rw [c_115]⟩⟩ dX1_advance_149
  have J78 : ∀ (mm3 : Nat), (tk_I (tk_E tx pt pw pp x) (ph pp) y mm3) → (mm3 = 0 ∨ tk_E tx pt pw pp x y mm3) → ∀ (H : Heap) (locs : List Loc) (ls : Array Slot), tm_S D dB dI s A A s.heap H locs (wX a dB dI wi hi nc sd tx pw ph pt br fb nq re rn fa fo pr) → lv_has ls 7 [(0, .ref (a 0)), (1, .int (nI (pp))), (2, .int (nI (x))), (3, .int (nI (y))), (4, .int (nI (rw_) - 1)), (5, .int (nI (12 * pp + x))), (6, .int (nI (mm3)))] → W p l e rX1_advance s m args below meth c H locs 0 0 Q (F0 m 78 ls []) := by
    intro mm3 I3 h3 H locs ls hS hl
    have hI3 := I3.1
    have hrm := rnb mm3 hI3
    refine lv_aload_n hx hb dX1_advance_78 rfl (lv_at hl 0 rfl) ?_
    refine tm_gX hx hb hts hown hS rfl 11 (by decide) q41 rfl dX1_advance_79 ?_
    refine lv_iconst (v := nI 4) hx hb dX1_advance_82 (by decide) ?_
    refine lv_iload_n hx hb dX1_advance_83 rfl (lv_at hl 1 rfl) ?_
    refine tm_imul hx hb dX1_advance_84 ?_
    refine lv_iload hx hb dX1_advance_85 (lv_at hl 6 rfl) ?_
    refine tm_iadd hx hb dX1_advance_87 ?_
    refine tm_bald (f := rn) hx hb hS 9 rfl (by omega) (by decide) dX1_advance_88 ?_
    refine lv_iload hx hb dX1_advance_89 (lv_at hl 4 rfl) ?_
    refine tm_cneE hx hb (by omega) (by omega) (tgt := 97) dX1_advance_91 (by decide) (fun c_91 => ?_) (fun c_91 => ?_)
    · skip
      exact J97 mm3 (by rcases h3 with h | h; subst h; exact tk_I_zero I3 (fun z => c_91 ((hr_ 0 hI3).mp z).symm); exact absurd ((hr_ mm3 hI3).mp h).symm c_91) _ _ _ hS (lv_sub hl [0, 1, 2, 3, 4, 5, 6] rfl)
    · skip
      refine tm_iinc (lv' := [(6, .int (nI (mm3 + 1))), (0, .ref (a 0)), (1, .int (nI (pp))), (2, .int (nI (x))), (3, .int (nI (y))), (4, .int (nI (rw_) - 1)), (5, .int (nI (12 * pp + x)))]) hx hb dX1_advance_94 hl (k := 6) rfl (by decide) rfl (fun ls hl => ?_)
      exact J97 (mm3 + 1) (tk_I_hit I3 ((hr_ mm3 hI3).mpr c_91.symm)) _ _ _ hS (lv_sub hl [1, 2, 3, 4, 5, 6, 0] rfl)
  have L41 : ∀ (n : Nat) (mm : Nat), (mm < n) → (tk_I (tk_E tx pt pw pp x) (ph pp) y mm) → ∀ (H : Heap) (locs : List Loc) (ls : Array Slot), tm_S D dB dI s A A s.heap H locs (wX a dB dI wi hi nc sd tx pw ph pt br fb nq re rn fa fo pr) → lv_has ls 7 [(0, .ref (a 0)), (1, .int (nI (pp))), (2, .int (nI (x))), (3, .int (nI (y))), (4, .int (nI (rw_) - 1)), (5, .int (nI (12 * pp + x))), (6, .int (nI (mm)))] → W p l e rX1_advance s m args below meth c H locs 0 0 Q (F0 m 41 ls []) := by
    intro n
    induction n with
    | zero => intros; omega
    | succ n ih =>
      intro mm hn I2 H locs ls hS hl
      have hI2 := I2.1
      have hrm := rnb mm hI2
      refine lv_iload hx hb dX1_advance_41 (lv_at hl 6 rfl) ?_
      refine tm_zle hx hb (by omega) (tgt := 78) dX1_advance_43 (by decide) (fun c_43 => ?_) (fun c_43 => ?_)
      · skip
        exact J78 mm I2 (by first | exact Or.inl c_43 | exact Or.inr ((hr_ mm hI2).mpr c_59.symm)) _ _ _ hS (lv_sub hl [0, 1, 2, 3, 4, 5, 6] rfl)
      · skip
        refine lv_aload_n hx hb dX1_advance_46 rfl (lv_at hl 0 rfl) ?_
        refine tm_gX hx hb hts hown hS rfl 11 (by decide) q41 rfl dX1_advance_47 ?_
        refine lv_iconst (v := nI 4) hx hb dX1_advance_50 (by decide) ?_
        refine lv_iload_n hx hb dX1_advance_51 rfl (lv_at hl 1 rfl) ?_
        refine tm_imul hx hb dX1_advance_52 ?_
        refine lv_iload hx hb dX1_advance_53 (lv_at hl 6 rfl) ?_
        refine tm_iadd hx hb dX1_advance_55 ?_
        refine tm_bald (f := rn) hx hb hS 9 rfl (by omega) (by decide) dX1_advance_56 ?_
        refine lv_iload hx hb dX1_advance_57 (lv_at hl 4 rfl) ?_
        refine tm_ceqE hx hb (by omega) (by omega) (tgt := 78) dX1_advance_59 (by decide) (fun c_59 => ?_) (fun c_59 => ?_)
        · skip
          exact J78 mm I2 (by first | exact Or.inl c_43 | exact Or.inr ((hr_ mm hI2).mpr c_59.symm)) _ _ _ hS (lv_sub hl [0, 1, 2, 3, 4, 5, 6] rfl)
        · skip
          have hF := FA mm (by omega) (by omega)
          have hF1 := hF.1
          refine lv_aload_n hx hb dX1_advance_62 rfl (lv_at hl 0 rfl) ?_
          refine tm_gX hx hb hts hown hS rfl 12 (by decide) q42 rfl dX1_advance_63 ?_
          refine lv_iconst (v := nI 5) hx hb dX1_advance_66 (by decide) ?_
          refine lv_iload_n hx hb dX1_advance_67 rfl (lv_at hl 1 rfl) ?_
          refine tm_imul hx hb dX1_advance_68 ?_
          refine lv_iload hx hb dX1_advance_69 (lv_at hl 6 rfl) ?_
          refine tm_iadd hx hb dX1_advance_71 ?_
          refine tm_bald (f := fa) hx hb hS 10 rfl (by omega) (by decide) dX1_advance_72 ?_
          refine lv_istore (lv' := [(6, .int (nI (fa (5 * pp + mm)))), (0, .ref (a 0)), (1, .int (nI (pp))), (2, .int (nI (x))), (3, .int (nI (y))), (4, .int (nI (rw_) - 1)), (5, .int (nI (12 * pp + x)))]) hx hb dX1_advance_73 hl (by decide) rfl (fun ls hl => ?_)
          refine lv_goto (tgt := 41) hx hb dX1_advance_75 (by decide) ?_
          exact ih (fa (5 * pp + mm)) (by omega) (tk_I_fail hE I2 (fun h => c_59 ((hr_ mm hI2).mp h).symm) hF) _ _ _ hS (lv_sub hl [1, 2, 3, 4, 5, 6, 0] rfl)
  refine lv_bipush (v := nI 12) hx hb dX1_advance_0 (by decide) ?_
  refine lv_iload_n hx hb dX1_advance_2 rfl (lv_at hl 1 rfl) ?_
  refine tm_imul hx hb dX1_advance_3 ?_
  refine lv_iload_n hx hb dX1_advance_4 rfl (lv_at hl 2 rfl) ?_
  refine tm_iadd hx hb dX1_advance_5 ?_
  refine lv_istore (lv' := [(5, .int (nI (12 * pp + x))), (0, .ref (a 0)), (1, .int (nI (pp))), (2, .int (nI (x))), (3, .int (nI (y))), (4, .int (nI (rw_) - 1))]) hx hb dX1_advance_6 hl (by decide) rfl (fun ls hl => ?_)
  refine lv_aload_n hx hb dX1_advance_8 rfl (lv_at hl 1 rfl) ?_
  refine tm_gX hx hb hts hown hS rfl 15 (by decide) q45 rfl dX1_advance_9 ?_
  refine lv_iload hx hb dX1_advance_12 (lv_at hl 0 rfl) ?_
  refine tm_bald (f := pr) hx hb hS 12 rfl (by omega) (by decide) dX1_advance_14 ?_
  refine lv_istore (lv' := [(6, .int (nI (pr (12 * pp + x)))), (5, .int (nI (12 * pp + x))), (0, .ref (a 0)), (1, .int (nI (pp))), (2, .int (nI (x))), (3, .int (nI (y))), (4, .int (nI (rw_) - 1))]) hx hb dX1_advance_15 hl (by decide) rfl (fun ls hl => ?_)
  obtain ⟨mm0, hm0⟩ : ∃ z, z = pr (12 * pp + x) := ⟨_, rfl⟩
  rw [← hm0] at hl
  rw [← hm0] at PG
  have hP1 := PG.1.1
  refine lv_iload hx hb dX1_advance_17 (lv_at hl 0 rfl) ?_
  refine lv_aload_n hx hb dX1_advance_19 rfl (lv_at hl 2 rfl) ?_
  refine tm_gX hx hb hts hown hS rfl 4 (by decide) q34 rfl dX1_advance_20 ?_
  refine lv_iload_n hx hb dX1_advance_23 rfl (lv_at hl 3 rfl) ?_
  refine tm_bald (f := ph) hx hb hS 3 rfl (by omega) (by decide) dX1_advance_24 ?_
  refine tm_cne hx hb (by omega) (by omega) (tgt := 41) dX1_advance_25 (by decide) (fun c_25 => ?_) (fun c_25 => ?_)
  · skip
    exact L41 (mm0 + 1) mm0 (by omega) (tk_I_start PG (by omega)) _ _ _ hS (lv_sub hl [2, 3, 4, 5, 6, 1, 0] rfl)
  · skip
    refine lv_aload_n hx hb dX1_advance_28 rfl (lv_at hl 2 rfl) ?_
    refine tm_gX hx hb hts hown hS rfl 12 (by decide) q42 rfl dX1_advance_29 ?_
    refine lv_iconst (v := nI 5) hx hb dX1_advance_32 (by decide) ?_
    refine lv_iload_n hx hb dX1_advance_33 rfl (lv_at hl 3 rfl) ?_
    refine tm_imul hx hb dX1_advance_34 ?_
    refine lv_iload hx hb dX1_advance_35 (lv_at hl 0 rfl) ?_
    refine tm_iadd hx hb dX1_advance_37 ?_
    refine tm_bald (f := fa) hx hb hS 10 rfl (by omega) (by decide) dX1_advance_38 ?_
    refine lv_istore (lv' := [(6, .int (nI (fa (5 * pp + mm0)))), (5, .int (nI (12 * pp + x))), (0, .ref (a 0)), (1, .int (nI (pp))), (2, .int (nI (x))), (3, .int (nI (y))), (4, .int (nI (rw_) - 1))]) hx hb dX1_advance_39 hl (by decide) rfl (fun ls hl => ?_)
    exact L41 (fa (5 * pp + mm0) + 1) (fa (5 * pp + mm0)) (by omega) (tk_I_full hE (by rw [c_25] at PG; exact PG) (by rw [c_25]; exact FA (ph pp) (by omega) (Nat.le_refl _))) _ _ _ hS (lv_sub hl [2, 3, 4, 5, 6, 1, 0] rfl)
abbrev rX1_searchRow : Room := { frames := 1, cells := 0, slots := 0, locals := 26 }
set_option maxHeartbeats 8000000 in
set_option maxRecDepth 100000 in
/-- searchRow -/
theorem kX1_searchRow (l : Launch) (D : va_G) (dB dI : ClassId) (a : Nat → Nat) (sz wi hi nc sd : Nat) (tx pw ph pt br fb nq re rn fa fo pr : Nat → Nat) (y : Nat) (hok : tm_ok wi hi tx pw ph pt) (hy_ : y < hi) (hOA : tw_OK pt pw ph nc br re rn) (FAa : ∀ q, q < 3 → ∀ j, 1 ≤ j → j ≤ ph q → tk_F (fun i => rn (4 * q + i)) j (fa (5 * q + j))) (FO0 : tk_FO wi hi tx pt pw ph (tk_G y 0 0) fo) (PGa : ∀ q z, q < 3 → z < wi → tk_PG (tk_E tx pt pw q z) (ph q) y (pr (12 * q + z))) : Met l yX1_searchRow (ws_ yX1_searchRow cX1_searchRow 5 none) rX1_searchRow (tm_Pre D dB dI [.ref (a 0), .int (nI (y))] sz (wX a dB dI wi hi nc sd tx pw ph pt br fb nq re rn fa fo pr)) (tm_Qv (S := (Nat → Nat) × (Nat → Nat)) D dB dI (wX a dB dI wi hi nc sd tx pw ph pt br fb nq re rn fa fo pr) sz (fun u => tk_FO wi hi tx pt pw ph (tk_G (y + 1) 0 0) u.1 ∧ ∀ q z, q < 3 → z < wi → tk_PG (tk_E tx pt pw q z) (ph q) (y + 1) (u.2 (12 * q + z))) (fun u => wX a dB dI wi hi nc sd tx pw ph pt br fb nq re rn fa u.1 u.2)) 0 0 (va_A (wX a dB dI wi hi nc sd tx pw ph pt br fb nq re rn fa fo pr) sz) := by
  refine tm_met (nL := 5) (ret := none) RX1 rfl (by decide) (Nat.le_of_ble_eq_true rfl) ?_
  intro p e s m args below meth c ls A Q H locs hx hb hml hown hts hr hlk hnm hA hAe hQ hS hl
  have hl : lv_has ls 5 [(0, .ref (a 0)), (1, .int (nI (y)))] := hl
  have hok2 := hok
  obtain ⟨⟨ok1, ok2⟩, ⟨ok3, ok4⟩, ok5, ok6, ok7⟩ := hok
  obtain ⟨wd, br0, re0, T, R, AC, RQ, hre⟩ := hOA
  have hT49 := T.2.1
  have hw : ∀ q, q < 3 → 1 ≤ pw q ∧ 1 ≤ ph q := fun q hq => ⟨(ok6 q hq).1, (ok6 q hq).2.2.1⟩
  have L4 : ∀ (n : Nat) (x : Nat) (nd : Nat) (fo1 : Nat → Nat) (pr1 : Nat → Nat), (wi - x < n) → (x ≤ wi) → (tw_LS nc wd nd (tw_seg tx y x)) → (tk_FO wi hi tx pt pw ph (tk_G y x 0) fo1) → (∀ q z, q < 3 → z < wi → tk_PG (tk_E tx pt pw q z) (ph q) (if z < x then y + 1 else y) (pr1 (12 * q + z))) → ∀ (H : Heap) (locs : List Loc) (ls : Array Slot), tm_S D dB dI s A A s.heap H locs (wX a dB dI wi hi nc sd tx pw ph pt br fb nq re rn fa fo1 pr1) → lv_has ls 5 [(0, .ref (a 0)), (1, .int (nI (y))), (2, .int (nI (nd))), (3, .int (nI (x)))] → W p l e rX1_searchRow s m args below meth c H locs 0 0 Q (F0 m 4 ls []) := by
    intro n
    induction n with
    | zero => intros; omega
    | succ n ih =>
      intro x nd fo1 pr1 hn hx_ LS FO1 PG1 H locs ls hS hl
      refine lv_iload_n hx hb dX1_searchRow_4 rfl (lv_at hl 3 rfl) ?_
      refine lv_aload_n hx hb dX1_searchRow_5 rfl (lv_at hl 0 rfl) ?_
      refine tm_gX hx hb hts hown hS rfl 0 (by decide) q30 rfl dX1_searchRow_6 ?_
      refine tm_cge hx hb (by omega) (by omega) (tgt := 74) dX1_searchRow_9 (by decide) (fun c_9 => ?_) (fun c_9 => ?_)
      · skip
        have hx9 : x = wi := by omega
        subst hx9
        exact tm_vret (S := (Nat → Nat) × (Nat → Nat)) (fo1, pr1) hQ hAe hx hb hr hlk hS ⟨tk_fo_row hw FO1, fun q z hq hz => by have h := PG1 q z hq hz; rw [if_pos hz] at h; exact h⟩ dX1_searchRow_74
      · skip
        have hl2 := ok5 (12 * y + x) (by omega)
        have hnd := LS.1
        have LS2 := tw_LS_step T LS (AC nd (tx (12 * y + x)) hnd (by omega))
        rw [← tw_seg_s] at LS2
        have hb2 := LS2.1
        refine lv_aload_n hx hb dX1_searchRow_12 rfl (lv_at hl 0 rfl) ?_
        refine tm_gX hx hb hts hown hS rfl 7 (by decide) q37 rfl dX1_searchRow_13 ?_
        refine lv_iconst (v := nI 3) hx hb dX1_searchRow_16 (by decide) ?_
        refine lv_iload_n hx hb dX1_searchRow_17 rfl (lv_at hl 2 rfl) ?_
        refine tm_imul hx hb dX1_searchRow_18 ?_
        refine lv_aload_n hx hb dX1_searchRow_19 rfl (lv_at hl 0 rfl) ?_
        refine tm_gX hx hb hts hown hS rfl 2 (by decide) q32 rfl dX1_searchRow_20 ?_
        refine lv_bipush (v := nI 12) hx hb dX1_searchRow_23 (by decide) ?_
        refine lv_iload_n hx hb dX1_searchRow_25 rfl (lv_at hl 1 rfl) ?_
        refine tm_imul hx hb dX1_searchRow_26 ?_
        refine lv_iload_n hx hb dX1_searchRow_27 rfl (lv_at hl 3 rfl) ?_
        refine tm_iadd hx hb dX1_searchRow_28 ?_
        refine tm_bald (f := tx) hx hb hS 1 rfl (by omega) (by decide) dX1_searchRow_29 ?_
        refine tm_iadd hx hb dX1_searchRow_30 ?_
        refine tm_bald (f := br) hx hb hS 5 rfl (by omega) (by decide) dX1_searchRow_31 ?_
        refine lv_istore_n (lv' := [(2, .int (nI (br (3 * nd + tx (12 * y + x))))), (0, .ref (a 0)), (1, .int (nI (y))), (3, .int (nI (x)))]) hx hb dX1_searchRow_32 rfl hl (by decide) rfl (fun ls hl => ?_)
        obtain ⟨nd2, hnd2⟩ : ∃ z, z = br (3 * nd + tx (12 * y + x)) := ⟨_, rfl⟩
        rw [← hnd2] at hl
        rw [← hnd2] at LS2 hb2
        refine lv_iconst (v := nI 0) hx hb dX1_searchRow_33 (by decide) ?_
        refine lv_istore (lv' := [(4, .int (nI (0))), (2, .int (nI (nd2))), (0, .ref (a 0)), (1, .int (nI (y))), (3, .int (nI (x)))]) hx hb dX1_searchRow_34 hl (by decide) rfl (fun ls hl => ?_)
        have L36 : ∀ (n : Nat) (g : Nat) (fo2 : Nat → Nat) (pr2 : Nat → Nat), (3 - g < n) → (g ≤ 3) → (tk_FO wi hi tx pt pw ph (tk_G y x g) fo2) → (∀ q z, q < 3 → z < wi → tk_PG (tk_E tx pt pw q z) (ph q) (if z < x ∨ (z = x ∧ q < g) then y + 1 else y) (pr2 (12 * q + z))) → ∀ (H : Heap) (locs : List Loc) (ls : Array Slot), tm_S D dB dI s A A s.heap H locs (wX a dB dI wi hi nc sd tx pw ph pt br fb nq re rn fa fo2 pr2) → lv_has ls 5 [(0, .ref (a 0)), (1, .int (nI (y))), (2, .int (nI (nd2))), (3, .int (nI (x))), (4, .int (nI (g)))] → W p l e rX1_searchRow s m args below meth c H locs 0 0 Q (F0 m 36 ls []) := by
          intro n
          induction n with
          | zero => intros; omega
          | succ n ih2 =>
            intro g fo2 pr2 hn hg FO2 PG2 H locs ls hS hl
            refine lv_iload hx hb dX1_searchRow_36 (lv_at hl 4 rfl) ?_
            refine lv_iconst (v := nI 3) hx hb dX1_searchRow_38 (by decide) ?_
            refine tm_cge hx hb (by omega) (by omega) (tgt := 68) dX1_searchRow_39 (by decide) (fun c_39 => ?_) (fun c_39 => ?_)
            · skip
              refine tm_iinc (lv' := [(3, .int (nI (x + 1))), (0, .ref (a 0)), (1, .int (nI (y))), (2, .int (nI (nd2))), (4, .int (nI (g)))]) hx hb dX1_searchRow_68 hl (k := 3) rfl (by decide) rfl (fun ls hl => ?_)
              refine lv_goto (tgt := 4) hx hb dX1_searchRow_71 (by decide) ?_
              exact ih (x + 1) nd2 fo2 pr2 (by omega) (by omega) LS2 (tk_fo_out ((show g = 3 by omega) ▸ FO2)) (tk_pr_out ((show g = 3 by omega) ▸ PG2)) _ _ _ hS (lv_sub hl [1, 2, 3, 0] rfl)
            · skip
              refine lv_aload_n hx hb dX1_searchRow_42 rfl (lv_at hl 0 rfl) ?_
              refine lv_iload hx hb dX1_searchRow_43 (lv_at hl 4 rfl) ?_
              refine lv_iload_n hx hb dX1_searchRow_45 rfl (lv_at hl 3 rfl) ?_
              refine lv_iload_n hx hb dX1_searchRow_46 rfl (lv_at hl 1 rfl) ?_
              refine lv_aload_n hx hb dX1_searchRow_47 rfl (lv_at hl 0 rfl) ?_
              refine tm_gX hx hb hts hown hS rfl 10 (by decide) q40 rfl dX1_searchRow_48 ?_
              refine lv_bipush (v := nI 49) hx hb dX1_searchRow_51 (by decide) ?_
              refine lv_iload hx hb dX1_searchRow_53 (lv_at hl 4 rfl) ?_
              refine tm_imul hx hb dX1_searchRow_55 ?_
              refine lv_iload_n hx hb dX1_searchRow_56 rfl (lv_at hl 2 rfl) ?_
              refine tm_iadd hx hb dX1_searchRow_57 ?_
              refine tm_bald1 (f := re) hx hb hS 8 rfl (by omega) (by decide) dX1_searchRow_58 ?_
              refine tm_callv (q := (RX1, TX1, 16)) (As := [.int (nI (g)), .int (nI (x)), .int (nI (y)), .int (nI (re (49 * g + nd2)) - 1)]) (rest := []) ⟨hx, hb, hml, hown, hts⟩ (kX1_advance l D dB dI a H.size wi hi nc sd tx pw ph pt br fb nq re rn fa fo2 pr2 g x y (re (49 * g + nd2)) hok2 (by omega) c_9 hy_ (hre _ (by omega)) (fun i hi_ => Nat.lt_of_lt_of_le (tw_RI_lt (R g (by omega)) hi_) (ok6 g (by omega)).2.2.2) (FAa g (by omega)) (tk_E_eq T (R g (by omega))) (fun i hi_ => tw_RQ_at (R g (by omega)) (RQ g nd2 (by omega) hb2) LS2 i hi_) (by have h := PG2 g x (by omega) c_9; rw [if_neg (by omega)] at h; exact h)) (cwV 4 hts (lw_V q149 q151 qs10 q20 q152) rfl rfl rfl (by decide +kernel) ⟨Nat.le_of_ble_eq_true rfl, Nat.le_of_ble_eq_true rfl⟩) hS hA rfl rfl rfl hl.1 rfl (Nat.le_of_ble_eq_true rfl) dX1_searchRow_59 ⟨Nat.zero_le _, Nat.zero_le _⟩ (fun u H locs hp_59 hS => ?_)
              obtain ⟨fo3, pr3⟩ := u
              have hp_59 : ∃ mm, pr3 = tm_up pr2 (12 * g + x) mm ∧ tk_PG (tk_E tx pt pw g x) (ph g) (y + 1) mm ∧ ((mm = ph g ∧ fo3 = tm_up fo2 (12 * g + y + 1 - ph g) (fo2 (12 * g + y + 1 - ph g) ||| 1 <<< (x + 1 - pw g))) ∨ (mm ≠ ph g ∧ fo3 = fo2)) := hp_59
              have hS : tm_S D dB dI s A A s.heap H locs (wX a dB dI wi hi nc sd tx pw ph pt br fb nq re rn fa fo3 pr3) := hS
              obtain ⟨mm, hpr, hpg, hfo⟩ := hp_59
              refine tm_iinc (lv' := [(4, .int (nI (g + 1))), (0, .ref (a 0)), (1, .int (nI (y))), (2, .int (nI (nd2))), (3, .int (nI (x)))]) hx hb dX1_searchRow_62 hl (k := 4) rfl (by decide) rfl (fun ls hl => ?_)
              refine lv_goto (tgt := 36) hx hb dX1_searchRow_65 (by decide) ?_
              exact ih2 (g + 1) fo3 pr3 (by omega) (by omega) (tk_step_fo hw (by omega) ok2 ok4 c_9 hy_ FO2 hpg hfo) (tk_step_pr ok2 c_9 PG2 hpr hpg) _ _ _ hS (lv_sub hl [1, 2, 3, 4, 0] rfl)
        exact L36 4 0 fo1 pr1 (by omega) (by omega) FO1 (tk_pr_in PG1) _ _ _ hS (lv_sub hl [2, 3, 1, 4, 0] rfl)
  refine lv_iconst (v := nI 0) hx hb dX1_searchRow_0 (by decide) ?_
  refine lv_istore_n (lv' := [(2, .int (nI (0))), (0, .ref (a 0)), (1, .int (nI (y)))]) hx hb dX1_searchRow_1 rfl hl (by decide) rfl (fun ls hl => ?_)
  refine lv_iconst (v := nI 0) hx hb dX1_searchRow_2 (by decide) ?_
  refine lv_istore_n (lv' := [(3, .int (nI (0))), (2, .int (nI (0))), (0, .ref (a 0)), (1, .int (nI (y)))]) hx hb dX1_searchRow_3 rfl hl (by decide) rfl (fun ls hl => ?_)
  exact L4 (wi + 1) 0 0 fo pr (by omega) (by omega) (tw_LS_self T.1 (by rw [T.2.2.1]; rfl)) FO0 (fun q z hq hz => by rw [if_neg (by omega)]; exact PGa q z hq hz) _ _ _ hS (lv_sub hl [2, 3, 1, 0] rfl)
end
section
set_option maxRecDepth 100000
abbrev rX1_search : Room := { frames := 3, cells := 0, slots := 0, locals := 72 }
set_option maxHeartbeats 8000000 in
set_option maxRecDepth 100000 in
/-- search -/
theorem kX1_search (l : Launch) (D : va_G) (dB dI : ClassId) (a : Nat → Nat) (sz wi hi nc sd : Nat) (tx pw ph pt br fb nq re rn fa fo pr : Nat → Nat) (hok : tm_ok wi hi tx pw ph pt) (hsd : sd = 0 ∨ (sd = 1 ∧ tk_FD wi hi tx pt pw ph fo)) : Met l yX1_search (ws_ yX1_search cX1_search 2 none) rX1_search (tm_Pre D dB dI [.ref (a 0)] sz (wX a dB dI wi hi nc sd tx pw ph pt br fb nq re rn fa fo pr)) (tm_Qv (S := Nat × Nat × (Nat → Nat) × (Nat → Nat) × (Nat → Nat) × (Nat → Nat) × (Nat → Nat) × (Nat → Nat) × (Nat → Nat) × (Nat → Nat)) D dB dI (wX a dB dI wi hi nc sd tx pw ph pt br fb nq re rn fa fo pr) sz (fun u => u.2.1 = 1 ∧ tk_FD wi hi tx pt pw ph u.2.2.2.2.2.2.2.2.1) (fun u => wX a dB dI wi hi u.1 u.2.1 tx pw ph pt u.2.2.1 u.2.2.2.1 u.2.2.2.2.1 u.2.2.2.2.2.1 u.2.2.2.2.2.2.1 u.2.2.2.2.2.2.2.1 u.2.2.2.2.2.2.2.2.1 u.2.2.2.2.2.2.2.2.2)) 0 0 (va_A (wX a dB dI wi hi nc sd tx pw ph pt br fb nq re rn fa fo pr) sz) := by
  refine tm_met (nL := 2) (ret := none) RX1 rfl (by decide) (Nat.le_of_ble_eq_true rfl) ?_
  intro p e s m args below meth c ls A Q H locs hx hb hml hown hts hr hlk hnm hA hAe hQ hS hl
  have hl : lv_has ls 2 [(0, .ref (a 0))] := hl
  have hok2 := hok
  obtain ⟨⟨ok1, ok2⟩, ⟨ok3, ok4⟩, ok5, ok6, ok7⟩ := hok
  have hw : ∀ q, q < 3 → 1 ≤ pw q ∧ 1 ≤ ph q := fun q hq => ⟨(ok6 q hq).1, (ok6 q hq).2.2.1⟩
  refine lv_aload_n hx hb dX1_search_0 rfl (lv_at hl 0 rfl) ?_
  refine tm_gX hx hb hts hown hS rfl 13 (by decide) q43 rfl dX1_search_1 ?_
  refine tm_zeq hx hb (by omega) (tgt := 8) dX1_search_4 (by decide) (fun c_4 => ?_) (fun c_4 => ?_)
  · skip
    refine lv_aload_n hx hb dX1_search_8 rfl (lv_at hl 0 rfl) ?_
    refine lv_iconst (v := nI 1) hx hb dX1_search_9 (by decide) ?_
    refine tm_pX (ty := .boolean) hx hb hts hown hS rfl 13 (by decide) q43 rfl (tyX1_ok 13 (by decide)) (by first | rfl | decide) (by first | rfl | decide) (Nat.le_of_ble_eq_true rfl) (wX a dB dI wi hi nc 1 tx pw ph pt br fb nq re rn fa fo pr) rfl dX1_search_10 (fun H locs hS => ?_)
    refine lv_aload_n hx hb dX1_search_13 rfl (lv_at hl 0 rfl) ?_
    refine tm_callv (q := (RX1, TX1, 16)) (As := []) (rest := []) ⟨hx, hb, hml, hown, hts⟩ (kX1_buildAutomaton l D dB dI a H.size wi hi nc 1 tx pw ph pt br fb nq re rn fa fo pr  hok2) (cwV 0 hts (lw_V q125 q127 qs4 q20 q128) rfl rfl rfl (by decide +kernel) ⟨Nat.le_of_ble_eq_true rfl, Nat.le_of_ble_eq_true rfl⟩) hS hA rfl rfl rfl hl.1 rfl (Nat.le_of_ble_eq_true rfl) dX1_search_14 ⟨Nat.zero_le _, Nat.zero_le _⟩ (fun u H locs hp_14 hS => ?_)
    obtain ⟨nc1, br1, fb1, nq1, re1, rn1⟩ := u
    have hp_14 : tw_OK pt pw ph nc1 br1 re1 rn1 := hp_14
    have hS : tm_S D dB dI s A A s.heap H locs (wX a dB dI wi hi nc1 1 tx pw ph pt br1 fb1 nq1 re1 rn1 fa fo pr) := hS
    have hOA := hp_14
    have rnb : ∀ q, q < 3 → ∀ i, i < ph q → rn1 (4 * q + i) < 4 := by
      intro q hq i hi_
      obtain ⟨wd, br0, re0, T, R, -⟩ := hOA
      exact Nat.lt_of_lt_of_le (tw_RI_lt (R q hq) hi_) (ok6 q hq).2.2.2
    have L19 : ∀ (n : Nat) (g : Nat) (fa1 : Nat → Nat), (3 - g < n) → (g ≤ 3) → (∀ q, q < g → ∀ j, 1 ≤ j → j ≤ ph q → tk_F (fun i => rn1 (4 * q + i)) j (fa1 (5 * q + j))) → ∀ (H : Heap) (locs : List Loc) (ls : Array Slot), tm_S D dB dI s A A s.heap H locs (wX a dB dI wi hi nc1 1 tx pw ph pt br1 fb1 nq1 re1 rn1 fa1 fo pr) → lv_has ls 2 [(0, .ref (a 0)), (1, .int (nI (g)))] → W p l e rX1_search s m args below meth c H locs 0 0 Q (F0 m 19 ls []) := by
      intro n
      induction n with
      | zero => intros; omega
      | succ n ih =>
        intro g fa1 hn hg FA H locs ls hS hl
        refine lv_iload_n hx hb dX1_search_19 rfl (lv_at hl 1 rfl) ?_
        refine lv_iconst (v := nI 3) hx hb dX1_search_20 (by decide) ?_
        refine tm_cge hx hb (by omega) (by omega) (tgt := 35) dX1_search_21 (by decide) (fun c_21 => ?_) (fun c_21 => ?_)
        · skip
          have FA3 : ∀ q, q < 3 → ∀ j, 1 ≤ j → j ≤ ph q → tk_F (fun i => rn1 (4 * q + i)) j (fa1 (5 * q + j)) := fun q hq => FA q (by omega)
          have L37 : ∀ (n : Nat) (k : Nat) (fo1 : Nat → Nat) (pr1 : Nat → Nat), (36 - k < n) → (k ≤ 36) → (∀ j, j < k → fo1 j = 0 ∧ pr1 j = 0) → ∀ (H : Heap) (locs : List Loc) (ls : Array Slot), tm_S D dB dI s A A s.heap H locs (wX a dB dI wi hi nc1 1 tx pw ph pt br1 fb1 nq1 re1 rn1 fa1 fo1 pr1) → lv_has ls 2 [(0, .ref (a 0)), (1, .int (nI (k)))] → W p l e rX1_search s m args below meth c H locs 0 0 Q (F0 m 37 ls []) := by
            intro n
            induction n with
            | zero => intros; omega
            | succ n ih2 =>
              intro k fo1 pr1 hn hk hz H locs ls hS hl
              refine lv_iload_n hx hb dX1_search_37 rfl (lv_at hl 1 rfl) ?_
              refine lv_bipush (v := nI 36) hx hb dX1_search_38 (by decide) ?_
              refine tm_cge hx hb (by omega) (by omega) (tgt := 63) dX1_search_40 (by decide) (fun c_40 => ?_) (fun c_40 => ?_)
              · skip
                have L65 : ∀ (n : Nat) (y : Nat) (fo2 : Nat → Nat) (pr2 : Nat → Nat), (hi - y < n) → (y ≤ hi) → (tk_FO wi hi tx pt pw ph (tk_G y 0 0) fo2) → (∀ q z, q < 3 → z < wi → tk_PG (tk_E tx pt pw q z) (ph q) y (pr2 (12 * q + z))) → ∀ (H : Heap) (locs : List Loc) (ls : Array Slot), tm_S D dB dI s A A s.heap H locs (wX a dB dI wi hi nc1 1 tx pw ph pt br1 fb1 nq1 re1 rn1 fa1 fo2 pr2) → lv_has ls 2 [(0, .ref (a 0)), (1, .int (nI (y)))] → W p l e rX1_search s m args below meth c H locs 0 0 Q (F0 m 65 ls []) := by
                  intro n
                  induction n with
                  | zero => intros; omega
                  | succ n ih3 =>
                    intro y fo2 pr2 hn hy_ FO2 PG2 H locs ls hS hl
                    refine lv_iload_n hx hb dX1_search_65 rfl (lv_at hl 1 rfl) ?_
                    refine lv_aload_n hx hb dX1_search_66 rfl (lv_at hl 0 rfl) ?_
                    refine tm_gX hx hb hts hown hS rfl 1 (by decide) q31 rfl dX1_search_67 ?_
                    refine tm_cge hx hb (by omega) (by omega) (tgt := 84) dX1_search_70 (by decide) (fun c_70 => ?_) (fun c_70 => ?_)
                    · skip
                      exact tm_vret (S := Nat × Nat × (Nat → Nat) × (Nat → Nat) × (Nat → Nat) × (Nat → Nat) × (Nat → Nat) × (Nat → Nat) × (Nat → Nat) × (Nat → Nat)) (nc1, 1, br1, fb1, nq1, re1, rn1, fa1, fo2, pr2) hQ hAe hx hb hr hlk hS ⟨rfl, tk_FO_end hw ((show y = hi by omega) ▸ FO2)⟩ dX1_search_84
                    · skip
                      refine lv_aload_n hx hb dX1_search_73 rfl (lv_at hl 0 rfl) ?_
                      refine lv_iload_n hx hb dX1_search_74 rfl (lv_at hl 1 rfl) ?_
                      refine tm_callv (q := (RX1, TX1, 16)) (As := [.int (nI (y))]) (rest := []) ⟨hx, hb, hml, hown, hts⟩ (kX1_searchRow l D dB dI a H.size wi hi nc1 1 tx pw ph pt br1 fb1 nq1 re1 rn1 fa1 fo2 pr2 y hok2 (by omega) hOA FA3 FO2 PG2) (cwV 1 hts (lw_V q145 q147 qs9 q20 q148) rfl rfl rfl (by decide +kernel) ⟨Nat.le_of_ble_eq_true rfl, Nat.le_of_ble_eq_true rfl⟩) hS hA rfl rfl rfl hl.1 rfl (Nat.le_of_ble_eq_true rfl) dX1_search_75 ⟨Nat.zero_le _, Nat.zero_le _⟩ (fun u H locs hp_75 hS => ?_)
                      obtain ⟨fo3, pr3⟩ := u
                      have hp_75 : tk_FO wi hi tx pt pw ph (tk_G (y + 1) 0 0) fo3 ∧ ∀ q z, q < 3 → z < wi → tk_PG (tk_E tx pt pw q z) (ph q) (y + 1) (pr3 (12 * q + z)) := hp_75
                      have hS : tm_S D dB dI s A A s.heap H locs (wX a dB dI wi hi nc1 1 tx pw ph pt br1 fb1 nq1 re1 rn1 fa1 fo3 pr3) := hS
                      refine tm_iinc (lv' := [(1, .int (nI (y + 1))), (0, .ref (a 0))]) hx hb dX1_search_78 hl (k := 1) rfl (by decide) rfl (fun ls hl => ?_)
                      refine lv_goto (tgt := 65) hx hb dX1_search_81 (by decide) ?_
                      exact ih3 (y + 1) fo3 pr3 (by omega) (by omega) hp_75.1 hp_75.2 _ _ _ hS (lv_sub hl [1, 0] rfl)
                refine lv_iconst (v := nI 0) hx hb dX1_search_63 (by decide) ?_
                refine lv_istore_n (lv' := [(1, .int (nI (0))), (0, .ref (a 0))]) hx hb dX1_search_64 rfl hl (by decide) rfl (fun ls hl => ?_)
                exact L65 (hi + 1) 0 fo1 pr1 (by omega) (by omega) (tk_FO_0 (fun j hj => (hz j (by omega)).1)) (fun q z hq hz2 => by rw [(hz (12 * q + z) (by omega)).2]; exact tk_PG_0) _ _ _ hS (lv_sub hl [1, 0] rfl)
              · skip
                refine lv_aload_n hx hb dX1_search_43 rfl (lv_at hl 0 rfl) ?_
                refine tm_gX hx hb hts hown hS rfl 14 (by decide) q44 rfl dX1_search_44 ?_
                refine lv_iload_n hx hb dX1_search_47 rfl (lv_at hl 1 rfl) ?_
                refine lv_iconst (v := nI 0) hx hb dX1_search_48 (by decide) ?_
                refine tm_iast (f := fo1) hx hb hS 11 rfl (by omega) (by decide) (wX a dB dI wi hi nc1 1 tx pw ph pt br1 fb1 nq1 re1 rn1 fa1 (tm_up fo1 k 0) pr1) rfl dX1_search_49 (fun H locs hS => ?_)
                refine lv_aload_n hx hb dX1_search_50 rfl (lv_at hl 0 rfl) ?_
                refine tm_gX hx hb hts hown hS rfl 15 (by decide) q45 rfl dX1_search_51 ?_
                refine lv_iload_n hx hb dX1_search_54 rfl (lv_at hl 1 rfl) ?_
                refine lv_iconst (v := nI 0) hx hb dX1_search_55 (by decide) ?_
                refine tm_bast (f := pr1) hx hb hS 12 rfl (by omega) (by decide) (by omega) (wX a dB dI wi hi nc1 1 tx pw ph pt br1 fb1 nq1 re1 rn1 fa1 (tm_up fo1 k 0) (tm_up pr1 k 0)) rfl dX1_search_56 (fun H locs hS => ?_)
                refine tm_iinc (lv' := [(1, .int (nI (k + 1))), (0, .ref (a 0))]) hx hb dX1_search_57 hl (k := 1) rfl (by decide) rfl (fun ls hl => ?_)
                refine lv_goto (tgt := 37) hx hb dX1_search_60 (by decide) ?_
                exact ih2 (k + 1) (tm_up fo1 k 0) (tm_up pr1 k 0) (by omega) (by omega) (fun j hj => by by_cases e : j = k; rw [e]; exact ⟨tm_up_s _ _ _, tm_up_s _ _ _⟩; rw [tm_up_n e, tm_up_n e]; exact hz j (by omega)) _ _ _ hS (lv_sub hl [1, 0] rfl)
          refine lv_iconst (v := nI 0) hx hb dX1_search_35 (by decide) ?_
          refine lv_istore_n (lv' := [(1, .int (nI (0))), (0, .ref (a 0))]) hx hb dX1_search_36 rfl hl (by decide) rfl (fun ls hl => ?_)
          exact L37 37 0 fo pr (by omega) (by omega) (fun j hj => absurd hj (by omega)) _ _ _ hS (lv_sub hl [1, 0] rfl)
        · skip
          refine lv_aload_n hx hb dX1_search_24 rfl (lv_at hl 0 rfl) ?_
          refine lv_iload_n hx hb dX1_search_25 rfl (lv_at hl 1 rfl) ?_
          refine tm_callv (q := (RX1, TX1, 16)) (As := [.int (nI (g))]) (rest := []) ⟨hx, hb, hml, hown, hts⟩ (kX1_buildFailure l D dB dI a H.size wi hi nc1 1 tx pw ph pt br1 fb1 nq1 re1 rn1 fa1 fo pr g hok2 (by omega) (rnb g (by omega))) (cwV 1 hts (lw_V q141 q143 qs8 q20 q144) rfl rfl rfl (by decide +kernel) ⟨Nat.le_of_ble_eq_true rfl, Nat.le_of_ble_eq_true rfl⟩) hS hA rfl rfl rfl hl.1 rfl (Nat.le_of_ble_eq_true rfl) dX1_search_26 ⟨Nat.zero_le _, Nat.zero_le _⟩ (fun fa2 H locs hp_26 hS => ?_)
          have hp_26 : (∀ j, 1 ≤ j → j ≤ ph g → tk_F (fun i => rn1 (4 * g + i)) j (fa2 (5 * g + j))) ∧ ∀ z, (z < 5 * g ∨ 5 * g + 5 ≤ z) → fa2 z = fa1 z := hp_26
          have hS : tm_S D dB dI s A A s.heap H locs (wX a dB dI wi hi nc1 1 tx pw ph pt br1 fb1 nq1 re1 rn1 fa2 fo pr) := hS
          refine tm_iinc (lv' := [(1, .int (nI (g + 1))), (0, .ref (a 0))]) hx hb dX1_search_29 hl (k := 1) rfl (by decide) rfl (fun ls hl => ?_)
          refine lv_goto (tgt := 19) hx hb dX1_search_32 (by decide) ?_
          exact ih (g + 1) fa2 (by omega) (by omega) (fun q hq j h1 h2 => by by_cases e : q = g; subst e; exact hp_26.1 j h1 h2; have h3 := ok6 q (by omega); rw [hp_26.2 _ (by omega)]; exact FA q (by omega) j h1 h2) _ _ _ hS (lv_sub hl [1, 0] rfl)
    refine lv_iconst (v := nI 0) hx hb dX1_search_17 (by decide) ?_
    refine lv_istore_n (lv' := [(1, .int (nI (0))), (0, .ref (a 0))]) hx hb dX1_search_18 rfl hl (by decide) rfl (fun ls hl => ?_)
    exact L19 4 0 fa (by omega) (by omega) (fun q hq => absurd hq (by omega)) _ _ _ hS (lv_sub hl [1, 0] rfl)
  · skip
    exact tm_vret (S := Nat × Nat × (Nat → Nat) × (Nat → Nat) × (Nat → Nat) × (Nat → Nat) × (Nat → Nat) × (Nat → Nat) × (Nat → Nat) × (Nat → Nat)) (nc, sd, br, fb, nq, re, rn, fa, fo, pr) hQ hAe hx hb hr hlk hS (by rcases hsd with h | h; exact absurd h (by omega); exact h) dX1_search_7
end
section
set_option maxRecDepth 100000
abbrev rX1_coveredInRow : Room := { frames := 0, cells := 0, slots := 0, locals := 0 }
set_option maxHeartbeats 8000000 in
set_option maxRecDepth 100000 in
/-- coveredInRow -/
theorem kX1_coveredInRow (l : Launch) (D : va_G) (dB dI : ClassId) (a : Nat → Nat) (sz wi hi nc sd : Nat) (tx pw ph pt br fb nq re rn fa fo pr : Nat → Nat) (pp : Nat) (y : Nat) (hok : tm_ok wi hi tx pw ph pt) (hpp : pp < 3) (hy12 : y < 12) (hfo : ∀ k, k < 36 → fo k < 4096) : Met l yX1_coveredInRow (ws_ yX1_coveredInRow cX1_coveredInRow 6 (some .int)) rX1_coveredInRow (tm_Pre D dB dI [.ref (a 0), .int (nI (pp)), .int (nI (y))] sz (wX a dB dI wi hi nc sd tx pw ph pt br fb nq re rn fa fo pr)) (tm_Qr sz (fun r => r = nI (tn_cr pw ph fo pp y))) 0 0 (va_A [] sz) := by
  refine tm_metR (nL := 6) (ret := (some .int)) RX1 rfl (by decide) (Nat.le_of_ble_eq_true rfl) ?_
  intro p e s m args below meth c ls A Q H locs hx hb hml hown hts hr hlk hnm hA hAe hQ hS hl
  have hl : lv_has ls 6 [(0, .ref (a 0)), (1, .int (nI (pp))), (2, .int (nI (y)))] := hl
  obtain ⟨⟨ok1, ok2⟩, ⟨ok3, ok4⟩, ok5, ok6, ok7⟩ := hok
  have okp := ok6 pp hpp
  have J45 : ∀ (bg : Nat), (bg = tm_bor (min (ph pp) (y + 1)) (fun z => fo (12 * pp + y - z))) → ∀ (H : Heap) (locs : List Loc) (ls : Array Slot), tm_S D dB dI s (fun _ => True) A s.heap H locs (wX a dB dI wi hi nc sd tx pw ph pt br fb nq re rn fa fo pr) → lv_has ls 6 [(0, .ref (a 0)), (1, .int (nI (pp))), (2, .int (nI (y))), (3, .int (nI (bg)))] → W p l e rX1_coveredInRow s m args below meth c H locs 0 0 Q (F0 m 45 ls []) := by
    intro bg hbg H locs ls hS hl
    have hbl : bg < 2 ^ 12 := by rw [hbg]; exact tm_bor_lt _ _ _ (fun z hz => hfo _ (by omega))
    have L51 : ∀ (n : Nat) (j : Nat), (pw pp - j < n) → (j ≤ pw pp) → ∀ (H : Heap) (locs : List Loc) (ls : Array Slot), tm_S D dB dI s (fun _ => True) A s.heap H locs (wX a dB dI wi hi nc sd tx pw ph pt br fb nq re rn fa fo pr) → lv_has ls 6 [(0, .ref (a 0)), (1, .int (nI (pp))), (2, .int (nI (y))), (3, .int (nI (bg))), (4, .int (nI (tm_bor j (fun z => bg <<< z)))), (5, .int (nI (j)))] → W p l e rX1_coveredInRow s m args below meth c H locs 0 0 Q (F0 m 51 ls []) := by
      intro n
      induction n with
      | zero => intros; omega
      | succ n ih =>
        intro j hn hj H locs ls hS hl
        refine lv_iload hx hb dX1_coveredInRow_51 (lv_at hl 5 rfl) ?_
        refine lv_aload_n hx hb dX1_coveredInRow_53 rfl (lv_at hl 0 rfl) ?_
        refine tm_gX hx hb hts hown hS rfl 3 (by decide) q33 rfl dX1_coveredInRow_54 ?_
        refine lv_iload_n hx hb dX1_coveredInRow_57 rfl (lv_at hl 1 rfl) ?_
        refine tm_bald (f := pw) hx hb hS 2 rfl (by omega) (by decide) dX1_coveredInRow_58 ?_
        refine tm_cge hx hb (by omega) (by omega) (tgt := 77) dX1_coveredInRow_59 (by decide) (fun c_59 => ?_) (fun c_59 => ?_)
        · skip
          refine lv_iload hx hb dX1_coveredInRow_77 (lv_at hl 4 rfl) ?_
          exact tm_iretR hQ hAe hx hb hr hlk hS (show nI _ = nI _ by rw [show j = pw pp by omega, hbg]; rfl) dX1_coveredInRow_79
        · skip
          refine lv_iload hx hb dX1_coveredInRow_62 (lv_at hl 4 rfl) ?_
          refine lv_iload_n hx hb dX1_coveredInRow_64 rfl (lv_at hl 3 rfl) ?_
          refine lv_iload hx hb dX1_coveredInRow_65 (lv_at hl 5 rfl) ?_
          refine tm_ishl hx hb (by omega) (Nat.lt_of_le_of_lt (Nat.mul_le_mul (show bg ≤ 4095 by omega) (Nat.pow_le_pow_right (show 0 < 2 by omega) (show j ≤ 3 by omega))) (by decide)) dX1_coveredInRow_67 ?_
          refine tm_ior hx hb dX1_coveredInRow_68 ?_
          refine lv_istore (lv' := [(4, .int (nI (tm_bor j (fun z => bg <<< z) ||| (bg <<< j)))), (0, .ref (a 0)), (1, .int (nI (pp))), (2, .int (nI (y))), (3, .int (nI (bg))), (5, .int (nI (j)))]) hx hb dX1_coveredInRow_69 hl (by decide) rfl (fun ls hl => ?_)
          refine tm_iinc (lv' := [(5, .int (nI (j + 1))), (4, .int (nI (tm_bor j (fun z => bg <<< z) ||| (bg <<< j)))), (0, .ref (a 0)), (1, .int (nI (pp))), (2, .int (nI (y))), (3, .int (nI (bg)))]) hx hb dX1_coveredInRow_71 hl (k := 5) rfl (by decide) rfl (fun ls hl => ?_)
          refine lv_goto (tgt := 51) hx hb dX1_coveredInRow_74 (by decide) ?_
          exact ih (j + 1) (by omega) (by omega) _ _ _ hS (lv_sub hl [2, 3, 4, 5, 1, 0] rfl)
    refine lv_iconst (v := nI 0) hx hb dX1_coveredInRow_45 (by decide) ?_
    refine lv_istore (lv' := [(4, .int (nI (0))), (0, .ref (a 0)), (1, .int (nI (pp))), (2, .int (nI (y))), (3, .int (nI (bg)))]) hx hb dX1_coveredInRow_46 hl (by decide) rfl (fun ls hl => ?_)
    refine lv_iconst (v := nI 0) hx hb dX1_coveredInRow_48 (by decide) ?_
    refine lv_istore (lv' := [(5, .int (nI (0))), (4, .int (nI (0))), (0, .ref (a 0)), (1, .int (nI (pp))), (2, .int (nI (y))), (3, .int (nI (bg)))]) hx hb dX1_coveredInRow_49 hl (by decide) rfl (fun ls hl => ?_)
    exact L51 (pw pp + 1) 0 (by omega) (by omega) _ _ _ hS (lv_sub hl [2, 3, 4, 5, 1, 0] rfl)
  have L5 : ∀ (n : Nat) (v : Nat), (ph pp - v < n) → (v ≤ ph pp) → (v ≤ y + 1) → ∀ (H : Heap) (locs : List Loc) (ls : Array Slot), tm_S D dB dI s (fun _ => True) A s.heap H locs (wX a dB dI wi hi nc sd tx pw ph pt br fb nq re rn fa fo pr) → lv_has ls 6 [(0, .ref (a 0)), (1, .int (nI (pp))), (2, .int (nI (y))), (3, .int (nI (tm_bor v (fun z => fo (12 * pp + y - z))))), (4, .int (nI (v)))] → W p l e rX1_coveredInRow s m args below meth c H locs 0 0 Q (F0 m 5 ls []) := by
    intro n
    induction n with
    | zero => intros; omega
    | succ n ih =>
      intro v hn hv hv2 H locs ls hS hl
      refine lv_iload hx hb dX1_coveredInRow_5 (lv_at hl 4 rfl) ?_
      refine lv_aload_n hx hb dX1_coveredInRow_7 rfl (lv_at hl 0 rfl) ?_
      refine tm_gX hx hb hts hown hS rfl 4 (by decide) q34 rfl dX1_coveredInRow_8 ?_
      refine lv_iload_n hx hb dX1_coveredInRow_11 rfl (lv_at hl 1 rfl) ?_
      refine tm_bald (f := ph) hx hb hS 3 rfl (by omega) (by decide) dX1_coveredInRow_12 ?_
      refine tm_cge hx hb (by omega) (by omega) (tgt := 45) dX1_coveredInRow_13 (by decide) (fun c_13 => ?_) (fun c_13 => ?_)
      · skip
        exact J45 _ (by rw [show v = min (ph pp) (y + 1) by omega]) _ _ _ hS (lv_sub hl [0, 1, 2, 3] rfl)
      · skip
        refine lv_iload hx hb dX1_coveredInRow_16 (lv_at hl 4 rfl) ?_
        refine lv_iload_n hx hb dX1_coveredInRow_18 rfl (lv_at hl 2 rfl) ?_
        refine tm_cgt hx hb (by omega) (by omega) (tgt := 45) dX1_coveredInRow_19 (by decide) (fun c_19 => ?_) (fun c_19 => ?_)
        · skip
          exact J45 _ (by rw [show v = min (ph pp) (y + 1) by omega]) _ _ _ hS (lv_sub hl [0, 1, 2, 3] rfl)
        · skip
          refine lv_iload_n hx hb dX1_coveredInRow_22 rfl (lv_at hl 3 rfl) ?_
          refine lv_aload_n hx hb dX1_coveredInRow_23 rfl (lv_at hl 0 rfl) ?_
          refine tm_gX hx hb hts hown hS rfl 14 (by decide) q44 rfl dX1_coveredInRow_24 ?_
          refine lv_bipush (v := nI 12) hx hb dX1_coveredInRow_27 (by decide) ?_
          refine lv_iload_n hx hb dX1_coveredInRow_29 rfl (lv_at hl 1 rfl) ?_
          refine tm_imul hx hb dX1_coveredInRow_30 ?_
          refine lv_iload_n hx hb dX1_coveredInRow_31 rfl (lv_at hl 2 rfl) ?_
          refine tm_iadd hx hb dX1_coveredInRow_32 ?_
          refine lv_iload hx hb dX1_coveredInRow_33 (lv_at hl 4 rfl) ?_
          refine tm_isub hx hb (by omega) dX1_coveredInRow_35 ?_
          refine tm_iald (f := fo) hx hb hS 11 rfl (by omega) (by decide) dX1_coveredInRow_36 ?_
          refine tm_ior hx hb dX1_coveredInRow_37 ?_
          refine lv_istore_n (lv' := [(3, .int (nI (tm_bor v (fun z => fo (12 * pp + y - z)) ||| fo (12 * pp + y - v)))), (0, .ref (a 0)), (1, .int (nI (pp))), (2, .int (nI (y))), (4, .int (nI (v)))]) hx hb dX1_coveredInRow_38 rfl hl (by decide) rfl (fun ls hl => ?_)
          refine tm_iinc (lv' := [(4, .int (nI (v + 1))), (3, .int (nI (tm_bor v (fun z => fo (12 * pp + y - z)) ||| fo (12 * pp + y - v)))), (0, .ref (a 0)), (1, .int (nI (pp))), (2, .int (nI (y)))]) hx hb dX1_coveredInRow_39 hl (k := 4) rfl (by decide) rfl (fun ls hl => ?_)
          refine lv_goto (tgt := 5) hx hb dX1_coveredInRow_42 (by decide) ?_
          exact ih (v + 1) (by omega) (by omega) (by omega) _ _ _ hS (lv_sub hl [2, 3, 4, 1, 0] rfl)
  refine lv_iconst (v := nI 0) hx hb dX1_coveredInRow_0 (by decide) ?_
  refine lv_istore_n (lv' := [(3, .int (nI (0))), (0, .ref (a 0)), (1, .int (nI (pp))), (2, .int (nI (y)))]) hx hb dX1_coveredInRow_1 rfl hl (by decide) rfl (fun ls hl => ?_)
  refine lv_iconst (v := nI 0) hx hb dX1_coveredInRow_2 (by decide) ?_
  refine lv_istore (lv' := [(4, .int (nI (0))), (3, .int (nI (0))), (0, .ref (a 0)), (1, .int (nI (pp))), (2, .int (nI (y)))]) hx hb dX1_coveredInRow_3 hl (by decide) rfl (fun ls hl => ?_)
  exact L5 (ph pp + 1) 0 (by omega) (by omega) (by omega) _ _ _ hS (lv_sub hl [2, 3, 4, 1, 0] rfl)
abbrev rX1_meetings : Room := { frames := 1, cells := 0, slots := 0, locals := 23 }
set_option maxHeartbeats 8000000 in
set_option maxRecDepth 100000 in
/-- meetings -/
theorem kX1_meetings (l : Launch) (D : va_G) (dB dI : ClassId) (a : Nat → Nat) (sz wi hi nc sd : Nat) (tx pw ph pt br fb nq re rn fa fo pr : Nat → Nat) (pp : Nat) (y : Nat) (dn : Nat) (hok : tm_ok wi hi tx pw ph pt) (hpp : pp < 3) (hy12 : y < 12) (hyd : y + dn < 12) (hfo : ∀ k, k < 36 → fo k < 4096) : Met l yX1_meetings (ws_ yX1_meetings cX1_meetings 8 (some .int)) rX1_meetings (tm_Pre D dB dI [.ref (a 0), .int (nI (pp)), .int (nI (y)), .int (nI (dn))] sz (wX a dB dI wi hi nc sd tx pw ph pt br fb nq re rn fa fo pr)) (tm_Qr sz (fun r => r = nI (tm_sm (pw pp) (tn_mt (fo (12 * pp + y)) (fo (12 * pp + y + dn)) dn)))) 0 0 (va_A [] sz) := by
  refine tm_metR (nL := 8) (ret := (some .int)) RX1 rfl (by decide) (Nat.le_of_ble_eq_true rfl) ?_
  intro p e s m args below meth c ls A Q H locs hx hb hml hown hts hr hlk hnm hA hAe hQ hS hl
  have hl : lv_has ls 8 [(0, .ref (a 0)), (1, .int (nI (pp))), (2, .int (nI (y))), (3, .int (nI (dn)))] := hl
  obtain ⟨⟨ok1, ok2⟩, ⟨ok3, ok4⟩, ok5, ok6, ok7⟩ := hok
  have okp := ok6 pp hpp
  refine lv_aload_n hx hb dX1_meetings_0 rfl (lv_at hl 0 rfl) ?_
  refine tm_gX hx hb hts hown hS rfl 14 (by decide) q44 rfl dX1_meetings_1 ?_
  refine lv_bipush (v := nI 12) hx hb dX1_meetings_4 (by decide) ?_
  refine lv_iload_n hx hb dX1_meetings_6 rfl (lv_at hl 1 rfl) ?_
  refine tm_imul hx hb dX1_meetings_7 ?_
  refine lv_iload_n hx hb dX1_meetings_8 rfl (lv_at hl 2 rfl) ?_
  refine tm_iadd hx hb dX1_meetings_9 ?_
  refine tm_iald (f := fo) hx hb hS 11 rfl (by omega) (by decide) dX1_meetings_10 ?_
  refine lv_istore (lv' := [(4, .int (nI (fo (12 * pp + y)))), (0, .ref (a 0)), (1, .int (nI (pp))), (2, .int (nI (y))), (3, .int (nI (dn)))]) hx hb dX1_meetings_11 hl (by decide) rfl (fun ls hl => ?_)
  refine lv_aload_n hx hb dX1_meetings_13 rfl (lv_at hl 1 rfl) ?_
  refine tm_gX hx hb hts hown hS rfl 14 (by decide) q44 rfl dX1_meetings_14 ?_
  refine lv_bipush (v := nI 12) hx hb dX1_meetings_17 (by decide) ?_
  refine lv_iload_n hx hb dX1_meetings_19 rfl (lv_at hl 2 rfl) ?_
  refine tm_imul hx hb dX1_meetings_20 ?_
  refine lv_iload_n hx hb dX1_meetings_21 rfl (lv_at hl 3 rfl) ?_
  refine tm_iadd hx hb dX1_meetings_22 ?_
  refine lv_iload_n hx hb dX1_meetings_23 rfl (lv_at hl 4 rfl) ?_
  refine tm_iadd hx hb dX1_meetings_24 ?_
  refine tm_iald (f := fo) hx hb hS 11 rfl (by omega) (by decide) dX1_meetings_25 ?_
  refine lv_istore (lv' := [(5, .int (nI (fo (12 * pp + y + dn)))), (4, .int (nI (fo (12 * pp + y)))), (0, .ref (a 0)), (1, .int (nI (pp))), (2, .int (nI (y))), (3, .int (nI (dn)))]) hx hb dX1_meetings_26 hl (by decide) rfl (fun ls hl => ?_)
  obtain ⟨bb, hbb⟩ : ∃ z, z = fo (12 * pp + y) := ⟨_, rfl⟩
  rw [← hbb] at hl
  obtain ⟨tt, htt⟩ : ∃ z, z = fo (12 * pp + y + dn) := ⟨_, rfl⟩
  rw [← htt] at hl
  have hb4 := hfo (12 * pp + y) (by omega)
  have ht4 := hfo (12 * pp + y + dn) (by omega)
  rw [← hbb] at hb4
  rw [← htt] at ht4
  refine lv_iconst (v := nI 0) hx hb dX1_meetings_28 (by decide) ?_
  refine lv_istore (lv' := [(6, .int (nI (0))), (5, .int (nI (tt))), (4, .int (nI (bb))), (0, .ref (a 0)), (1, .int (nI (pp))), (2, .int (nI (y))), (3, .int (nI (dn)))]) hx hb dX1_meetings_29 hl (by decide) rfl (fun ls hl => ?_)
  refine lv_iconst (v := nI 0) hx hb dX1_meetings_31 (by decide) ?_
  refine lv_istore (lv' := [(7, .int (nI (0))), (6, .int (nI (0))), (5, .int (nI (tt))), (4, .int (nI (bb))), (0, .ref (a 0)), (1, .int (nI (pp))), (2, .int (nI (y))), (3, .int (nI (dn)))]) hx hb dX1_meetings_32 hl (by decide) rfl (fun ls hl => ?_)
  have L34 : ∀ (n : Nat) (ac : Nat), (pw pp - ac < n) → (ac ≤ pw pp) → ∀ (H : Heap) (locs : List Loc) (ls : Array Slot), tm_S D dB dI s (fun _ => True) A s.heap H locs (wX a dB dI wi hi nc sd tx pw ph pt br fb nq re rn fa fo pr) → lv_has ls 8 [(0, .ref (a 0)), (1, .int (nI (pp))), (2, .int (nI (y))), (3, .int (nI (dn))), (4, .int (nI (bb))), (5, .int (nI (tt))), (6, .int (nI (tm_sm ac (tn_mt bb tt dn)))), (7, .int (nI (ac)))] → W p l e rX1_meetings s m args below meth c H locs 0 0 Q (F0 m 34 ls []) := by
    intro n
    induction n with
    | zero => intros; omega
    | succ n ih =>
      intro ac hn hac H locs ls hS hl
      refine lv_iload hx hb dX1_meetings_34 (lv_at hl 7 rfl) ?_
      refine lv_aload_n hx hb dX1_meetings_36 rfl (lv_at hl 0 rfl) ?_
      refine tm_gX hx hb hts hown hS rfl 3 (by decide) q33 rfl dX1_meetings_37 ?_
      refine lv_iload_n hx hb dX1_meetings_40 rfl (lv_at hl 1 rfl) ?_
      refine tm_bald (f := pw) hx hb hS 2 rfl (by omega) (by decide) dX1_meetings_41 ?_
      refine tm_cge hx hb (by omega) (by omega) (tgt := 106) dX1_meetings_42 (by decide) (fun c_42 => ?_) (fun c_42 => ?_)
      · skip
        refine lv_iload hx hb dX1_meetings_106 (lv_at hl 6 rfl) ?_
        exact tm_iretR hQ hAe hx hb hr hlk hS (show nI _ = nI _ by rw [show ac = pw pp by omega, hbb, htt]) dX1_meetings_108
      · skip
        have J100 : ∀ (tot : Nat), (tot = tm_sm (ac + 1) (tn_mt bb tt dn)) → ∀ (H : Heap) (locs : List Loc) (ls : Array Slot), tm_S D dB dI s (fun _ => True) A s.heap H locs (wX a dB dI wi hi nc sd tx pw ph pt br fb nq re rn fa fo pr) → lv_has ls 8 [(0, .ref (a 0)), (1, .int (nI (pp))), (2, .int (nI (y))), (3, .int (nI (dn))), (4, .int (nI (bb))), (5, .int (nI (tt))), (6, .int (nI (tot))), (7, .int (nI (ac)))] → W p l e rX1_meetings s m args below meth c H locs 0 0 Q (F0 m 100 ls []) := by
          intro tot htot H locs ls hS hl
          subst htot
          refine tm_iinc (lv' := [(7, .int (nI (ac + 1))), (0, .ref (a 0)), (1, .int (nI (pp))), (2, .int (nI (y))), (3, .int (nI (dn))), (4, .int (nI (bb))), (5, .int (nI (tt))), (6, .int (nI (tm_sm (ac + 1) (tn_mt bb tt dn))))]) hx hb dX1_meetings_100 hl (k := 7) rfl (by decide) rfl (fun ls hl => ?_)
          refine lv_goto (tgt := 34) hx hb dX1_meetings_103 (by decide) ?_
          exact ih (ac + 1) (by omega) (by omega) _ _ _ hS (lv_sub hl [1, 2, 3, 4, 5, 6, 7, 0] rfl)
        have J57 : (¬ (dn = 0 ∧ ac = 0)) → (∀ (H : Heap) (locs : List Loc) (ls : Array Slot), tm_S D dB dI s (fun _ => True) A s.heap H locs (wX a dB dI wi hi nc sd tx pw ph pt br fb nq re rn fa fo pr) → lv_has ls 8 [(0, .ref (a 0)), (1, .int (nI (pp))), (2, .int (nI (y))), (3, .int (nI (dn))), (4, .int (nI (bb))), (5, .int (nI (tt))), (6, .int (nI (tm_sm ac (tn_mt bb tt dn)))), (7, .int (nI (ac)))] → W p l e rX1_meetings s m args below meth c H locs 0 0 Q (F0 m 57 ls [])) := by
          intro hna H locs ls hS hl
          refine lv_iload hx hb dX1_meetings_57 (lv_at hl 6 rfl) ?_
          refine lv_aload_n hx hb dX1_meetings_59 rfl (lv_at hl 0 rfl) ?_
          refine lv_iload hx hb dX1_meetings_60 (lv_at hl 4 rfl) ?_
          refine lv_iload hx hb dX1_meetings_62 (lv_at hl 5 rfl) ?_
          refine lv_iload hx hb dX1_meetings_64 (lv_at hl 7 rfl) ?_
          refine tm_ishr hx hb (by omega) (by omega) dX1_meetings_66 ?_
          refine tm_iand hx hb dX1_meetings_67 ?_
          refine tm_callR (q := (RX1, TX1, 16)) (As := [.int (nI (bb &&& (tt >>> ac)))]) (rest := [.int (nI (tm_sm ac (tn_mt bb tt dn)))]) ⟨hx, hb, hml, hown, hts⟩ (kX1_bitsIn l D dB dI a H.size wi hi nc sd tx pw ph pt br fb nq re rn fa fo pr (bb &&& (tt >>> ac)) (Nat.lt_of_le_of_lt Nat.and_le_left (by omega))) (cwV 1 hts (lw_V q153 q155 qs11 q20 q156) rfl rfl rfl (by decide +kernel) ⟨Nat.le_of_ble_eq_true rfl, Nat.le_of_ble_eq_true rfl⟩) hS hA rfl rfl rfl hl.1 rfl (Nat.le_of_ble_eq_true rfl) dX1_meetings_68 ⟨Nat.zero_le _, Nat.zero_le _⟩ (fun r H locs hr_68 hS => ?_)
          have hr_68 : r = nI (tm_pop (bb &&& (tt >>> ac))) := hr_68
          subst hr_68
          refine tm_iadd hx hb dX1_meetings_71 ?_
          refine lv_istore (lv' := [(6, .int (nI (tm_sm ac (tn_mt bb tt dn) + tm_pop (bb &&& (tt >>> ac))))), (0, .ref (a 0)), (1, .int (nI (pp))), (2, .int (nI (y))), (3, .int (nI (dn))), (4, .int (nI (bb))), (5, .int (nI (tt))), (7, .int (nI (ac)))]) hx hb dX1_meetings_72 hl (by decide) rfl (fun ls hl => ?_)
          refine lv_iload_n hx hb dX1_meetings_74 rfl (lv_at hl 4 rfl) ?_
          refine tm_zle hx hb (by omega) (tgt := 100) dX1_meetings_75 (by decide) (fun c_75 => ?_) (fun c_75 => ?_)
          · skip
            exact J100 _ (show tm_sm ac (tn_mt bb tt dn) + tm_pop (bb &&& (tt >>> ac)) = tm_sm ac (tn_mt bb tt dn) + tn_mt bb tt dn ac from by have h := tn_mt_b (b := bb) (t := tt) hna (by omega); omega) _ _ _ hS (lv_sub hl [1, 2, 3, 4, 5, 6, 0, 7] rfl)
          · skip
            refine lv_iload hx hb dX1_meetings_78 (lv_at hl 7 rfl) ?_
            refine tm_zle hx hb (by omega) (tgt := 100) dX1_meetings_80 (by decide) (fun c_80 => ?_) (fun c_80 => ?_)
            · skip
              exact J100 _ (show tm_sm ac (tn_mt bb tt dn) + tm_pop (bb &&& (tt >>> ac)) = tm_sm ac (tn_mt bb tt dn) + tn_mt bb tt dn ac from by have h := tn_mt_b (b := bb) (t := tt) hna (by omega); omega) _ _ _ hS (lv_sub hl [1, 2, 3, 4, 5, 6, 0, 7] rfl)
            · skip
              refine lv_iload hx hb dX1_meetings_83 (lv_at hl 0 rfl) ?_
              refine lv_aload_n hx hb dX1_meetings_85 rfl (lv_at hl 1 rfl) ?_
              refine lv_iload hx hb dX1_meetings_86 (lv_at hl 5 rfl) ?_
              refine lv_iload hx hb dX1_meetings_88 (lv_at hl 7 rfl) ?_
              refine tm_ishr hx hb (by omega) (by omega) dX1_meetings_90 ?_
              refine lv_iload hx hb dX1_meetings_91 (lv_at hl 6 rfl) ?_
              refine tm_iand hx hb dX1_meetings_93 ?_
              refine tm_callR (q := (RX1, TX1, 16)) (As := [.int (nI ((bb >>> ac) &&& tt))]) (rest := [.int (nI (tm_sm ac (tn_mt bb tt dn) + tm_pop (bb &&& (tt >>> ac))))]) ⟨hx, hb, hml, hown, hts⟩ (kX1_bitsIn l D dB dI a H.size wi hi nc sd tx pw ph pt br fb nq re rn fa fo pr ((bb >>> ac) &&& tt) (Nat.lt_of_le_of_lt Nat.and_le_right (by omega))) (cwV 1 hts (lw_V q153 q155 qs11 q20 q156) rfl rfl rfl (by decide +kernel) ⟨Nat.le_of_ble_eq_true rfl, Nat.le_of_ble_eq_true rfl⟩) hS hA rfl rfl rfl hl.1 rfl (Nat.le_of_ble_eq_true rfl) dX1_meetings_94 ⟨Nat.zero_le _, Nat.zero_le _⟩ (fun r H locs hr_94 hS => ?_)
              have hr_94 : r = nI (tm_pop ((bb >>> ac) &&& tt)) := hr_94
              subst hr_94
              refine tm_iadd hx hb dX1_meetings_97 ?_
              refine lv_istore (lv' := [(6, .int (nI (tm_sm ac (tn_mt bb tt dn) + tm_pop (bb &&& (tt >>> ac)) + tm_pop ((bb >>> ac) &&& tt)))), (0, .ref (a 0)), (1, .int (nI (pp))), (2, .int (nI (y))), (3, .int (nI (dn))), (4, .int (nI (bb))), (5, .int (nI (tt))), (7, .int (nI (ac)))]) hx hb dX1_meetings_98 hl (by decide) rfl (fun ls hl => ?_)
              exact J100 _ (show tm_sm ac (tn_mt bb tt dn) + tm_pop (bb &&& (tt >>> ac)) + tm_pop ((bb >>> ac) &&& tt) = tm_sm ac (tn_mt bb tt dn) + tn_mt bb tt dn ac from by have h := tn_mt_c (b := bb) (t := tt) hna ⟨c_75, c_80⟩; omega) _ _ _ hS (lv_sub hl [1, 2, 3, 4, 5, 6, 0, 7] rfl)
        refine lv_iload_n hx hb dX1_meetings_45 rfl (lv_at hl 3 rfl) ?_
        refine tm_zne hx hb (by omega) (tgt := 57) dX1_meetings_46 (by decide) (fun c_46 => ?_) (fun c_46 => ?_)
        · skip
          exact J57 (by omega) _ _ _ hS (lv_sub hl [0, 1, 2, 3, 4, 5, 6, 7] rfl)
        · skip
          refine lv_iload hx hb dX1_meetings_49 (lv_at hl 7 rfl) ?_
          refine tm_zne hx hb (by omega) (tgt := 57) dX1_meetings_51 (by decide) (fun c_51 => ?_) (fun c_51 => ?_)
          · skip
            exact J57 (by omega) _ _ _ hS (lv_sub hl [0, 1, 2, 3, 4, 5, 6, 7] rfl)
          · skip
            refine lv_goto (tgt := 100) hx hb dX1_meetings_54 (by decide) ?_
            exact J100 _ (show tm_sm ac (tn_mt bb tt dn) = tm_sm ac (tn_mt bb tt dn) + tn_mt bb tt dn ac from by have h := tn_mt_a (b := bb) (t := tt) c_46 c_51; omega) _ _ _ hS (lv_sub hl [0, 1, 2, 3, 4, 5, 6, 7] rfl)
  exact L34 (pw pp + 1) 0 (by omega) (by omega) _ _ _ hS (lv_sub hl [4, 5, 6, 7, 3, 2, 1, 0] rfl)
end
section
set_option maxRecDepth 100000
abbrev rX1_occurrences : Room := { frames := 4, cells := 0, slots := 0, locals := 93 }
set_option maxHeartbeats 8000000 in
set_option maxRecDepth 100000 in
/-- occurrences -/
theorem kX1_occurrences (l : Launch) (D : va_G) (dB dI : ClassId) (a : Nat → Nat) (sz wi hi nc sd : Nat) (tx pw ph pt br fb nq re rn fa fo pr : Nat → Nat) (pp : Int32) (hok : tm_ok wi hi tx pw ph pt) (hsd : sd = 0 ∨ (sd = 1 ∧ tk_FD wi hi tx pt pw ph fo)) : Met l yX1_occurrences (ws_ yX1_occurrences cX1_occurrences 4 (some .int)) rX1_occurrences (tm_Pre D dB dI [.ref (a 0), .int (pp)] sz (wX a dB dI wi hi nc sd tx pw ph pt br fb nq re rn fa fo pr)) (tm_Qi (S := Nat × Nat × (Nat → Nat) × (Nat → Nat) × (Nat → Nat) × (Nat → Nat) × (Nat → Nat) × (Nat → Nat) × (Nat → Nat) × (Nat → Nat)) D dB dI (wX a dB dI wi hi nc sd tx pw ph pt br fb nq re rn fa fo pr) sz (fun r u => (u.2.1 = 0 ∨ (u.2.1 = 1 ∧ tk_FD wi hi tx pt pw ph u.2.2.2.2.2.2.2.2.1)) ∧ ((0 ≤ (pp).toInt ∧ (pp).toInt ≤ 2) → r = nI (tn_occ (tk_occ 12 wi hi tx pt pw ph (pp).toInt.toNat))) ∧ (¬ (0 ≤ (pp).toInt ∧ (pp).toInt ≤ 2) → r = -1)) (fun u => wX a dB dI wi hi u.1 u.2.1 tx pw ph pt u.2.2.1 u.2.2.2.1 u.2.2.2.2.1 u.2.2.2.2.2.1 u.2.2.2.2.2.2.1 u.2.2.2.2.2.2.2.1 u.2.2.2.2.2.2.2.2.1 u.2.2.2.2.2.2.2.2.2)) 0 0 (va_A (wX a dB dI wi hi nc sd tx pw ph pt br fb nq re rn fa fo pr) sz) := by
  refine tm_met (nL := 4) (ret := (some .int)) RX1 rfl (by decide) (Nat.le_of_ble_eq_true rfl) ?_
  intro p e s m args below meth c ls A Q H locs hx hb hml hown hts hr hlk hnm hA hAe hQ hS hl
  have hl : lv_has ls 4 [(0, .ref (a 0)), (1, .int (pp))] := hl
  have hok2 := hok
  obtain ⟨⟨ok1, ok2⟩, ⟨ok3, ok4⟩, ok5, ok6, ok7⟩ := hok
  refine lv_aload_n hx hb dX1_occurrences_0 rfl (lv_at hl 0 rfl) ?_
  refine lv_iload_n hx hb dX1_occurrences_1 rfl (lv_at hl 1 rfl) ?_
  refine tm_callR (q := (RX1, TX1, 16)) (As := [.int (pp)]) (rest := []) ⟨hx, hb, hml, hown, hts⟩ (kX1_isPattern l D dB dI a H.size wi hi nc sd tx pw ph pt br fb nq re rn fa fo pr pp) (cwV 1 hts (lw_V q93 q95 qs1 q20 q96) rfl rfl rfl (by decide +kernel) ⟨Nat.le_of_ble_eq_true rfl, Nat.le_of_ble_eq_true rfl⟩) hS hA rfl rfl rfl hl.1 rfl (Nat.le_of_ble_eq_true rfl) dX1_occurrences_2 ⟨Nat.zero_le _, Nat.zero_le _⟩ (fun r H locs hr_2 hS => ?_)
  rcases hr_2 with ⟨h_2, rfl⟩ | ⟨h_2, rfl⟩
  · skip
    obtain ⟨P, rfl, eP, bP⟩ := tm_ofI (show 0 ≤ (pp).toInt from h_2.1)
    have hP : P < 3 := by omega
    have okp := ok6 P hP
    have eP2 : (nI P).toInt.toNat = P := by omega
    refine tm_zne hx hb (by omega) (tgt := 10) dX1_occurrences_5 (by decide) (fun c_5 => ?_) (fun c_5 => absurd c_5 (by decide))
    refine lv_aload_n hx hb dX1_occurrences_10 rfl (lv_at hl 0 rfl) ?_
    refine tm_callv (q := (RX1, TX1, 16)) (As := []) (rest := []) ⟨hx, hb, hml, hown, hts⟩ (kX1_search l D dB dI a H.size wi hi nc sd tx pw ph pt br fb nq re rn fa fo pr  hok2 hsd) (cwV 0 hts (lw_V q121 q123 qs3 q20 q124) rfl rfl rfl (by decide +kernel) ⟨Nat.le_of_ble_eq_true rfl, Nat.le_of_ble_eq_true rfl⟩) hS hA rfl rfl rfl hl.1 rfl (Nat.le_of_ble_eq_true rfl) dX1_occurrences_11 ⟨Nat.zero_le _, Nat.zero_le _⟩ (fun u H locs hp_11 hS => ?_)
    obtain ⟨nc1, sd1, br1, fb1, nq1, re1, rn1, fa1, fo1, pr1⟩ := u
    have hp_11 : sd1 = 1 ∧ tk_FD wi hi tx pt pw ph fo1 := hp_11
    have hS : tm_S D dB dI s A A s.heap H locs (wX a dB dI wi hi nc1 sd1 tx pw ph pt br1 fb1 nq1 re1 rn1 fa1 fo1 pr1) := hS
    have hFD := hp_11.2
    have hfo := tk_FD_lt hFD
    have hI1 := Or.inr (a := sd1 = 0) hp_11
    have L18 : ∀ (n : Nat) (y : Nat), (hi - y < n) → (y ≤ hi) → ∀ (H : Heap) (locs : List Loc) (ls : Array Slot), tm_S D dB dI s A A s.heap H locs (wX a dB dI wi hi nc1 sd1 tx pw ph pt br1 fb1 nq1 re1 rn1 fa1 fo1 pr1) → lv_has ls 4 [(0, .ref (a 0)), (1, .int (nI (P))), (2, .int (nI (tm_sm y (fun z => tm_pop (fo1 (12 * P + z)))))), (3, .int (nI (y)))] → W p l e rX1_occurrences s m args below meth c H locs 0 0 Q (F0 m 18 ls []) := by
      intro n
      induction n with
      | zero => intros; omega
      | succ n ih =>
        intro y hn hy_ H locs ls hS hl
        refine lv_iload_n hx hb dX1_occurrences_18 rfl (lv_at hl 3 rfl) ?_
        refine lv_aload_n hx hb dX1_occurrences_19 rfl (lv_at hl 0 rfl) ?_
        refine tm_gX hx hb hts hown hS rfl 1 (by decide) q31 rfl dX1_occurrences_20 ?_
        refine tm_cge hx hb (by omega) (by omega) (tgt := 50) dX1_occurrences_23 (by decide) (fun c_23 => ?_) (fun c_23 => ?_)
        · skip
          refine lv_iload_n hx hb dX1_occurrences_50 rfl (lv_at hl 2 rfl) ?_
          exact tm_iret (S := Nat × Nat × (Nat → Nat) × (Nat → Nat) × (Nat → Nat) × (Nat → Nat) × (Nat → Nat) × (Nat → Nat) × (Nat → Nat) × (Nat → Nat)) (nc1, sd1, br1, fb1, nq1, re1, rn1, fa1, fo1, pr1) hQ hAe hx hb hr hlk hS ⟨hI1, fun _ => by rw [eP2, ← tn_X_occ hok2 hFD hP, show y = hi by omega], fun h => absurd h_2 h⟩ dX1_occurrences_51
        · skip
          refine lv_iload_n hx hb dX1_occurrences_26 rfl (lv_at hl 2 rfl) ?_
          refine lv_aload_n hx hb dX1_occurrences_27 rfl (lv_at hl 0 rfl) ?_
          refine lv_aload_n hx hb dX1_occurrences_28 rfl (lv_at hl 0 rfl) ?_
          refine tm_gX hx hb hts hown hS rfl 14 (by decide) q44 rfl dX1_occurrences_29 ?_
          refine lv_bipush (v := nI 12) hx hb dX1_occurrences_32 (by decide) ?_
          refine lv_iload_n hx hb dX1_occurrences_34 rfl (lv_at hl 1 rfl) ?_
          refine tm_imul hx hb dX1_occurrences_35 ?_
          refine lv_iload_n hx hb dX1_occurrences_36 rfl (lv_at hl 3 rfl) ?_
          refine tm_iadd hx hb dX1_occurrences_37 ?_
          refine tm_iald (f := fo1) hx hb hS 11 rfl (by omega) (by decide) dX1_occurrences_38 ?_
          refine tm_callR (q := (RX1, TX1, 16)) (As := [.int (nI (fo1 (12 * P + y)))]) (rest := [.int (nI (tm_sm y (fun z => tm_pop (fo1 (12 * P + z)))))]) ⟨hx, hb, hml, hown, hts⟩ (kX1_bitsIn l D dB dI a H.size wi hi nc1 sd1 tx pw ph pt br1 fb1 nq1 re1 rn1 fa1 fo1 pr1 (fo1 (12 * P + y)) (Nat.lt_trans (hfo _ (by omega)) (by decide))) (cwV 1 hts (lw_V q153 q155 qs11 q20 q156) rfl rfl rfl (by decide +kernel) ⟨Nat.le_of_ble_eq_true rfl, Nat.le_of_ble_eq_true rfl⟩) hS hA rfl rfl rfl hl.1 rfl (Nat.le_of_ble_eq_true rfl) dX1_occurrences_39 ⟨Nat.zero_le _, Nat.zero_le _⟩ (fun r H locs hr_39 hS => ?_)
          have hr_39 : r = nI (tm_pop (fo1 (12 * P + y))) := hr_39
          subst hr_39
          refine tm_iadd hx hb dX1_occurrences_42 ?_
          refine lv_istore_n (lv' := [(2, .int (nI (tm_sm y (fun z => tm_pop (fo1 (12 * P + z))) + tm_pop (fo1 (12 * P + y))))), (0, .ref (a 0)), (1, .int (nI (P))), (3, .int (nI (y)))]) hx hb dX1_occurrences_43 rfl hl (by decide) rfl (fun ls hl => ?_)
          refine tm_iinc (lv' := [(3, .int (nI (y + 1))), (2, .int (nI (tm_sm y (fun z => tm_pop (fo1 (12 * P + z))) + tm_pop (fo1 (12 * P + y))))), (0, .ref (a 0)), (1, .int (nI (P)))]) hx hb dX1_occurrences_44 hl (k := 3) rfl (by decide) rfl (fun ls hl => ?_)
          refine lv_goto (tgt := 18) hx hb dX1_occurrences_47 (by decide) ?_
          exact ih (y + 1) (by omega) (by omega) _ _ _ hS (lv_sub hl [2, 3, 1, 0] rfl)
    refine lv_iconst (v := nI 0) hx hb dX1_occurrences_14 (by decide) ?_
    refine lv_istore_n (lv' := [(2, .int (nI (0))), (0, .ref (a 0)), (1, .int (nI (P)))]) hx hb dX1_occurrences_15 rfl hl (by decide) rfl (fun ls hl => ?_)
    refine lv_iconst (v := nI 0) hx hb dX1_occurrences_16 (by decide) ?_
    refine lv_istore_n (lv' := [(3, .int (nI (0))), (2, .int (nI (0))), (0, .ref (a 0)), (1, .int (nI (P)))]) hx hb dX1_occurrences_17 rfl hl (by decide) rfl (fun ls hl => ?_)
    exact L18 (hi + 1) 0 (by omega) (by omega) _ _ _ hS (lv_sub hl [2, 3, 1, 0] rfl)
  · skip
    refine tm_zne hx hb (by omega) (tgt := 10) dX1_occurrences_5 (by decide) (fun c_5 => absurd c_5 (by decide)) (fun c_5 => ?_)
    refine lv_iconst (v := -1) hx hb dX1_occurrences_8 (by decide) ?_
    exact tm_iret (S := Nat × Nat × (Nat → Nat) × (Nat → Nat) × (Nat → Nat) × (Nat → Nat) × (Nat → Nat) × (Nat → Nat) × (Nat → Nat) × (Nat → Nat)) (nc, sd, br, fb, nq, re, rn, fa, fo, pr) hQ hAe hx hb hr hlk hS ⟨hsd, fun h => absurd h h_2, fun _ => rfl⟩ dX1_occurrences_9
abbrev rX1_occurs : Room := { frames := 4, cells := 0, slots := 0, locals := 93 }
set_option maxHeartbeats 8000000 in
set_option maxRecDepth 100000 in
/-- occurs -/
theorem kX1_occurs (l : Launch) (D : va_G) (dB dI : ClassId) (a : Nat → Nat) (sz wi hi nc sd : Nat) (tx pw ph pt br fb nq re rn fa fo pr : Nat → Nat) (pp : Int32) (x : Int32) (y : Int32) (hok : tm_ok wi hi tx pw ph pt) (hsd : sd = 0 ∨ (sd = 1 ∧ tk_FD wi hi tx pt pw ph fo)) : Met l yX1_occurs (ws_ yX1_occurs cX1_occurs 4 (some .boolean)) rX1_occurs (tm_Pre D dB dI [.ref (a 0), .int (pp), .int (x), .int (y)] sz (wX a dB dI wi hi nc sd tx pw ph pt br fb nq re rn fa fo pr)) (tm_Qi (S := Nat × Nat × (Nat → Nat) × (Nat → Nat) × (Nat → Nat) × (Nat → Nat) × (Nat → Nat) × (Nat → Nat) × (Nat → Nat) × (Nat → Nat)) D dB dI (wX a dB dI wi hi nc sd tx pw ph pt br fb nq re rn fa fo pr) sz (fun r u => (u.2.1 = 0 ∨ (u.2.1 = 1 ∧ tk_FD wi hi tx pt pw ph u.2.2.2.2.2.2.2.2.1)) ∧ ((((0 ≤ (pp).toInt ∧ (pp).toInt ≤ 2) ∧ (0 ≤ (x).toInt ∧ (x).toInt < wi ∧ 0 ≤ (y).toInt ∧ (y).toInt < hi) ∧ tk_occ 12 wi hi tx pt pw ph (pp).toInt.toNat (x).toInt.toNat (y).toInt.toNat) ∧ r = nI 1) ∨ (¬ ((0 ≤ (pp).toInt ∧ (pp).toInt ≤ 2) ∧ (0 ≤ (x).toInt ∧ (x).toInt < wi ∧ 0 ≤ (y).toInt ∧ (y).toInt < hi) ∧ tk_occ 12 wi hi tx pt pw ph (pp).toInt.toNat (x).toInt.toNat (y).toInt.toNat) ∧ r = nI 0))) (fun u => wX a dB dI wi hi u.1 u.2.1 tx pw ph pt u.2.2.1 u.2.2.2.1 u.2.2.2.2.1 u.2.2.2.2.2.1 u.2.2.2.2.2.2.1 u.2.2.2.2.2.2.2.1 u.2.2.2.2.2.2.2.2.1 u.2.2.2.2.2.2.2.2.2)) 0 0 (va_A (wX a dB dI wi hi nc sd tx pw ph pt br fb nq re rn fa fo pr) sz) := by
  refine tm_met (nL := 4) (ret := (some .boolean)) RX1 rfl (by decide) (Nat.le_of_ble_eq_true rfl) ?_
  intro p e s m args below meth c ls A Q H locs hx hb hml hown hts hr hlk hnm hA hAe hQ hS hl
  have hl : lv_has ls 4 [(0, .ref (a 0)), (1, .int (pp)), (2, .int (x)), (3, .int (y))] := hl
  have hok2 := hok
  obtain ⟨⟨ok1, ok2⟩, ⟨ok3, ok4⟩, ok5, ok6, ok7⟩ := hok
  refine lv_aload_n hx hb dX1_occurs_0 rfl (lv_at hl 0 rfl) ?_
  refine lv_iload_n hx hb dX1_occurs_1 rfl (lv_at hl 1 rfl) ?_
  refine tm_callR (q := (RX1, TX1, 16)) (As := [.int (pp)]) (rest := []) ⟨hx, hb, hml, hown, hts⟩ (kX1_isPattern l D dB dI a H.size wi hi nc sd tx pw ph pt br fb nq re rn fa fo pr pp) (cwV 1 hts (lw_V q93 q95 qs1 q20 q96) rfl rfl rfl (by decide +kernel) ⟨Nat.le_of_ble_eq_true rfl, Nat.le_of_ble_eq_true rfl⟩) hS hA rfl rfl rfl hl.1 rfl (Nat.le_of_ble_eq_true rfl) dX1_occurs_2 ⟨Nat.zero_le _, Nat.zero_le _⟩ (fun r H locs hr_2 hS => ?_)
  rcases hr_2 with ⟨h_2, rfl⟩ | ⟨h_2, rfl⟩
  · skip
    obtain ⟨P, rfl, eP, bP⟩ := tm_ofI (show 0 ≤ (pp).toInt from h_2.1)
    have hP : P < 3 := by omega
    have okp := ok6 P hP
    have eP2 : (nI P).toInt.toNat = P := by omega
    refine tm_zeq hx hb (by omega) (tgt := 17) dX1_occurs_5 (by decide) (fun c_5 => absurd c_5 (by decide)) (fun c_5 => ?_)
    refine lv_aload_n hx hb dX1_occurs_8 rfl (lv_at hl 0 rfl) ?_
    refine lv_iload_n hx hb dX1_occurs_9 rfl (lv_at hl 2 rfl) ?_
    refine lv_iload_n hx hb dX1_occurs_10 rfl (lv_at hl 3 rfl) ?_
    refine tm_callR (q := (RX1, TX1, 16)) (As := [.int (x), .int (y)]) (rest := []) ⟨hx, hb, hml, hown, hts⟩ (kX1_inText l D dB dI a H.size wi hi nc sd tx pw ph pt br fb nq re rn fa fo pr x y ok2 ok4) (cwV 2 hts (lw_V q85 q87 qs0 q20 q88) rfl rfl rfl (by decide +kernel) ⟨Nat.le_of_ble_eq_true rfl, Nat.le_of_ble_eq_true rfl⟩) hS hA rfl rfl rfl hl.1 rfl (Nat.le_of_ble_eq_true rfl) dX1_occurs_11 ⟨Nat.zero_le _, Nat.zero_le _⟩ (fun r H locs hr_11 hS => ?_)
    rcases hr_11 with ⟨h_11, rfl⟩ | ⟨h_11, rfl⟩
    · skip
      obtain ⟨X, rfl, eX, bX⟩ := tm_ofI (show 0 ≤ (x).toInt from h_11.1)
      obtain ⟨Y, rfl, eY, bY⟩ := tm_ofI (show 0 ≤ (y).toInt from h_11.2.2.1)
      refine tm_zne hx hb (by omega) (tgt := 19) dX1_occurs_14 (by decide) (fun c_14 => ?_) (fun c_14 => absurd c_14 (by decide))
      refine lv_aload_n hx hb dX1_occurs_19 rfl (lv_at hl 0 rfl) ?_
      refine tm_callv (q := (RX1, TX1, 16)) (As := []) (rest := []) ⟨hx, hb, hml, hown, hts⟩ (kX1_search l D dB dI a H.size wi hi nc sd tx pw ph pt br fb nq re rn fa fo pr  hok2 hsd) (cwV 0 hts (lw_V q121 q123 qs3 q20 q124) rfl rfl rfl (by decide +kernel) ⟨Nat.le_of_ble_eq_true rfl, Nat.le_of_ble_eq_true rfl⟩) hS hA rfl rfl rfl hl.1 rfl (Nat.le_of_ble_eq_true rfl) dX1_occurs_20 ⟨Nat.zero_le _, Nat.zero_le _⟩ (fun u H locs hp_20 hS => ?_)
      obtain ⟨nc1, sd1, br1, fb1, nq1, re1, rn1, fa1, fo1, pr1⟩ := u
      have hp_20 : sd1 = 1 ∧ tk_FD wi hi tx pt pw ph fo1 := hp_20
      have hS : tm_S D dB dI s A A s.heap H locs (wX a dB dI wi hi nc1 sd1 tx pw ph pt br1 fb1 nq1 re1 rn1 fa1 fo1 pr1) := hS
      have hFD := hp_20.2
      have hfo := tk_FD_lt hFD
      have hI1 := Or.inr (a := sd1 = 0) hp_20
      refine lv_aload_n hx hb dX1_occurs_23 rfl (lv_at hl 0 rfl) ?_
      refine tm_gX hx hb hts hown hS rfl 14 (by decide) q44 rfl dX1_occurs_24 ?_
      refine lv_bipush (v := nI 12) hx hb dX1_occurs_27 (by decide) ?_
      refine lv_iload_n hx hb dX1_occurs_29 rfl (lv_at hl 1 rfl) ?_
      refine tm_imul hx hb dX1_occurs_30 ?_
      refine lv_iload_n hx hb dX1_occurs_31 rfl (lv_at hl 3 rfl) ?_
      refine tm_iadd hx hb dX1_occurs_32 ?_
      refine tm_iald (f := fo1) hx hb hS 11 rfl (by omega) (by decide) dX1_occurs_33 ?_
      refine lv_iload_n hx hb dX1_occurs_34 rfl (lv_at hl 2 rfl) ?_
      refine tm_ishr hx hb (Nat.lt_trans (hfo _ (by omega)) (by decide)) (by omega) dX1_occurs_35 ?_
      refine lv_iconst (v := nI 1) hx hb dX1_occurs_36 (by decide) ?_
      refine tm_iand hx hb dX1_occurs_37 ?_
      refine tm_zeq hx hb (Nat.lt_of_le_of_lt Nat.and_le_right (by decide)) (tgt := 45) dX1_occurs_38 (by decide) (fun c_38 => ?_) (fun c_38 => ?_)
      · skip
        refine lv_iconst (v := nI 0) hx hb dX1_occurs_45 (by decide) ?_
        exact tm_zret (S := Nat × Nat × (Nat → Nat) × (Nat → Nat) × (Nat → Nat) × (Nat → Nat) × (Nat → Nat) × (Nat → Nat) × (Nat → Nat) × (Nat → Nat)) (nc1, sd1, br1, fb1, nq1, re1, rn1, fa1, fo1, pr1) hQ hAe hx hb hr hlk (by first | rfl | decide) hS ⟨hI1, Or.inr ⟨fun h => by have h9 := h.2.2; rw [eP2, show (nI X).toInt.toNat = X by omega, show (nI Y).toInt.toNat = Y by omega] at h9; exact tc_bit0 c_38 (((hFD P Y hP (by omega)).2 X).mpr h9), rfl⟩⟩ dX1_occurs_46
      · skip
        refine lv_iconst (v := nI 1) hx hb dX1_occurs_41 (by decide) ?_
        refine lv_goto (tgt := 46) hx hb dX1_occurs_42 (by decide) ?_
        exact tm_zret (S := Nat × Nat × (Nat → Nat) × (Nat → Nat) × (Nat → Nat) × (Nat → Nat) × (Nat → Nat) × (Nat → Nat) × (Nat → Nat) × (Nat → Nat)) (nc1, sd1, br1, fb1, nq1, re1, rn1, fa1, fo1, pr1) hQ hAe hx hb hr hlk (by first | rfl | decide) hS ⟨hI1, Or.inl ⟨⟨h_2, h_11, by rw [eP2, show (nI X).toInt.toNat = X by omega, show (nI Y).toInt.toNat = Y by omega]; exact ((hFD P Y hP (by omega)).2 X).mp (tc_bit1 c_38)⟩, rfl⟩⟩ dX1_occurs_46
    · skip
      refine tm_zne hx hb (by omega) (tgt := 19) dX1_occurs_14 (by decide) (fun c_14 => absurd c_14 (by decide)) (fun c_14 => ?_)
      refine lv_iconst (v := nI 0) hx hb dX1_occurs_17 (by decide) ?_
      exact tm_zret (S := Nat × Nat × (Nat → Nat) × (Nat → Nat) × (Nat → Nat) × (Nat → Nat) × (Nat → Nat) × (Nat → Nat) × (Nat → Nat) × (Nat → Nat)) (nc, sd, br, fb, nq, re, rn, fa, fo, pr) hQ hAe hx hb hr hlk (by first | rfl | decide) hS ⟨hsd, Or.inr ⟨fun h => by first | exact absurd h.1 h_2 | exact absurd h.2.1 h_11, rfl⟩⟩ dX1_occurs_18
  · skip
    refine tm_zeq hx hb (by omega) (tgt := 17) dX1_occurs_5 (by decide) (fun c_5 => ?_) (fun c_5 => absurd c_5 (by decide))
    refine lv_iconst (v := nI 0) hx hb dX1_occurs_17 (by decide) ?_
    exact tm_zret (S := Nat × Nat × (Nat → Nat) × (Nat → Nat) × (Nat → Nat) × (Nat → Nat) × (Nat → Nat) × (Nat → Nat) × (Nat → Nat) × (Nat → Nat)) (nc, sd, br, fb, nq, re, rn, fa, fo, pr) hQ hAe hx hb hr hlk (by first | rfl | decide) hS ⟨hsd, Or.inr ⟨fun h => by first | exact absurd h.1 h_2 | exact absurd h.2.1 h_11, rfl⟩⟩ dX1_occurs_18
abbrev rX1_next : Room := { frames := 4, cells := 0, slots := 0, locals := 93 }
set_option maxHeartbeats 8000000 in
set_option maxRecDepth 100000 in
/-- next -/
theorem kX1_next (l : Launch) (D : va_G) (dB dI : ClassId) (a : Nat → Nat) (sz wi hi nc sd : Nat) (tx pw ph pt br fb nq re rn fa fo pr : Nat → Nat) (pp : Int32) (fr : Int32) (hok : tm_ok wi hi tx pw ph pt) (hsd : sd = 0 ∨ (sd = 1 ∧ tk_FD wi hi tx pt pw ph fo)) : Met l yX1_next (ws_ yX1_next cX1_next 5 (some .int)) rX1_next (tm_Pre D dB dI [.ref (a 0), .int (pp), .int (fr)] sz (wX a dB dI wi hi nc sd tx pw ph pt br fb nq re rn fa fo pr)) (tm_Qi (S := Nat × Nat × (Nat → Nat) × (Nat → Nat) × (Nat → Nat) × (Nat → Nat) × (Nat → Nat) × (Nat → Nat) × (Nat → Nat) × (Nat → Nat)) D dB dI (wX a dB dI wi hi nc sd tx pw ph pt br fb nq re rn fa fo pr) sz (fun r u => (u.2.1 = 0 ∨ (u.2.1 = 1 ∧ tk_FD wi hi tx pt pw ph u.2.2.2.2.2.2.2.2.1)) ∧ ((0 ≤ (pp).toInt ∧ (pp).toInt ≤ 2) → tn_nx (tk_occ 12 wi hi tx pt pw ph (pp).toInt.toNat) (fr).toInt r) ∧ (¬ (0 ≤ (pp).toInt ∧ (pp).toInt ≤ 2) → r = -1)) (fun u => wX a dB dI wi hi u.1 u.2.1 tx pw ph pt u.2.2.1 u.2.2.2.1 u.2.2.2.2.1 u.2.2.2.2.2.1 u.2.2.2.2.2.2.1 u.2.2.2.2.2.2.2.1 u.2.2.2.2.2.2.2.2.1 u.2.2.2.2.2.2.2.2.2)) 0 0 (va_A (wX a dB dI wi hi nc sd tx pw ph pt br fb nq re rn fa fo pr) sz) := by
  refine tm_met (nL := 5) (ret := (some .int)) RX1 rfl (by decide) (Nat.le_of_ble_eq_true rfl) ?_
  intro p e s m args below meth c ls A Q H locs hx hb hml hown hts hr hlk hnm hA hAe hQ hS hl
  have hl : lv_has ls 5 [(0, .ref (a 0)), (1, .int (pp)), (2, .int (fr))] := hl
  have hok2 := hok
  obtain ⟨⟨ok1, ok2⟩, ⟨ok3, ok4⟩, ok5, ok6, ok7⟩ := hok
  refine lv_aload_n hx hb dX1_next_0 rfl (lv_at hl 0 rfl) ?_
  refine lv_iload_n hx hb dX1_next_1 rfl (lv_at hl 1 rfl) ?_
  refine tm_callR (q := (RX1, TX1, 16)) (As := [.int (pp)]) (rest := []) ⟨hx, hb, hml, hown, hts⟩ (kX1_isPattern l D dB dI a H.size wi hi nc sd tx pw ph pt br fb nq re rn fa fo pr pp) (cwV 1 hts (lw_V q93 q95 qs1 q20 q96) rfl rfl rfl (by decide +kernel) ⟨Nat.le_of_ble_eq_true rfl, Nat.le_of_ble_eq_true rfl⟩) hS hA rfl rfl rfl hl.1 rfl (Nat.le_of_ble_eq_true rfl) dX1_next_2 ⟨Nat.zero_le _, Nat.zero_le _⟩ (fun r H locs hr_2 hS => ?_)
  rcases hr_2 with ⟨h_2, rfl⟩ | ⟨h_2, rfl⟩
  · skip
    obtain ⟨P, rfl, eP, bP⟩ := tm_ofI (show 0 ≤ (pp).toInt from h_2.1)
    have hP : P < 3 := by omega
    have okp := ok6 P hP
    have eP2 : (nI P).toInt.toNat = P := by omega
    refine tm_zne hx hb (by omega) (tgt := 10) dX1_next_5 (by decide) (fun c_5 => ?_) (fun c_5 => absurd c_5 (by decide))
    refine lv_aload_n hx hb dX1_next_10 rfl (lv_at hl 0 rfl) ?_
    refine tm_callv (q := (RX1, TX1, 16)) (As := []) (rest := []) ⟨hx, hb, hml, hown, hts⟩ (kX1_search l D dB dI a H.size wi hi nc sd tx pw ph pt br fb nq re rn fa fo pr  hok2 hsd) (cwV 0 hts (lw_V q121 q123 qs3 q20 q124) rfl rfl rfl (by decide +kernel) ⟨Nat.le_of_ble_eq_true rfl, Nat.le_of_ble_eq_true rfl⟩) hS hA rfl rfl rfl hl.1 rfl (Nat.le_of_ble_eq_true rfl) dX1_next_11 ⟨Nat.zero_le _, Nat.zero_le _⟩ (fun u H locs hp_11 hS => ?_)
    obtain ⟨nc1, sd1, br1, fb1, nq1, re1, rn1, fa1, fo1, pr1⟩ := u
    have hp_11 : sd1 = 1 ∧ tk_FD wi hi tx pt pw ph fo1 := hp_11
    have hS : tm_S D dB dI s A A s.heap H locs (wX a dB dI wi hi nc1 sd1 tx pw ph pt br1 fb1 nq1 re1 rn1 fa1 fo1 pr1) := hS
    have hFD := hp_11.2
    have hfo := tk_FD_lt hFD
    have hI1 := Or.inr (a := sd1 = 0) hp_11
    have hOb : ∀ u v, tk_occ 12 wi hi tx pt pw ph P u v → u < wi ∧ v < hi := fun u v z => by have h1 := z.1; have h2 := z.2.1; omega
    have L16 : ∀ (n : Nat) (y : Nat), (hi - y < n) → (y ≤ hi) → (∀ j : Nat, j < 16 * y → (fr).toInt ≤ (j : Int) → ¬ tk_occ 12 wi hi tx pt pw ph P (j % 16) (j / 16)) → ∀ (H : Heap) (locs : List Loc) (ls : Array Slot), tm_S D dB dI s A A s.heap H locs (wX a dB dI wi hi nc1 sd1 tx pw ph pt br1 fb1 nq1 re1 rn1 fa1 fo1 pr1) → lv_has ls 5 [(0, .ref (a 0)), (1, .int (nI (P))), (2, .int (fr)), (3, .int (nI (y)))] → W p l e rX1_next s m args below meth c H locs 0 0 Q (F0 m 16 ls []) := by
      intro n
      induction n with
      | zero => intros; omega
      | succ n ih =>
        intro y hn hy_ hNy H locs ls hS hl
        refine lv_iload_n hx hb dX1_next_16 rfl (lv_at hl 3 rfl) ?_
        refine lv_aload_n hx hb dX1_next_17 rfl (lv_at hl 0 rfl) ?_
        refine tm_gX hx hb hts hown hS rfl 1 (by decide) q31 rfl dX1_next_18 ?_
        refine tm_cge hx hb (by omega) (by omega) (tgt := 86) dX1_next_21 (by decide) (fun c_21 => ?_) (fun c_21 => ?_)
        · skip
          refine lv_bipush (v := -2) hx hb dX1_next_86 (by decide) ?_
          exact tm_iret (S := Nat × Nat × (Nat → Nat) × (Nat → Nat) × (Nat → Nat) × (Nat → Nat) × (Nat → Nat) × (Nat → Nat) × (Nat → Nat) × (Nat → Nat)) (nc1, sd1, br1, fb1, nq1, re1, rn1, fa1, fo1, pr1) hQ hAe hx hb hr hlk hS ⟨hI1, fun _ => by rw [eP2]; exact Or.inr ⟨fun j hj hf => by by_cases e : j < 16 * y; exact hNy j e hf; intro h9; have h8 := hOb _ _ h9; omega, rfl⟩, fun h => absurd h_2 h⟩ dX1_next_88
        · skip
          have L27 : ∀ (n : Nat) (x : Nat), (wi - x < n) → (x ≤ wi) → (∀ j : Nat, j < 16 * y + x → (fr).toInt ≤ (j : Int) → ¬ tk_occ 12 wi hi tx pt pw ph P (j % 16) (j / 16)) → ∀ (H : Heap) (locs : List Loc) (ls : Array Slot), tm_S D dB dI s A A s.heap H locs (wX a dB dI wi hi nc1 sd1 tx pw ph pt br1 fb1 nq1 re1 rn1 fa1 fo1 pr1) → lv_has ls 5 [(0, .ref (a 0)), (1, .int (nI (P))), (2, .int (fr)), (3, .int (nI (y))), (4, .int (nI (x)))] → W p l e rX1_next s m args below meth c H locs 0 0 Q (F0 m 27 ls []) := by
            intro n
            induction n with
            | zero => intros; omega
            | succ n ih2 =>
              intro x hn hx_ hNx H locs ls hS hl
              refine lv_iload hx hb dX1_next_27 (lv_at hl 4 rfl) ?_
              refine lv_aload_n hx hb dX1_next_29 rfl (lv_at hl 0 rfl) ?_
              refine tm_gX hx hb hts hown hS rfl 0 (by decide) q30 rfl dX1_next_30 ?_
              refine tm_cge hx hb (by omega) (by omega) (tgt := 80) dX1_next_33 (by decide) (fun c_33 => ?_) (fun c_33 => ?_)
              · skip
                refine tm_iinc (lv' := [(3, .int (nI (y + 1))), (0, .ref (a 0)), (1, .int (nI (P))), (2, .int (fr)), (4, .int (nI (x)))]) hx hb dX1_next_80 hl (k := 3) rfl (by decide) rfl (fun ls hl => ?_)
                refine lv_goto (tgt := 16) hx hb dX1_next_83 (by decide) ?_
                exact ih (y + 1) (by omega) (by omega) (fun j hj hf => by by_cases e : j < 16 * y + x; exact hNx j e hf; intro h9; have h8 := hOb _ _ h9; omega) _ _ _ hS (lv_sub hl [1, 2, 3, 0] rfl)
              · skip
                have J74 : ((fr).toInt ≤ ((16 * y + x : Nat) : Int) → ¬ tk_occ 12 wi hi tx pt pw ph P x y) → (∀ (H : Heap) (locs : List Loc) (ls : Array Slot), tm_S D dB dI s A A s.heap H locs (wX a dB dI wi hi nc1 sd1 tx pw ph pt br1 fb1 nq1 re1 rn1 fa1 fo1 pr1) → lv_has ls 5 [(0, .ref (a 0)), (1, .int (nI (P))), (2, .int (fr)), (3, .int (nI (y))), (4, .int (nI (x)))] → W p l e rX1_next s m args below meth c H locs 0 0 Q (F0 m 74 ls [])) := by
                  intro hnot H locs ls hS hl
                  refine tm_iinc (lv' := [(4, .int (nI (x + 1))), (0, .ref (a 0)), (1, .int (nI (P))), (2, .int (fr)), (3, .int (nI (y)))]) hx hb dX1_next_74 hl (k := 4) rfl (by decide) rfl (fun ls hl => ?_)
                  refine lv_goto (tgt := 27) hx hb dX1_next_77 (by decide) ?_
                  exact ih2 (x + 1) (by omega) (by omega) (fun j hj hf => by by_cases e : j = 16 * y + x; rw [e, show (16 * y + x) % 16 = x by omega, show (16 * y + x) / 16 = y by omega]; exact hnot (by omega); exact hNx j (by omega) hf) _ _ _ hS (lv_sub hl [1, 2, 3, 4, 0] rfl)
                refine lv_bipush (v := nI 16) hx hb dX1_next_36 (by decide) ?_
                refine lv_iload_n hx hb dX1_next_38 rfl (lv_at hl 3 rfl) ?_
                refine tm_imul hx hb dX1_next_39 ?_
                refine lv_iload hx hb dX1_next_40 (lv_at hl 4 rfl) ?_
                refine tm_iadd hx hb dX1_next_42 ?_
                refine lv_iload_n hx hb dX1_next_43 rfl (lv_at hl 2 rfl) ?_
                refine tm_Ilt hx hb ((16 * y + x : Nat) : Int) (fr).toInt (nI_toInt (by omega)) rfl (tgt := 74) dX1_next_44 (by decide) (fun c_44 => ?_) (fun c_44 => ?_)
                · skip
                  exact J74 (by first | exact fun h => absurd h (by omega) | exact fun _ h => tc_bit0 c_63 (((hFD P y hP (by omega)).2 x).mpr h)) _ _ _ hS (lv_sub hl [0, 1, 2, 3, 4] rfl)
                · skip
                  refine lv_aload_n hx hb dX1_next_47 rfl (lv_at hl 0 rfl) ?_
                  refine tm_gX hx hb hts hown hS rfl 14 (by decide) q44 rfl dX1_next_48 ?_
                  refine lv_bipush (v := nI 12) hx hb dX1_next_51 (by decide) ?_
                  refine lv_iload_n hx hb dX1_next_53 rfl (lv_at hl 1 rfl) ?_
                  refine tm_imul hx hb dX1_next_54 ?_
                  refine lv_iload_n hx hb dX1_next_55 rfl (lv_at hl 3 rfl) ?_
                  refine tm_iadd hx hb dX1_next_56 ?_
                  refine tm_iald (f := fo1) hx hb hS 11 rfl (by omega) (by decide) dX1_next_57 ?_
                  refine lv_iload hx hb dX1_next_58 (lv_at hl 4 rfl) ?_
                  refine tm_ishr hx hb (Nat.lt_trans (hfo _ (by omega)) (by decide)) (by omega) dX1_next_60 ?_
                  refine lv_iconst (v := nI 1) hx hb dX1_next_61 (by decide) ?_
                  refine tm_iand hx hb dX1_next_62 ?_
                  refine tm_zeq hx hb (Nat.lt_of_le_of_lt Nat.and_le_right (by decide)) (tgt := 74) dX1_next_63 (by decide) (fun c_63 => ?_) (fun c_63 => ?_)
                  · skip
                    exact J74 (by first | exact fun h => absurd h (by omega) | exact fun _ h => tc_bit0 c_63 (((hFD P y hP (by omega)).2 x).mpr h)) _ _ _ hS (lv_sub hl [0, 1, 2, 3, 4] rfl)
                  · skip
                    refine lv_bipush (v := nI 16) hx hb dX1_next_66 (by decide) ?_
                    refine lv_iload_n hx hb dX1_next_68 rfl (lv_at hl 3 rfl) ?_
                    refine tm_imul hx hb dX1_next_69 ?_
                    refine lv_iload hx hb dX1_next_70 (lv_at hl 4 rfl) ?_
                    refine tm_iadd hx hb dX1_next_72 ?_
                    exact tm_iret (S := Nat × Nat × (Nat → Nat) × (Nat → Nat) × (Nat → Nat) × (Nat → Nat) × (Nat → Nat) × (Nat → Nat) × (Nat → Nat) × (Nat → Nat)) (nc1, sd1, br1, fb1, nq1, re1, rn1, fa1, fo1, pr1) hQ hAe hx hb hr hlk hS ⟨hI1, fun _ => by rw [eP2]; exact Or.inl ⟨16 * y + x, by omega, by omega, by rw [show (16 * y + x) % 16 = x by omega, show (16 * y + x) / 16 = y by omega]; exact ((hFD P y hP (by omega)).2 x).mp (tc_bit1 c_63), hNx, rfl⟩, fun h => absurd h_2 h⟩ dX1_next_73
          refine lv_iconst (v := nI 0) hx hb dX1_next_24 (by decide) ?_
          refine lv_istore (lv' := [(4, .int (nI (0))), (0, .ref (a 0)), (1, .int (nI (P))), (2, .int (fr)), (3, .int (nI (y)))]) hx hb dX1_next_25 hl (by decide) rfl (fun ls hl => ?_)
          exact L27 (wi + 1) 0 (by omega) (by omega) (fun j hj => hNy j (by omega)) _ _ _ hS (lv_sub hl [1, 2, 3, 4, 0] rfl)
    refine lv_iconst (v := nI 0) hx hb dX1_next_14 (by decide) ?_
    refine lv_istore_n (lv' := [(3, .int (nI (0))), (0, .ref (a 0)), (1, .int (nI (P))), (2, .int (fr))]) hx hb dX1_next_15 rfl hl (by decide) rfl (fun ls hl => ?_)
    exact L16 (hi + 1) 0 (by omega) (by omega) (fun j hj => absurd hj (by omega)) _ _ _ hS (lv_sub hl [1, 2, 3, 0] rfl)
  · skip
    refine tm_zne hx hb (by omega) (tgt := 10) dX1_next_5 (by decide) (fun c_5 => absurd c_5 (by decide)) (fun c_5 => ?_)
    refine lv_iconst (v := -1) hx hb dX1_next_8 (by decide) ?_
    exact tm_iret (S := Nat × Nat × (Nat → Nat) × (Nat → Nat) × (Nat → Nat) × (Nat → Nat) × (Nat → Nat) × (Nat → Nat) × (Nat → Nat) × (Nat → Nat)) (nc, sd, br, fb, nq, re, rn, fa, fo, pr) hQ hAe hx hb hr hlk hS ⟨hsd, fun h => absurd h h_2, fun _ => rfl⟩ dX1_next_9
end
section
set_option maxRecDepth 100000
abbrev rX1_covered : Room := { frames := 4, cells := 0, slots := 0, locals := 93 }
set_option maxHeartbeats 8000000 in
set_option maxRecDepth 100000 in
/-- covered -/
theorem kX1_covered (l : Launch) (D : va_G) (dB dI : ClassId) (a : Nat → Nat) (sz wi hi nc sd : Nat) (tx pw ph pt br fb nq re rn fa fo pr : Nat → Nat) (hok : tm_ok wi hi tx pw ph pt) (hsd : sd = 0 ∨ (sd = 1 ∧ tk_FD wi hi tx pt pw ph fo)) : Met l yX1_covered (ws_ yX1_covered cX1_covered 5 (some .int)) rX1_covered (tm_Pre D dB dI [.ref (a 0)] sz (wX a dB dI wi hi nc sd tx pw ph pt br fb nq re rn fa fo pr)) (tm_Qi (S := Nat × Nat × (Nat → Nat) × (Nat → Nat) × (Nat → Nat) × (Nat → Nat) × (Nat → Nat) × (Nat → Nat) × (Nat → Nat) × (Nat → Nat)) D dB dI (wX a dB dI wi hi nc sd tx pw ph pt br fb nq re rn fa fo pr) sz (fun r u => (u.2.1 = 0 ∨ (u.2.1 = 1 ∧ tk_FD wi hi tx pt pw ph u.2.2.2.2.2.2.2.2.1)) ∧ r = nI (tn_cov wi hi pw ph (fun q => tk_occ 12 wi hi tx pt pw ph q))) (fun u => wX a dB dI wi hi u.1 u.2.1 tx pw ph pt u.2.2.1 u.2.2.2.1 u.2.2.2.2.1 u.2.2.2.2.2.1 u.2.2.2.2.2.2.1 u.2.2.2.2.2.2.2.1 u.2.2.2.2.2.2.2.2.1 u.2.2.2.2.2.2.2.2.2)) 0 0 (va_A (wX a dB dI wi hi nc sd tx pw ph pt br fb nq re rn fa fo pr) sz) := by
  refine tm_met (nL := 5) (ret := (some .int)) RX1 rfl (by decide) (Nat.le_of_ble_eq_true rfl) ?_
  intro p e s m args below meth c ls A Q H locs hx hb hml hown hts hr hlk hnm hA hAe hQ hS hl
  have hl : lv_has ls 5 [(0, .ref (a 0))] := hl
  have hok2 := hok
  obtain ⟨⟨ok1, ok2⟩, ⟨ok3, ok4⟩, ok5, ok6, ok7⟩ := hok
  refine lv_aload_n hx hb dX1_covered_0 rfl (lv_at hl 0 rfl) ?_
  refine tm_callv (q := (RX1, TX1, 16)) (As := []) (rest := []) ⟨hx, hb, hml, hown, hts⟩ (kX1_search l D dB dI a H.size wi hi nc sd tx pw ph pt br fb nq re rn fa fo pr  hok2 hsd) (cwV 0 hts (lw_V q121 q123 qs3 q20 q124) rfl rfl rfl (by decide +kernel) ⟨Nat.le_of_ble_eq_true rfl, Nat.le_of_ble_eq_true rfl⟩) hS hA rfl rfl rfl hl.1 rfl (Nat.le_of_ble_eq_true rfl) dX1_covered_1 ⟨Nat.zero_le _, Nat.zero_le _⟩ (fun u H locs hp_1 hS => ?_)
  obtain ⟨nc1, sd1, br1, fb1, nq1, re1, rn1, fa1, fo1, pr1⟩ := u
  have hp_1 : sd1 = 1 ∧ tk_FD wi hi tx pt pw ph fo1 := hp_1
  have hS : tm_S D dB dI s A A s.heap H locs (wX a dB dI wi hi nc1 sd1 tx pw ph pt br1 fb1 nq1 re1 rn1 fa1 fo1 pr1) := hS
  have hFD := hp_1.2
  have hfo := tk_FD_lt hFD
  have hI1 := Or.inr (a := sd1 = 0) hp_1
  have L8 : ∀ (n : Nat) (y : Nat), (hi - y < n) → (y ≤ hi) → ∀ (H : Heap) (locs : List Loc) (ls : Array Slot), tm_S D dB dI s A A s.heap H locs (wX a dB dI wi hi nc1 sd1 tx pw ph pt br1 fb1 nq1 re1 rn1 fa1 fo1 pr1) → lv_has ls 5 [(0, .ref (a 0)), (1, .int (nI (tm_sm y (fun z => tm_pop (tm_bor 3 (fun q => tn_cr pw ph fo1 q z)))))), (2, .int (nI (y)))] → W p l e rX1_covered s m args below meth c H locs 0 0 Q (F0 m 8 ls []) := by
    intro n
    induction n with
    | zero => intros; omega
    | succ n ih =>
      intro y hn hy_ H locs ls hS hl
      refine lv_iload_n hx hb dX1_covered_8 rfl (lv_at hl 2 rfl) ?_
      refine lv_aload_n hx hb dX1_covered_9 rfl (lv_at hl 0 rfl) ?_
      refine tm_gX hx hb hts hown hS rfl 1 (by decide) q31 rfl dX1_covered_10 ?_
      refine tm_cge hx hb (by omega) (by omega) (tgt := 57) dX1_covered_13 (by decide) (fun c_13 => ?_) (fun c_13 => ?_)
      · skip
        refine lv_iload_n hx hb dX1_covered_57 rfl (lv_at hl 1 rfl) ?_
        exact tm_iret (S := Nat × Nat × (Nat → Nat) × (Nat → Nat) × (Nat → Nat) × (Nat → Nat) × (Nat → Nat) × (Nat → Nat) × (Nat → Nat) × (Nat → Nat)) (nc1, sd1, br1, fb1, nq1, re1, rn1, fa1, fo1, pr1) hQ hAe hx hb hr hlk hS ⟨hI1, by rw [← tn_X_cov hok2 hFD, show y = hi by omega]⟩ dX1_covered_58
      · skip
        have L21 : ∀ (n : Nat) (g : Nat), (3 - g < n) → (g ≤ 3) → ∀ (H : Heap) (locs : List Loc) (ls : Array Slot), tm_S D dB dI s A A s.heap H locs (wX a dB dI wi hi nc1 sd1 tx pw ph pt br1 fb1 nq1 re1 rn1 fa1 fo1 pr1) → lv_has ls 5 [(0, .ref (a 0)), (1, .int (nI (tm_sm y (fun z => tm_pop (tm_bor 3 (fun q => tn_cr pw ph fo1 q z)))))), (2, .int (nI (y))), (3, .int (nI (tm_bor g (fun q => tn_cr pw ph fo1 q y)))), (4, .int (nI (g)))] → W p l e rX1_covered s m args below meth c H locs 0 0 Q (F0 m 21 ls []) := by
          intro n
          induction n with
          | zero => intros; omega
          | succ n ih2 =>
            intro g hn hg H locs ls hS hl
            refine lv_iload hx hb dX1_covered_21 (lv_at hl 4 rfl) ?_
            refine lv_iconst (v := nI 3) hx hb dX1_covered_23 (by decide) ?_
            refine tm_cge hx hb (by omega) (by omega) (tgt := 43) dX1_covered_24 (by decide) (fun c_24 => ?_) (fun c_24 => ?_)
            · skip
              have hg3 : g = 3 := by omega
              subst hg3
              refine lv_iload_n hx hb dX1_covered_43 rfl (lv_at hl 1 rfl) ?_
              refine lv_aload_n hx hb dX1_covered_44 rfl (lv_at hl 0 rfl) ?_
              refine lv_iload_n hx hb dX1_covered_45 rfl (lv_at hl 3 rfl) ?_
              refine tm_callR (q := (RX1, TX1, 16)) (As := [.int (nI (tm_bor 3 (fun q => tn_cr pw ph fo1 q y)))]) (rest := [.int (nI (tm_sm y (fun z => tm_pop (tm_bor 3 (fun q => tn_cr pw ph fo1 q z)))))]) ⟨hx, hb, hml, hown, hts⟩ (kX1_bitsIn l D dB dI a H.size wi hi nc1 sd1 tx pw ph pt br1 fb1 nq1 re1 rn1 fa1 fo1 pr1 (tm_bor 3 (fun q => tn_cr pw ph fo1 q y)) (Nat.lt_trans (tm_bor_lt 3 _ 16 (fun q hq => tn_cr_lt hok2 hfo hq (by omega))) (by decide))) (cwV 1 hts (lw_V q153 q155 qs11 q20 q156) rfl rfl rfl (by decide +kernel) ⟨Nat.le_of_ble_eq_true rfl, Nat.le_of_ble_eq_true rfl⟩) hS hA rfl rfl rfl hl.1 rfl (Nat.le_of_ble_eq_true rfl) dX1_covered_46 ⟨Nat.zero_le _, Nat.zero_le _⟩ (fun r H locs hr_46 hS => ?_)
              have hr_46 : r = nI (tm_pop (tm_bor 3 (fun q => tn_cr pw ph fo1 q y))) := hr_46
              subst hr_46
              refine tm_iadd hx hb dX1_covered_49 ?_
              refine lv_istore_n (lv' := [(1, .int (nI (tm_sm y (fun z => tm_pop (tm_bor 3 (fun q => tn_cr pw ph fo1 q z))) + tm_pop (tm_bor 3 (fun q => tn_cr pw ph fo1 q y))))), (0, .ref (a 0)), (2, .int (nI (y))), (3, .int (nI (tm_bor 3 (fun q => tn_cr pw ph fo1 q y)))), (4, .int (nI (3)))]) hx hb dX1_covered_50 rfl hl (by decide) rfl (fun ls hl => ?_)
              refine tm_iinc (lv' := [(2, .int (nI (y + 1))), (1, .int (nI (tm_sm y (fun z => tm_pop (tm_bor 3 (fun q => tn_cr pw ph fo1 q z))) + tm_pop (tm_bor 3 (fun q => tn_cr pw ph fo1 q y))))), (0, .ref (a 0)), (3, .int (nI (tm_bor 3 (fun q => tn_cr pw ph fo1 q y)))), (4, .int (nI (3)))]) hx hb dX1_covered_51 hl (k := 2) rfl (by decide) rfl (fun ls hl => ?_)
              refine lv_goto (tgt := 8) hx hb dX1_covered_54 (by decide) ?_
              exact ih (y + 1) (by omega) (by omega) _ _ _ hS (lv_sub hl [2, 1, 0] rfl)
            · skip
              refine lv_iload_n hx hb dX1_covered_27 rfl (lv_at hl 3 rfl) ?_
              refine lv_aload_n hx hb dX1_covered_28 rfl (lv_at hl 0 rfl) ?_
              refine lv_iload hx hb dX1_covered_29 (lv_at hl 4 rfl) ?_
              refine lv_iload_n hx hb dX1_covered_31 rfl (lv_at hl 2 rfl) ?_
              refine tm_callR (q := (RX1, TX1, 16)) (As := [.int (nI (g)), .int (nI (y))]) (rest := [.int (nI (tm_bor g (fun q => tn_cr pw ph fo1 q y)))]) ⟨hx, hb, hml, hown, hts⟩ (kX1_coveredInRow l D dB dI a H.size wi hi nc1 sd1 tx pw ph pt br1 fb1 nq1 re1 rn1 fa1 fo1 pr1 g y hok2 (by omega) (by omega) hfo) (cwV 2 hts (lw_V q169 q171 qs12 q20 q172) rfl rfl rfl (by decide +kernel) ⟨Nat.le_of_ble_eq_true rfl, Nat.le_of_ble_eq_true rfl⟩) hS hA rfl rfl rfl hl.1 rfl (Nat.le_of_ble_eq_true rfl) dX1_covered_32 ⟨Nat.zero_le _, Nat.zero_le _⟩ (fun r H locs hr_32 hS => ?_)
              have hr_32 : r = nI (tn_cr pw ph fo1 g y) := hr_32
              subst hr_32
              refine tm_ior hx hb dX1_covered_35 ?_
              refine lv_istore_n (lv' := [(3, .int (nI (tm_bor g (fun q => tn_cr pw ph fo1 q y) ||| tn_cr pw ph fo1 g y))), (0, .ref (a 0)), (1, .int (nI (tm_sm y (fun z => tm_pop (tm_bor 3 (fun q => tn_cr pw ph fo1 q z)))))), (2, .int (nI (y))), (4, .int (nI (g)))]) hx hb dX1_covered_36 rfl hl (by decide) rfl (fun ls hl => ?_)
              refine tm_iinc (lv' := [(4, .int (nI (g + 1))), (3, .int (nI (tm_bor g (fun q => tn_cr pw ph fo1 q y) ||| tn_cr pw ph fo1 g y))), (0, .ref (a 0)), (1, .int (nI (tm_sm y (fun z => tm_pop (tm_bor 3 (fun q => tn_cr pw ph fo1 q z)))))), (2, .int (nI (y)))]) hx hb dX1_covered_37 hl (k := 4) rfl (by decide) rfl (fun ls hl => ?_)
              refine lv_goto (tgt := 21) hx hb dX1_covered_40 (by decide) ?_
              exact ih2 (g + 1) (by omega) (by omega) _ _ _ hS (lv_sub hl [2, 3, 4, 1, 0] rfl)
        refine lv_iconst (v := nI 0) hx hb dX1_covered_16 (by decide) ?_
        refine lv_istore_n (lv' := [(3, .int (nI (0))), (0, .ref (a 0)), (1, .int (nI (tm_sm y (fun z => tm_pop (tm_bor 3 (fun q => tn_cr pw ph fo1 q z)))))), (2, .int (nI (y)))]) hx hb dX1_covered_17 rfl hl (by decide) rfl (fun ls hl => ?_)
        refine lv_iconst (v := nI 0) hx hb dX1_covered_18 (by decide) ?_
        refine lv_istore (lv' := [(4, .int (nI (0))), (3, .int (nI (0))), (0, .ref (a 0)), (1, .int (nI (tm_sm y (fun z => tm_pop (tm_bor 3 (fun q => tn_cr pw ph fo1 q z)))))), (2, .int (nI (y)))]) hx hb dX1_covered_19 hl (by decide) rfl (fun ls hl => ?_)
        exact L21 4 0 (by omega) (by omega) _ _ _ hS (lv_sub hl [2, 3, 4, 1, 0] rfl)
  refine lv_iconst (v := nI 0) hx hb dX1_covered_4 (by decide) ?_
  refine lv_istore_n (lv' := [(1, .int (nI (0))), (0, .ref (a 0))]) hx hb dX1_covered_5 rfl hl (by decide) rfl (fun ls hl => ?_)
  refine lv_iconst (v := nI 0) hx hb dX1_covered_6 (by decide) ?_
  refine lv_istore_n (lv' := [(2, .int (nI (0))), (1, .int (nI (0))), (0, .ref (a 0))]) hx hb dX1_covered_7 rfl hl (by decide) rfl (fun ls hl => ?_)
  exact L8 (hi + 1) 0 (by omega) (by omega) _ _ _ hS (lv_sub hl [2, 1, 0] rfl)
abbrev rX1_overlaps : Room := { frames := 4, cells := 0, slots := 0, locals := 93 }
set_option maxHeartbeats 8000000 in
set_option maxRecDepth 100000 in
/-- overlaps -/
theorem kX1_overlaps (l : Launch) (D : va_G) (dB dI : ClassId) (a : Nat → Nat) (sz wi hi nc sd : Nat) (tx pw ph pt br fb nq re rn fa fo pr : Nat → Nat) (pp : Int32) (hok : tm_ok wi hi tx pw ph pt) (hsd : sd = 0 ∨ (sd = 1 ∧ tk_FD wi hi tx pt pw ph fo)) : Met l yX1_overlaps (ws_ yX1_overlaps cX1_overlaps 5 (some .int)) rX1_overlaps (tm_Pre D dB dI [.ref (a 0), .int (pp)] sz (wX a dB dI wi hi nc sd tx pw ph pt br fb nq re rn fa fo pr)) (tm_Qi (S := Nat × Nat × (Nat → Nat) × (Nat → Nat) × (Nat → Nat) × (Nat → Nat) × (Nat → Nat) × (Nat → Nat) × (Nat → Nat) × (Nat → Nat)) D dB dI (wX a dB dI wi hi nc sd tx pw ph pt br fb nq re rn fa fo pr) sz (fun r u => (u.2.1 = 0 ∨ (u.2.1 = 1 ∧ tk_FD wi hi tx pt pw ph u.2.2.2.2.2.2.2.2.1)) ∧ ((0 ≤ (pp).toInt ∧ (pp).toInt ≤ 2) → r = nI (tn_ov (pw (pp).toInt.toNat) (ph (pp).toInt.toNat) (tk_occ 12 wi hi tx pt pw ph (pp).toInt.toNat))) ∧ (¬ (0 ≤ (pp).toInt ∧ (pp).toInt ≤ 2) → r = -1)) (fun u => wX a dB dI wi hi u.1 u.2.1 tx pw ph pt u.2.2.1 u.2.2.2.1 u.2.2.2.2.1 u.2.2.2.2.2.1 u.2.2.2.2.2.2.1 u.2.2.2.2.2.2.2.1 u.2.2.2.2.2.2.2.2.1 u.2.2.2.2.2.2.2.2.2)) 0 0 (va_A (wX a dB dI wi hi nc sd tx pw ph pt br fb nq re rn fa fo pr) sz) := by
  refine tm_met (nL := 5) (ret := (some .int)) RX1 rfl (by decide) (Nat.le_of_ble_eq_true rfl) ?_
  intro p e s m args below meth c ls A Q H locs hx hb hml hown hts hr hlk hnm hA hAe hQ hS hl
  have hl : lv_has ls 5 [(0, .ref (a 0)), (1, .int (pp))] := hl
  have hok2 := hok
  obtain ⟨⟨ok1, ok2⟩, ⟨ok3, ok4⟩, ok5, ok6, ok7⟩ := hok
  refine lv_aload_n hx hb dX1_overlaps_0 rfl (lv_at hl 0 rfl) ?_
  refine lv_iload_n hx hb dX1_overlaps_1 rfl (lv_at hl 1 rfl) ?_
  refine tm_callR (q := (RX1, TX1, 16)) (As := [.int (pp)]) (rest := []) ⟨hx, hb, hml, hown, hts⟩ (kX1_isPattern l D dB dI a H.size wi hi nc sd tx pw ph pt br fb nq re rn fa fo pr pp) (cwV 1 hts (lw_V q93 q95 qs1 q20 q96) rfl rfl rfl (by decide +kernel) ⟨Nat.le_of_ble_eq_true rfl, Nat.le_of_ble_eq_true rfl⟩) hS hA rfl rfl rfl hl.1 rfl (Nat.le_of_ble_eq_true rfl) dX1_overlaps_2 ⟨Nat.zero_le _, Nat.zero_le _⟩ (fun r H locs hr_2 hS => ?_)
  rcases hr_2 with ⟨h_2, rfl⟩ | ⟨h_2, rfl⟩
  · skip
    obtain ⟨P, rfl, eP, bP⟩ := tm_ofI (show 0 ≤ (pp).toInt from h_2.1)
    have hP : P < 3 := by omega
    have okp := ok6 P hP
    have eP2 : (nI P).toInt.toNat = P := by omega
    refine tm_zne hx hb (by omega) (tgt := 10) dX1_overlaps_5 (by decide) (fun c_5 => ?_) (fun c_5 => absurd c_5 (by decide))
    refine lv_aload_n hx hb dX1_overlaps_10 rfl (lv_at hl 0 rfl) ?_
    refine tm_callv (q := (RX1, TX1, 16)) (As := []) (rest := []) ⟨hx, hb, hml, hown, hts⟩ (kX1_search l D dB dI a H.size wi hi nc sd tx pw ph pt br fb nq re rn fa fo pr  hok2 hsd) (cwV 0 hts (lw_V q121 q123 qs3 q20 q124) rfl rfl rfl (by decide +kernel) ⟨Nat.le_of_ble_eq_true rfl, Nat.le_of_ble_eq_true rfl⟩) hS hA rfl rfl rfl hl.1 rfl (Nat.le_of_ble_eq_true rfl) dX1_overlaps_11 ⟨Nat.zero_le _, Nat.zero_le _⟩ (fun u H locs hp_11 hS => ?_)
    obtain ⟨nc1, sd1, br1, fb1, nq1, re1, rn1, fa1, fo1, pr1⟩ := u
    have hp_11 : sd1 = 1 ∧ tk_FD wi hi tx pt pw ph fo1 := hp_11
    have hS : tm_S D dB dI s A A s.heap H locs (wX a dB dI wi hi nc1 sd1 tx pw ph pt br1 fb1 nq1 re1 rn1 fa1 fo1 pr1) := hS
    have hFD := hp_11.2
    have hfo := tk_FD_lt hFD
    have hI1 := Or.inr (a := sd1 = 0) hp_11
    have L18 : ∀ (n : Nat) (y : Nat), (hi - y < n) → (y ≤ hi) → ∀ (H : Heap) (locs : List Loc) (ls : Array Slot), tm_S D dB dI s A A s.heap H locs (wX a dB dI wi hi nc1 sd1 tx pw ph pt br1 fb1 nq1 re1 rn1 fa1 fo1 pr1) → lv_has ls 5 [(0, .ref (a 0)), (1, .int (nI (P))), (2, .int (nI (tm_sm y (fun z => tm_sm (min (ph P) (hi - z)) (fun d => tm_sm (pw P) (tn_mt (fo1 (12 * P + z)) (fo1 (12 * P + z + d)) d)))))), (3, .int (nI (y)))] → W p l e rX1_overlaps s m args below meth c H locs 0 0 Q (F0 m 18 ls []) := by
      intro n
      induction n with
      | zero => intros; omega
      | succ n ih =>
        intro y hn hy_ H locs ls hS hl
        refine lv_iload_n hx hb dX1_overlaps_18 rfl (lv_at hl 3 rfl) ?_
        refine lv_aload_n hx hb dX1_overlaps_19 rfl (lv_at hl 0 rfl) ?_
        refine tm_gX hx hb hts hown hS rfl 1 (by decide) q31 rfl dX1_overlaps_20 ?_
        refine tm_cge hx hb (by omega) (by omega) (tgt := 74) dX1_overlaps_23 (by decide) (fun c_23 => ?_) (fun c_23 => ?_)
        · skip
          refine lv_iload_n hx hb dX1_overlaps_74 rfl (lv_at hl 2 rfl) ?_
          exact tm_iret (S := Nat × Nat × (Nat → Nat) × (Nat → Nat) × (Nat → Nat) × (Nat → Nat) × (Nat → Nat) × (Nat → Nat) × (Nat → Nat) × (Nat → Nat)) (nc1, sd1, br1, fb1, nq1, re1, rn1, fa1, fo1, pr1) hQ hAe hx hb hr hlk hS ⟨hI1, fun _ => by rw [eP2, ← tn_X_ov hok2 hFD hP, show y = hi by omega], fun h => absurd h_2 h⟩ dX1_overlaps_75
        · skip
          have L29 : ∀ (n : Nat) (dd : Nat), (ph P - dd < n) → (dd ≤ ph P) → (y + dd ≤ hi) → ∀ (H : Heap) (locs : List Loc) (ls : Array Slot), tm_S D dB dI s A A s.heap H locs (wX a dB dI wi hi nc1 sd1 tx pw ph pt br1 fb1 nq1 re1 rn1 fa1 fo1 pr1) → lv_has ls 5 [(0, .ref (a 0)), (1, .int (nI (P))), (2, .int (nI (tm_sm y (fun z => tm_sm (min (ph P) (hi - z)) (fun d => tm_sm (pw P) (tn_mt (fo1 (12 * P + z)) (fo1 (12 * P + z + d)) d))) + tm_sm dd (fun d => tm_sm (pw P) (tn_mt (fo1 (12 * P + y)) (fo1 (12 * P + y + d)) d))))), (3, .int (nI (y))), (4, .int (nI (dd)))] → W p l e rX1_overlaps s m args below meth c H locs 0 0 Q (F0 m 29 ls []) := by
            intro n
            induction n with
            | zero => intros; omega
            | succ n ih2 =>
              intro dd hn hd hd2 H locs ls hS hl
              refine lv_iload hx hb dX1_overlaps_29 (lv_at hl 4 rfl) ?_
              refine lv_aload_n hx hb dX1_overlaps_31 rfl (lv_at hl 0 rfl) ?_
              refine tm_gX hx hb hts hown hS rfl 4 (by decide) q34 rfl dX1_overlaps_32 ?_
              refine lv_iload_n hx hb dX1_overlaps_35 rfl (lv_at hl 1 rfl) ?_
              refine tm_bald (f := ph) hx hb hS 3 rfl (by omega) (by decide) dX1_overlaps_36 ?_
              refine tm_cge hx hb (by omega) (by omega) (tgt := 68) dX1_overlaps_37 (by decide) (fun c_37 => ?_) (fun c_37 => ?_)
              · skip
                have hd9 : dd = min (ph P) (hi - y) := by omega
                subst hd9
                have hl : lv_has ls 5 [(0, .ref (a 0)), (1, .int (nI (P))), (2, .int (nI (tm_sm (y + 1) (fun z => tm_sm (min (ph P) (hi - z)) (fun d => tm_sm (pw P) (tn_mt (fo1 (12 * P + z)) (fo1 (12 * P + z + d)) d)))))), (3, .int (nI (y))), (4, .int (nI (min (ph P) (hi - y))))] := hl
                refine tm_iinc (lv' := [(3, .int (nI (y + 1))), (0, .ref (a 0)), (1, .int (nI (P))), (2, .int (nI (tm_sm (y + 1) (fun z => tm_sm (min (ph P) (hi - z)) (fun d => tm_sm (pw P) (tn_mt (fo1 (12 * P + z)) (fo1 (12 * P + z + d)) d)))))), (4, .int (nI (min (ph P) (hi - y))))]) hx hb dX1_overlaps_68 hl (k := 3) rfl (by decide) rfl (fun ls hl => ?_)
                refine lv_goto (tgt := 18) hx hb dX1_overlaps_71 (by decide) ?_
                exact ih (y + 1) (by omega) (by omega) _ _ _ hS (lv_sub hl [1, 2, 3, 0] rfl)
              · skip
                refine lv_iload_n hx hb dX1_overlaps_40 rfl (lv_at hl 3 rfl) ?_
                refine lv_iload hx hb dX1_overlaps_41 (lv_at hl 4 rfl) ?_
                refine tm_iadd hx hb dX1_overlaps_43 ?_
                refine lv_aload_n hx hb dX1_overlaps_44 rfl (lv_at hl 0 rfl) ?_
                refine tm_gX hx hb hts hown hS rfl 1 (by decide) q31 rfl dX1_overlaps_45 ?_
                refine tm_cge hx hb (by omega) (by omega) (tgt := 68) dX1_overlaps_48 (by decide) (fun c_48 => ?_) (fun c_48 => ?_)
                · skip
                  have hd9 : dd = min (ph P) (hi - y) := by omega
                  subst hd9
                  have hl : lv_has ls 5 [(0, .ref (a 0)), (1, .int (nI (P))), (2, .int (nI (tm_sm (y + 1) (fun z => tm_sm (min (ph P) (hi - z)) (fun d => tm_sm (pw P) (tn_mt (fo1 (12 * P + z)) (fo1 (12 * P + z + d)) d)))))), (3, .int (nI (y))), (4, .int (nI (min (ph P) (hi - y))))] := hl
                  refine tm_iinc (lv' := [(3, .int (nI (y + 1))), (0, .ref (a 0)), (1, .int (nI (P))), (2, .int (nI (tm_sm (y + 1) (fun z => tm_sm (min (ph P) (hi - z)) (fun d => tm_sm (pw P) (tn_mt (fo1 (12 * P + z)) (fo1 (12 * P + z + d)) d)))))), (4, .int (nI (min (ph P) (hi - y))))]) hx hb dX1_overlaps_68 hl (k := 3) rfl (by decide) rfl (fun ls hl => ?_)
                  refine lv_goto (tgt := 18) hx hb dX1_overlaps_71 (by decide) ?_
                  exact ih (y + 1) (by omega) (by omega) _ _ _ hS (lv_sub hl [1, 2, 3, 0] rfl)
                · skip
                  refine lv_iload_n hx hb dX1_overlaps_51 rfl (lv_at hl 2 rfl) ?_
                  refine lv_aload_n hx hb dX1_overlaps_52 rfl (lv_at hl 0 rfl) ?_
                  refine lv_iload_n hx hb dX1_overlaps_53 rfl (lv_at hl 1 rfl) ?_
                  refine lv_iload_n hx hb dX1_overlaps_54 rfl (lv_at hl 3 rfl) ?_
                  refine lv_iload hx hb dX1_overlaps_55 (lv_at hl 4 rfl) ?_
                  refine tm_callR (q := (RX1, TX1, 16)) (As := [.int (nI (P)), .int (nI (y)), .int (nI (dd))]) (rest := [.int (nI (tm_sm y (fun z => tm_sm (min (ph P) (hi - z)) (fun d => tm_sm (pw P) (tn_mt (fo1 (12 * P + z)) (fo1 (12 * P + z + d)) d))) + tm_sm dd (fun d => tm_sm (pw P) (tn_mt (fo1 (12 * P + y)) (fo1 (12 * P + y + d)) d))))]) ⟨hx, hb, hml, hown, hts⟩ (kX1_meetings l D dB dI a H.size wi hi nc1 sd1 tx pw ph pt br1 fb1 nq1 re1 rn1 fa1 fo1 pr1 P y dd hok2 hP (by omega) (by omega) hfo) (cwV 3 hts (lw_V q177 q179 qs13 q20 q180) rfl rfl rfl (by decide +kernel) ⟨Nat.le_of_ble_eq_true rfl, Nat.le_of_ble_eq_true rfl⟩) hS hA rfl rfl rfl hl.1 rfl (Nat.le_of_ble_eq_true rfl) dX1_overlaps_57 ⟨Nat.zero_le _, Nat.zero_le _⟩ (fun r H locs hr_57 hS => ?_)
                  have hr_57 : r = nI (tm_sm (pw P) (tn_mt (fo1 (12 * P + y)) (fo1 (12 * P + y + dd)) dd)) := hr_57
                  subst hr_57
                  refine tm_iadd hx hb dX1_overlaps_60 ?_
                  refine tm_top (y := nI (tm_sm y (fun z => tm_sm (min (ph P) (hi - z)) (fun d => tm_sm (pw P) (tn_mt (fo1 (12 * P + z)) (fo1 (12 * P + z + d)) d))) + tm_sm (dd + 1) (fun d => tm_sm (pw P) (tn_mt (fo1 (12 * P + y)) (fo1 (12 * P + y + d)) d)))) (by rw [Nat.add_assoc]; rfl) ?_
                  refine lv_istore_n (lv' := [(2, .int (nI (tm_sm y (fun z => tm_sm (min (ph P) (hi - z)) (fun d => tm_sm (pw P) (tn_mt (fo1 (12 * P + z)) (fo1 (12 * P + z + d)) d))) + tm_sm (dd + 1) (fun d => tm_sm (pw P) (tn_mt (fo1 (12 * P + y)) (fo1 (12 * P + y + d)) d))))), (0, .ref (a 0)), (1, .int (nI (P))), (3, .int (nI (y))), (4, .int (nI (dd)))]) hx hb dX1_overlaps_61 rfl hl (by decide) rfl (fun ls hl => ?_)
                  refine tm_iinc (lv' := [(4, .int (nI (dd + 1))), (2, .int (nI (tm_sm y (fun z => tm_sm (min (ph P) (hi - z)) (fun d => tm_sm (pw P) (tn_mt (fo1 (12 * P + z)) (fo1 (12 * P + z + d)) d))) + tm_sm (dd + 1) (fun d => tm_sm (pw P) (tn_mt (fo1 (12 * P + y)) (fo1 (12 * P + y + d)) d))))), (0, .ref (a 0)), (1, .int (nI (P))), (3, .int (nI (y)))]) hx hb dX1_overlaps_62 hl (k := 4) rfl (by decide) rfl (fun ls hl => ?_)
                  refine lv_goto (tgt := 29) hx hb dX1_overlaps_65 (by decide) ?_
                  exact ih2 (dd + 1) (by omega) (by omega) (by omega) _ _ _ hS (lv_sub hl [2, 3, 1, 4, 0] rfl)
          refine lv_iconst (v := nI 0) hx hb dX1_overlaps_26 (by decide) ?_
          refine lv_istore (lv' := [(4, .int (nI (0))), (0, .ref (a 0)), (1, .int (nI (P))), (2, .int (nI (tm_sm y (fun z => tm_sm (min (ph P) (hi - z)) (fun d => tm_sm (pw P) (tn_mt (fo1 (12 * P + z)) (fo1 (12 * P + z + d)) d)))))), (3, .int (nI (y)))]) hx hb dX1_overlaps_27 hl (by decide) rfl (fun ls hl => ?_)
          exact L29 (ph P + 1) 0 (by omega) (by omega) (by omega) _ _ _ hS (lv_sub hl [1, 2, 3, 4, 0] rfl)
    refine lv_iconst (v := nI 0) hx hb dX1_overlaps_14 (by decide) ?_
    refine lv_istore_n (lv' := [(2, .int (nI (0))), (0, .ref (a 0)), (1, .int (nI (P)))]) hx hb dX1_overlaps_15 rfl hl (by decide) rfl (fun ls hl => ?_)
    refine lv_iconst (v := nI 0) hx hb dX1_overlaps_16 (by decide) ?_
    refine lv_istore_n (lv' := [(3, .int (nI (0))), (2, .int (nI (0))), (0, .ref (a 0)), (1, .int (nI (P)))]) hx hb dX1_overlaps_17 rfl hl (by decide) rfl (fun ls hl => ?_)
    exact L18 (hi + 1) 0 (by omega) (by omega) _ _ _ hS (lv_sub hl [2, 3, 1, 0] rfl)
  · skip
    refine tm_zne hx hb (by omega) (tgt := 10) dX1_overlaps_5 (by decide) (fun c_5 => absurd c_5 (by decide)) (fun c_5 => ?_)
    refine lv_iconst (v := -1) hx hb dX1_overlaps_8 (by decide) ?_
    exact tm_iret (S := Nat × Nat × (Nat → Nat) × (Nat → Nat) × (Nat → Nat) × (Nat → Nat) × (Nat → Nat) × (Nat → Nat) × (Nat → Nat) × (Nat → Nat)) (nc, sd, br, fb, nq, re, rn, fa, fo, pr) hQ hAe hx hb hr hlk hS ⟨hsd, fun h => absurd h h_2, fun _ => rfl⟩ dX1_overlaps_9
end
section
set_option maxRecDepth 100000
abbrev rX2_isPattern : Room := { frames := 0, cells := 0, slots := 0, locals := 0 }
set_option maxHeartbeats 8000000 in
set_option maxRecDepth 100000 in
/-- isPattern -/
theorem kX2_isPattern (l : Launch) (D : va_G) (dB dI : ClassId) (b : Nat → Nat) (sz wi hi : Nat) (tx pt pw ph : Nat → Nat) (pp : Int32) : Met l yX2_isPattern (ws_ yX2_isPattern cX2_isPattern 2 (some .boolean)) rX2_isPattern (tm_Pre D dB dI [.ref (b 0), .int (pp)] sz (wM b dI wi hi tx pt pw ph)) (tm_Qr sz (fun r => ((0 ≤ (pp).toInt ∧ (pp).toInt ≤ 2) ∧ r = nI 1) ∨ (¬ (0 ≤ (pp).toInt ∧ (pp).toInt ≤ 2) ∧ r = nI 0))) 0 0 (va_A [] sz) := by
  refine tm_metR (nL := 2) (ret := (some .boolean)) RX2 rfl (by decide) (Nat.le_of_ble_eq_true rfl) ?_
  intro p e s m args below meth c ls A Q H locs hx hb hml hown hts hr hlk hnm hA hAe hQ hS hl
  have hl : lv_has ls 2 [(0, .ref (b 0)), (1, .int (pp))] := hl
  refine lv_iload_n hx hb dX2_isPattern_0 rfl (lv_at hl 1 rfl) ?_
  refine tm_Zlt hx hb (pp).toInt rfl (tgt := 13) dX2_isPattern_1 (by decide) (fun c_1 => ?_) (fun c_1 => ?_)
  · skip
    refine lv_iconst (v := nI 0) hx hb dX2_isPattern_13 (by decide) ?_
    exact tm_zretR hQ hAe hx hb hr hlk (by first | rfl | decide) hS (Or.inr ⟨by omega, rfl⟩) dX2_isPattern_14
  · skip
    refine lv_iload_n hx hb dX2_isPattern_4 rfl (lv_at hl 1 rfl) ?_
    refine lv_iconst (v := nI 2) hx hb dX2_isPattern_5 (by decide) ?_
    refine tm_Igt hx hb (pp).toInt ((2 : Nat) : Int) rfl (nI_toInt (by omega)) (tgt := 13) dX2_isPattern_6 (by decide) (fun c_6 => ?_) (fun c_6 => ?_)
    · skip
      refine lv_iconst (v := nI 0) hx hb dX2_isPattern_13 (by decide) ?_
      exact tm_zretR hQ hAe hx hb hr hlk (by first | rfl | decide) hS (Or.inr ⟨by omega, rfl⟩) dX2_isPattern_14
    · skip
      refine lv_iconst (v := nI 1) hx hb dX2_isPattern_9 (by decide) ?_
      refine lv_goto (tgt := 14) hx hb dX2_isPattern_10 (by decide) ?_
      exact tm_zretR hQ hAe hx hb hr hlk (by first | rfl | decide) hS (Or.inl ⟨by omega, rfl⟩) dX2_isPattern_14
abbrev rX2_isLetter : Room := { frames := 0, cells := 0, slots := 0, locals := 0 }
set_option maxHeartbeats 8000000 in
set_option maxRecDepth 100000 in
/-- isPattern -/
theorem kX2_isLetter (l : Launch) (D : va_G) (dB dI : ClassId) (b : Nat → Nat) (sz wi hi : Nat) (tx pt pw ph : Nat → Nat) (pp : Int32) : Met l yX2_isLetter (ws_ yX2_isLetter cX2_isLetter 2 (some .boolean)) rX2_isLetter (tm_Pre D dB dI [.ref (b 0), .int (pp)] sz (wM b dI wi hi tx pt pw ph)) (tm_Qr sz (fun r => ((0 ≤ (pp).toInt ∧ (pp).toInt ≤ 2) ∧ r = nI 1) ∨ (¬ (0 ≤ (pp).toInt ∧ (pp).toInt ≤ 2) ∧ r = nI 0))) 0 0 (va_A [] sz) := by
  refine tm_metR (nL := 2) (ret := (some .boolean)) RX2 rfl (by decide) (Nat.le_of_ble_eq_true rfl) ?_
  intro p e s m args below meth c ls A Q H locs hx hb hml hown hts hr hlk hnm hA hAe hQ hS hl
  have hl : lv_has ls 2 [(0, .ref (b 0)), (1, .int (pp))] := hl
  refine lv_iload_n hx hb dX2_isLetter_0 rfl (lv_at hl 1 rfl) ?_
  refine tm_Zlt hx hb (pp).toInt rfl (tgt := 13) dX2_isLetter_1 (by decide) (fun c_1 => ?_) (fun c_1 => ?_)
  · skip
    refine lv_iconst (v := nI 0) hx hb dX2_isLetter_13 (by decide) ?_
    exact tm_zretR hQ hAe hx hb hr hlk (by first | rfl | decide) hS (Or.inr ⟨by omega, rfl⟩) dX2_isLetter_14
  · skip
    refine lv_iload_n hx hb dX2_isLetter_4 rfl (lv_at hl 1 rfl) ?_
    refine lv_iconst (v := nI 2) hx hb dX2_isLetter_5 (by decide) ?_
    refine tm_Igt hx hb (pp).toInt ((2 : Nat) : Int) rfl (nI_toInt (by omega)) (tgt := 13) dX2_isLetter_6 (by decide) (fun c_6 => ?_) (fun c_6 => ?_)
    · skip
      refine lv_iconst (v := nI 0) hx hb dX2_isLetter_13 (by decide) ?_
      exact tm_zretR hQ hAe hx hb hr hlk (by first | rfl | decide) hS (Or.inr ⟨by omega, rfl⟩) dX2_isLetter_14
    · skip
      refine lv_iconst (v := nI 1) hx hb dX2_isLetter_9 (by decide) ?_
      refine lv_goto (tgt := 14) hx hb dX2_isLetter_10 (by decide) ?_
      exact tm_zretR hQ hAe hx hb hr hlk (by first | rfl | decide) hS (Or.inl ⟨by omega, rfl⟩) dX2_isLetter_14
abbrev rX2_inText : Room := { frames := 0, cells := 0, slots := 0, locals := 0 }
set_option maxHeartbeats 8000000 in
set_option maxRecDepth 100000 in
/-- inText -/
theorem kX2_inText (l : Launch) (D : va_G) (dB dI : ClassId) (b : Nat → Nat) (sz wi hi : Nat) (tx pt pw ph : Nat → Nat) (x : Int32) (y : Int32) (hwi : wi ≤ 12) (hhi : hi ≤ 12) : Met l yX2_inText (ws_ yX2_inText cX2_inText 3 (some .boolean)) rX2_inText (tm_Pre D dB dI [.ref (b 0), .int (x), .int (y)] sz (wM b dI wi hi tx pt pw ph)) (tm_Qr sz (fun r => ((0 ≤ (x).toInt ∧ (x).toInt < wi ∧ 0 ≤ (y).toInt ∧ (y).toInt < hi) ∧ r = nI 1) ∨ (¬ (0 ≤ (x).toInt ∧ (x).toInt < wi ∧ 0 ≤ (y).toInt ∧ (y).toInt < hi) ∧ r = nI 0))) 0 0 (va_A [] sz) := by
  refine tm_metR (nL := 3) (ret := (some .boolean)) RX2 rfl (by decide) (Nat.le_of_ble_eq_true rfl) ?_
  intro p e s m args below meth c ls A Q H locs hx hb hml hown hts hr hlk hnm hA hAe hQ hS hl
  have hl : lv_has ls 3 [(0, .ref (b 0)), (1, .int (x)), (2, .int (y))] := hl
  refine lv_iload_n hx hb dX2_inText_0 rfl (lv_at hl 1 rfl) ?_
  refine tm_Zlt hx hb (x).toInt rfl (tgt := 28) dX2_inText_1 (by decide) (fun c_1 => ?_) (fun c_1 => ?_)
  · skip
    refine lv_iconst (v := nI 0) hx hb dX2_inText_28 (by decide) ?_
    exact tm_zretR hQ hAe hx hb hr hlk (by first | rfl | decide) hS (Or.inr ⟨by omega, rfl⟩) dX2_inText_29
  · skip
    refine lv_iload_n hx hb dX2_inText_4 rfl (lv_at hl 1 rfl) ?_
    refine lv_aload_n hx hb dX2_inText_5 rfl (lv_at hl 0 rfl) ?_
    refine tm_gM hx hb hts hown hS rfl 0 (by decide) q190 rfl dX2_inText_6 ?_
    refine tm_Ige hx hb (x).toInt ((wi : Nat) : Int) rfl (nI_toInt (by omega)) (tgt := 28) dX2_inText_9 (by decide) (fun c_9 => ?_) (fun c_9 => ?_)
    · skip
      refine lv_iconst (v := nI 0) hx hb dX2_inText_28 (by decide) ?_
      exact tm_zretR hQ hAe hx hb hr hlk (by first | rfl | decide) hS (Or.inr ⟨by omega, rfl⟩) dX2_inText_29
    · skip
      refine lv_iload_n hx hb dX2_inText_12 rfl (lv_at hl 2 rfl) ?_
      refine tm_Zlt hx hb (y).toInt rfl (tgt := 28) dX2_inText_13 (by decide) (fun c_13 => ?_) (fun c_13 => ?_)
      · skip
        refine lv_iconst (v := nI 0) hx hb dX2_inText_28 (by decide) ?_
        exact tm_zretR hQ hAe hx hb hr hlk (by first | rfl | decide) hS (Or.inr ⟨by omega, rfl⟩) dX2_inText_29
      · skip
        refine lv_iload_n hx hb dX2_inText_16 rfl (lv_at hl 2 rfl) ?_
        refine lv_aload_n hx hb dX2_inText_17 rfl (lv_at hl 0 rfl) ?_
        refine tm_gM hx hb hts hown hS rfl 1 (by decide) q191 rfl dX2_inText_18 ?_
        refine tm_Ige hx hb (y).toInt ((hi : Nat) : Int) rfl (nI_toInt (by omega)) (tgt := 28) dX2_inText_21 (by decide) (fun c_21 => ?_) (fun c_21 => ?_)
        · skip
          refine lv_iconst (v := nI 0) hx hb dX2_inText_28 (by decide) ?_
          exact tm_zretR hQ hAe hx hb hr hlk (by first | rfl | decide) hS (Or.inr ⟨by omega, rfl⟩) dX2_inText_29
        · skip
          refine lv_iconst (v := nI 1) hx hb dX2_inText_24 (by decide) ?_
          refine lv_goto (tgt := 29) hx hb dX2_inText_25 (by decide) ?_
          exact tm_zretR hQ hAe hx hb hr hlk (by first | rfl | decide) hS (Or.inl ⟨by omega, rfl⟩) dX2_inText_29
abbrev rX2_letter : Room := { frames := 1, cells := 0, slots := 0, locals := 22 }
set_option maxHeartbeats 8000000 in
set_option maxRecDepth 100000 in
/-- letter -/
theorem kX2_letter (l : Launch) (D : va_G) (dB dI : ClassId) (b : Nat → Nat) (sz wi hi : Nat) (tx pt pw ph : Nat → Nat) (x : Int32) (y : Int32) (hwi : wi ≤ 12) (hhi : hi ≤ 12) : Met l yX2_letter (ws_ yX2_letter cX2_letter 3 (some .int)) rX2_letter (tm_Pre D dB dI [.ref (b 0), .int (x), .int (y)] sz (wM b dI wi hi tx pt pw ph)) (tm_Qr sz (fun r => ((0 ≤ (x).toInt ∧ (x).toInt < wi ∧ 0 ≤ (y).toInt ∧ (y).toInt < hi) → r = nI (tx (16 * (y).toInt.toNat + (x).toInt.toNat))) ∧ (¬ (0 ≤ (x).toInt ∧ (x).toInt < wi ∧ 0 ≤ (y).toInt ∧ (y).toInt < hi) → r = -1))) 0 0 (va_A [] sz) := by
  refine tm_metR (nL := 3) (ret := (some .int)) RX2 rfl (by decide) (Nat.le_of_ble_eq_true rfl) ?_
  intro p e s m args below meth c ls A Q H locs hx hb hml hown hts hr hlk hnm hA hAe hQ hS hl
  have hl : lv_has ls 3 [(0, .ref (b 0)), (1, .int (x)), (2, .int (y))] := hl
  refine lv_aload_n hx hb dX2_letter_0 rfl (lv_at hl 0 rfl) ?_
  refine lv_iload_n hx hb dX2_letter_1 rfl (lv_at hl 1 rfl) ?_
  refine lv_iload_n hx hb dX2_letter_2 rfl (lv_at hl 2 rfl) ?_
  refine tm_callR (q := (RX2, TX2, 6)) (As := [.int (x), .int (y)]) (rest := []) ⟨hx, hb, hml, hown, hts⟩ (kX2_inText l D dB dI b H.size wi hi tx pt pw ph x y hwi hhi) (cwV 2 hts (lw_V q213 q215 qs14 q21 q216) rfl rfl rfl (by decide +kernel) ⟨Nat.le_of_ble_eq_true rfl, Nat.le_of_ble_eq_true rfl⟩) hS hA rfl rfl rfl hl.1 rfl (Nat.le_of_ble_eq_true rfl) dX2_letter_3 ⟨Nat.zero_le _, Nat.zero_le _⟩ (fun r H locs hr_3 hS => ?_)
  rcases hr_3 with ⟨h_3, rfl⟩ | ⟨h_3, rfl⟩
  · skip
    obtain ⟨X, rfl, eX, bX⟩ := tm_ofI (show 0 ≤ (x).toInt from h_3.1)
    obtain ⟨Y, rfl, eY, bY⟩ := tm_ofI (show 0 ≤ (y).toInt from h_3.2.2.1)
    refine tm_zeq hx hb (by omega) (tgt := 23) dX2_letter_6 (by decide) (fun c_6 => absurd c_6 (by decide)) (fun c_6 => ?_)
    refine lv_aload_n hx hb dX2_letter_9 rfl (lv_at hl 0 rfl) ?_
    refine tm_gM hx hb hts hown hS rfl 2 (by decide) q192 rfl dX2_letter_10 ?_
    refine lv_bipush (v := nI 16) hx hb dX2_letter_13 (by decide) ?_
    refine lv_iload_n hx hb dX2_letter_15 rfl (lv_at hl 2 rfl) ?_
    refine tm_imul hx hb dX2_letter_16 ?_
    refine lv_iload_n hx hb dX2_letter_17 rfl (lv_at hl 1 rfl) ?_
    refine tm_iadd hx hb dX2_letter_18 ?_
    refine tm_iald (f := tx) hx hb hS 1 rfl (by omega) (by decide) dX2_letter_19 ?_
    refine lv_goto (tgt := 24) hx hb dX2_letter_20 (by decide) ?_
    exact tm_iretR hQ hAe hx hb hr hlk hS ⟨fun _ => by rw [show (nI X).toInt.toNat = X by omega, show (nI Y).toInt.toNat = Y by omega], fun h => absurd h_3 h⟩ dX2_letter_24
  · skip
    refine tm_zeq hx hb (by omega) (tgt := 23) dX2_letter_6 (by decide) (fun c_6 => ?_) (fun c_6 => absurd c_6 (by decide))
    refine lv_iconst (v := -1) hx hb dX2_letter_23 (by decide) ?_
    exact tm_iretR hQ hAe hx hb hr hlk hS ⟨fun h => absurd h h_3, fun _ => rfl⟩ dX2_letter_24
abbrev rX2_write : Room := { frames := 1, cells := 0, slots := 0, locals := 22 }
set_option maxHeartbeats 8000000 in
set_option maxRecDepth 100000 in
/-- write -/
theorem kX2_write (l : Launch) (D : va_G) (dB dI : ClassId) (b : Nat → Nat) (sz wi hi : Nat) (tx pt pw ph : Nat → Nat) (x : Int32) (y : Int32) (lt : Int32) (hwi : wi ≤ 12) (hhi : hi ≤ 12) : Met l yX2_write (ws_ yX2_write cX2_write 4 (some .boolean)) rX2_write (tm_Pre D dB dI [.ref (b 0), .int (x), .int (y), .int (lt)] sz (wM b dI wi hi tx pt pw ph)) (tm_Qi (S := (Nat → Nat)) D dB dI (wM b dI wi hi tx pt pw ph) sz (fun r u => (((0 ≤ (x).toInt ∧ (x).toInt < wi ∧ 0 ≤ (y).toInt ∧ (y).toInt < hi) ∧ 0 ≤ (lt).toInt ∧ (lt).toInt ≤ 2) ∧ r = nI 1 ∧ u = tm_up tx (16 * (y).toInt.toNat + (x).toInt.toNat) (lt).toInt.toNat) ∨ (¬ ((0 ≤ (x).toInt ∧ (x).toInt < wi ∧ 0 ≤ (y).toInt ∧ (y).toInt < hi) ∧ 0 ≤ (lt).toInt ∧ (lt).toInt ≤ 2) ∧ r = nI 0 ∧ u = tx)) (fun u => wM b dI wi hi u pt pw ph)) 0 0 (va_A (wM b dI wi hi tx pt pw ph) sz) := by
  refine tm_met (nL := 4) (ret := (some .boolean)) RX2 rfl (by decide) (Nat.le_of_ble_eq_true rfl) ?_
  intro p e s m args below meth c ls A Q H locs hx hb hml hown hts hr hlk hnm hA hAe hQ hS hl
  have hl : lv_has ls 4 [(0, .ref (b 0)), (1, .int (x)), (2, .int (y)), (3, .int (lt))] := hl
  refine lv_aload_n hx hb dX2_write_0 rfl (lv_at hl 0 rfl) ?_
  refine lv_iload_n hx hb dX2_write_1 rfl (lv_at hl 1 rfl) ?_
  refine lv_iload_n hx hb dX2_write_2 rfl (lv_at hl 2 rfl) ?_
  refine tm_callR (q := (RX2, TX2, 6)) (As := [.int (x), .int (y)]) (rest := []) ⟨hx, hb, hml, hown, hts⟩ (kX2_inText l D dB dI b H.size wi hi tx pt pw ph x y hwi hhi) (cwV 2 hts (lw_V q213 q215 qs14 q21 q216) rfl rfl rfl (by decide +kernel) ⟨Nat.le_of_ble_eq_true rfl, Nat.le_of_ble_eq_true rfl⟩) hS hA rfl rfl rfl hl.1 rfl (Nat.le_of_ble_eq_true rfl) dX2_write_3 ⟨Nat.zero_le _, Nat.zero_le _⟩ (fun r H locs hr_3 hS => ?_)
  rcases hr_3 with ⟨h_3, rfl⟩ | ⟨h_3, rfl⟩
  · skip
    obtain ⟨X, rfl, eX, bX⟩ := tm_ofI (show 0 ≤ (x).toInt from h_3.1)
    obtain ⟨Y, rfl, eY, bY⟩ := tm_ofI (show 0 ≤ (y).toInt from h_3.2.2.1)
    refine tm_zeq hx hb (by omega) (tgt := 17) dX2_write_6 (by decide) (fun c_6 => absurd c_6 (by decide)) (fun c_6 => ?_)
    refine lv_aload_n hx hb dX2_write_9 rfl (lv_at hl 0 rfl) ?_
    refine lv_iload_n hx hb dX2_write_10 rfl (lv_at hl 3 rfl) ?_
    refine tm_callR (q := (RX2, TX2, 6)) (As := [.int (lt)]) (rest := []) ⟨hx, hb, hml, hown, hts⟩ (kX2_isLetter l D dB dI b H.size wi hi tx pt pw ph lt) (cwV 1 hts (lw_V q217 q219 qs15 q21 q220) rfl rfl rfl (by decide +kernel) ⟨Nat.le_of_ble_eq_true rfl, Nat.le_of_ble_eq_true rfl⟩) hS hA rfl rfl rfl hl.1 rfl (Nat.le_of_ble_eq_true rfl) dX2_write_11 ⟨Nat.zero_le _, Nat.zero_le _⟩ (fun r H locs hr_11 hS => ?_)
    rcases hr_11 with ⟨h_11, rfl⟩ | ⟨h_11, rfl⟩
    · skip
      obtain ⟨Lt, rfl, eLt, bLt⟩ := tm_ofI (show 0 ≤ (lt).toInt from h_11.1)
      refine tm_zne hx hb (by omega) (tgt := 19) dX2_write_14 (by decide) (fun c_14 => ?_) (fun c_14 => absurd c_14 (by decide))
      refine lv_aload_n hx hb dX2_write_19 rfl (lv_at hl 0 rfl) ?_
      refine tm_gM hx hb hts hown hS rfl 2 (by decide) q192 rfl dX2_write_20 ?_
      refine lv_bipush (v := nI 16) hx hb dX2_write_23 (by decide) ?_
      refine lv_iload_n hx hb dX2_write_25 rfl (lv_at hl 2 rfl) ?_
      refine tm_imul hx hb dX2_write_26 ?_
      refine lv_iload_n hx hb dX2_write_27 rfl (lv_at hl 1 rfl) ?_
      refine tm_iadd hx hb dX2_write_28 ?_
      refine lv_iload_n hx hb dX2_write_29 rfl (lv_at hl 3 rfl) ?_
      refine tm_iast (f := tx) hx hb hS 1 rfl (by omega) (by decide) (wM b dI wi hi (tm_up tx (16 * Y + X) Lt) pt pw ph) rfl dX2_write_30 (fun H locs hS => ?_)
      refine lv_iconst (v := nI 1) hx hb dX2_write_31 (by decide) ?_
      exact tm_zret (S := (Nat → Nat)) (tm_up tx (16 * Y + X) Lt) hQ hAe hx hb hr hlk (by first | rfl | decide) hS (Or.inl ⟨by omega, rfl, by rw [show (nI X).toInt.toNat = X by omega, show (nI Y).toInt.toNat = Y by omega, show (nI Lt).toInt.toNat = Lt by omega]⟩) dX2_write_32
    · skip
      refine tm_zne hx hb (by omega) (tgt := 19) dX2_write_14 (by decide) (fun c_14 => absurd c_14 (by decide)) (fun c_14 => ?_)
      refine lv_iconst (v := nI 0) hx hb dX2_write_17 (by decide) ?_
      exact tm_zret (S := (Nat → Nat)) (tx) hQ hAe hx hb hr hlk (by first | rfl | decide) hS (Or.inr ⟨by omega, rfl, rfl⟩) dX2_write_18
  · skip
    refine tm_zeq hx hb (by omega) (tgt := 17) dX2_write_6 (by decide) (fun c_6 => ?_) (fun c_6 => absurd c_6 (by decide))
    refine lv_iconst (v := nI 0) hx hb dX2_write_17 (by decide) ?_
    exact tm_zret (S := (Nat → Nat)) (tx) hQ hAe hx hb hr hlk (by first | rfl | decide) hS (Or.inr ⟨by omega, rfl, rfl⟩) dX2_write_18
abbrev rX2_shape : Room := { frames := 1, cells := 0, slots := 0, locals := 21 }
set_option maxHeartbeats 8000000 in
set_option maxRecDepth 100000 in
/-- shape -/
theorem kX2_shape (l : Launch) (D : va_G) (dB dI : ClassId) (b : Nat → Nat) (sz wi hi : Nat) (tx pt pw ph : Nat → Nat) (pp : Int32) (cs : Int32) (rs : Int32) : Met l yX2_shape (ws_ yX2_shape cX2_shape 5 (some .boolean)) rX2_shape (tm_Pre D dB dI [.ref (b 0), .int (pp), .int (cs), .int (rs)] sz (wM b dI wi hi tx pt pw ph)) (tm_Qi (S := (Nat → Nat) × (Nat → Nat) × (Nat → Nat)) D dB dI (wM b dI wi hi tx pt pw ph) sz (fun r u => (((0 ≤ (pp).toInt ∧ (pp).toInt ≤ 2) ∧ 1 ≤ (cs).toInt ∧ (cs).toInt ≤ 4 ∧ 1 ≤ (rs).toInt ∧ (rs).toInt ≤ 4) ∧ r = nI 1 ∧ u.1 = tm_up pw (pp).toInt.toNat (cs).toInt.toNat ∧ u.2.1 = tm_up ph (pp).toInt.toNat (rs).toInt.toNat ∧ u.2.2 = tm_clr pt (16 * (pp).toInt.toNat) 16) ∨ (¬ ((0 ≤ (pp).toInt ∧ (pp).toInt ≤ 2) ∧ 1 ≤ (cs).toInt ∧ (cs).toInt ≤ 4 ∧ 1 ≤ (rs).toInt ∧ (rs).toInt ≤ 4) ∧ r = nI 0 ∧ u.1 = pw ∧ u.2.1 = ph ∧ u.2.2 = pt)) (fun u => wM b dI wi hi tx u.2.2 u.1 u.2.1)) 0 0 (va_A (wM b dI wi hi tx pt pw ph) sz) := by
  refine tm_met (nL := 5) (ret := (some .boolean)) RX2 rfl (by decide) (Nat.le_of_ble_eq_true rfl) ?_
  intro p e s m args below meth c ls A Q H locs hx hb hml hown hts hr hlk hnm hA hAe hQ hS hl
  have hl : lv_has ls 5 [(0, .ref (b 0)), (1, .int (pp)), (2, .int (cs)), (3, .int (rs))] := hl
  refine lv_aload_n hx hb dX2_shape_0 rfl (lv_at hl 0 rfl) ?_
  refine lv_iload_n hx hb dX2_shape_1 rfl (lv_at hl 1 rfl) ?_
  refine tm_callR (q := (RX2, TX2, 6)) (As := [.int (pp)]) (rest := []) ⟨hx, hb, hml, hown, hts⟩ (kX2_isPattern l D dB dI b H.size wi hi tx pt pw ph pp) (cwV 1 hts (lw_V q225 q227 qs16 q21 q228) rfl rfl rfl (by decide +kernel) ⟨Nat.le_of_ble_eq_true rfl, Nat.le_of_ble_eq_true rfl⟩) hS hA rfl rfl rfl hl.1 rfl (Nat.le_of_ble_eq_true rfl) dX2_shape_2 ⟨Nat.zero_le _, Nat.zero_le _⟩ (fun r H locs hr_2 hS => ?_)
  rcases hr_2 with ⟨h_2, rfl⟩ | ⟨h_2, rfl⟩
  · skip
    obtain ⟨P, rfl, eP, bP⟩ := tm_ofI (show 0 ≤ (pp).toInt from h_2.1)
    refine tm_zeq hx hb (by omega) (tgt := 28) dX2_shape_5 (by decide) (fun c_5 => absurd c_5 (by decide)) (fun c_5 => ?_)
    refine lv_iload_n hx hb dX2_shape_8 rfl (lv_at hl 2 rfl) ?_
    refine lv_iconst (v := nI 1) hx hb dX2_shape_9 (by decide) ?_
    refine tm_Ilt hx hb (cs).toInt ((1 : Nat) : Int) rfl (nI_toInt (by omega)) (tgt := 28) dX2_shape_10 (by decide) (fun c_10 => ?_) (fun c_10 => ?_)
    · skip
      refine lv_iconst (v := nI 0) hx hb dX2_shape_28 (by decide) ?_
      exact tm_zret (S := (Nat → Nat) × (Nat → Nat) × (Nat → Nat)) (pw, ph, pt) hQ hAe hx hb hr hlk (by first | rfl | decide) hS (Or.inr ⟨by omega, rfl, rfl, rfl, rfl⟩) dX2_shape_29
    · skip
      refine lv_iload_n hx hb dX2_shape_13 rfl (lv_at hl 2 rfl) ?_
      refine lv_iconst (v := nI 4) hx hb dX2_shape_14 (by decide) ?_
      refine tm_Igt hx hb (cs).toInt ((4 : Nat) : Int) rfl (nI_toInt (by omega)) (tgt := 28) dX2_shape_15 (by decide) (fun c_15 => ?_) (fun c_15 => ?_)
      · skip
        refine lv_iconst (v := nI 0) hx hb dX2_shape_28 (by decide) ?_
        exact tm_zret (S := (Nat → Nat) × (Nat → Nat) × (Nat → Nat)) (pw, ph, pt) hQ hAe hx hb hr hlk (by first | rfl | decide) hS (Or.inr ⟨by omega, rfl, rfl, rfl, rfl⟩) dX2_shape_29
      · skip
        refine lv_iload_n hx hb dX2_shape_18 rfl (lv_at hl 3 rfl) ?_
        refine lv_iconst (v := nI 1) hx hb dX2_shape_19 (by decide) ?_
        refine tm_Ilt hx hb (rs).toInt ((1 : Nat) : Int) rfl (nI_toInt (by omega)) (tgt := 28) dX2_shape_20 (by decide) (fun c_20 => ?_) (fun c_20 => ?_)
        · skip
          refine lv_iconst (v := nI 0) hx hb dX2_shape_28 (by decide) ?_
          exact tm_zret (S := (Nat → Nat) × (Nat → Nat) × (Nat → Nat)) (pw, ph, pt) hQ hAe hx hb hr hlk (by first | rfl | decide) hS (Or.inr ⟨by omega, rfl, rfl, rfl, rfl⟩) dX2_shape_29
        · skip
          refine lv_iload_n hx hb dX2_shape_23 rfl (lv_at hl 3 rfl) ?_
          refine lv_iconst (v := nI 4) hx hb dX2_shape_24 (by decide) ?_
          refine tm_Ile hx hb (rs).toInt ((4 : Nat) : Int) rfl (nI_toInt (by omega)) (tgt := 30) dX2_shape_25 (by decide) (fun c_25 => ?_) (fun c_25 => ?_)
          · skip
            obtain ⟨Cs, rfl, eCs, bCs⟩ := tm_ofI (show 0 ≤ (cs).toInt from (by omega))
            obtain ⟨Rs, rfl, eRs, bRs⟩ := tm_ofI (show 0 ≤ (rs).toInt from (by omega))
            refine lv_aload_n hx hb dX2_shape_30 rfl (lv_at hl 0 rfl) ?_
            refine tm_gM hx hb hts hown hS rfl 4 (by decide) q194 rfl dX2_shape_31 ?_
            refine lv_iload_n hx hb dX2_shape_34 rfl (lv_at hl 1 rfl) ?_
            refine lv_iload_n hx hb dX2_shape_35 rfl (lv_at hl 2 rfl) ?_
            refine tm_iast (f := pw) hx hb hS 3 rfl (by omega) (by decide) (wM b dI wi hi tx pt (tm_up pw P Cs) ph) rfl dX2_shape_36 (fun H locs hS => ?_)
            refine lv_aload_n hx hb dX2_shape_37 rfl (lv_at hl 0 rfl) ?_
            refine tm_gM hx hb hts hown hS rfl 5 (by decide) q195 rfl dX2_shape_38 ?_
            refine lv_iload_n hx hb dX2_shape_41 rfl (lv_at hl 1 rfl) ?_
            refine lv_iload_n hx hb dX2_shape_42 rfl (lv_at hl 3 rfl) ?_
            refine tm_iast (f := ph) hx hb hS 4 rfl (by omega) (by decide) (wM b dI wi hi tx pt (tm_up pw P Cs) (tm_up ph P Rs)) rfl dX2_shape_43 (fun H locs hS => ?_)
            refine lv_iconst (v := nI 0) hx hb dX2_shape_44 (by decide) ?_
            refine lv_istore (lv' := [(4, .int (nI (0))), (0, .ref (b 0)), (1, .int (nI (P))), (2, .int (nI (Cs))), (3, .int (nI (Rs)))]) hx hb dX2_shape_45 hl (by decide) rfl (fun ls hl => ?_)
            have L47 : ∀ (n : Nat) (k : Nat) (pt1 : Nat → Nat), (16 - k < n) → (k ≤ 16) → (pt1 = tm_clr pt (16 * P) k) → ∀ (H : Heap) (locs : List Loc) (ls : Array Slot), tm_S D dB dI s A A s.heap H locs (wM b dI wi hi tx pt1 (tm_up pw P Cs) (tm_up ph P Rs)) → lv_has ls 5 [(0, .ref (b 0)), (1, .int (nI (P))), (4, .int (nI (k)))] → W p l e rX2_shape s m args below meth c H locs 0 0 Q (F0 m 47 ls []) := by
              intro n
              induction n with
              | zero => intros; omega
              | succ n ih =>
                intro k pt1 hn hk hpt H locs ls hS hl
                refine lv_iload hx hb dX2_shape_47 (lv_at hl 2 rfl) ?_
                refine lv_bipush (v := nI 16) hx hb dX2_shape_49 (by decide) ?_
                refine tm_cge hx hb (by omega) (by omega) (tgt := 73) dX2_shape_51 (by decide) (fun c_51 => ?_) (fun c_51 => ?_)
                · skip
                  refine lv_iconst (v := nI 1) hx hb dX2_shape_73 (by decide) ?_
                  exact tm_zret (S := (Nat → Nat) × (Nat → Nat) × (Nat → Nat)) (tm_up pw P Cs, tm_up ph P Rs, pt1) hQ hAe hx hb hr hlk (by first | rfl | decide) hS (Or.inl ⟨by omega, rfl, by rw [show (nI P).toInt.toNat = P by omega, show (nI Cs).toInt.toNat = Cs by omega], by rw [show (nI P).toInt.toNat = P by omega, show (nI Rs).toInt.toNat = Rs by omega], by rw [show (nI P).toInt.toNat = P by omega, hpt, show k = 16 by omega]⟩) dX2_shape_74
                · skip
                  refine lv_aload_n hx hb dX2_shape_54 rfl (lv_at hl 0 rfl) ?_
                  refine tm_gM hx hb hts hown hS rfl 3 (by decide) q193 rfl dX2_shape_55 ?_
                  refine lv_bipush (v := nI 16) hx hb dX2_shape_58 (by decide) ?_
                  refine lv_iload_n hx hb dX2_shape_60 rfl (lv_at hl 1 rfl) ?_
                  refine tm_imul hx hb dX2_shape_61 ?_
                  refine lv_iload hx hb dX2_shape_62 (lv_at hl 2 rfl) ?_
                  refine tm_iadd hx hb dX2_shape_64 ?_
                  refine lv_iconst (v := nI 0) hx hb dX2_shape_65 (by decide) ?_
                  refine tm_iast (f := pt1) hx hb hS 2 rfl (by omega) (by decide) (wM b dI wi hi tx (tm_up pt1 (16 * P + k) 0) (tm_up pw P Cs) (tm_up ph P Rs)) rfl dX2_shape_66 (fun H locs hS => ?_)
                  refine tm_iinc (lv' := [(4, .int (nI (k + 1))), (0, .ref (b 0)), (1, .int (nI (P)))]) hx hb dX2_shape_67 hl (k := 2) rfl (by decide) rfl (fun ls hl => ?_)
                  refine lv_goto (tgt := 47) hx hb dX2_shape_70 (by decide) ?_
                  exact ih (k + 1) (tm_up pt1 (16 * P + k) 0) (by omega) (by omega) (by rw [hpt]; exact tm_clr_s pt _ k) _ _ _ hS (lv_sub hl [1, 2, 0] rfl)
            exact L47 17 0 pt (by omega) (by omega) (tm_clr_0 pt _) _ _ _ hS (lv_sub hl [1, 2, 0] rfl)
          · skip
            refine lv_iconst (v := nI 0) hx hb dX2_shape_28 (by decide) ?_
            exact tm_zret (S := (Nat → Nat) × (Nat → Nat) × (Nat → Nat)) (pw, ph, pt) hQ hAe hx hb hr hlk (by first | rfl | decide) hS (Or.inr ⟨by omega, rfl, rfl, rfl, rfl⟩) dX2_shape_29
  · skip
    refine tm_zeq hx hb (by omega) (tgt := 28) dX2_shape_5 (by decide) (fun c_5 => ?_) (fun c_5 => absurd c_5 (by decide))
    refine lv_iconst (v := nI 0) hx hb dX2_shape_28 (by decide) ?_
    exact tm_zret (S := (Nat → Nat) × (Nat → Nat) × (Nat → Nat)) (pw, ph, pt) hQ hAe hx hb hr hlk (by first | rfl | decide) hS (Or.inr ⟨by omega, rfl, rfl, rfl, rfl⟩) dX2_shape_29
abbrev rX2_paint : Room := { frames := 1, cells := 0, slots := 0, locals := 21 }
set_option maxHeartbeats 8000000 in
set_option maxRecDepth 100000 in
/-- paint -/
theorem kX2_paint (l : Launch) (D : va_G) (dB dI : ClassId) (b : Nat → Nat) (sz wi hi : Nat) (tx pt pw ph : Nat → Nat) (pp : Int32) (jj : Int32) (ii : Int32) (lt : Int32) (hok : tm_om wi hi tx pt pw ph) : Met l yX2_paint (ws_ yX2_paint cX2_paint 5 (some .boolean)) rX2_paint (tm_Pre D dB dI [.ref (b 0), .int (pp), .int (jj), .int (ii), .int (lt)] sz (wM b dI wi hi tx pt pw ph)) (tm_Qi (S := (Nat → Nat)) D dB dI (wM b dI wi hi tx pt pw ph) sz (fun r u => (((0 ≤ (pp).toInt ∧ (pp).toInt ≤ 2) ∧ 0 ≤ (lt).toInt ∧ (lt).toInt ≤ 2 ∧ 0 ≤ (jj).toInt ∧ (jj).toInt < pw (pp).toInt.toNat ∧ 0 ≤ (ii).toInt ∧ (ii).toInt < ph (pp).toInt.toNat) ∧ r = nI 1 ∧ u = tm_up pt (16 * (pp).toInt.toNat + 4 * (ii).toInt.toNat + (jj).toInt.toNat) (lt).toInt.toNat) ∨ (¬ ((0 ≤ (pp).toInt ∧ (pp).toInt ≤ 2) ∧ 0 ≤ (lt).toInt ∧ (lt).toInt ≤ 2 ∧ 0 ≤ (jj).toInt ∧ (jj).toInt < pw (pp).toInt.toNat ∧ 0 ≤ (ii).toInt ∧ (ii).toInt < ph (pp).toInt.toNat) ∧ r = nI 0 ∧ u = pt)) (fun u => wM b dI wi hi tx u pw ph)) 0 0 (va_A (wM b dI wi hi tx pt pw ph) sz) := by
  refine tm_met (nL := 5) (ret := (some .boolean)) RX2 rfl (by decide) (Nat.le_of_ble_eq_true rfl) ?_
  intro p e s m args below meth c ls A Q H locs hx hb hml hown hts hr hlk hnm hA hAe hQ hS hl
  have hl : lv_has ls 5 [(0, .ref (b 0)), (1, .int (pp)), (2, .int (jj)), (3, .int (ii)), (4, .int (lt))] := hl
  obtain ⟨⟨ok1, ok2⟩, ⟨ok3, ok4⟩, ok5, ok6, ok7⟩ := hok
  refine lv_aload_n hx hb dX2_paint_0 rfl (lv_at hl 0 rfl) ?_
  refine lv_iload_n hx hb dX2_paint_1 rfl (lv_at hl 1 rfl) ?_
  refine tm_callR (q := (RX2, TX2, 6)) (As := [.int (pp)]) (rest := []) ⟨hx, hb, hml, hown, hts⟩ (kX2_isPattern l D dB dI b H.size wi hi tx pt pw ph pp) (cwV 1 hts (lw_V q225 q227 qs16 q21 q228) rfl rfl rfl (by decide +kernel) ⟨Nat.le_of_ble_eq_true rfl, Nat.le_of_ble_eq_true rfl⟩) hS hA rfl rfl rfl hl.1 rfl (Nat.le_of_ble_eq_true rfl) dX2_paint_2 ⟨Nat.zero_le _, Nat.zero_le _⟩ (fun r H locs hr_2 hS => ?_)
  rcases hr_2 with ⟨h_2, rfl⟩ | ⟨h_2, rfl⟩
  · skip
    obtain ⟨P, rfl, eP, bP⟩ := tm_ofI (show 0 ≤ (pp).toInt from h_2.1)
    have hP : P < 3 := by omega
    have okp := ok6 P hP
    have eP2 : (nI P).toInt.toNat = P := by omega
    refine tm_zeq hx hb (by omega) (tgt := 45) dX2_paint_5 (by decide) (fun c_5 => absurd c_5 (by decide)) (fun c_5 => ?_)
    refine lv_iload_n hx hb dX2_paint_8 rfl (lv_at hl 2 rfl) ?_
    refine tm_Zlt hx hb (jj).toInt rfl (tgt := 45) dX2_paint_9 (by decide) (fun c_9 => ?_) (fun c_9 => ?_)
    · skip
      refine lv_iconst (v := nI 0) hx hb dX2_paint_45 (by decide) ?_
      exact tm_zret (S := (Nat → Nat)) (pt) hQ hAe hx hb hr hlk (by first | rfl | decide) hS (Or.inr ⟨by first | omega | (rw [eP2]; omega), rfl, rfl⟩) dX2_paint_46
    · skip
      refine lv_iload_n hx hb dX2_paint_12 rfl (lv_at hl 3 rfl) ?_
      refine tm_Zlt hx hb (ii).toInt rfl (tgt := 45) dX2_paint_13 (by decide) (fun c_13 => ?_) (fun c_13 => ?_)
      · skip
        refine lv_iconst (v := nI 0) hx hb dX2_paint_45 (by decide) ?_
        exact tm_zret (S := (Nat → Nat)) (pt) hQ hAe hx hb hr hlk (by first | rfl | decide) hS (Or.inr ⟨by first | omega | (rw [eP2]; omega), rfl, rfl⟩) dX2_paint_46
      · skip
        refine lv_iload_n hx hb dX2_paint_16 rfl (lv_at hl 2 rfl) ?_
        refine lv_aload_n hx hb dX2_paint_17 rfl (lv_at hl 0 rfl) ?_
        refine tm_gM hx hb hts hown hS rfl 4 (by decide) q194 rfl dX2_paint_18 ?_
        refine lv_iload_n hx hb dX2_paint_21 rfl (lv_at hl 1 rfl) ?_
        refine tm_iald (f := pw) hx hb hS 3 rfl (by omega) (by decide) dX2_paint_22 ?_
        refine tm_Ige hx hb (jj).toInt ((pw P : Nat) : Int) rfl (nI_toInt (by omega)) (tgt := 45) dX2_paint_23 (by decide) (fun c_23 => ?_) (fun c_23 => ?_)
        · skip
          refine lv_iconst (v := nI 0) hx hb dX2_paint_45 (by decide) ?_
          exact tm_zret (S := (Nat → Nat)) (pt) hQ hAe hx hb hr hlk (by first | rfl | decide) hS (Or.inr ⟨by first | omega | (rw [eP2]; omega), rfl, rfl⟩) dX2_paint_46
        · skip
          refine lv_iload_n hx hb dX2_paint_26 rfl (lv_at hl 3 rfl) ?_
          refine lv_aload_n hx hb dX2_paint_27 rfl (lv_at hl 0 rfl) ?_
          refine tm_gM hx hb hts hown hS rfl 5 (by decide) q195 rfl dX2_paint_28 ?_
          refine lv_iload_n hx hb dX2_paint_31 rfl (lv_at hl 1 rfl) ?_
          refine tm_iald (f := ph) hx hb hS 4 rfl (by omega) (by decide) dX2_paint_32 ?_
          refine tm_Ige hx hb (ii).toInt ((ph P : Nat) : Int) rfl (nI_toInt (by omega)) (tgt := 45) dX2_paint_33 (by decide) (fun c_33 => ?_) (fun c_33 => ?_)
          · skip
            refine lv_iconst (v := nI 0) hx hb dX2_paint_45 (by decide) ?_
            exact tm_zret (S := (Nat → Nat)) (pt) hQ hAe hx hb hr hlk (by first | rfl | decide) hS (Or.inr ⟨by first | omega | (rw [eP2]; omega), rfl, rfl⟩) dX2_paint_46
          · skip
            refine lv_aload_n hx hb dX2_paint_36 rfl (lv_at hl 0 rfl) ?_
            refine lv_iload hx hb dX2_paint_37 (lv_at hl 4 rfl) ?_
            refine tm_callR (q := (RX2, TX2, 6)) (As := [.int (lt)]) (rest := []) ⟨hx, hb, hml, hown, hts⟩ (kX2_isLetter l D dB dI b H.size wi hi tx pt pw ph lt) (cwV 1 hts (lw_V q217 q219 qs15 q21 q220) rfl rfl rfl (by decide +kernel) ⟨Nat.le_of_ble_eq_true rfl, Nat.le_of_ble_eq_true rfl⟩) hS hA rfl rfl rfl hl.1 rfl (Nat.le_of_ble_eq_true rfl) dX2_paint_39 ⟨Nat.zero_le _, Nat.zero_le _⟩ (fun r H locs hr_39 hS => ?_)
            rcases hr_39 with ⟨h_39, rfl⟩ | ⟨h_39, rfl⟩
            · skip
              obtain ⟨J, rfl, eJ, bJ⟩ := tm_ofI (show 0 ≤ (jj).toInt from c_9)
              obtain ⟨I, rfl, eI, bI⟩ := tm_ofI (show 0 ≤ (ii).toInt from c_13)
              obtain ⟨Lt, rfl, eLt, bLt⟩ := tm_ofI (show 0 ≤ (lt).toInt from h_39.1)
              refine tm_zne hx hb (by omega) (tgt := 47) dX2_paint_42 (by decide) (fun c_42 => ?_) (fun c_42 => absurd c_42 (by decide))
              refine lv_aload_n hx hb dX2_paint_47 rfl (lv_at hl 0 rfl) ?_
              refine tm_gM hx hb hts hown hS rfl 3 (by decide) q193 rfl dX2_paint_48 ?_
              refine lv_bipush (v := nI 16) hx hb dX2_paint_51 (by decide) ?_
              refine lv_iload_n hx hb dX2_paint_53 rfl (lv_at hl 1 rfl) ?_
              refine tm_imul hx hb dX2_paint_54 ?_
              refine lv_iconst (v := nI 4) hx hb dX2_paint_55 (by decide) ?_
              refine lv_iload_n hx hb dX2_paint_56 rfl (lv_at hl 3 rfl) ?_
              refine tm_imul hx hb dX2_paint_57 ?_
              refine tm_iadd hx hb dX2_paint_58 ?_
              refine lv_iload_n hx hb dX2_paint_59 rfl (lv_at hl 2 rfl) ?_
              refine tm_iadd hx hb dX2_paint_60 ?_
              refine lv_iload hx hb dX2_paint_61 (lv_at hl 4 rfl) ?_
              refine tm_iast (f := pt) hx hb hS 2 rfl (by omega) (by decide) (wM b dI wi hi tx (tm_up pt (16 * P + 4 * I + J) Lt) pw ph) rfl dX2_paint_63 (fun H locs hS => ?_)
              refine lv_iconst (v := nI 1) hx hb dX2_paint_64 (by decide) ?_
              exact tm_zret (S := (Nat → Nat)) (tm_up pt (16 * P + 4 * I + J) Lt) hQ hAe hx hb hr hlk (by first | rfl | decide) hS (Or.inl ⟨by rw [eP2]; omega, rfl, by rw [show (nI P).toInt.toNat = P by omega, show (nI I).toInt.toNat = I by omega, show (nI J).toInt.toNat = J by omega, show (nI Lt).toInt.toNat = Lt by omega]⟩) dX2_paint_65
            · skip
              refine tm_zne hx hb (by omega) (tgt := 47) dX2_paint_42 (by decide) (fun c_42 => absurd c_42 (by decide)) (fun c_42 => ?_)
              refine lv_iconst (v := nI 0) hx hb dX2_paint_45 (by decide) ?_
              exact tm_zret (S := (Nat → Nat)) (pt) hQ hAe hx hb hr hlk (by first | rfl | decide) hS (Or.inr ⟨by first | omega | (rw [eP2]; omega), rfl, rfl⟩) dX2_paint_46
  · skip
    refine tm_zeq hx hb (by omega) (tgt := 45) dX2_paint_5 (by decide) (fun c_5 => ?_) (fun c_5 => absurd c_5 (by decide))
    refine lv_iconst (v := nI 0) hx hb dX2_paint_45 (by decide) ?_
    exact tm_zret (S := (Nat → Nat)) (pt) hQ hAe hx hb hr hlk (by first | rfl | decide) hS (Or.inr ⟨by first | omega | (rw [eP2]; omega), rfl, rfl⟩) dX2_paint_46
abbrev rX2_fits : Room := { frames := 1, cells := 0, slots := 0, locals := 22 }
set_option maxHeartbeats 8000000 in
set_option maxRecDepth 100000 in
/-- fits -/
theorem kX2_fits (l : Launch) (D : va_G) (dB dI : ClassId) (b : Nat → Nat) (sz wi hi : Nat) (tx pt pw ph : Nat → Nat) (pp : Int32) (x : Int32) (y : Int32) (hok : tm_om wi hi tx pt pw ph) : Met l yX2_fits (ws_ yX2_fits cX2_fits 4 (some .boolean)) rX2_fits (tm_Pre D dB dI [.ref (b 0), .int (pp), .int (x), .int (y)] sz (wM b dI wi hi tx pt pw ph)) (tm_Qr sz (fun r => (((0 ≤ (pp).toInt ∧ (pp).toInt ≤ 2) ∧ (0 ≤ (x).toInt ∧ (x).toInt + pw (pp).toInt.toNat ≤ wi ∧ 0 ≤ (y).toInt ∧ (y).toInt + ph (pp).toInt.toNat ≤ hi)) ∧ r = nI 1) ∨ (¬ ((0 ≤ (pp).toInt ∧ (pp).toInt ≤ 2) ∧ (0 ≤ (x).toInt ∧ (x).toInt + pw (pp).toInt.toNat ≤ wi ∧ 0 ≤ (y).toInt ∧ (y).toInt + ph (pp).toInt.toNat ≤ hi)) ∧ r = nI 0))) 0 0 (va_A [] sz) := by
  refine tm_metR (nL := 4) (ret := (some .boolean)) RX2 rfl (by decide) (Nat.le_of_ble_eq_true rfl) ?_
  intro p e s m args below meth c ls A Q H locs hx hb hml hown hts hr hlk hnm hA hAe hQ hS hl
  have hl : lv_has ls 4 [(0, .ref (b 0)), (1, .int (pp)), (2, .int (x)), (3, .int (y))] := hl
  obtain ⟨⟨ok1, ok2⟩, ⟨ok3, ok4⟩, ok5, ok6, ok7⟩ := hok
  refine lv_aload_n hx hb dX2_fits_0 rfl (lv_at hl 0 rfl) ?_
  refine lv_iload_n hx hb dX2_fits_1 rfl (lv_at hl 1 rfl) ?_
  refine tm_callR (q := (RX2, TX2, 6)) (As := [.int (pp)]) (rest := []) ⟨hx, hb, hml, hown, hts⟩ (kX2_isPattern l D dB dI b H.size wi hi tx pt pw ph pp) (cwV 1 hts (lw_V q225 q227 qs16 q21 q228) rfl rfl rfl (by decide +kernel) ⟨Nat.le_of_ble_eq_true rfl, Nat.le_of_ble_eq_true rfl⟩) hS hA rfl rfl rfl hl.1 rfl (Nat.le_of_ble_eq_true rfl) dX2_fits_2 ⟨Nat.zero_le _, Nat.zero_le _⟩ (fun r H locs hr_2 hS => ?_)
  rcases hr_2 with ⟨h_2, rfl⟩ | ⟨h_2, rfl⟩
  · skip
    obtain ⟨P, rfl, eP, bP⟩ := tm_ofI (show 0 ≤ (pp).toInt from h_2.1)
    have hP : P < 3 := by omega
    have okp := ok6 P hP
    have eP2 : (nI P).toInt.toNat = P := by omega
    refine tm_zeq hx hb (by omega) (tgt := 51) dX2_fits_5 (by decide) (fun c_5 => absurd c_5 (by decide)) (fun c_5 => ?_)
    refine lv_aload_n hx hb dX2_fits_8 rfl (lv_at hl 0 rfl) ?_
    refine lv_iload_n hx hb dX2_fits_9 rfl (lv_at hl 2 rfl) ?_
    refine lv_iload_n hx hb dX2_fits_10 rfl (lv_at hl 3 rfl) ?_
    refine tm_callR (q := (RX2, TX2, 6)) (As := [.int (x), .int (y)]) (rest := []) ⟨hx, hb, hml, hown, hts⟩ (kX2_inText l D dB dI b H.size wi hi tx pt pw ph x y ok2 ok4) (cwV 2 hts (lw_V q213 q215 qs14 q21 q216) rfl rfl rfl (by decide +kernel) ⟨Nat.le_of_ble_eq_true rfl, Nat.le_of_ble_eq_true rfl⟩) hS hA rfl rfl rfl hl.1 rfl (Nat.le_of_ble_eq_true rfl) dX2_fits_11 ⟨Nat.zero_le _, Nat.zero_le _⟩ (fun r H locs hr_11 hS => ?_)
    rcases hr_11 with ⟨h_11, rfl⟩ | ⟨h_11, rfl⟩
    · skip
      refine tm_zeq hx hb (by omega) (tgt := 51) dX2_fits_14 (by decide) (fun c_14 => absurd c_14 (by decide)) (fun c_14 => ?_)
      refine lv_iload_n hx hb dX2_fits_17 rfl (lv_at hl 2 rfl) ?_
      refine lv_aload_n hx hb dX2_fits_18 rfl (lv_at hl 0 rfl) ?_
      refine tm_gM hx hb hts hown hS rfl 0 (by decide) q190 rfl dX2_fits_19 ?_
      refine lv_aload_n hx hb dX2_fits_22 rfl (lv_at hl 0 rfl) ?_
      refine tm_gM hx hb hts hown hS rfl 4 (by decide) q194 rfl dX2_fits_23 ?_
      refine lv_iload_n hx hb dX2_fits_26 rfl (lv_at hl 1 rfl) ?_
      refine tm_iald (f := pw) hx hb hS 3 rfl (by omega) (by decide) dX2_fits_27 ?_
      refine tm_isub hx hb (by omega) dX2_fits_28 ?_
      refine tm_Igt hx hb (x).toInt ((wi - pw P : Nat) : Int) rfl (nI_toInt (by omega)) (tgt := 51) dX2_fits_29 (by decide) (fun c_29 => ?_) (fun c_29 => ?_)
      · skip
        refine lv_iconst (v := nI 0) hx hb dX2_fits_51 (by decide) ?_
        exact tm_zretR hQ hAe hx hb hr hlk (by first | rfl | decide) hS (Or.inr ⟨by first | omega | (rw [eP2]; omega), rfl⟩) dX2_fits_52
      · skip
        refine lv_iload_n hx hb dX2_fits_32 rfl (lv_at hl 3 rfl) ?_
        refine lv_aload_n hx hb dX2_fits_33 rfl (lv_at hl 0 rfl) ?_
        refine tm_gM hx hb hts hown hS rfl 1 (by decide) q191 rfl dX2_fits_34 ?_
        refine lv_aload_n hx hb dX2_fits_37 rfl (lv_at hl 0 rfl) ?_
        refine tm_gM hx hb hts hown hS rfl 5 (by decide) q195 rfl dX2_fits_38 ?_
        refine lv_iload_n hx hb dX2_fits_41 rfl (lv_at hl 1 rfl) ?_
        refine tm_iald (f := ph) hx hb hS 4 rfl (by omega) (by decide) dX2_fits_42 ?_
        refine tm_isub hx hb (by omega) dX2_fits_43 ?_
        refine tm_Igt hx hb (y).toInt ((hi - ph P : Nat) : Int) rfl (nI_toInt (by omega)) (tgt := 51) dX2_fits_44 (by decide) (fun c_44 => ?_) (fun c_44 => ?_)
        · skip
          refine lv_iconst (v := nI 0) hx hb dX2_fits_51 (by decide) ?_
          exact tm_zretR hQ hAe hx hb hr hlk (by first | rfl | decide) hS (Or.inr ⟨by first | omega | (rw [eP2]; omega), rfl⟩) dX2_fits_52
        · skip
          refine lv_iconst (v := nI 1) hx hb dX2_fits_47 (by decide) ?_
          refine lv_goto (tgt := 52) hx hb dX2_fits_48 (by decide) ?_
          exact tm_zretR hQ hAe hx hb hr hlk (by first | rfl | decide) hS (Or.inl ⟨by rw [eP2]; omega, rfl⟩) dX2_fits_52
    · skip
      refine tm_zeq hx hb (by omega) (tgt := 51) dX2_fits_14 (by decide) (fun c_14 => ?_) (fun c_14 => absurd c_14 (by decide))
      refine lv_iconst (v := nI 0) hx hb dX2_fits_51 (by decide) ?_
      exact tm_zretR hQ hAe hx hb hr hlk (by first | rfl | decide) hS (Or.inr ⟨by first | omega | (rw [eP2]; omega), rfl⟩) dX2_fits_52
  · skip
    refine tm_zeq hx hb (by omega) (tgt := 51) dX2_fits_5 (by decide) (fun c_5 => ?_) (fun c_5 => absurd c_5 (by decide))
    refine lv_iconst (v := nI 0) hx hb dX2_fits_51 (by decide) ?_
    exact tm_zretR hQ hAe hx hb hr hlk (by first | rfl | decide) hS (Or.inr ⟨by first | omega | (rw [eP2]; omega), rfl⟩) dX2_fits_52
end
section
set_option maxRecDepth 100000
abbrev rX2_copy : Room := { frames := 2, cells := 0, slots := 0, locals := 45 }
set_option maxHeartbeats 8000000 in
set_option maxRecDepth 100000 in
/-- copy -/
theorem kX2_copy (l : Launch) (D : va_G) (dB dI : ClassId) (b : Nat → Nat) (sz wi hi : Nat) (tx pt pw ph : Nat → Nat) (pp : Int32) (x : Int32) (y : Int32) (hok : tm_om wi hi tx pt pw ph) : Met l yX2_copy (ws_ yX2_copy cX2_copy 6 (some .boolean)) rX2_copy (tm_Pre D dB dI [.ref (b 0), .int (pp), .int (x), .int (y)] sz (wM b dI wi hi tx pt pw ph)) (tm_Qi (S := (Nat → Nat)) D dB dI (wM b dI wi hi tx pt pw ph) sz (fun r u => (((0 ≤ (pp).toInt ∧ (pp).toInt ≤ 2) ∧ (0 ≤ (x).toInt ∧ (x).toInt + pw (pp).toInt.toNat ≤ wi ∧ 0 ≤ (y).toInt ∧ (y).toInt + ph (pp).toInt.toNat ≤ hi)) ∧ r = nI 1 ∧ tm_rc (fun i j => 16 * (pp).toInt.toNat + 4 * i + j) (fun i j => tx (16 * ((y).toInt.toNat + i) + (x).toInt.toNat + j)) (pw (pp).toInt.toNat) (ph (pp).toInt.toNat) 0 pt u) ∨ (¬ ((0 ≤ (pp).toInt ∧ (pp).toInt ≤ 2) ∧ (0 ≤ (x).toInt ∧ (x).toInt + pw (pp).toInt.toNat ≤ wi ∧ 0 ≤ (y).toInt ∧ (y).toInt + ph (pp).toInt.toNat ≤ hi)) ∧ r = nI 0 ∧ u = pt)) (fun u => wM b dI wi hi tx u pw ph)) 0 0 (va_A (wM b dI wi hi tx pt pw ph) sz) := by
  refine tm_met (nL := 6) (ret := (some .boolean)) RX2 rfl (by decide) (Nat.le_of_ble_eq_true rfl) ?_
  intro p e s m args below meth c ls A Q H locs hx hb hml hown hts hr hlk hnm hA hAe hQ hS hl
  have hl : lv_has ls 6 [(0, .ref (b 0)), (1, .int (pp)), (2, .int (x)), (3, .int (y))] := hl
  have hok2 := hok
  obtain ⟨⟨ok1, ok2⟩, ⟨ok3, ok4⟩, ok5, ok6, ok7⟩ := hok
  refine lv_aload_n hx hb dX2_copy_0 rfl (lv_at hl 0 rfl) ?_
  refine lv_iload_n hx hb dX2_copy_1 rfl (lv_at hl 1 rfl) ?_
  refine lv_iload_n hx hb dX2_copy_2 rfl (lv_at hl 2 rfl) ?_
  refine lv_iload_n hx hb dX2_copy_3 rfl (lv_at hl 3 rfl) ?_
  refine tm_callR (q := (RX2, TX2, 6)) (As := [.int (pp), .int (x), .int (y)]) (rest := []) ⟨hx, hb, hml, hown, hts⟩ (kX2_fits l D dB dI b H.size wi hi tx pt pw ph pp x y hok2) (cwV 3 hts (lw_V q237 q239 qs17 q21 q240) rfl rfl rfl (by decide +kernel) ⟨Nat.le_of_ble_eq_true rfl, Nat.le_of_ble_eq_true rfl⟩) hS hA rfl rfl rfl hl.1 rfl (Nat.le_of_ble_eq_true rfl) dX2_copy_4 ⟨Nat.zero_le _, Nat.zero_le _⟩ (fun r H locs hr_4 hS => ?_)
  rcases hr_4 with ⟨h_4, rfl⟩ | ⟨h_4, rfl⟩
  · skip
    obtain ⟨P, rfl, eP, bP⟩ := tm_ofI (show 0 ≤ (pp).toInt from h_4.1.1)
    have hP : P < 3 := by omega
    have okp := ok6 P hP
    have eP2 : (nI P).toInt.toNat = P := by omega
    rw [eP2] at h_4
    obtain ⟨X, rfl, eX, bX⟩ := tm_ofI (show 0 ≤ (x).toInt from h_4.2.1)
    obtain ⟨Y, rfl, eY, bY⟩ := tm_ofI (show 0 ≤ (y).toInt from h_4.2.2.2.1)
    refine tm_zne hx hb (by omega) (tgt := 12) dX2_copy_7 (by decide) (fun c_7 => ?_) (fun c_7 => absurd c_7 (by decide))
    refine lv_iconst (v := nI 0) hx hb dX2_copy_12 (by decide) ?_
    refine lv_istore (lv' := [(4, .int (nI (0))), (0, .ref (b 0)), (1, .int (nI (P))), (2, .int (nI (X))), (3, .int (nI (Y)))]) hx hb dX2_copy_13 hl (by decide) rfl (fun ls hl => ?_)
    have L15 : ∀ (n : Nat) (i : Nat) (pt1 : Nat → Nat), (ph P - i < n) → (i ≤ ph P) → (tm_rc (fun i j => 16 * P + 4 * i + j) (fun i j => tx (16 * (Y + i) + X + j)) (pw P) i 0 pt pt1) → ∀ (H : Heap) (locs : List Loc) (ls : Array Slot), tm_S D dB dI s A A s.heap H locs (wM b dI wi hi tx pt1 pw ph) → lv_has ls 6 [(0, .ref (b 0)), (1, .int (nI (P))), (2, .int (nI (X))), (3, .int (nI (Y))), (4, .int (nI (i)))] → W p l e rX2_copy s m args below meth c H locs 0 0 Q (F0 m 15 ls []) := by
      intro n
      induction n with
      | zero => intros; omega
      | succ n ih =>
        intro i pt1 hn hi_ hrc H locs ls hS hl
        refine lv_iload hx hb dX2_copy_15 (lv_at hl 4 rfl) ?_
        refine lv_aload_n hx hb dX2_copy_17 rfl (lv_at hl 0 rfl) ?_
        refine tm_gM hx hb hts hown hS rfl 5 (by decide) q195 rfl dX2_copy_18 ?_
        refine lv_iload_n hx hb dX2_copy_21 rfl (lv_at hl 1 rfl) ?_
        refine tm_iald (f := ph) hx hb hS 4 rfl (by omega) (by decide) dX2_copy_22 ?_
        refine tm_cge hx hb (by omega) (by omega) (tgt := 86) dX2_copy_23 (by decide) (fun c_23 => ?_) (fun c_23 => ?_)
        · skip
          refine lv_iconst (v := nI 1) hx hb dX2_copy_86 (by decide) ?_
          exact tm_zret (S := (Nat → Nat)) (pt1) hQ hAe hx hb hr hlk (by first | rfl | decide) hS (Or.inl ⟨by rw [eP2]; omega, rfl, by rw [show (nI P).toInt.toNat = P by omega, show (nI X).toInt.toNat = X by omega, show (nI Y).toInt.toNat = Y by omega, show ph P = i by omega]; exact hrc⟩) dX2_copy_87
        · skip
          have L29 : ∀ (n : Nat) (j : Nat) (pt2 : Nat → Nat), (pw P - j < n) → (j ≤ pw P) → (tm_rc (fun i j => 16 * P + 4 * i + j) (fun i j => tx (16 * (Y + i) + X + j)) (pw P) i j pt pt2) → ∀ (H : Heap) (locs : List Loc) (ls : Array Slot), tm_S D dB dI s A A s.heap H locs (wM b dI wi hi tx pt2 pw ph) → lv_has ls 6 [(0, .ref (b 0)), (1, .int (nI (P))), (2, .int (nI (X))), (3, .int (nI (Y))), (4, .int (nI (i))), (5, .int (nI (j)))] → W p l e rX2_copy s m args below meth c H locs 0 0 Q (F0 m 29 ls []) := by
            intro n
            induction n with
            | zero => intros; omega
            | succ n ih2 =>
              intro j pt2 hn hj hrc2 H locs ls hS hl
              refine lv_iload hx hb dX2_copy_29 (lv_at hl 5 rfl) ?_
              refine lv_aload_n hx hb dX2_copy_31 rfl (lv_at hl 0 rfl) ?_
              refine tm_gM hx hb hts hown hS rfl 4 (by decide) q194 rfl dX2_copy_32 ?_
              refine lv_iload_n hx hb dX2_copy_35 rfl (lv_at hl 1 rfl) ?_
              refine tm_iald (f := pw) hx hb hS 3 rfl (by omega) (by decide) dX2_copy_36 ?_
              refine tm_cge hx hb (by omega) (by omega) (tgt := 80) dX2_copy_37 (by decide) (fun c_37 => ?_) (fun c_37 => ?_)
              · skip
                refine tm_iinc (lv' := [(4, .int (nI (i + 1))), (0, .ref (b 0)), (1, .int (nI (P))), (2, .int (nI (X))), (3, .int (nI (Y))), (5, .int (nI (j)))]) hx hb dX2_copy_80 hl (k := 4) rfl (by decide) rfl (fun ls hl => ?_)
                refine lv_goto (tgt := 15) hx hb dX2_copy_83 (by decide) ?_
                exact ih (i + 1) pt2 (by omega) (by omega) (tm_rc_i ((show j = pw P by omega) ▸ hrc2)) _ _ _ hS (lv_sub hl [1, 2, 3, 4, 0] rfl)
              · skip
                refine lv_aload_n hx hb dX2_copy_40 rfl (lv_at hl 0 rfl) ?_
                refine tm_gM hx hb hts hown hS rfl 3 (by decide) q193 rfl dX2_copy_41 ?_
                refine lv_bipush (v := nI 16) hx hb dX2_copy_44 (by decide) ?_
                refine lv_iload_n hx hb dX2_copy_46 rfl (lv_at hl 1 rfl) ?_
                refine tm_imul hx hb dX2_copy_47 ?_
                refine lv_iconst (v := nI 4) hx hb dX2_copy_48 (by decide) ?_
                refine lv_iload hx hb dX2_copy_49 (lv_at hl 4 rfl) ?_
                refine tm_imul hx hb dX2_copy_51 ?_
                refine tm_iadd hx hb dX2_copy_52 ?_
                refine lv_iload hx hb dX2_copy_53 (lv_at hl 5 rfl) ?_
                refine tm_iadd hx hb dX2_copy_55 ?_
                refine lv_aload_n hx hb dX2_copy_56 rfl (lv_at hl 0 rfl) ?_
                refine tm_gM hx hb hts hown hS rfl 2 (by decide) q192 rfl dX2_copy_57 ?_
                refine lv_bipush (v := nI 16) hx hb dX2_copy_60 (by decide) ?_
                refine lv_iload_n hx hb dX2_copy_62 rfl (lv_at hl 3 rfl) ?_
                refine lv_iload hx hb dX2_copy_63 (lv_at hl 4 rfl) ?_
                refine tm_iadd hx hb dX2_copy_65 ?_
                refine tm_imul hx hb dX2_copy_66 ?_
                refine lv_iload_n hx hb dX2_copy_67 rfl (lv_at hl 2 rfl) ?_
                refine tm_iadd hx hb dX2_copy_68 ?_
                refine lv_iload hx hb dX2_copy_69 (lv_at hl 5 rfl) ?_
                refine tm_iadd hx hb dX2_copy_71 ?_
                refine tm_iald (f := tx) hx hb hS 1 rfl (by omega) (by decide) dX2_copy_72 ?_
                refine tm_iast (f := pt2) hx hb hS 2 rfl (by omega) (by decide) (wM b dI wi hi tx (tm_up pt2 (16 * P + 4 * i + j) (tx (16 * (Y + i) + X + j))) pw ph) rfl dX2_copy_73 (fun H locs hS => ?_)
                refine tm_iinc (lv' := [(5, .int (nI (j + 1))), (0, .ref (b 0)), (1, .int (nI (P))), (2, .int (nI (X))), (3, .int (nI (Y))), (4, .int (nI (i)))]) hx hb dX2_copy_74 hl (k := 5) rfl (by decide) rfl (fun ls hl => ?_)
                refine lv_goto (tgt := 29) hx hb dX2_copy_77 (by decide) ?_
                exact ih2 (j + 1) (tm_up pt2 (16 * P + 4 * i + j) (tx (16 * (Y + i) + X + j))) (by omega) (by omega) (tm_rc_j (by omega) (fun i1 j1 q1 q2 => by omega) hrc2) _ _ _ hS (lv_sub hl [1, 2, 3, 4, 5, 0] rfl)
          refine lv_iconst (v := nI 0) hx hb dX2_copy_26 (by decide) ?_
          refine lv_istore (lv' := [(5, .int (nI (0))), (0, .ref (b 0)), (1, .int (nI (P))), (2, .int (nI (X))), (3, .int (nI (Y))), (4, .int (nI (i)))]) hx hb dX2_copy_27 hl (by decide) rfl (fun ls hl => ?_)
          exact L29 (pw P + 1) 0 pt1 (by omega) (by omega) hrc _ _ _ hS (lv_sub hl [1, 2, 3, 4, 5, 0] rfl)
    exact L15 (ph P + 1) 0 pt (by omega) (by omega) tm_rc_0 _ _ _ hS (lv_sub hl [1, 2, 3, 4, 0] rfl)
  · skip
    refine tm_zne hx hb (by omega) (tgt := 12) dX2_copy_7 (by decide) (fun c_7 => absurd c_7 (by decide)) (fun c_7 => ?_)
    refine lv_iconst (v := nI 0) hx hb dX2_copy_10 (by decide) ?_
    exact tm_zret (S := (Nat → Nat)) (pt) hQ hAe hx hb hr hlk (by first | rfl | decide) hS (Or.inr ⟨h_4, rfl, rfl⟩) dX2_copy_11
abbrev rX2_stamp : Room := { frames := 2, cells := 0, slots := 0, locals := 45 }
set_option maxHeartbeats 8000000 in
set_option maxRecDepth 100000 in
/-- stamp -/
theorem kX2_stamp (l : Launch) (D : va_G) (dB dI : ClassId) (b : Nat → Nat) (sz wi hi : Nat) (tx pt pw ph : Nat → Nat) (pp : Int32) (x : Int32) (y : Int32) (hok : tm_om wi hi tx pt pw ph) : Met l yX2_stamp (ws_ yX2_stamp cX2_stamp 6 (some .boolean)) rX2_stamp (tm_Pre D dB dI [.ref (b 0), .int (pp), .int (x), .int (y)] sz (wM b dI wi hi tx pt pw ph)) (tm_Qi (S := (Nat → Nat)) D dB dI (wM b dI wi hi tx pt pw ph) sz (fun r u => (((0 ≤ (pp).toInt ∧ (pp).toInt ≤ 2) ∧ (0 ≤ (x).toInt ∧ (x).toInt + pw (pp).toInt.toNat ≤ wi ∧ 0 ≤ (y).toInt ∧ (y).toInt + ph (pp).toInt.toNat ≤ hi)) ∧ r = nI 1 ∧ tm_rc (fun i j => 16 * ((y).toInt.toNat + i) + (x).toInt.toNat + j) (fun i j => pt (16 * (pp).toInt.toNat + 4 * i + j)) (pw (pp).toInt.toNat) (ph (pp).toInt.toNat) 0 tx u) ∨ (¬ ((0 ≤ (pp).toInt ∧ (pp).toInt ≤ 2) ∧ (0 ≤ (x).toInt ∧ (x).toInt + pw (pp).toInt.toNat ≤ wi ∧ 0 ≤ (y).toInt ∧ (y).toInt + ph (pp).toInt.toNat ≤ hi)) ∧ r = nI 0 ∧ u = tx)) (fun u => wM b dI wi hi u pt pw ph)) 0 0 (va_A (wM b dI wi hi tx pt pw ph) sz) := by
  refine tm_met (nL := 6) (ret := (some .boolean)) RX2 rfl (by decide) (Nat.le_of_ble_eq_true rfl) ?_
  intro p e s m args below meth c ls A Q H locs hx hb hml hown hts hr hlk hnm hA hAe hQ hS hl
  have hl : lv_has ls 6 [(0, .ref (b 0)), (1, .int (pp)), (2, .int (x)), (3, .int (y))] := hl
  have hok2 := hok
  obtain ⟨⟨ok1, ok2⟩, ⟨ok3, ok4⟩, ok5, ok6, ok7⟩ := hok
  refine lv_aload_n hx hb dX2_stamp_0 rfl (lv_at hl 0 rfl) ?_
  refine lv_iload_n hx hb dX2_stamp_1 rfl (lv_at hl 1 rfl) ?_
  refine lv_iload_n hx hb dX2_stamp_2 rfl (lv_at hl 2 rfl) ?_
  refine lv_iload_n hx hb dX2_stamp_3 rfl (lv_at hl 3 rfl) ?_
  refine tm_callR (q := (RX2, TX2, 6)) (As := [.int (pp), .int (x), .int (y)]) (rest := []) ⟨hx, hb, hml, hown, hts⟩ (kX2_fits l D dB dI b H.size wi hi tx pt pw ph pp x y hok2) (cwV 3 hts (lw_V q237 q239 qs17 q21 q240) rfl rfl rfl (by decide +kernel) ⟨Nat.le_of_ble_eq_true rfl, Nat.le_of_ble_eq_true rfl⟩) hS hA rfl rfl rfl hl.1 rfl (Nat.le_of_ble_eq_true rfl) dX2_stamp_4 ⟨Nat.zero_le _, Nat.zero_le _⟩ (fun r H locs hr_4 hS => ?_)
  rcases hr_4 with ⟨h_4, rfl⟩ | ⟨h_4, rfl⟩
  · skip
    obtain ⟨P, rfl, eP, bP⟩ := tm_ofI (show 0 ≤ (pp).toInt from h_4.1.1)
    have hP : P < 3 := by omega
    have okp := ok6 P hP
    have eP2 : (nI P).toInt.toNat = P := by omega
    rw [eP2] at h_4
    obtain ⟨X, rfl, eX, bX⟩ := tm_ofI (show 0 ≤ (x).toInt from h_4.2.1)
    obtain ⟨Y, rfl, eY, bY⟩ := tm_ofI (show 0 ≤ (y).toInt from h_4.2.2.2.1)
    refine tm_zne hx hb (by omega) (tgt := 12) dX2_stamp_7 (by decide) (fun c_7 => ?_) (fun c_7 => absurd c_7 (by decide))
    refine lv_iconst (v := nI 0) hx hb dX2_stamp_12 (by decide) ?_
    refine lv_istore (lv' := [(4, .int (nI (0))), (0, .ref (b 0)), (1, .int (nI (P))), (2, .int (nI (X))), (3, .int (nI (Y)))]) hx hb dX2_stamp_13 hl (by decide) rfl (fun ls hl => ?_)
    have L15 : ∀ (n : Nat) (i : Nat) (tx1 : Nat → Nat), (ph P - i < n) → (i ≤ ph P) → (tm_rc (fun i j => 16 * (Y + i) + X + j) (fun i j => pt (16 * P + 4 * i + j)) (pw P) i 0 tx tx1) → ∀ (H : Heap) (locs : List Loc) (ls : Array Slot), tm_S D dB dI s A A s.heap H locs (wM b dI wi hi tx1 pt pw ph) → lv_has ls 6 [(0, .ref (b 0)), (1, .int (nI (P))), (2, .int (nI (X))), (3, .int (nI (Y))), (4, .int (nI (i)))] → W p l e rX2_stamp s m args below meth c H locs 0 0 Q (F0 m 15 ls []) := by
      intro n
      induction n with
      | zero => intros; omega
      | succ n ih =>
        intro i tx1 hn hi_ hrc H locs ls hS hl
        refine lv_iload hx hb dX2_stamp_15 (lv_at hl 4 rfl) ?_
        refine lv_aload_n hx hb dX2_stamp_17 rfl (lv_at hl 0 rfl) ?_
        refine tm_gM hx hb hts hown hS rfl 5 (by decide) q195 rfl dX2_stamp_18 ?_
        refine lv_iload_n hx hb dX2_stamp_21 rfl (lv_at hl 1 rfl) ?_
        refine tm_iald (f := ph) hx hb hS 4 rfl (by omega) (by decide) dX2_stamp_22 ?_
        refine tm_cge hx hb (by omega) (by omega) (tgt := 86) dX2_stamp_23 (by decide) (fun c_23 => ?_) (fun c_23 => ?_)
        · skip
          refine lv_iconst (v := nI 1) hx hb dX2_stamp_86 (by decide) ?_
          exact tm_zret (S := (Nat → Nat)) (tx1) hQ hAe hx hb hr hlk (by first | rfl | decide) hS (Or.inl ⟨by rw [eP2]; omega, rfl, by rw [show (nI P).toInt.toNat = P by omega, show (nI X).toInt.toNat = X by omega, show (nI Y).toInt.toNat = Y by omega, show ph P = i by omega]; exact hrc⟩) dX2_stamp_87
        · skip
          have L29 : ∀ (n : Nat) (j : Nat) (tx2 : Nat → Nat), (pw P - j < n) → (j ≤ pw P) → (tm_rc (fun i j => 16 * (Y + i) + X + j) (fun i j => pt (16 * P + 4 * i + j)) (pw P) i j tx tx2) → ∀ (H : Heap) (locs : List Loc) (ls : Array Slot), tm_S D dB dI s A A s.heap H locs (wM b dI wi hi tx2 pt pw ph) → lv_has ls 6 [(0, .ref (b 0)), (1, .int (nI (P))), (2, .int (nI (X))), (3, .int (nI (Y))), (4, .int (nI (i))), (5, .int (nI (j)))] → W p l e rX2_stamp s m args below meth c H locs 0 0 Q (F0 m 29 ls []) := by
            intro n
            induction n with
            | zero => intros; omega
            | succ n ih2 =>
              intro j tx2 hn hj hrc2 H locs ls hS hl
              refine lv_iload hx hb dX2_stamp_29 (lv_at hl 5 rfl) ?_
              refine lv_aload_n hx hb dX2_stamp_31 rfl (lv_at hl 0 rfl) ?_
              refine tm_gM hx hb hts hown hS rfl 4 (by decide) q194 rfl dX2_stamp_32 ?_
              refine lv_iload_n hx hb dX2_stamp_35 rfl (lv_at hl 1 rfl) ?_
              refine tm_iald (f := pw) hx hb hS 3 rfl (by omega) (by decide) dX2_stamp_36 ?_
              refine tm_cge hx hb (by omega) (by omega) (tgt := 80) dX2_stamp_37 (by decide) (fun c_37 => ?_) (fun c_37 => ?_)
              · skip
                refine tm_iinc (lv' := [(4, .int (nI (i + 1))), (0, .ref (b 0)), (1, .int (nI (P))), (2, .int (nI (X))), (3, .int (nI (Y))), (5, .int (nI (j)))]) hx hb dX2_stamp_80 hl (k := 4) rfl (by decide) rfl (fun ls hl => ?_)
                refine lv_goto (tgt := 15) hx hb dX2_stamp_83 (by decide) ?_
                exact ih (i + 1) tx2 (by omega) (by omega) (tm_rc_i ((show j = pw P by omega) ▸ hrc2)) _ _ _ hS (lv_sub hl [1, 2, 3, 4, 0] rfl)
              · skip
                refine lv_aload_n hx hb dX2_stamp_40 rfl (lv_at hl 0 rfl) ?_
                refine tm_gM hx hb hts hown hS rfl 2 (by decide) q192 rfl dX2_stamp_41 ?_
                refine lv_bipush (v := nI 16) hx hb dX2_stamp_44 (by decide) ?_
                refine lv_iload_n hx hb dX2_stamp_46 rfl (lv_at hl 3 rfl) ?_
                refine lv_iload hx hb dX2_stamp_47 (lv_at hl 4 rfl) ?_
                refine tm_iadd hx hb dX2_stamp_49 ?_
                refine tm_imul hx hb dX2_stamp_50 ?_
                refine lv_iload_n hx hb dX2_stamp_51 rfl (lv_at hl 2 rfl) ?_
                refine tm_iadd hx hb dX2_stamp_52 ?_
                refine lv_iload hx hb dX2_stamp_53 (lv_at hl 5 rfl) ?_
                refine tm_iadd hx hb dX2_stamp_55 ?_
                refine lv_aload_n hx hb dX2_stamp_56 rfl (lv_at hl 0 rfl) ?_
                refine tm_gM hx hb hts hown hS rfl 3 (by decide) q193 rfl dX2_stamp_57 ?_
                refine lv_bipush (v := nI 16) hx hb dX2_stamp_60 (by decide) ?_
                refine lv_iload_n hx hb dX2_stamp_62 rfl (lv_at hl 1 rfl) ?_
                refine tm_imul hx hb dX2_stamp_63 ?_
                refine lv_iconst (v := nI 4) hx hb dX2_stamp_64 (by decide) ?_
                refine lv_iload hx hb dX2_stamp_65 (lv_at hl 4 rfl) ?_
                refine tm_imul hx hb dX2_stamp_67 ?_
                refine tm_iadd hx hb dX2_stamp_68 ?_
                refine lv_iload hx hb dX2_stamp_69 (lv_at hl 5 rfl) ?_
                refine tm_iadd hx hb dX2_stamp_71 ?_
                refine tm_iald (f := pt) hx hb hS 2 rfl (by omega) (by decide) dX2_stamp_72 ?_
                refine tm_iast (f := tx2) hx hb hS 1 rfl (by omega) (by decide) (wM b dI wi hi (tm_up tx2 (16 * (Y + i) + X + j) (pt (16 * P + 4 * i + j))) pt pw ph) rfl dX2_stamp_73 (fun H locs hS => ?_)
                refine tm_iinc (lv' := [(5, .int (nI (j + 1))), (0, .ref (b 0)), (1, .int (nI (P))), (2, .int (nI (X))), (3, .int (nI (Y))), (4, .int (nI (i)))]) hx hb dX2_stamp_74 hl (k := 5) rfl (by decide) rfl (fun ls hl => ?_)
                refine lv_goto (tgt := 29) hx hb dX2_stamp_77 (by decide) ?_
                exact ih2 (j + 1) (tm_up tx2 (16 * (Y + i) + X + j) (pt (16 * P + 4 * i + j))) (by omega) (by omega) (tm_rc_j (by omega) (fun i1 j1 q1 q2 => by omega) hrc2) _ _ _ hS (lv_sub hl [1, 2, 3, 4, 5, 0] rfl)
          refine lv_iconst (v := nI 0) hx hb dX2_stamp_26 (by decide) ?_
          refine lv_istore (lv' := [(5, .int (nI (0))), (0, .ref (b 0)), (1, .int (nI (P))), (2, .int (nI (X))), (3, .int (nI (Y))), (4, .int (nI (i)))]) hx hb dX2_stamp_27 hl (by decide) rfl (fun ls hl => ?_)
          exact L29 (pw P + 1) 0 tx1 (by omega) (by omega) hrc _ _ _ hS (lv_sub hl [1, 2, 3, 4, 5, 0] rfl)
    exact L15 (ph P + 1) 0 tx (by omega) (by omega) tm_rc_0 _ _ _ hS (lv_sub hl [1, 2, 3, 4, 0] rfl)
  · skip
    refine tm_zne hx hb (by omega) (tgt := 12) dX2_stamp_7 (by decide) (fun c_7 => absurd c_7 (by decide)) (fun c_7 => ?_)
    refine lv_iconst (v := nI 0) hx hb dX2_stamp_10 (by decide) ?_
    exact tm_zret (S := (Nat → Nat)) (tx) hQ hAe hx hb hr hlk (by first | rfl | decide) hS (Or.inr ⟨h_4, rfl, rfl⟩) dX2_stamp_11
abbrev rX2_occurs : Room := { frames := 2, cells := 0, slots := 0, locals := 45 }
set_option maxHeartbeats 8000000 in
set_option maxRecDepth 100000 in
/-- occurs -/
theorem kX2_occurs (l : Launch) (D : va_G) (dB dI : ClassId) (b : Nat → Nat) (sz wi hi : Nat) (tx pt pw ph : Nat → Nat) (pp : Int32) (x : Int32) (y : Int32) (hok : tm_om wi hi tx pt pw ph) : Met l yX2_occurs (ws_ yX2_occurs cX2_occurs 6 (some .boolean)) rX2_occurs (tm_Pre D dB dI [.ref (b 0), .int (pp), .int (x), .int (y)] sz (wM b dI wi hi tx pt pw ph)) (tm_Qr sz (fun r => (((0 ≤ (pp).toInt ∧ (pp).toInt ≤ 2) ∧ (0 ≤ (x).toInt ∧ (x).toInt < wi ∧ 0 ≤ (y).toInt ∧ (y).toInt < hi) ∧ tk_occ 16 wi hi tx pt pw ph (pp).toInt.toNat (x).toInt.toNat (y).toInt.toNat) ∧ r = nI 1) ∨ (¬ ((0 ≤ (pp).toInt ∧ (pp).toInt ≤ 2) ∧ (0 ≤ (x).toInt ∧ (x).toInt < wi ∧ 0 ≤ (y).toInt ∧ (y).toInt < hi) ∧ tk_occ 16 wi hi tx pt pw ph (pp).toInt.toNat (x).toInt.toNat (y).toInt.toNat) ∧ r = nI 0))) 0 0 (va_A [] sz) := by
  refine tm_metR (nL := 6) (ret := (some .boolean)) RX2 rfl (by decide) (Nat.le_of_ble_eq_true rfl) ?_
  intro p e s m args below meth c ls A Q H locs hx hb hml hown hts hr hlk hnm hA hAe hQ hS hl
  have hl : lv_has ls 6 [(0, .ref (b 0)), (1, .int (pp)), (2, .int (x)), (3, .int (y))] := hl
  have hok2 := hok
  obtain ⟨⟨ok1, ok2⟩, ⟨ok3, ok4⟩, ok5, ok6, ok7⟩ := hok
  refine lv_aload_n hx hb dX2_occurs_0 rfl (lv_at hl 0 rfl) ?_
  refine lv_iload_n hx hb dX2_occurs_1 rfl (lv_at hl 1 rfl) ?_
  refine lv_iload_n hx hb dX2_occurs_2 rfl (lv_at hl 2 rfl) ?_
  refine lv_iload_n hx hb dX2_occurs_3 rfl (lv_at hl 3 rfl) ?_
  refine tm_callR (q := (RX2, TX2, 6)) (As := [.int (pp), .int (x), .int (y)]) (rest := []) ⟨hx, hb, hml, hown, hts⟩ (kX2_fits l D dB dI b H.size wi hi tx pt pw ph pp x y hok2) (cwV 3 hts (lw_V q237 q239 qs17 q21 q240) rfl rfl rfl (by decide +kernel) ⟨Nat.le_of_ble_eq_true rfl, Nat.le_of_ble_eq_true rfl⟩) hS hA rfl rfl rfl hl.1 rfl (Nat.le_of_ble_eq_true rfl) dX2_occurs_4 ⟨Nat.zero_le _, Nat.zero_le _⟩ (fun r H locs hr_4 hS => ?_)
  rcases hr_4 with ⟨h_4, rfl⟩ | ⟨h_4, rfl⟩
  · skip
    obtain ⟨P, rfl, eP, bP⟩ := tm_ofI (show 0 ≤ (pp).toInt from h_4.1.1)
    have hP : P < 3 := by omega
    have okp := ok6 P hP
    have eP2 : (nI P).toInt.toNat = P := by omega
    rw [eP2] at h_4
    obtain ⟨X, rfl, eX, bX⟩ := tm_ofI (show 0 ≤ (x).toInt from h_4.2.1)
    obtain ⟨Y, rfl, eY, bY⟩ := tm_ofI (show 0 ≤ (y).toInt from h_4.2.2.2.1)
    have eX2 : (nI X).toInt.toNat = X := by omega
    have eY2 : (nI Y).toInt.toNat = Y := by omega
    refine tm_zne hx hb (by omega) (tgt := 12) dX2_occurs_7 (by decide) (fun c_7 => ?_) (fun c_7 => absurd c_7 (by decide))
    refine lv_iconst (v := nI 0) hx hb dX2_occurs_12 (by decide) ?_
    refine lv_istore (lv' := [(4, .int (nI (0))), (0, .ref (b 0)), (1, .int (nI (P))), (2, .int (nI (X))), (3, .int (nI (Y)))]) hx hb dX2_occurs_13 hl (by decide) rfl (fun ls hl => ?_)
    have L15 : ∀ (n : Nat) (i : Nat), (ph P - i < n) → (i ≤ ph P) → (∀ i' j', j' < pw P → (i' < i ∨ (i' = i ∧ j' < 0)) → tx (16 * (Y + i') + X + j') = pt (16 * P + 4 * i' + j')) → ∀ (H : Heap) (locs : List Loc) (ls : Array Slot), tm_S D dB dI s (fun _ => True) A s.heap H locs (wM b dI wi hi tx pt pw ph) → lv_has ls 6 [(0, .ref (b 0)), (1, .int (nI (P))), (2, .int (nI (X))), (3, .int (nI (Y))), (4, .int (nI (i)))] → W p l e rX2_occurs s m args below meth c H locs 0 0 Q (F0 m 15 ls []) := by
      intro n
      induction n with
      | zero => intros; omega
      | succ n ih =>
        intro i hn hi_ hq1 H locs ls hS hl
        refine lv_iload hx hb dX2_occurs_15 (lv_at hl 4 rfl) ?_
        refine lv_aload_n hx hb dX2_occurs_17 rfl (lv_at hl 0 rfl) ?_
        refine tm_gM hx hb hts hown hS rfl 5 (by decide) q195 rfl dX2_occurs_18 ?_
        refine lv_iload_n hx hb dX2_occurs_21 rfl (lv_at hl 1 rfl) ?_
        refine tm_iald (f := ph) hx hb hS 4 rfl (by omega) (by decide) dX2_occurs_22 ?_
        refine tm_cge hx hb (by omega) (by omega) (tgt := 91) dX2_occurs_23 (by decide) (fun c_23 => ?_) (fun c_23 => ?_)
        · skip
          refine lv_iconst (v := nI 1) hx hb dX2_occurs_91 (by decide) ?_
          exact tm_zretR hQ hAe hx hb hr hlk (by first | rfl | decide) hS (Or.inl ⟨⟨by omega, by omega, by rw [eP2, eX2, eY2]; exact ⟨by omega, by omega, fun i' h1 j' h2 => hq1 i' j' h2 (by omega)⟩⟩, rfl⟩) dX2_occurs_92
        · skip
          have L29 : ∀ (n : Nat) (j : Nat), (pw P - j < n) → (j ≤ pw P) → (∀ i' j', j' < pw P → (i' < i ∨ (i' = i ∧ j' < j)) → tx (16 * (Y + i') + X + j') = pt (16 * P + 4 * i' + j')) → ∀ (H : Heap) (locs : List Loc) (ls : Array Slot), tm_S D dB dI s (fun _ => True) A s.heap H locs (wM b dI wi hi tx pt pw ph) → lv_has ls 6 [(0, .ref (b 0)), (1, .int (nI (P))), (2, .int (nI (X))), (3, .int (nI (Y))), (4, .int (nI (i))), (5, .int (nI (j)))] → W p l e rX2_occurs s m args below meth c H locs 0 0 Q (F0 m 29 ls []) := by
            intro n
            induction n with
            | zero => intros; omega
            | succ n ih2 =>
              intro j hn hj hq2 H locs ls hS hl
              refine lv_iload hx hb dX2_occurs_29 (lv_at hl 5 rfl) ?_
              refine lv_aload_n hx hb dX2_occurs_31 rfl (lv_at hl 0 rfl) ?_
              refine tm_gM hx hb hts hown hS rfl 4 (by decide) q194 rfl dX2_occurs_32 ?_
              refine lv_iload_n hx hb dX2_occurs_35 rfl (lv_at hl 1 rfl) ?_
              refine tm_iald (f := pw) hx hb hS 3 rfl (by omega) (by decide) dX2_occurs_36 ?_
              refine tm_cge hx hb (by omega) (by omega) (tgt := 85) dX2_occurs_37 (by decide) (fun c_37 => ?_) (fun c_37 => ?_)
              · skip
                refine tm_iinc (lv' := [(4, .int (nI (i + 1))), (0, .ref (b 0)), (1, .int (nI (P))), (2, .int (nI (X))), (3, .int (nI (Y))), (5, .int (nI (j)))]) hx hb dX2_occurs_85 hl (k := 4) rfl (by decide) rfl (fun ls hl => ?_)
                refine lv_goto (tgt := 15) hx hb dX2_occurs_88 (by decide) ?_
                exact ih (i + 1) (by omega) (by omega) (fun i' j' h1 h2 => hq2 i' j' h1 (by omega)) _ _ _ hS (lv_sub hl [1, 2, 3, 4, 0] rfl)
              · skip
                refine lv_aload_n hx hb dX2_occurs_40 rfl (lv_at hl 0 rfl) ?_
                refine tm_gM hx hb hts hown hS rfl 2 (by decide) q192 rfl dX2_occurs_41 ?_
                refine lv_bipush (v := nI 16) hx hb dX2_occurs_44 (by decide) ?_
                refine lv_iload_n hx hb dX2_occurs_46 rfl (lv_at hl 3 rfl) ?_
                refine lv_iload hx hb dX2_occurs_47 (lv_at hl 4 rfl) ?_
                refine tm_iadd hx hb dX2_occurs_49 ?_
                refine tm_imul hx hb dX2_occurs_50 ?_
                refine lv_iload_n hx hb dX2_occurs_51 rfl (lv_at hl 2 rfl) ?_
                refine tm_iadd hx hb dX2_occurs_52 ?_
                refine lv_iload hx hb dX2_occurs_53 (lv_at hl 5 rfl) ?_
                refine tm_iadd hx hb dX2_occurs_55 ?_
                refine tm_iald (f := tx) hx hb hS 1 rfl (by omega) (by decide) dX2_occurs_56 ?_
                refine lv_aload_n hx hb dX2_occurs_57 rfl (lv_at hl 0 rfl) ?_
                refine tm_gM hx hb hts hown hS rfl 3 (by decide) q193 rfl dX2_occurs_58 ?_
                refine lv_bipush (v := nI 16) hx hb dX2_occurs_61 (by decide) ?_
                refine lv_iload_n hx hb dX2_occurs_63 rfl (lv_at hl 1 rfl) ?_
                refine tm_imul hx hb dX2_occurs_64 ?_
                refine lv_iconst (v := nI 4) hx hb dX2_occurs_65 (by decide) ?_
                refine lv_iload hx hb dX2_occurs_66 (lv_at hl 4 rfl) ?_
                refine tm_imul hx hb dX2_occurs_68 ?_
                refine tm_iadd hx hb dX2_occurs_69 ?_
                refine lv_iload hx hb dX2_occurs_70 (lv_at hl 5 rfl) ?_
                refine tm_iadd hx hb dX2_occurs_72 ?_
                refine tm_iald (f := pt) hx hb hS 2 rfl (by omega) (by decide) dX2_occurs_73 ?_
                refine tm_ceq hx hb (Nat.lt_of_le_of_lt (ok5 _ (by omega)) (by decide)) (Nat.lt_of_le_of_lt (ok7 _ (by omega)) (by decide)) (tgt := 79) dX2_occurs_74 (by decide) (fun c_74 => ?_) (fun c_74 => ?_)
                · skip
                  refine tm_iinc (lv' := [(5, .int (nI (j + 1))), (0, .ref (b 0)), (1, .int (nI (P))), (2, .int (nI (X))), (3, .int (nI (Y))), (4, .int (nI (i)))]) hx hb dX2_occurs_79 hl (k := 5) rfl (by decide) rfl (fun ls hl => ?_)
                  refine lv_goto (tgt := 29) hx hb dX2_occurs_82 (by decide) ?_
                  exact ih2 (j + 1) (by omega) (by omega) (fun i' j' h1 h2 => by by_cases e : i' = i ∧ j' = j; rw [e.1, e.2]; exact c_74; exact hq2 i' j' h1 (by omega)) _ _ _ hS (lv_sub hl [1, 2, 3, 4, 5, 0] rfl)
                · skip
                  refine lv_iconst (v := nI 0) hx hb dX2_occurs_77 (by decide) ?_
                  exact tm_zretR hQ hAe hx hb hr hlk (by first | rfl | decide) hS (Or.inr ⟨fun h => by have h9 := h.2.2; rw [eP2, eX2, eY2] at h9; exact c_74 (h9.2.2 i (by omega) j (by omega)), rfl⟩) dX2_occurs_78
          refine lv_iconst (v := nI 0) hx hb dX2_occurs_26 (by decide) ?_
          refine lv_istore (lv' := [(5, .int (nI (0))), (0, .ref (b 0)), (1, .int (nI (P))), (2, .int (nI (X))), (3, .int (nI (Y))), (4, .int (nI (i)))]) hx hb dX2_occurs_27 hl (by decide) rfl (fun ls hl => ?_)
          exact L29 (pw P + 1) 0 (by omega) (by omega) hq1 _ _ _ hS (lv_sub hl [1, 2, 3, 4, 5, 0] rfl)
    exact L15 (ph P + 1) 0 (by omega) (by omega) (fun i' j' h1 h2 => absurd h2 (by omega)) _ _ _ hS (lv_sub hl [1, 2, 3, 4, 0] rfl)
  · skip
    refine tm_zne hx hb (by omega) (tgt := 12) dX2_occurs_7 (by decide) (fun c_7 => absurd c_7 (by decide)) (fun c_7 => ?_)
    refine lv_iconst (v := nI 0) hx hb dX2_occurs_10 (by decide) ?_
    exact tm_zretR hQ hAe hx hb hr hlk (by first | rfl | decide) hS (Or.inr ⟨fun h => h_4 ⟨h.1, by have h8 := h.2.1; have h9 := h.2.2.1; have h7 := h.2.2.2.1; omega⟩, rfl⟩) dX2_occurs_11
end
section
set_option maxRecDepth 100000
abbrev rX2_occurrences : Room := { frames := 3, cells := 0, slots := 0, locals := 70 }
set_option maxHeartbeats 8000000 in
set_option maxRecDepth 100000 in
/-- occurrences -/
theorem kX2_occurrences (l : Launch) (D : va_G) (dB dI : ClassId) (b : Nat → Nat) (sz wi hi : Nat) (tx pt pw ph : Nat → Nat) (pp : Int32) (hok : tm_om wi hi tx pt pw ph) : Met l yX2_occurrences (ws_ yX2_occurrences cX2_occurrences 4 (some .int)) rX2_occurrences (tm_Pre D dB dI [.ref (b 0), .int (pp)] sz (wM b dI wi hi tx pt pw ph)) (tm_Qr sz (fun r => ((0 ≤ (pp).toInt ∧ (pp).toInt ≤ 2) → r = nI (tn_occ (tk_occ 16 wi hi tx pt pw ph (pp).toInt.toNat))) ∧ (¬ (0 ≤ (pp).toInt ∧ (pp).toInt ≤ 2) → r = -1))) 0 0 (va_A [] sz) := by
  refine tm_metR (nL := 4) (ret := (some .int)) RX2 rfl (by decide) (Nat.le_of_ble_eq_true rfl) ?_
  intro p e s m args below meth c ls A Q H locs hx hb hml hown hts hr hlk hnm hA hAe hQ hS hl
  have hl : lv_has ls 4 [(0, .ref (b 0)), (1, .int (pp))] := hl
  have hok2 := hok
  obtain ⟨⟨ok1, ok2⟩, ⟨ok3, ok4⟩, ok5, ok6, ok7⟩ := hok
  refine lv_aload_n hx hb dX2_occurrences_0 rfl (lv_at hl 0 rfl) ?_
  refine lv_iload_n hx hb dX2_occurrences_1 rfl (lv_at hl 1 rfl) ?_
  refine tm_callR (q := (RX2, TX2, 6)) (As := [.int (pp)]) (rest := []) ⟨hx, hb, hml, hown, hts⟩ (kX2_isPattern l D dB dI b H.size wi hi tx pt pw ph pp) (cwV 1 hts (lw_V q225 q227 qs16 q21 q228) rfl rfl rfl (by decide +kernel) ⟨Nat.le_of_ble_eq_true rfl, Nat.le_of_ble_eq_true rfl⟩) hS hA rfl rfl rfl hl.1 rfl (Nat.le_of_ble_eq_true rfl) dX2_occurrences_2 ⟨Nat.zero_le _, Nat.zero_le _⟩ (fun r H locs hr_2 hS => ?_)
  rcases hr_2 with ⟨h_2, rfl⟩ | ⟨h_2, rfl⟩
  · skip
    obtain ⟨P, rfl, eP, bP⟩ := tm_ofI (show 0 ≤ (pp).toInt from h_2.1)
    have hP : P < 3 := by omega
    have okp := ok6 P hP
    have eP2 : (nI P).toInt.toNat = P := by omega
    refine tm_zne hx hb (by omega) (tgt := 10) dX2_occurrences_5 (by decide) (fun c_5 => ?_) (fun c_5 => absurd c_5 (by decide))
    have L14 : ∀ (n : Nat) (k : Nat) (tot : Nat), (192 - k < n) → (k ≤ 192) → (tot = tm_sm k (fun z => tc_b (tk_occ 16 wi hi tx pt pw ph P (z % 16) (z / 16)))) → ∀ (H : Heap) (locs : List Loc) (ls : Array Slot), tm_S D dB dI s (fun _ => True) A s.heap H locs (wM b dI wi hi tx pt pw ph) → lv_has ls 4 [(0, .ref (b 0)), (1, .int (nI (P))), (2, .int (nI (tot))), (3, .int (nI (k)))] → W p l e rX2_occurrences s m args below meth c H locs 0 0 Q (F0 m 14 ls []) := by
      intro n
      induction n with
      | zero => intros; omega
      | succ n ih =>
        intro k tot hn hk htot H locs ls hS hl
        refine lv_iload_n hx hb dX2_occurrences_14 rfl (lv_at hl 3 rfl) ?_
        refine lv_sipush (v := nI 192) hx hb dX2_occurrences_15 (by decide) ?_
        refine tm_cge hx hb (by omega) (by omega) (tgt := 46) dX2_occurrences_18 (by decide) (fun c_18 => ?_) (fun c_18 => ?_)
        · skip
          refine lv_iload_n hx hb dX2_occurrences_46 rfl (lv_at hl 2 rfl) ?_
          exact tm_iretR hQ hAe hx hb hr hlk hS ⟨fun _ => by rw [eP2, htot, show k = 192 by omega]; rfl, fun h => absurd h_2 h⟩ dX2_occurrences_47
        · skip
          have J40 : ∀ (tot2 : Nat), (tot2 = tm_sm (k + 1) (fun z => tc_b (tk_occ 16 wi hi tx pt pw ph P (z % 16) (z / 16)))) → ∀ (H : Heap) (locs : List Loc) (ls : Array Slot), tm_S D dB dI s (fun _ => True) A s.heap H locs (wM b dI wi hi tx pt pw ph) → lv_has ls 4 [(0, .ref (b 0)), (1, .int (nI (P))), (2, .int (nI (tot2))), (3, .int (nI (k)))] → W p l e rX2_occurrences s m args below meth c H locs 0 0 Q (F0 m 40 ls []) := by
            intro tot2 htot2 H locs ls hS hl
            refine tm_iinc (lv' := [(3, .int (nI (k + 1))), (0, .ref (b 0)), (1, .int (nI (P))), (2, .int (nI (tot2)))]) hx hb dX2_occurrences_40 hl (k := 3) rfl (by decide) rfl (fun ls hl => ?_)
            refine lv_goto (tgt := 14) hx hb dX2_occurrences_43 (by decide) ?_
            exact ih (k + 1) tot2 (by omega) (by omega) htot2 _ _ _ hS (lv_sub hl [1, 2, 3, 0] rfl)
          refine lv_aload_n hx hb dX2_occurrences_21 rfl (lv_at hl 0 rfl) ?_
          refine lv_iload_n hx hb dX2_occurrences_22 rfl (lv_at hl 1 rfl) ?_
          refine lv_iload_n hx hb dX2_occurrences_23 rfl (lv_at hl 3 rfl) ?_
          refine lv_bipush (v := nI 16) hx hb dX2_occurrences_24 (by decide) ?_
          refine tm_irem hx hb (by omega) (by decide) (by decide) dX2_occurrences_26 ?_
          refine lv_iload_n hx hb dX2_occurrences_27 rfl (lv_at hl 3 rfl) ?_
          refine lv_bipush (v := nI 16) hx hb dX2_occurrences_28 (by decide) ?_
          refine tm_idiv hx hb (by omega) (by decide) (by decide) dX2_occurrences_30 ?_
          refine tm_callR (q := (RX2, TX2, 6)) (As := [.int (nI (P)), .int (nI (k % 16)), .int (nI (k / 16))]) (rest := []) ⟨hx, hb, hml, hown, hts⟩ (kX2_occurs l D dB dI b H.size wi hi tx pt pw ph (nI P) (nI (k % 16)) (nI (k / 16)) hok2) (cwV 3 hts (lw_V q253 q254 q255 q21 q256) rfl rfl rfl (by decide +kernel) ⟨Nat.le_of_ble_eq_true rfl, Nat.le_of_ble_eq_true rfl⟩) hS hA rfl rfl rfl hl.1 rfl (Nat.le_of_ble_eq_true rfl) dX2_occurrences_31 ⟨Nat.zero_le _, Nat.zero_le _⟩ (fun r H locs hr_31 hS => ?_)
          rcases hr_31 with ⟨h_31, rfl⟩ | ⟨h_31, rfl⟩
          · skip
            have ho_31 : tk_occ 16 wi hi tx pt pw ph P (k % 16) (k / 16) := (tm_oM hP okp.1 okp.2.2.1 (by omega) (by omega)).mp h_31
            refine tm_zeq hx hb (by omega) (tgt := 40) dX2_occurrences_34 (by decide) (fun c_34 => absurd c_34 (by decide)) (fun c_34 => ?_)
            refine tm_iinc (lv' := [(2, .int (nI (tot + 1))), (0, .ref (b 0)), (1, .int (nI (P))), (3, .int (nI (k)))]) hx hb dX2_occurrences_37 hl (k := 2) rfl (by decide) rfl (fun ls hl => ?_)
            exact J40 _ (show _ = tm_sm k (fun z => tc_b (tk_occ 16 wi hi tx pt pw ph P (z % 16) (z / 16))) + tc_b (tk_occ 16 wi hi tx pt pw ph P (k % 16) (k / 16)) by rw [htot]; first | rw [tc_b1 ho_31] | rw [tc_b0 ho_31, Nat.add_zero]) _ _ _ hS (lv_sub hl [1, 2, 0, 3] rfl)
          · skip
            have ho_31 : ¬ tk_occ 16 wi hi tx pt pw ph P (k % 16) (k / 16) := fun z => h_31 ((tm_oM hP okp.1 okp.2.2.1 (by omega) (by omega)).mpr z)
            refine tm_zeq hx hb (by omega) (tgt := 40) dX2_occurrences_34 (by decide) (fun c_34 => ?_) (fun c_34 => absurd c_34 (by decide))
            exact J40 _ (show _ = tm_sm k (fun z => tc_b (tk_occ 16 wi hi tx pt pw ph P (z % 16) (z / 16))) + tc_b (tk_occ 16 wi hi tx pt pw ph P (k % 16) (k / 16)) by rw [htot]; first | rw [tc_b1 ho_31] | rw [tc_b0 ho_31, Nat.add_zero]) _ _ _ hS (lv_sub hl [0, 1, 2, 3] rfl)
    refine lv_iconst (v := nI 0) hx hb dX2_occurrences_10 (by decide) ?_
    refine lv_istore_n (lv' := [(2, .int (nI (0))), (0, .ref (b 0)), (1, .int (nI (P)))]) hx hb dX2_occurrences_11 rfl hl (by decide) rfl (fun ls hl => ?_)
    refine lv_iconst (v := nI 0) hx hb dX2_occurrences_12 (by decide) ?_
    refine lv_istore_n (lv' := [(3, .int (nI (0))), (2, .int (nI (0))), (0, .ref (b 0)), (1, .int (nI (P)))]) hx hb dX2_occurrences_13 rfl hl (by decide) rfl (fun ls hl => ?_)
    exact L14 193 0 0 (by omega) (by omega) rfl _ _ _ hS (lv_sub hl [2, 3, 1, 0] rfl)
  · skip
    refine tm_zne hx hb (by omega) (tgt := 10) dX2_occurrences_5 (by decide) (fun c_5 => absurd c_5 (by decide)) (fun c_5 => ?_)
    refine lv_iconst (v := -1) hx hb dX2_occurrences_8 (by decide) ?_
    exact tm_iretR hQ hAe hx hb hr hlk hS ⟨fun h => absurd h h_2, fun _ => rfl⟩ dX2_occurrences_9
abbrev rX2_next : Room := { frames := 3, cells := 0, slots := 0, locals := 70 }
set_option maxHeartbeats 8000000 in
set_option maxRecDepth 100000 in
/-- next -/
theorem kX2_next (l : Launch) (D : va_G) (dB dI : ClassId) (b : Nat → Nat) (sz wi hi : Nat) (tx pt pw ph : Nat → Nat) (pp : Int32) (fr : Int32) (hok : tm_om wi hi tx pt pw ph) : Met l yX2_next (ws_ yX2_next cX2_next 4 (some .int)) rX2_next (tm_Pre D dB dI [.ref (b 0), .int (pp), .int (fr)] sz (wM b dI wi hi tx pt pw ph)) (tm_Qr sz (fun r => ((0 ≤ (pp).toInt ∧ (pp).toInt ≤ 2) → tn_nx (tk_occ 16 wi hi tx pt pw ph (pp).toInt.toNat) (fr).toInt r) ∧ (¬ (0 ≤ (pp).toInt ∧ (pp).toInt ≤ 2) → r = -1))) 0 0 (va_A [] sz) := by
  refine tm_metR (nL := 4) (ret := (some .int)) RX2 rfl (by decide) (Nat.le_of_ble_eq_true rfl) ?_
  intro p e s m args below meth c ls A Q H locs hx hb hml hown hts hr hlk hnm hA hAe hQ hS hl
  have hl : lv_has ls 4 [(0, .ref (b 0)), (1, .int (pp)), (2, .int (fr))] := hl
  have hok2 := hok
  obtain ⟨⟨ok1, ok2⟩, ⟨ok3, ok4⟩, ok5, ok6, ok7⟩ := hok
  refine lv_aload_n hx hb dX2_next_0 rfl (lv_at hl 0 rfl) ?_
  refine lv_iload_n hx hb dX2_next_1 rfl (lv_at hl 1 rfl) ?_
  refine tm_callR (q := (RX2, TX2, 6)) (As := [.int (pp)]) (rest := []) ⟨hx, hb, hml, hown, hts⟩ (kX2_isPattern l D dB dI b H.size wi hi tx pt pw ph pp) (cwV 1 hts (lw_V q225 q227 qs16 q21 q228) rfl rfl rfl (by decide +kernel) ⟨Nat.le_of_ble_eq_true rfl, Nat.le_of_ble_eq_true rfl⟩) hS hA rfl rfl rfl hl.1 rfl (Nat.le_of_ble_eq_true rfl) dX2_next_2 ⟨Nat.zero_le _, Nat.zero_le _⟩ (fun r H locs hr_2 hS => ?_)
  rcases hr_2 with ⟨h_2, rfl⟩ | ⟨h_2, rfl⟩
  · skip
    obtain ⟨P, rfl, eP, bP⟩ := tm_ofI (show 0 ≤ (pp).toInt from h_2.1)
    have hP : P < 3 := by omega
    have okp := ok6 P hP
    have eP2 : (nI P).toInt.toNat = P := by omega
    refine tm_zne hx hb (by omega) (tgt := 10) dX2_next_5 (by decide) (fun c_5 => ?_) (fun c_5 => absurd c_5 (by decide))
    have L12 : ∀ (n : Nat) (k : Nat), (192 - k < n) → (k ≤ 192) → (∀ j : Nat, j < k → (fr).toInt ≤ (j : Int) → ¬ tk_occ 16 wi hi tx pt pw ph P (j % 16) (j / 16)) → ∀ (H : Heap) (locs : List Loc) (ls : Array Slot), tm_S D dB dI s (fun _ => True) A s.heap H locs (wM b dI wi hi tx pt pw ph) → lv_has ls 4 [(0, .ref (b 0)), (1, .int (nI (P))), (2, .int (fr)), (3, .int (nI (k)))] → W p l e rX2_next s m args below meth c H locs 0 0 Q (F0 m 12 ls []) := by
      intro n
      induction n with
      | zero => intros; omega
      | succ n ih =>
        intro k hn hk hN H locs ls hS hl
        refine lv_iload_n hx hb dX2_next_12 rfl (lv_at hl 3 rfl) ?_
        refine lv_sipush (v := nI 192) hx hb dX2_next_13 (by decide) ?_
        refine tm_cge hx hb (by omega) (by omega) (tgt := 48) dX2_next_16 (by decide) (fun c_16 => ?_) (fun c_16 => ?_)
        · skip
          refine lv_bipush (v := -2) hx hb dX2_next_48 (by decide) ?_
          exact tm_iretR hQ hAe hx hb hr hlk hS ⟨fun _ => by rw [eP2]; exact Or.inr ⟨fun j hj hf => hN j (by omega) hf, rfl⟩, fun h => absurd h_2 h⟩ dX2_next_50
        · skip
          have J42 : ((fr).toInt ≤ (k : Int) → ¬ tk_occ 16 wi hi tx pt pw ph P (k % 16) (k / 16)) → (∀ (H : Heap) (locs : List Loc) (ls : Array Slot), tm_S D dB dI s (fun _ => True) A s.heap H locs (wM b dI wi hi tx pt pw ph) → lv_has ls 4 [(0, .ref (b 0)), (1, .int (nI (P))), (2, .int (fr)), (3, .int (nI (k)))] → W p l e rX2_next s m args below meth c H locs 0 0 Q (F0 m 42 ls [])) := by
            intro hnot H locs ls hS hl
            refine tm_iinc (lv' := [(3, .int (nI (k + 1))), (0, .ref (b 0)), (1, .int (nI (P))), (2, .int (fr))]) hx hb dX2_next_42 hl (k := 3) rfl (by decide) rfl (fun ls hl => ?_)
            refine lv_goto (tgt := 12) hx hb dX2_next_45 (by decide) ?_
            exact ih (k + 1) (by omega) (by omega) (fun j hj hf => by by_cases e : j = k; rw [e]; exact hnot (by omega); exact hN j (by omega) hf) _ _ _ hS (lv_sub hl [1, 2, 3, 0] rfl)
          refine lv_iload_n hx hb dX2_next_19 rfl (lv_at hl 3 rfl) ?_
          refine lv_iload_n hx hb dX2_next_20 rfl (lv_at hl 2 rfl) ?_
          refine tm_Ilt hx hb ((k : Nat) : Int) (fr).toInt (nI_toInt (by omega)) rfl (tgt := 42) dX2_next_21 (by decide) (fun c_21 => ?_) (fun c_21 => ?_)
          · skip
            exact J42 (by first | exact fun h => absurd h (by omega) | exact fun _ => ho_34) _ _ _ hS (lv_sub hl [0, 1, 2, 3] rfl)
          · skip
            refine lv_aload_n hx hb dX2_next_24 rfl (lv_at hl 0 rfl) ?_
            refine lv_iload_n hx hb dX2_next_25 rfl (lv_at hl 1 rfl) ?_
            refine lv_iload_n hx hb dX2_next_26 rfl (lv_at hl 3 rfl) ?_
            refine lv_bipush (v := nI 16) hx hb dX2_next_27 (by decide) ?_
            refine tm_irem hx hb (by omega) (by decide) (by decide) dX2_next_29 ?_
            refine lv_iload_n hx hb dX2_next_30 rfl (lv_at hl 3 rfl) ?_
            refine lv_bipush (v := nI 16) hx hb dX2_next_31 (by decide) ?_
            refine tm_idiv hx hb (by omega) (by decide) (by decide) dX2_next_33 ?_
            refine tm_callR (q := (RX2, TX2, 6)) (As := [.int (nI (P)), .int (nI (k % 16)), .int (nI (k / 16))]) (rest := []) ⟨hx, hb, hml, hown, hts⟩ (kX2_occurs l D dB dI b H.size wi hi tx pt pw ph (nI P) (nI (k % 16)) (nI (k / 16)) hok2) (cwV 3 hts (lw_V q253 q254 q255 q21 q256) rfl rfl rfl (by decide +kernel) ⟨Nat.le_of_ble_eq_true rfl, Nat.le_of_ble_eq_true rfl⟩) hS hA rfl rfl rfl hl.1 rfl (Nat.le_of_ble_eq_true rfl) dX2_next_34 ⟨Nat.zero_le _, Nat.zero_le _⟩ (fun r H locs hr_34 hS => ?_)
            rcases hr_34 with ⟨h_34, rfl⟩ | ⟨h_34, rfl⟩
            · skip
              have ho_34 : tk_occ 16 wi hi tx pt pw ph P (k % 16) (k / 16) := (tm_oM hP okp.1 okp.2.2.1 (by omega) (by omega)).mp h_34
              refine tm_zeq hx hb (by omega) (tgt := 42) dX2_next_37 (by decide) (fun c_37 => absurd c_37 (by decide)) (fun c_37 => ?_)
              refine lv_iload_n hx hb dX2_next_40 rfl (lv_at hl 3 rfl) ?_
              exact tm_iretR hQ hAe hx hb hr hlk hS ⟨fun _ => by rw [eP2]; exact Or.inl ⟨k, by omega, by omega, ho_34, hN, rfl⟩, fun h => absurd h_2 h⟩ dX2_next_41
            · skip
              have ho_34 : ¬ tk_occ 16 wi hi tx pt pw ph P (k % 16) (k / 16) := fun z => h_34 ((tm_oM hP okp.1 okp.2.2.1 (by omega) (by omega)).mpr z)
              refine tm_zeq hx hb (by omega) (tgt := 42) dX2_next_37 (by decide) (fun c_37 => ?_) (fun c_37 => absurd c_37 (by decide))
              exact J42 (by first | exact fun h => absurd h (by omega) | exact fun _ => ho_34) _ _ _ hS (lv_sub hl [0, 1, 2, 3] rfl)
    refine lv_iconst (v := nI 0) hx hb dX2_next_10 (by decide) ?_
    refine lv_istore_n (lv' := [(3, .int (nI (0))), (0, .ref (b 0)), (1, .int (nI (P))), (2, .int (fr))]) hx hb dX2_next_11 rfl hl (by decide) rfl (fun ls hl => ?_)
    exact L12 193 0 (by omega) (by omega) (fun j hj => absurd hj (by omega)) _ _ _ hS (lv_sub hl [1, 2, 3, 0] rfl)
  · skip
    refine tm_zne hx hb (by omega) (tgt := 10) dX2_next_5 (by decide) (fun c_5 => absurd c_5 (by decide)) (fun c_5 => ?_)
    refine lv_iconst (v := -1) hx hb dX2_next_8 (by decide) ?_
    exact tm_iretR hQ hAe hx hb hr hlk hS ⟨fun h => absurd h h_2, fun _ => rfl⟩ dX2_next_9
abbrev rX2_coveredBy : Room := { frames := 3, cells := 0, slots := 0, locals := 70 }
set_option maxHeartbeats 8000000 in
set_option maxRecDepth 100000 in
/-- coveredBy -/
theorem kX2_coveredBy (l : Launch) (D : va_G) (dB dI : ClassId) (b : Nat → Nat) (sz wi hi : Nat) (tx pt pw ph : Nat → Nat) (pp : Nat) (x : Nat) (y : Nat) (hok : tm_om wi hi tx pt pw ph) (hP : pp < 3) (hx16 : x < 16) (hy16 : y < 16) : Met l yX2_coveredBy (ws_ yX2_coveredBy cX2_coveredBy 6 (some .boolean)) rX2_coveredBy (tm_Pre D dB dI [.ref (b 0), .int (nI (pp)), .int (nI (x)), .int (nI (y))] sz (wM b dI wi hi tx pt pw ph)) (tm_Qr sz (fun r => ((tn_cb pw ph (fun q => tk_occ 16 wi hi tx pt pw ph q) pp x y) ∧ r = nI 1) ∨ (¬ (tn_cb pw ph (fun q => tk_occ 16 wi hi tx pt pw ph q) pp x y) ∧ r = nI 0))) 0 0 (va_A [] sz) := by
  refine tm_metR (nL := 6) (ret := (some .boolean)) RX2 rfl (by decide) (Nat.le_of_ble_eq_true rfl) ?_
  intro p e s m args below meth c ls A Q H locs hx hb hml hown hts hr hlk hnm hA hAe hQ hS hl
  have hl : lv_has ls 6 [(0, .ref (b 0)), (1, .int (nI (pp))), (2, .int (nI (x))), (3, .int (nI (y)))] := hl
  have hok2 := hok
  obtain ⟨⟨ok1, ok2⟩, ⟨ok3, ok4⟩, ok5, ok6, ok7⟩ := hok
  have okp := ok6 pp hP
  have L3 : ∀ (n : Nat) (i : Nat), (ph pp - i < n) → (i ≤ ph pp) → (∀ i' j', i' < ph pp → j' < pw pp → (i' < i ∨ (i' = i ∧ j' < 0)) → ¬ (i' ≤ y ∧ j' ≤ x ∧ tk_occ 16 wi hi tx pt pw ph pp (x - j') (y - i'))) → ∀ (H : Heap) (locs : List Loc) (ls : Array Slot), tm_S D dB dI s (fun _ => True) A s.heap H locs (wM b dI wi hi tx pt pw ph) → lv_has ls 6 [(0, .ref (b 0)), (1, .int (nI (pp))), (2, .int (nI (x))), (3, .int (nI (y))), (4, .int (nI (i)))] → W p l e rX2_coveredBy s m args below meth c H locs 0 0 Q (F0 m 3 ls []) := by
    intro n
    induction n with
    | zero => intros; omega
    | succ n ih =>
      intro i hn hi_ hN1 H locs ls hS hl
      refine lv_iload hx hb dX2_coveredBy_3 (lv_at hl 4 rfl) ?_
      refine lv_aload_n hx hb dX2_coveredBy_5 rfl (lv_at hl 0 rfl) ?_
      refine tm_gM hx hb hts hown hS rfl 5 (by decide) q195 rfl dX2_coveredBy_6 ?_
      refine lv_iload_n hx hb dX2_coveredBy_9 rfl (lv_at hl 1 rfl) ?_
      refine tm_iald (f := ph) hx hb hS 4 rfl (by omega) (by decide) dX2_coveredBy_10 ?_
      refine tm_cge hx hb (by omega) (by omega) (tgt := 58) dX2_coveredBy_11 (by decide) (fun c_11 => ?_) (fun c_11 => ?_)
      · skip
        refine lv_iconst (v := nI 0) hx hb dX2_coveredBy_58 (by decide) ?_
        exact tm_zretR hQ hAe hx hb hr hlk (by first | rfl | decide) hS (Or.inr ⟨fun h => by obtain ⟨i', j', h1, h2, h3, h4, h5⟩ := h; exact hN1 i' j' h1 h2 (by omega) ⟨h3, h4, h5⟩, rfl⟩) dX2_coveredBy_59
      · skip
        have L17 : ∀ (n : Nat) (j : Nat), (pw pp - j < n) → (j ≤ pw pp) → (∀ i' j', i' < ph pp → j' < pw pp → (i' < i ∨ (i' = i ∧ j' < j)) → ¬ (i' ≤ y ∧ j' ≤ x ∧ tk_occ 16 wi hi tx pt pw ph pp (x - j') (y - i'))) → ∀ (H : Heap) (locs : List Loc) (ls : Array Slot), tm_S D dB dI s (fun _ => True) A s.heap H locs (wM b dI wi hi tx pt pw ph) → lv_has ls 6 [(0, .ref (b 0)), (1, .int (nI (pp))), (2, .int (nI (x))), (3, .int (nI (y))), (4, .int (nI (i))), (5, .int (nI (j)))] → W p l e rX2_coveredBy s m args below meth c H locs 0 0 Q (F0 m 17 ls []) := by
          intro n
          induction n with
          | zero => intros; omega
          | succ n ih2 =>
            intro j hn hj hN2 H locs ls hS hl
            refine lv_iload hx hb dX2_coveredBy_17 (lv_at hl 5 rfl) ?_
            refine lv_aload_n hx hb dX2_coveredBy_19 rfl (lv_at hl 0 rfl) ?_
            refine tm_gM hx hb hts hown hS rfl 4 (by decide) q194 rfl dX2_coveredBy_20 ?_
            refine lv_iload_n hx hb dX2_coveredBy_23 rfl (lv_at hl 1 rfl) ?_
            refine tm_iald (f := pw) hx hb hS 3 rfl (by omega) (by decide) dX2_coveredBy_24 ?_
            refine tm_cge hx hb (by omega) (by omega) (tgt := 52) dX2_coveredBy_25 (by decide) (fun c_25 => ?_) (fun c_25 => ?_)
            · skip
              refine tm_iinc (lv' := [(4, .int (nI (i + 1))), (0, .ref (b 0)), (1, .int (nI (pp))), (2, .int (nI (x))), (3, .int (nI (y))), (5, .int (nI (j)))]) hx hb dX2_coveredBy_52 hl (k := 4) rfl (by decide) rfl (fun ls hl => ?_)
              refine lv_goto (tgt := 3) hx hb dX2_coveredBy_55 (by decide) ?_
              exact ih (i + 1) (by omega) (by omega) (fun i' j' h1 h2 h3 => hN2 i' j' h1 h2 (by omega)) _ _ _ hS (lv_sub hl [1, 2, 3, 4, 0] rfl)
            · skip
              refine lv_aload_n hx hb dX2_coveredBy_28 rfl (lv_at hl 0 rfl) ?_
              refine lv_iload_n hx hb dX2_coveredBy_29 rfl (lv_at hl 1 rfl) ?_
              refine lv_iload_n hx hb dX2_coveredBy_30 rfl (lv_at hl 2 rfl) ?_
              refine lv_iload hx hb dX2_coveredBy_31 (lv_at hl 5 rfl) ?_
              refine lv_isub hx hb dX2_coveredBy_33 ?_
              refine lv_iload_n hx hb dX2_coveredBy_34 rfl (lv_at hl 3 rfl) ?_
              refine lv_iload hx hb dX2_coveredBy_35 (lv_at hl 4 rfl) ?_
              refine lv_isub hx hb dX2_coveredBy_37 ?_
              refine tm_callR (q := (RX2, TX2, 6)) (As := [.int (nI (pp)), .int (nI (x) - nI (j)), .int (nI (y) - nI (i))]) (rest := []) ⟨hx, hb, hml, hown, hts⟩ (kX2_occurs l D dB dI b H.size wi hi tx pt pw ph (nI pp) (nI (x) - nI (j)) (nI (y) - nI (i)) hok2) (cwV 3 hts (lw_V q253 q254 q255 q21 q256) rfl rfl rfl (by decide +kernel) ⟨Nat.le_of_ble_eq_true rfl, Nat.le_of_ble_eq_true rfl⟩) hS hA rfl rfl rfl hl.1 rfl (Nat.le_of_ble_eq_true rfl) dX2_coveredBy_38 ⟨Nat.zero_le _, Nat.zero_le _⟩ (fun r H locs hr_38 hS => ?_)
              rcases hr_38 with ⟨h_38, rfl⟩ | ⟨h_38, rfl⟩
              · skip
                have ho := (tm_oM2 hP okp.1 okp.2.2.1 (by omega) (by omega) (by omega) (by omega)).mp h_38
                refine tm_zeq hx hb (by omega) (tgt := 46) dX2_coveredBy_41 (by decide) (fun c_41 => absurd c_41 (by decide)) (fun c_41 => ?_)
                refine lv_iconst (v := nI 1) hx hb dX2_coveredBy_44 (by decide) ?_
                exact tm_zretR hQ hAe hx hb hr hlk (by first | rfl | decide) hS (Or.inl ⟨⟨i, j, by omega, by omega, ho.1, ho.2.1, ho.2.2⟩, rfl⟩) dX2_coveredBy_45
              · skip
                have ho := fun z => h_38 ((tm_oM2 hP okp.1 okp.2.2.1 (by omega) (by omega) (by omega) (by omega)).mpr z)
                refine tm_zeq hx hb (by omega) (tgt := 46) dX2_coveredBy_41 (by decide) (fun c_41 => ?_) (fun c_41 => absurd c_41 (by decide))
                refine tm_iinc (lv' := [(5, .int (nI (j + 1))), (0, .ref (b 0)), (1, .int (nI (pp))), (2, .int (nI (x))), (3, .int (nI (y))), (4, .int (nI (i)))]) hx hb dX2_coveredBy_46 hl (k := 5) rfl (by decide) rfl (fun ls hl => ?_)
                refine lv_goto (tgt := 17) hx hb dX2_coveredBy_49 (by decide) ?_
                exact ih2 (j + 1) (by omega) (by omega) (fun i' j' h1 h2 h3 => by by_cases e : i' = i ∧ j' = j; rw [e.1, e.2]; exact ho; exact hN2 i' j' h1 h2 (by omega)) _ _ _ hS (lv_sub hl [1, 2, 3, 4, 5, 0] rfl)
        refine lv_iconst (v := nI 0) hx hb dX2_coveredBy_14 (by decide) ?_
        refine lv_istore (lv' := [(5, .int (nI (0))), (0, .ref (b 0)), (1, .int (nI (pp))), (2, .int (nI (x))), (3, .int (nI (y))), (4, .int (nI (i)))]) hx hb dX2_coveredBy_15 hl (by decide) rfl (fun ls hl => ?_)
        exact L17 (pw pp + 1) 0 (by omega) (by omega) hN1 _ _ _ hS (lv_sub hl [1, 2, 3, 4, 5, 0] rfl)
  refine lv_iconst (v := nI 0) hx hb dX2_coveredBy_0 (by decide) ?_
  refine lv_istore (lv' := [(4, .int (nI (0))), (0, .ref (b 0)), (1, .int (nI (pp))), (2, .int (nI (x))), (3, .int (nI (y)))]) hx hb dX2_coveredBy_1 hl (by decide) rfl (fun ls hl => ?_)
  exact L3 (ph pp + 1) 0 (by omega) (by omega) (fun i' j' h1 h2 h3 => absurd h3 (by omega)) _ _ _ hS (lv_sub hl [1, 2, 3, 4, 0] rfl)
abbrev rX2_covered : Room := { frames := 4, cells := 0, slots := 0, locals := 95 }
set_option maxHeartbeats 8000000 in
set_option maxRecDepth 100000 in
/-- covered -/
theorem kX2_covered (l : Launch) (D : va_G) (dB dI : ClassId) (b : Nat → Nat) (sz wi hi : Nat) (tx pt pw ph : Nat → Nat) (hok : tm_om wi hi tx pt pw ph) : Met l yX2_covered (ws_ yX2_covered cX2_covered 5 (some .int)) rX2_covered (tm_Pre D dB dI [.ref (b 0)] sz (wM b dI wi hi tx pt pw ph)) (tm_Qr sz (fun r => r = nI (tn_cov wi hi pw ph (fun q => tk_occ 16 wi hi tx pt pw ph q)))) 0 0 (va_A [] sz) := by
  refine tm_metR (nL := 5) (ret := (some .int)) RX2 rfl (by decide) (Nat.le_of_ble_eq_true rfl) ?_
  intro p e s m args below meth c ls A Q H locs hx hb hml hown hts hr hlk hnm hA hAe hQ hS hl
  have hl : lv_has ls 5 [(0, .ref (b 0))] := hl
  have hok2 := hok
  obtain ⟨⟨ok1, ok2⟩, ⟨ok3, ok4⟩, ok5, ok6, ok7⟩ := hok
  have L4 : ∀ (n : Nat) (k : Nat) (tot : Nat), (192 - k < n) → (k ≤ 192) → (tot = tm_sm k (fun z => tc_b ((z % 16 < wi ∧ z / 16 < hi) ∧ ∃ q, q < 3 ∧ tn_cb pw ph (fun q => tk_occ 16 wi hi tx pt pw ph q) q (z % 16) (z / 16)))) → ∀ (H : Heap) (locs : List Loc) (ls : Array Slot), tm_S D dB dI s (fun _ => True) A s.heap H locs (wM b dI wi hi tx pt pw ph) → lv_has ls 5 [(0, .ref (b 0)), (1, .int (nI (tot))), (2, .int (nI (k)))] → W p l e rX2_covered s m args below meth c H locs 0 0 Q (F0 m 4 ls []) := by
    intro n
    induction n with
    | zero => intros; omega
    | succ n ih =>
      intro k tot hn hk htot H locs ls hS hl
      refine lv_iload_n hx hb dX2_covered_4 rfl (lv_at hl 2 rfl) ?_
      refine lv_sipush (v := nI 192) hx hb dX2_covered_5 (by decide) ?_
      refine tm_cge hx hb (by omega) (by omega) (tgt := 74) dX2_covered_8 (by decide) (fun c_8 => ?_) (fun c_8 => ?_)
      · skip
        refine lv_iload_n hx hb dX2_covered_74 rfl (lv_at hl 1 rfl) ?_
        exact tm_iretR hQ hAe hx hb hr hlk hS (show nI _ = nI _ by rw [htot, show k = 192 by omega]; rfl) dX2_covered_75
      · skip
        have J68 : ∀ (tot2 : Nat), (tot2 = tm_sm (k + 1) (fun z => tc_b ((z % 16 < wi ∧ z / 16 < hi) ∧ ∃ q, q < 3 ∧ tn_cb pw ph (fun q => tk_occ 16 wi hi tx pt pw ph q) q (z % 16) (z / 16)))) → ∀ (H : Heap) (locs : List Loc) (ls : Array Slot), tm_S D dB dI s (fun _ => True) A s.heap H locs (wM b dI wi hi tx pt pw ph) → lv_has ls 5 [(0, .ref (b 0)), (1, .int (nI (tot2))), (2, .int (nI (k)))] → W p l e rX2_covered s m args below meth c H locs 0 0 Q (F0 m 68 ls []) := by
          intro tot2 htot2 H locs ls hS hl
          refine tm_iinc (lv' := [(2, .int (nI (k + 1))), (0, .ref (b 0)), (1, .int (nI (tot2)))]) hx hb dX2_covered_68 hl (k := 2) rfl (by decide) rfl (fun ls hl => ?_)
          refine lv_goto (tgt := 4) hx hb dX2_covered_71 (by decide) ?_
          exact ih (k + 1) tot2 (by omega) (by omega) htot2 _ _ _ hS (lv_sub hl [1, 2, 0] rfl)
        have e16 : (nI (k % 16)).toInt = ((k % 16 : Nat) : Int) := nI_toInt (by omega)
        have f16 : (nI (k / 16)).toInt = ((k / 16 : Nat) : Int) := nI_toInt (by omega)
        refine lv_iload_n hx hb dX2_covered_11 rfl (lv_at hl 2 rfl) ?_
        refine lv_bipush (v := nI 16) hx hb dX2_covered_12 (by decide) ?_
        refine tm_irem hx hb (by omega) (by decide) (by decide) dX2_covered_14 ?_
        refine lv_istore_n (lv' := [(3, .int (nI (k % 16))), (0, .ref (b 0)), (1, .int (nI (tot))), (2, .int (nI (k)))]) hx hb dX2_covered_15 rfl hl (by decide) rfl (fun ls hl => ?_)
        refine lv_iload_n hx hb dX2_covered_16 rfl (lv_at hl 3 rfl) ?_
        refine lv_bipush (v := nI 16) hx hb dX2_covered_17 (by decide) ?_
        refine tm_idiv hx hb (by omega) (by decide) (by decide) dX2_covered_19 ?_
        refine lv_istore (lv' := [(4, .int (nI (k / 16))), (3, .int (nI (k % 16))), (0, .ref (b 0)), (1, .int (nI (tot))), (2, .int (nI (k)))]) hx hb dX2_covered_20 hl (by decide) rfl (fun ls hl => ?_)
        refine lv_aload_n hx hb dX2_covered_22 rfl (lv_at hl 2 rfl) ?_
        refine lv_iload_n hx hb dX2_covered_23 rfl (lv_at hl 1 rfl) ?_
        refine lv_iload hx hb dX2_covered_24 (lv_at hl 0 rfl) ?_
        refine tm_callR (q := (RX2, TX2, 6)) (As := [.int (nI (k % 16)), .int (nI (k / 16))]) (rest := []) ⟨hx, hb, hml, hown, hts⟩ (kX2_inText l D dB dI b H.size wi hi tx pt pw ph (nI (k % 16)) (nI (k / 16)) ok2 ok4) (cwV 2 hts (lw_V q213 q215 qs14 q21 q216) rfl rfl rfl (by decide +kernel) ⟨Nat.le_of_ble_eq_true rfl, Nat.le_of_ble_eq_true rfl⟩) hS hA rfl rfl rfl hl.1 rfl (Nat.le_of_ble_eq_true rfl) dX2_covered_26 ⟨Nat.zero_le _, Nat.zero_le _⟩ (fun r H locs hr_26 hS => ?_)
        rcases hr_26 with ⟨h_26, rfl⟩ | ⟨h_26, rfl⟩
        · skip
          refine tm_zeq hx hb (by omega) (tgt := 68) dX2_covered_29 (by decide) (fun c_29 => absurd c_29 (by decide)) (fun c_29 => ?_)
          refine lv_aload_n hx hb dX2_covered_32 rfl (lv_at hl 2 rfl) ?_
          refine lv_iconst (v := nI 0) hx hb dX2_covered_33 (by decide) ?_
          refine lv_iload_n hx hb dX2_covered_34 rfl (lv_at hl 1 rfl) ?_
          refine lv_iload hx hb dX2_covered_35 (lv_at hl 0 rfl) ?_
          refine tm_callR (q := (RX2, TX2, 6)) (As := [.int (nI (0)), .int (nI (k % 16)), .int (nI (k / 16))]) (rest := []) ⟨hx, hb, hml, hown, hts⟩ (kX2_coveredBy l D dB dI b H.size wi hi tx pt pw ph 0 (k % 16) (k / 16) hok2 (by omega) (by omega) (by omega)) (cwV 3 hts (lw_V q266 q268 qs18 q21 q269) rfl rfl rfl (by decide +kernel) ⟨Nat.le_of_ble_eq_true rfl, Nat.le_of_ble_eq_true rfl⟩) hS hA rfl rfl rfl hl.1 rfl (Nat.le_of_ble_eq_true rfl) dX2_covered_37 ⟨Nat.zero_le _, Nat.zero_le _⟩ (fun r H locs hr_37 hS => ?_)
          rcases hr_37 with ⟨h_37, rfl⟩ | ⟨h_37, rfl⟩
          · skip
            refine tm_zne hx hb (by omega) (tgt := 65) dX2_covered_40 (by decide) (fun c_40 => ?_) (fun c_40 => absurd c_40 (by decide))
            refine tm_iinc (lv' := [(1, .int (nI (tot + 1))), (4, .int (nI (k / 16))), (3, .int (nI (k % 16))), (0, .ref (b 0)), (2, .int (nI (k)))]) hx hb dX2_covered_65 hl (k := 3) rfl (by decide) rfl (fun ls hl => ?_)
            exact J68 _ (show _ = tm_sm k (fun z => tc_b ((z % 16 < wi ∧ z / 16 < hi) ∧ ∃ q, q < 3 ∧ tn_cb pw ph (fun q => tk_occ 16 wi hi tx pt pw ph q) q (z % 16) (z / 16))) + tc_b ((k % 16 < wi ∧ k / 16 < hi) ∧ ∃ q, q < 3 ∧ tn_cb pw ph (fun q => tk_occ 16 wi hi tx pt pw ph q) q (k % 16) (k / 16)) by rw [htot, tc_b1 (show ((k % 16 < wi ∧ k / 16 < hi) ∧ ∃ q, q < 3 ∧ tn_cb pw ph (fun q => tk_occ 16 wi hi tx pt pw ph q) q (k % 16) (k / 16)) from ⟨by omega, by first | exact ⟨2, by omega, h_59⟩ | exact ⟨1, by omega, h_48⟩ | exact ⟨0, by omega, h_37⟩⟩)]) _ _ _ hS (lv_sub hl [3, 0, 4] rfl)
          · skip
            refine tm_zne hx hb (by omega) (tgt := 65) dX2_covered_40 (by decide) (fun c_40 => absurd c_40 (by decide)) (fun c_40 => ?_)
            refine lv_aload_n hx hb dX2_covered_43 rfl (lv_at hl 2 rfl) ?_
            refine lv_iconst (v := nI 1) hx hb dX2_covered_44 (by decide) ?_
            refine lv_iload_n hx hb dX2_covered_45 rfl (lv_at hl 1 rfl) ?_
            refine lv_iload hx hb dX2_covered_46 (lv_at hl 0 rfl) ?_
            refine tm_callR (q := (RX2, TX2, 6)) (As := [.int (nI (1)), .int (nI (k % 16)), .int (nI (k / 16))]) (rest := []) ⟨hx, hb, hml, hown, hts⟩ (kX2_coveredBy l D dB dI b H.size wi hi tx pt pw ph 1 (k % 16) (k / 16) hok2 (by omega) (by omega) (by omega)) (cwV 3 hts (lw_V q266 q268 qs18 q21 q269) rfl rfl rfl (by decide +kernel) ⟨Nat.le_of_ble_eq_true rfl, Nat.le_of_ble_eq_true rfl⟩) hS hA rfl rfl rfl hl.1 rfl (Nat.le_of_ble_eq_true rfl) dX2_covered_48 ⟨Nat.zero_le _, Nat.zero_le _⟩ (fun r H locs hr_48 hS => ?_)
            rcases hr_48 with ⟨h_48, rfl⟩ | ⟨h_48, rfl⟩
            · skip
              refine tm_zne hx hb (by omega) (tgt := 65) dX2_covered_51 (by decide) (fun c_51 => ?_) (fun c_51 => absurd c_51 (by decide))
              refine tm_iinc (lv' := [(1, .int (nI (tot + 1))), (4, .int (nI (k / 16))), (3, .int (nI (k % 16))), (0, .ref (b 0)), (2, .int (nI (k)))]) hx hb dX2_covered_65 hl (k := 3) rfl (by decide) rfl (fun ls hl => ?_)
              exact J68 _ (show _ = tm_sm k (fun z => tc_b ((z % 16 < wi ∧ z / 16 < hi) ∧ ∃ q, q < 3 ∧ tn_cb pw ph (fun q => tk_occ 16 wi hi tx pt pw ph q) q (z % 16) (z / 16))) + tc_b ((k % 16 < wi ∧ k / 16 < hi) ∧ ∃ q, q < 3 ∧ tn_cb pw ph (fun q => tk_occ 16 wi hi tx pt pw ph q) q (k % 16) (k / 16)) by rw [htot, tc_b1 (show ((k % 16 < wi ∧ k / 16 < hi) ∧ ∃ q, q < 3 ∧ tn_cb pw ph (fun q => tk_occ 16 wi hi tx pt pw ph q) q (k % 16) (k / 16)) from ⟨by omega, by first | exact ⟨2, by omega, h_59⟩ | exact ⟨1, by omega, h_48⟩ | exact ⟨0, by omega, h_37⟩⟩)]) _ _ _ hS (lv_sub hl [3, 0, 4] rfl)
            · skip
              refine tm_zne hx hb (by omega) (tgt := 65) dX2_covered_51 (by decide) (fun c_51 => absurd c_51 (by decide)) (fun c_51 => ?_)
              refine lv_aload_n hx hb dX2_covered_54 rfl (lv_at hl 2 rfl) ?_
              refine lv_iconst (v := nI 2) hx hb dX2_covered_55 (by decide) ?_
              refine lv_iload_n hx hb dX2_covered_56 rfl (lv_at hl 1 rfl) ?_
              refine lv_iload hx hb dX2_covered_57 (lv_at hl 0 rfl) ?_
              refine tm_callR (q := (RX2, TX2, 6)) (As := [.int (nI (2)), .int (nI (k % 16)), .int (nI (k / 16))]) (rest := []) ⟨hx, hb, hml, hown, hts⟩ (kX2_coveredBy l D dB dI b H.size wi hi tx pt pw ph 2 (k % 16) (k / 16) hok2 (by omega) (by omega) (by omega)) (cwV 3 hts (lw_V q266 q268 qs18 q21 q269) rfl rfl rfl (by decide +kernel) ⟨Nat.le_of_ble_eq_true rfl, Nat.le_of_ble_eq_true rfl⟩) hS hA rfl rfl rfl hl.1 rfl (Nat.le_of_ble_eq_true rfl) dX2_covered_59 ⟨Nat.zero_le _, Nat.zero_le _⟩ (fun r H locs hr_59 hS => ?_)
              rcases hr_59 with ⟨h_59, rfl⟩ | ⟨h_59, rfl⟩
              · skip
                refine tm_zeq hx hb (by omega) (tgt := 68) dX2_covered_62 (by decide) (fun c_62 => absurd c_62 (by decide)) (fun c_62 => ?_)
                refine tm_iinc (lv' := [(1, .int (nI (tot + 1))), (4, .int (nI (k / 16))), (3, .int (nI (k % 16))), (0, .ref (b 0)), (2, .int (nI (k)))]) hx hb dX2_covered_65 hl (k := 3) rfl (by decide) rfl (fun ls hl => ?_)
                exact J68 _ (show _ = tm_sm k (fun z => tc_b ((z % 16 < wi ∧ z / 16 < hi) ∧ ∃ q, q < 3 ∧ tn_cb pw ph (fun q => tk_occ 16 wi hi tx pt pw ph q) q (z % 16) (z / 16))) + tc_b ((k % 16 < wi ∧ k / 16 < hi) ∧ ∃ q, q < 3 ∧ tn_cb pw ph (fun q => tk_occ 16 wi hi tx pt pw ph q) q (k % 16) (k / 16)) by rw [htot, tc_b1 (show ((k % 16 < wi ∧ k / 16 < hi) ∧ ∃ q, q < 3 ∧ tn_cb pw ph (fun q => tk_occ 16 wi hi tx pt pw ph q) q (k % 16) (k / 16)) from ⟨by omega, by first | exact ⟨2, by omega, h_59⟩ | exact ⟨1, by omega, h_48⟩ | exact ⟨0, by omega, h_37⟩⟩)]) _ _ _ hS (lv_sub hl [3, 0, 4] rfl)
              · skip
                refine tm_zeq hx hb (by omega) (tgt := 68) dX2_covered_62 (by decide) (fun c_62 => ?_) (fun c_62 => absurd c_62 (by decide))
                exact J68 _ (show _ = tm_sm k (fun z => tc_b ((z % 16 < wi ∧ z / 16 < hi) ∧ ∃ q, q < 3 ∧ tn_cb pw ph (fun q => tk_occ 16 wi hi tx pt pw ph q) q (z % 16) (z / 16))) + tc_b ((k % 16 < wi ∧ k / 16 < hi) ∧ ∃ q, q < 3 ∧ tn_cb pw ph (fun q => tk_occ 16 wi hi tx pt pw ph q) q (k % 16) (k / 16)) by rw [htot, tc_b0 (show ¬ ((k % 16 < wi ∧ k / 16 < hi) ∧ ∃ q, q < 3 ∧ tn_cb pw ph (fun q => tk_occ 16 wi hi tx pt pw ph q) q (k % 16) (k / 16)) from fun z => by first | exact h_26 (by omega) | (obtain ⟨z1, q, hq, hc⟩ := z; rcases (show q = 0 ∨ q = 1 ∨ q = 2 by omega) with h | h | h <;> subst h; exact h_37 hc; exact h_48 hc; exact h_59 hc)), Nat.add_zero]) _ _ _ hS (lv_sub hl [2, 3, 4] rfl)
        · skip
          refine tm_zeq hx hb (by omega) (tgt := 68) dX2_covered_29 (by decide) (fun c_29 => ?_) (fun c_29 => absurd c_29 (by decide))
          exact J68 _ (show _ = tm_sm k (fun z => tc_b ((z % 16 < wi ∧ z / 16 < hi) ∧ ∃ q, q < 3 ∧ tn_cb pw ph (fun q => tk_occ 16 wi hi tx pt pw ph q) q (z % 16) (z / 16))) + tc_b ((k % 16 < wi ∧ k / 16 < hi) ∧ ∃ q, q < 3 ∧ tn_cb pw ph (fun q => tk_occ 16 wi hi tx pt pw ph q) q (k % 16) (k / 16)) by rw [htot, tc_b0 (show ¬ ((k % 16 < wi ∧ k / 16 < hi) ∧ ∃ q, q < 3 ∧ tn_cb pw ph (fun q => tk_occ 16 wi hi tx pt pw ph q) q (k % 16) (k / 16)) from fun z => by first | exact h_26 (by omega) | (obtain ⟨z1, q, hq, hc⟩ := z; rcases (show q = 0 ∨ q = 1 ∨ q = 2 by omega) with h | h | h <;> subst h; exact h_37 hc; exact h_48 hc; exact h_59 hc)), Nat.add_zero]) _ _ _ hS (lv_sub hl [2, 3, 4] rfl)
  refine lv_iconst (v := nI 0) hx hb dX2_covered_0 (by decide) ?_
  refine lv_istore_n (lv' := [(1, .int (nI (0))), (0, .ref (b 0))]) hx hb dX2_covered_1 rfl hl (by decide) rfl (fun ls hl => ?_)
  refine lv_iconst (v := nI 0) hx hb dX2_covered_2 (by decide) ?_
  refine lv_istore_n (lv' := [(2, .int (nI (0))), (1, .int (nI (0))), (0, .ref (b 0))]) hx hb dX2_covered_3 rfl hl (by decide) rfl (fun ls hl => ?_)
  exact L4 193 0 0 (by omega) (by omega) rfl _ _ _ hS (lv_sub hl [2, 1, 0] rfl)
end
section
set_option maxRecDepth 100000
abbrev rX2_overlaps : Room := { frames := 3, cells := 0, slots := 0, locals := 70 }
set_option maxHeartbeats 8000000 in
set_option maxRecDepth 100000 in
/-- overlaps -/
theorem kX2_overlaps (l : Launch) (D : va_G) (dB dI : ClassId) (b : Nat → Nat) (sz wi hi : Nat) (tx pt pw ph : Nat → Nat) (pp : Int32) (hok : tm_om wi hi tx pt pw ph) : Met l yX2_overlaps (ws_ yX2_overlaps cX2_overlaps 8 (some .int)) rX2_overlaps (tm_Pre D dB dI [.ref (b 0), .int (pp)] sz (wM b dI wi hi tx pt pw ph)) (tm_Qr sz (fun r => ((0 ≤ (pp).toInt ∧ (pp).toInt ≤ 2) → r = nI (tn_ov (pw (pp).toInt.toNat) (ph (pp).toInt.toNat) (tk_occ 16 wi hi tx pt pw ph (pp).toInt.toNat))) ∧ (¬ (0 ≤ (pp).toInt ∧ (pp).toInt ≤ 2) → r = -1))) 0 0 (va_A [] sz) := by
  refine tm_metR (nL := 8) (ret := (some .int)) RX2 rfl (by decide) (Nat.le_of_ble_eq_true rfl) ?_
  intro p e s m args below meth c ls A Q H locs hx hb hml hown hts hr hlk hnm hA hAe hQ hS hl
  have hl : lv_has ls 8 [(0, .ref (b 0)), (1, .int (pp))] := hl
  have hok2 := hok
  obtain ⟨⟨ok1, ok2⟩, ⟨ok3, ok4⟩, ok5, ok6, ok7⟩ := hok
  refine lv_aload_n hx hb dX2_overlaps_0 rfl (lv_at hl 0 rfl) ?_
  refine lv_iload_n hx hb dX2_overlaps_1 rfl (lv_at hl 1 rfl) ?_
  refine tm_callR (q := (RX2, TX2, 6)) (As := [.int (pp)]) (rest := []) ⟨hx, hb, hml, hown, hts⟩ (kX2_isPattern l D dB dI b H.size wi hi tx pt pw ph pp) (cwV 1 hts (lw_V q225 q227 qs16 q21 q228) rfl rfl rfl (by decide +kernel) ⟨Nat.le_of_ble_eq_true rfl, Nat.le_of_ble_eq_true rfl⟩) hS hA rfl rfl rfl hl.1 rfl (Nat.le_of_ble_eq_true rfl) dX2_overlaps_2 ⟨Nat.zero_le _, Nat.zero_le _⟩ (fun r H locs hr_2 hS => ?_)
  rcases hr_2 with ⟨h_2, rfl⟩ | ⟨h_2, rfl⟩
  · skip
    obtain ⟨P, rfl, eP, bP⟩ := tm_ofI (show 0 ≤ (pp).toInt from h_2.1)
    have hP : P < 3 := by omega
    have okp := ok6 P hP
    have eP2 : (nI P).toInt.toNat = P := by omega
    refine tm_zne hx hb (by omega) (tgt := 10) dX2_overlaps_5 (by decide) (fun c_5 => ?_) (fun c_5 => absurd c_5 (by decide))
    have L14 : ∀ (n : Nat) (k : Nat) (tot : Nat), (192 - k < n) → (k ≤ 192) → (tot = tm_sm k (fun v => tm_sm 192 (fun z => tc_b (v < z ∧ tn_near (pw P) (ph P) v z ∧ tk_occ 16 wi hi tx pt pw ph P (v % 16) (v / 16) ∧ tk_occ 16 wi hi tx pt pw ph P (z % 16) (z / 16))))) → ∀ (H : Heap) (locs : List Loc) (ls : Array Slot), tm_S D dB dI s (fun _ => True) A s.heap H locs (wM b dI wi hi tx pt pw ph) → lv_has ls 8 [(0, .ref (b 0)), (1, .int (nI (P))), (2, .int (nI (tot))), (3, .int (nI (k)))] → W p l e rX2_overlaps s m args below meth c H locs 0 0 Q (F0 m 14 ls []) := by
      intro n
      induction n with
      | zero => intros; omega
      | succ n ih =>
        intro k tot hn hk htot H locs ls hS hl
        refine lv_iload_n hx hb dX2_overlaps_14 rfl (lv_at hl 3 rfl) ?_
        refine lv_sipush (v := nI 192) hx hb dX2_overlaps_15 (by decide) ?_
        refine tm_cge hx hb (by omega) (by omega) (tgt := 153) dX2_overlaps_18 (by decide) (fun c_18 => ?_) (fun c_18 => ?_)
        · skip
          refine lv_iload_n hx hb dX2_overlaps_153 rfl (lv_at hl 2 rfl) ?_
          exact tm_iretR hQ hAe hx hb hr hlk hS ⟨fun _ => by rw [eP2, htot, show k = 192 by omega]; rfl, fun h => absurd h_2 h⟩ dX2_overlaps_154
        · skip
          have L26 : ∀ (n : Nat) (j : Nat) (tot2 : Nat), (192 - j < n) → (k < j) → (j ≤ 192) → (tot2 = tm_sm k (fun v => tm_sm 192 (fun z => tc_b (v < z ∧ tn_near (pw P) (ph P) v z ∧ tk_occ 16 wi hi tx pt pw ph P (v % 16) (v / 16) ∧ tk_occ 16 wi hi tx pt pw ph P (z % 16) (z / 16)))) + tm_sm j (fun z => tc_b (k < z ∧ tn_near (pw P) (ph P) k z ∧ tk_occ 16 wi hi tx pt pw ph P (k % 16) (k / 16) ∧ tk_occ 16 wi hi tx pt pw ph P (z % 16) (z / 16)))) → ∀ (H : Heap) (locs : List Loc) (ls : Array Slot), tm_S D dB dI s (fun _ => True) A s.heap H locs (wM b dI wi hi tx pt pw ph) → lv_has ls 8 [(0, .ref (b 0)), (1, .int (nI (P))), (2, .int (nI (tot2))), (3, .int (nI (k))), (4, .int (nI (j)))] → W p l e rX2_overlaps s m args below meth c H locs 0 0 Q (F0 m 26 ls []) := by
            intro n
            induction n with
            | zero => intros; omega
            | succ n ih2 =>
              intro j tot2 hn hkj hj htot2 H locs ls hS hl
              refine lv_iload hx hb dX2_overlaps_26 (lv_at hl 4 rfl) ?_
              refine lv_sipush (v := nI 192) hx hb dX2_overlaps_28 (by decide) ?_
              refine tm_cge hx hb (by omega) (by omega) (tgt := 147) dX2_overlaps_31 (by decide) (fun c_31 => ?_) (fun c_31 => ?_)
              · skip
                refine tm_iinc (lv' := [(3, .int (nI (k + 1))), (0, .ref (b 0)), (1, .int (nI (P))), (2, .int (nI (tot2))), (4, .int (nI (j)))]) hx hb dX2_overlaps_147 hl (k := 3) rfl (by decide) rfl (fun ls hl => ?_)
                refine lv_goto (tgt := 14) hx hb dX2_overlaps_150 (by decide) ?_
                exact ih (k + 1) tot2 (by omega) (by omega) (by rw [htot2, show j = 192 by omega]; rfl) _ _ _ hS (lv_sub hl [1, 2, 3, 0] rfl)
              · skip
                have J141 : ∀ (tot3 : Nat), (tot3 = tm_sm k (fun v => tm_sm 192 (fun z => tc_b (v < z ∧ tn_near (pw P) (ph P) v z ∧ tk_occ 16 wi hi tx pt pw ph P (v % 16) (v / 16) ∧ tk_occ 16 wi hi tx pt pw ph P (z % 16) (z / 16)))) + tm_sm (j + 1) (fun z => tc_b (k < z ∧ tn_near (pw P) (ph P) k z ∧ tk_occ 16 wi hi tx pt pw ph P (k % 16) (k / 16) ∧ tk_occ 16 wi hi tx pt pw ph P (z % 16) (z / 16)))) → ∀ (H : Heap) (locs : List Loc) (ls : Array Slot), tm_S D dB dI s (fun _ => True) A s.heap H locs (wM b dI wi hi tx pt pw ph) → lv_has ls 8 [(0, .ref (b 0)), (1, .int (nI (P))), (2, .int (nI (tot3))), (3, .int (nI (k))), (4, .int (nI (j)))] → W p l e rX2_overlaps s m args below meth c H locs 0 0 Q (F0 m 141 ls []) := by
                  intro tot3 htot3 H locs ls hS hl
                  refine tm_iinc (lv' := [(4, .int (nI (j + 1))), (0, .ref (b 0)), (1, .int (nI (P))), (2, .int (nI (tot3))), (3, .int (nI (k)))]) hx hb dX2_overlaps_141 hl (k := 4) rfl (by decide) rfl (fun ls hl => ?_)
                  refine lv_goto (tgt := 26) hx hb dX2_overlaps_144 (by decide) ?_
                  exact ih2 (j + 1) tot3 (by omega) (by omega) (by omega) htot3 _ _ _ hS (lv_sub hl [1, 2, 3, 4, 0] rfl)
                refine lv_iload hx hb dX2_overlaps_34 (lv_at hl 4 rfl) ?_
                refine lv_bipush (v := nI 16) hx hb dX2_overlaps_36 (by decide) ?_
                refine tm_irem hx hb (by omega) (by decide) (by decide) dX2_overlaps_38 ?_
                refine lv_iload_n hx hb dX2_overlaps_39 rfl (lv_at hl 3 rfl) ?_
                refine lv_bipush (v := nI 16) hx hb dX2_overlaps_40 (by decide) ?_
                refine tm_irem hx hb (by omega) (by decide) (by decide) dX2_overlaps_42 ?_
                refine lv_isub hx hb dX2_overlaps_43 ?_
                refine lv_istore (lv' := [(5, .int (nI (j % 16) - nI (k % 16))), (0, .ref (b 0)), (1, .int (nI (P))), (2, .int (nI (tot2))), (3, .int (nI (k))), (4, .int (nI (j)))]) hx hb dX2_overlaps_44 hl (by decide) rfl (fun ls hl => ?_)
                refine lv_iload hx hb dX2_overlaps_46 (lv_at hl 5 rfl) ?_
                refine lv_bipush (v := nI 16) hx hb dX2_overlaps_48 (by decide) ?_
                refine tm_idiv hx hb (by omega) (by decide) (by decide) dX2_overlaps_50 ?_
                refine lv_iload_n hx hb dX2_overlaps_51 rfl (lv_at hl 4 rfl) ?_
                refine lv_bipush (v := nI 16) hx hb dX2_overlaps_52 (by decide) ?_
                refine tm_idiv hx hb (by omega) (by decide) (by decide) dX2_overlaps_54 ?_
                refine tm_isub hx hb (by omega) dX2_overlaps_55 ?_
                refine lv_istore (lv' := [(6, .int (nI (j / 16 - k / 16))), (5, .int (nI (j % 16) - nI (k % 16))), (0, .ref (b 0)), (1, .int (nI (P))), (2, .int (nI (tot2))), (3, .int (nI (k))), (4, .int (nI (j)))]) hx hb dX2_overlaps_56 hl (by decide) rfl (fun ls hl => ?_)
                refine lv_iload hx hb dX2_overlaps_58 (lv_at hl 1 rfl) ?_
                refine lv_aload_n hx hb dX2_overlaps_60 rfl (lv_at hl 2 rfl) ?_
                refine tm_gM hx hb hts hown hS rfl 4 (by decide) q194 rfl dX2_overlaps_61 ?_
                refine lv_iload_n hx hb dX2_overlaps_64 rfl (lv_at hl 3 rfl) ?_
                refine tm_iald (f := pw) hx hb hS 3 rfl (by omega) (by decide) dX2_overlaps_65 ?_
                refine tm_Ige hx hb (((j % 16 : Nat) : Int) - ((k % 16 : Nat) : Int)) ((pw P : Nat) : Int) (pk_sub_toInt (by omega) (by omega)) (nI_toInt (by omega)) (tgt := 96) dX2_overlaps_66 (by decide) (fun c_66 => ?_) (fun c_66 => ?_)
                · skip
                  refine lv_iconst (v := nI 0) hx hb dX2_overlaps_96 (by decide) ?_
                  refine lv_istore (lv' := [(7, .int (nI (0))), (6, .int (nI (j / 16 - k / 16))), (5, .int (nI (j % 16) - nI (k % 16))), (0, .ref (b 0)), (1, .int (nI (P))), (2, .int (nI (tot2))), (3, .int (nI (k))), (4, .int (nI (j)))]) hx hb dX2_overlaps_97 hl (by decide) rfl (fun ls hl => ?_)
                  refine lv_iload hx hb dX2_overlaps_99 (lv_at hl 0 rfl) ?_
                  refine tm_zeq hx hb (by omega) (tgt := 141) dX2_overlaps_101 (by decide) (fun c_101 => ?_) (fun c_101 => absurd c_101 (by decide))
                  exact J141 _ (show _ = tm_sm k (fun v => tm_sm 192 (fun z => tc_b (v < z ∧ tn_near (pw P) (ph P) v z ∧ tk_occ 16 wi hi tx pt pw ph P (v % 16) (v / 16) ∧ tk_occ 16 wi hi tx pt pw ph P (z % 16) (z / 16)))) + (tm_sm j (fun z => tc_b (k < z ∧ tn_near (pw P) (ph P) k z ∧ tk_occ 16 wi hi tx pt pw ph P (k % 16) (k / 16) ∧ tk_occ 16 wi hi tx pt pw ph P (z % 16) (z / 16))) + tc_b (k < j ∧ tn_near (pw P) (ph P) k j ∧ tk_occ 16 wi hi tx pt pw ph P (k % 16) (k / 16) ∧ tk_occ 16 wi hi tx pt pw ph P (j % 16) (j / 16))) by rw [htot2, tc_b0 (show ¬ (k < j ∧ tn_near (pw P) (ph P) k j ∧ tk_occ 16 wi hi tx pt pw ph P (k % 16) (k / 16) ∧ tk_occ 16 wi hi tx pt pw ph P (j % 16) (j / 16)) from fun z => by obtain ⟨z1, ⟨z2, z3, z4⟩, z5, z6⟩ := z; first | omega | exact ho_114 z5 | exact ho_132 z6)]; omega) _ _ _ hS (lv_sub hl [3, 4, 5, 6, 7] rfl)
                · skip
                  refine lv_iload hx hb dX2_overlaps_69 (lv_at hl 1 rfl) ?_
                  refine lv_ineg hx hb dX2_overlaps_71 ?_
                  refine lv_aload_n hx hb dX2_overlaps_72 rfl (lv_at hl 2 rfl) ?_
                  refine tm_gM hx hb hts hown hS rfl 4 (by decide) q194 rfl dX2_overlaps_73 ?_
                  refine lv_iload_n hx hb dX2_overlaps_76 rfl (lv_at hl 3 rfl) ?_
                  refine tm_iald (f := pw) hx hb hS 3 rfl (by omega) (by decide) dX2_overlaps_77 ?_
                  refine tm_Ige hx hb (((k % 16 : Nat) : Int) - ((j % 16 : Nat) : Int)) ((pw P : Nat) : Int) (tm_negsub (by omega) (by omega)) (nI_toInt (by omega)) (tgt := 96) dX2_overlaps_78 (by decide) (fun c_78 => ?_) (fun c_78 => ?_)
                  · skip
                    refine lv_iconst (v := nI 0) hx hb dX2_overlaps_96 (by decide) ?_
                    refine lv_istore (lv' := [(7, .int (nI (0))), (6, .int (nI (j / 16 - k / 16))), (5, .int (nI (j % 16) - nI (k % 16))), (0, .ref (b 0)), (1, .int (nI (P))), (2, .int (nI (tot2))), (3, .int (nI (k))), (4, .int (nI (j)))]) hx hb dX2_overlaps_97 hl (by decide) rfl (fun ls hl => ?_)
                    refine lv_iload hx hb dX2_overlaps_99 (lv_at hl 0 rfl) ?_
                    refine tm_zeq hx hb (by omega) (tgt := 141) dX2_overlaps_101 (by decide) (fun c_101 => ?_) (fun c_101 => absurd c_101 (by decide))
                    exact J141 _ (show _ = tm_sm k (fun v => tm_sm 192 (fun z => tc_b (v < z ∧ tn_near (pw P) (ph P) v z ∧ tk_occ 16 wi hi tx pt pw ph P (v % 16) (v / 16) ∧ tk_occ 16 wi hi tx pt pw ph P (z % 16) (z / 16)))) + (tm_sm j (fun z => tc_b (k < z ∧ tn_near (pw P) (ph P) k z ∧ tk_occ 16 wi hi tx pt pw ph P (k % 16) (k / 16) ∧ tk_occ 16 wi hi tx pt pw ph P (z % 16) (z / 16))) + tc_b (k < j ∧ tn_near (pw P) (ph P) k j ∧ tk_occ 16 wi hi tx pt pw ph P (k % 16) (k / 16) ∧ tk_occ 16 wi hi tx pt pw ph P (j % 16) (j / 16))) by rw [htot2, tc_b0 (show ¬ (k < j ∧ tn_near (pw P) (ph P) k j ∧ tk_occ 16 wi hi tx pt pw ph P (k % 16) (k / 16) ∧ tk_occ 16 wi hi tx pt pw ph P (j % 16) (j / 16)) from fun z => by obtain ⟨z1, ⟨z2, z3, z4⟩, z5, z6⟩ := z; first | omega | exact ho_114 z5 | exact ho_132 z6)]; omega) _ _ _ hS (lv_sub hl [3, 4, 5, 6, 7] rfl)
                  · skip
                    refine lv_iload hx hb dX2_overlaps_81 (lv_at hl 0 rfl) ?_
                    refine lv_aload_n hx hb dX2_overlaps_83 rfl (lv_at hl 2 rfl) ?_
                    refine tm_gM hx hb hts hown hS rfl 5 (by decide) q195 rfl dX2_overlaps_84 ?_
                    refine lv_iload_n hx hb dX2_overlaps_87 rfl (lv_at hl 3 rfl) ?_
                    refine tm_iald (f := ph) hx hb hS 4 rfl (by omega) (by decide) dX2_overlaps_88 ?_
                    refine tm_cge hx hb (by omega) (by omega) (tgt := 96) dX2_overlaps_89 (by decide) (fun c_89 => ?_) (fun c_89 => ?_)
                    · skip
                      refine lv_iconst (v := nI 0) hx hb dX2_overlaps_96 (by decide) ?_
                      refine lv_istore (lv' := [(7, .int (nI (0))), (6, .int (nI (j / 16 - k / 16))), (5, .int (nI (j % 16) - nI (k % 16))), (0, .ref (b 0)), (1, .int (nI (P))), (2, .int (nI (tot2))), (3, .int (nI (k))), (4, .int (nI (j)))]) hx hb dX2_overlaps_97 hl (by decide) rfl (fun ls hl => ?_)
                      refine lv_iload hx hb dX2_overlaps_99 (lv_at hl 0 rfl) ?_
                      refine tm_zeq hx hb (by omega) (tgt := 141) dX2_overlaps_101 (by decide) (fun c_101 => ?_) (fun c_101 => absurd c_101 (by decide))
                      exact J141 _ (show _ = tm_sm k (fun v => tm_sm 192 (fun z => tc_b (v < z ∧ tn_near (pw P) (ph P) v z ∧ tk_occ 16 wi hi tx pt pw ph P (v % 16) (v / 16) ∧ tk_occ 16 wi hi tx pt pw ph P (z % 16) (z / 16)))) + (tm_sm j (fun z => tc_b (k < z ∧ tn_near (pw P) (ph P) k z ∧ tk_occ 16 wi hi tx pt pw ph P (k % 16) (k / 16) ∧ tk_occ 16 wi hi tx pt pw ph P (z % 16) (z / 16))) + tc_b (k < j ∧ tn_near (pw P) (ph P) k j ∧ tk_occ 16 wi hi tx pt pw ph P (k % 16) (k / 16) ∧ tk_occ 16 wi hi tx pt pw ph P (j % 16) (j / 16))) by rw [htot2, tc_b0 (show ¬ (k < j ∧ tn_near (pw P) (ph P) k j ∧ tk_occ 16 wi hi tx pt pw ph P (k % 16) (k / 16) ∧ tk_occ 16 wi hi tx pt pw ph P (j % 16) (j / 16)) from fun z => by obtain ⟨z1, ⟨z2, z3, z4⟩, z5, z6⟩ := z; first | omega | exact ho_114 z5 | exact ho_132 z6)]; omega) _ _ _ hS (lv_sub hl [3, 4, 5, 6, 7] rfl)
                    · skip
                      refine lv_iconst (v := nI 1) hx hb dX2_overlaps_92 (by decide) ?_
                      refine lv_goto (tgt := 97) hx hb dX2_overlaps_93 (by decide) ?_
                      refine lv_istore (lv' := [(7, .int (nI (1))), (6, .int (nI (j / 16 - k / 16))), (5, .int (nI (j % 16) - nI (k % 16))), (0, .ref (b 0)), (1, .int (nI (P))), (2, .int (nI (tot2))), (3, .int (nI (k))), (4, .int (nI (j)))]) hx hb dX2_overlaps_97 hl (by decide) rfl (fun ls hl => ?_)
                      refine lv_iload hx hb dX2_overlaps_99 (lv_at hl 0 rfl) ?_
                      refine tm_zeq hx hb (by omega) (tgt := 141) dX2_overlaps_101 (by decide) (fun c_101 => absurd c_101 (by decide)) (fun c_101 => ?_)
                      refine lv_aload_n hx hb dX2_overlaps_104 rfl (lv_at hl 3 rfl) ?_
                      refine lv_iload_n hx hb dX2_overlaps_105 rfl (lv_at hl 4 rfl) ?_
                      refine lv_iload_n hx hb dX2_overlaps_106 rfl (lv_at hl 6 rfl) ?_
                      refine lv_bipush (v := nI 16) hx hb dX2_overlaps_107 (by decide) ?_
                      refine tm_irem hx hb (by omega) (by decide) (by decide) dX2_overlaps_109 ?_
                      refine lv_iload_n hx hb dX2_overlaps_110 rfl (lv_at hl 6 rfl) ?_
                      refine lv_bipush (v := nI 16) hx hb dX2_overlaps_111 (by decide) ?_
                      refine tm_idiv hx hb (by omega) (by decide) (by decide) dX2_overlaps_113 ?_
                      refine tm_callR (q := (RX2, TX2, 6)) (As := [.int (nI (P)), .int (nI (k % 16)), .int (nI (k / 16))]) (rest := []) ⟨hx, hb, hml, hown, hts⟩ (kX2_occurs l D dB dI b H.size wi hi tx pt pw ph (nI P) (nI (k % 16)) (nI (k / 16)) hok2) (cwV 3 hts (lw_V q253 q254 q255 q21 q256) rfl rfl rfl (by decide +kernel) ⟨Nat.le_of_ble_eq_true rfl, Nat.le_of_ble_eq_true rfl⟩) hS hA rfl rfl rfl hl.1 rfl (Nat.le_of_ble_eq_true rfl) dX2_overlaps_114 ⟨Nat.zero_le _, Nat.zero_le _⟩ (fun r H locs hr_114 hS => ?_)
                      rcases hr_114 with ⟨h_114, rfl⟩ | ⟨h_114, rfl⟩
                      · skip
                        have ho_114 : tk_occ 16 wi hi tx pt pw ph P (k % 16) (k / 16) := (tm_oM hP okp.1 okp.2.2.1 (by omega) (by omega)).mp h_114
                        refine tm_zeq hx hb (by omega) (tgt := 141) dX2_overlaps_117 (by decide) (fun c_117 => absurd c_117 (by decide)) (fun c_117 => ?_)
                        refine lv_aload_n hx hb dX2_overlaps_120 rfl (lv_at hl 3 rfl) ?_
                        refine lv_iload_n hx hb dX2_overlaps_121 rfl (lv_at hl 4 rfl) ?_
                        refine lv_iload hx hb dX2_overlaps_122 (lv_at hl 7 rfl) ?_
                        refine lv_bipush (v := nI 16) hx hb dX2_overlaps_124 (by decide) ?_
                        refine tm_irem hx hb (by omega) (by decide) (by decide) dX2_overlaps_126 ?_
                        refine lv_iload hx hb dX2_overlaps_127 (lv_at hl 7 rfl) ?_
                        refine lv_bipush (v := nI 16) hx hb dX2_overlaps_129 (by decide) ?_
                        refine tm_idiv hx hb (by omega) (by decide) (by decide) dX2_overlaps_131 ?_
                        refine tm_callR (q := (RX2, TX2, 6)) (As := [.int (nI (P)), .int (nI (j % 16)), .int (nI (j / 16))]) (rest := []) ⟨hx, hb, hml, hown, hts⟩ (kX2_occurs l D dB dI b H.size wi hi tx pt pw ph (nI P) (nI (j % 16)) (nI (j / 16)) hok2) (cwV 3 hts (lw_V q253 q254 q255 q21 q256) rfl rfl rfl (by decide +kernel) ⟨Nat.le_of_ble_eq_true rfl, Nat.le_of_ble_eq_true rfl⟩) hS hA rfl rfl rfl hl.1 rfl (Nat.le_of_ble_eq_true rfl) dX2_overlaps_132 ⟨Nat.zero_le _, Nat.zero_le _⟩ (fun r H locs hr_132 hS => ?_)
                        rcases hr_132 with ⟨h_132, rfl⟩ | ⟨h_132, rfl⟩
                        · skip
                          have ho_132 : tk_occ 16 wi hi tx pt pw ph P (j % 16) (j / 16) := (tm_oM hP okp.1 okp.2.2.1 (by omega) (by omega)).mp h_132
                          refine tm_zeq hx hb (by omega) (tgt := 141) dX2_overlaps_135 (by decide) (fun c_135 => absurd c_135 (by decide)) (fun c_135 => ?_)
                          refine tm_iinc (lv' := [(2, .int (nI (tot2 + 1))), (7, .int (nI (1))), (6, .int (nI (j / 16 - k / 16))), (5, .int (nI (j % 16) - nI (k % 16))), (0, .ref (b 0)), (1, .int (nI (P))), (3, .int (nI (k))), (4, .int (nI (j)))]) hx hb dX2_overlaps_138 hl (k := 5) rfl (by decide) rfl (fun ls hl => ?_)
                          exact J141 _ (show _ = tm_sm k (fun v => tm_sm 192 (fun z => tc_b (v < z ∧ tn_near (pw P) (ph P) v z ∧ tk_occ 16 wi hi tx pt pw ph P (v % 16) (v / 16) ∧ tk_occ 16 wi hi tx pt pw ph P (z % 16) (z / 16)))) + (tm_sm j (fun z => tc_b (k < z ∧ tn_near (pw P) (ph P) k z ∧ tk_occ 16 wi hi tx pt pw ph P (k % 16) (k / 16) ∧ tk_occ 16 wi hi tx pt pw ph P (z % 16) (z / 16))) + tc_b (k < j ∧ tn_near (pw P) (ph P) k j ∧ tk_occ 16 wi hi tx pt pw ph P (k % 16) (k / 16) ∧ tk_occ 16 wi hi tx pt pw ph P (j % 16) (j / 16))) by rw [htot2, tc_b1 (show (k < j ∧ tn_near (pw P) (ph P) k j ∧ tk_occ 16 wi hi tx pt pw ph P (k % 16) (k / 16) ∧ tk_occ 16 wi hi tx pt pw ph P (j % 16) (j / 16)) from ⟨by omega, ⟨by omega, by omega, by omega⟩, ho_114, ho_132⟩)]; omega) _ _ _ hS (lv_sub hl [4, 5, 0, 6, 7] rfl)
                        · skip
                          have ho_132 : ¬ tk_occ 16 wi hi tx pt pw ph P (j % 16) (j / 16) := fun z => h_132 ((tm_oM hP okp.1 okp.2.2.1 (by omega) (by omega)).mpr z)
                          refine tm_zeq hx hb (by omega) (tgt := 141) dX2_overlaps_135 (by decide) (fun c_135 => ?_) (fun c_135 => absurd c_135 (by decide))
                          exact J141 _ (show _ = tm_sm k (fun v => tm_sm 192 (fun z => tc_b (v < z ∧ tn_near (pw P) (ph P) v z ∧ tk_occ 16 wi hi tx pt pw ph P (v % 16) (v / 16) ∧ tk_occ 16 wi hi tx pt pw ph P (z % 16) (z / 16)))) + (tm_sm j (fun z => tc_b (k < z ∧ tn_near (pw P) (ph P) k z ∧ tk_occ 16 wi hi tx pt pw ph P (k % 16) (k / 16) ∧ tk_occ 16 wi hi tx pt pw ph P (z % 16) (z / 16))) + tc_b (k < j ∧ tn_near (pw P) (ph P) k j ∧ tk_occ 16 wi hi tx pt pw ph P (k % 16) (k / 16) ∧ tk_occ 16 wi hi tx pt pw ph P (j % 16) (j / 16))) by rw [htot2, tc_b0 (show ¬ (k < j ∧ tn_near (pw P) (ph P) k j ∧ tk_occ 16 wi hi tx pt pw ph P (k % 16) (k / 16) ∧ tk_occ 16 wi hi tx pt pw ph P (j % 16) (j / 16)) from fun z => by obtain ⟨z1, ⟨z2, z3, z4⟩, z5, z6⟩ := z; first | omega | exact ho_114 z5 | exact ho_132 z6)]; omega) _ _ _ hS (lv_sub hl [3, 4, 5, 6, 7] rfl)
                      · skip
                        have ho_114 : ¬ tk_occ 16 wi hi tx pt pw ph P (k % 16) (k / 16) := fun z => h_114 ((tm_oM hP okp.1 okp.2.2.1 (by omega) (by omega)).mpr z)
                        refine tm_zeq hx hb (by omega) (tgt := 141) dX2_overlaps_117 (by decide) (fun c_117 => ?_) (fun c_117 => absurd c_117 (by decide))
                        exact J141 _ (show _ = tm_sm k (fun v => tm_sm 192 (fun z => tc_b (v < z ∧ tn_near (pw P) (ph P) v z ∧ tk_occ 16 wi hi tx pt pw ph P (v % 16) (v / 16) ∧ tk_occ 16 wi hi tx pt pw ph P (z % 16) (z / 16)))) + (tm_sm j (fun z => tc_b (k < z ∧ tn_near (pw P) (ph P) k z ∧ tk_occ 16 wi hi tx pt pw ph P (k % 16) (k / 16) ∧ tk_occ 16 wi hi tx pt pw ph P (z % 16) (z / 16))) + tc_b (k < j ∧ tn_near (pw P) (ph P) k j ∧ tk_occ 16 wi hi tx pt pw ph P (k % 16) (k / 16) ∧ tk_occ 16 wi hi tx pt pw ph P (j % 16) (j / 16))) by rw [htot2, tc_b0 (show ¬ (k < j ∧ tn_near (pw P) (ph P) k j ∧ tk_occ 16 wi hi tx pt pw ph P (k % 16) (k / 16) ∧ tk_occ 16 wi hi tx pt pw ph P (j % 16) (j / 16)) from fun z => by obtain ⟨z1, ⟨z2, z3, z4⟩, z5, z6⟩ := z; first | omega | exact ho_114 z5 | exact ho_132 z6)]; omega) _ _ _ hS (lv_sub hl [3, 4, 5, 6, 7] rfl)
          refine lv_iload_n hx hb dX2_overlaps_21 rfl (lv_at hl 3 rfl) ?_
          refine lv_iconst (v := nI 1) hx hb dX2_overlaps_22 (by decide) ?_
          refine tm_iadd hx hb dX2_overlaps_23 ?_
          refine lv_istore (lv' := [(4, .int (nI (k + 1))), (0, .ref (b 0)), (1, .int (nI (P))), (2, .int (nI (tot))), (3, .int (nI (k)))]) hx hb dX2_overlaps_24 hl (by decide) rfl (fun ls hl => ?_)
          exact L26 193 (k + 1) tot (by omega) (by omega) (by omega) (by rw [htot, tm_sm_z (n := k + 1) (fun z hz => tc_b0 (fun q => by have := q.1; omega)), Nat.add_zero]) _ _ _ hS (lv_sub hl [1, 2, 3, 4, 0] rfl)
    refine lv_iconst (v := nI 0) hx hb dX2_overlaps_10 (by decide) ?_
    refine lv_istore_n (lv' := [(2, .int (nI (0))), (0, .ref (b 0)), (1, .int (nI (P)))]) hx hb dX2_overlaps_11 rfl hl (by decide) rfl (fun ls hl => ?_)
    refine lv_iconst (v := nI 0) hx hb dX2_overlaps_12 (by decide) ?_
    refine lv_istore_n (lv' := [(3, .int (nI (0))), (2, .int (nI (0))), (0, .ref (b 0)), (1, .int (nI (P)))]) hx hb dX2_overlaps_13 rfl hl (by decide) rfl (fun ls hl => ?_)
    exact L14 193 0 0 (by omega) (by omega) rfl _ _ _ hS (lv_sub hl [2, 3, 1, 0] rfl)
  · skip
    refine tm_zne hx hb (by omega) (tgt := 10) dX2_overlaps_5 (by decide) (fun c_5 => absurd c_5 (by decide)) (fun c_5 => ?_)
    refine lv_iconst (v := -1) hx hb dX2_overlaps_8 (by decide) ?_
    exact tm_iretR hQ hAe hx hb hr hlk hS ⟨fun h => absurd h h_2, fun _ => rfl⟩ dX2_overlaps_9
end
section
/-! NEW ARRAYS, FINAL FIELDS, THE MODEL'S FIELDS: rows for the constructors -/
set_option maxRecDepth 100000
def tm_cl (x : Int32) : Nat := if x.toInt < 4 then 4 else if 12 < x.toInt then 12 else x.toInt.toNat
theorem tm_cl_b (x : Int32) : 4 ≤ tm_cl x ∧ tm_cl x ≤ 12 := by
  unfold tm_cl
  split
  · omega
  · split <;> omega
theorem tm_ofN {x : Int32} (h : 0 ≤ x.toInt) : x = nI x.toInt.toNat := by
  obtain ⟨X, e, h2, -⟩ := tm_ofI h
  rw [← h2]
  exact e
/-- addresses by their places -/
def tm_ad (l : List Nat) : Nat → Nat := fun k => l.getD k 0
section TMN
variable {p : Program} {l : Launch} {e : Env} {R : Room} {s : State} {m : MethodId} {args : Array Value} {below : List Frame} {meth : Method} {c : Code} {H : Heap} {locs : List Loc} {cells slots : Nat} {Q : State → Prop}
variable {cc : ByteArray} {pc : Nat} {ls : Array Slot} {rest : List Value} {D : va_G} {dB dI : ClassId} {A : Nat → Prop} {H0 : Heap} {ws ws0 : va_W} {sz : Nat} {S : Type}
theorem tm_newB (hx : p.tables.exec = Jvm.exec) (hb : c.code = cc) (hts : ∀ w ∈ lw_all, w.before args s = true) (hS : tm_S D dB dI s A A H0 H locs ws) (hA : ∀ q, H0.size ≤ q → A q) {n : Nat} (f : Nat → Int32) (hf : ∀ k, f k = 0) (hn : n ≤ 1000) (hcells : cells + 1 ≤ R.cells) (hslots : slots + n ≤ R.slots) (hdg : decode cc pc = .ok (.newarray .byte, 2))
    (kk : ∀ (q : Nat) (H1 : Heap), tm_S D dB dI s A A H0 H1 locs (ws ++ [(q, .inl (dB, n, .inl f))]) → W p l e R s m args below meth c H1 locs (cells + 1) (slots + n) Q (F0 m (pc + 2) ls (.ref q :: rest))) : W p l e R s m args below meth c H locs cells slots Q (F0 m pc ls (.int (nI n) :: rest)) := by
  obtain ⟨hK, hP, hD, hSS⟩ := hS
  refine va_newa (atype := .byte) (ty := .byte) (a0 := (n, .inl f)) hx hb (hts _ q79) rfl hK hP hD hSS hA (fun cA => ?_) (nI_pos (by omega)) (nI_clamp (by omega)) (by show n * 1 ≤ _; omega) hcells hslots hdg (fun q cA H1 hK1 hP1 hD1 hS1 => ?_)
  · rw [show f = fun _ => 0 from funext hf]
    rfl
  · have e1 : s.vm.findClass ("[" ++ FieldType.byte.toString) = some cA := (hK1.2 2 _ rfl).2
    have e2 : s.vm.findClass ("[" ++ FieldType.byte.toString) = some dB := (hK.2 0 _ rfl).2
    have e3 : cA = dB := Option.some.inj (e1.symm.trans e2)
    subst e3
    exact kk q H1 ⟨hK, hP1, hD1, hS1⟩
theorem tm_newI (hx : p.tables.exec = Jvm.exec) (hb : c.code = cc) (hts : ∀ w ∈ lw_all, w.before args s = true) (hS : tm_S D dB dI s A A H0 H locs ws) (hA : ∀ q, H0.size ≤ q → A q) {n : Nat} (f : Nat → Int32) (hf : ∀ k, f k = 0) (hn : n ≤ 1000) (hcells : cells + 1 ≤ R.cells) (hslots : slots + n ≤ R.slots) (hdg : decode cc pc = .ok (.newarray .int, 2))
    (kk : ∀ (q : Nat) (H1 : Heap), tm_S D dB dI s A A H0 H1 locs (ws ++ [(q, .inl (dI, n, .inl f))]) → W p l e R s m args below meth c H1 locs (cells + 1) (slots + n) Q (F0 m (pc + 2) ls (.ref q :: rest))) : W p l e R s m args below meth c H locs cells slots Q (F0 m pc ls (.int (nI n) :: rest)) := by
  obtain ⟨hK, hP, hD, hSS⟩ := hS
  refine va_newa (atype := .int) (ty := .int) (a0 := (n, .inl f)) hx hb (hts _ q80) rfl hK hP hD hSS hA (fun cA => ?_) (nI_pos (by omega)) (nI_clamp (by omega)) (by show n * 4 ≤ _; omega) hcells hslots hdg (fun q cA H1 hK1 hP1 hD1 hS1 => ?_)
  · rw [show f = fun _ => 0 from funext hf]
    rfl
  · have e1 : s.vm.findClass ("[" ++ FieldType.int.toString) = some cA := (hK1.2 2 _ rfl).2
    have e2 : s.vm.findClass ("[" ++ FieldType.int.toString) = some dI := (hK.2 1 _ rfl).2
    have e3 : cA = dI := Option.some.inj (e1.symm.trans e2)
    subst e3
    exact kk q H1 ⟨hK, hP1, hD1, hS1⟩
theorem tm_pF (hx : p.tables.exec = Jvm.exec) (hb : c.code = cc) (hts : ∀ w ∈ lw_all, w.before args s = true) (hown : s.vm.findClass RX1 = some m.cls) (hnm : meth.name = "<init>") (hS : tm_S D dB dI s A A H0 H locs ws) {aa : Nat} {fs : List Value} (he : ws[0]? = some (aa, .inr (0, fs))) (k : Nat) (hk : k < 16) {index : Nat} (hq : Cond.fieldLink RX1 index RX1 (TX1 k).2.1 (TX1 k).2.2.1 ∈ lw_all) (hfin : (TX1 k).2.2.2 = true) {ty : FieldType} {v : Value} (hd : parseFieldDescriptor (TX1 k).2.2.1 = some ty) (hn : narrow ty v = v) (hfit : fits ty v = true) (hl : k < fs.length) (ws' : va_W) (hw : ws.set 0 (aa, .inr (0, fs.set k v)) = ws') (hdg : decode cc pc = .ok (.putfield index, 3))
    (kk : ∀ (H1 : Heap) (locs1 : List Loc), tm_S D dB dI s A A H0 H1 locs1 ws' → W p l e R s m args below meth c H1 locs1 cells slots Q (F0 m (pc + 3) ls rest)) : W p l e R s m args below meth c H locs cells slots Q (F0 m pc ls (v :: .ref aa :: rest)) :=
  va_putF (D := D) (ci := 0) (ty := ty) (C := RX1) (T := TX1) (N := 16) hx hb hts in_X1 tyX1 tyX1_ok nmX1 hown hS.1 hS.2.1 hS.2.2.1 hS.2.2.2 0 he rfl k hk (hts _ hq) (fun x h => by rw [tm_tx1 k hk] at h; exact h) hfin hnm (tm_tx1 k hk) hd hn hfit hl hdg (fun H1 locs1 h1 h2 h3 => kk H1 locs1 ⟨hS.1, by rw [← hw]; exact h1, by rw [← hw]; exact h2, h3⟩)
theorem tm_pM (hx : p.tables.exec = Jvm.exec) (hb : c.code = cc) (hts : ∀ w ∈ lw_all, w.before args s = true) (hown : s.vm.findClass RX2 = some m.cls) (hS : tm_S D dB dI s A A H0 H locs ws) {aa : Nat} {fs : List Value} (he : ws[0]? = some (aa, .inr (1, fs))) (k : Nat) (hk : k < 6) {index : Nat} (hq : Cond.fieldLink RX2 index RX2 (TX2 k).2.1 (TX2 k).2.2.1 ∈ lw_all) (hfin : (TX2 k).2.2.2 = false) {ty : FieldType} {v : Value} (hd : parseFieldDescriptor (TX2 k).2.2.1 = some ty) (hn : narrow ty v = v) (hfit : fits ty v = true) (hl : k < fs.length) (ws' : va_W) (hw : ws.set 0 (aa, .inr (1, fs.set k v)) = ws') (hdg : decode cc pc = .ok (.putfield index, 3))
    (kk : ∀ (H1 : Heap) (locs1 : List Loc), tm_S D dB dI s A A H0 H1 locs1 ws' → W p l e R s m args below meth c H1 locs1 cells slots Q (F0 m (pc + 3) ls rest)) : W p l e R s m args below meth c H locs cells slots Q (F0 m pc ls (v :: .ref aa :: rest)) :=
  va_put (D := D) (ci := 1) (ty := ty) (C := RX2) (T := TX2) (N := 6) hx hb hts in_X2 tyX2 tyX2_ok nmX2 hown hS.1 hS.2.1 hS.2.2.1 hS.2.2.2 0 he rfl k hk (hts _ hq) (fun x h => by rw [tm_tx2 k hk] at h; exact h) hfin hd hn hfit hl hdg (fun H1 locs1 h1 h2 h3 => kk H1 locs1 ⟨hS.1, by rw [← hw]; exact h1, by rw [← hw]; exact h2, h3⟩)
theorem tm_vretN {post : S → Prop} {wf : S → va_W} (u : S) (hQ : MQ below (tm_Qv D dB dI ws0 sz post wf) args s cells slots (va_A ws0 sz) = Q) (hAe : va_A ws0 sz = A) (hx : p.tables.exec = Jvm.exec) (hb : c.code = cc) (hr : meth.sig.returnType = none) (hlk : meth.locks = false) (hS : tm_S D dB dI s A A s.heap H locs (wf u)) (hp : post u) (hdg : decode cc pc = .ok (.return_, 1)) : W p l e R s m args below meth c H locs cells slots Q (F0 m pc ls []) := by
  subst hQ hAe
  exact W.vret hx hb hr (fun t ht hW => ⟨⟨u, rfl, hp, by rw [ht]; exact hS.2.1, va_K.moved hW.alike hS.1, hS.2.2.1⟩, hS.2.2.2.F ht⟩) hS.2.2.2.2.2 hdg hlk
end TMN
/-- the classes' arrays, known at the start -/
theorem tm_arrK {args : Array Value} {s : State} (hts : ∀ w ∈ lw_all, w.before args s = true) : ∃ dB dI : ClassId, ∀ (k : Nat) (q : ClassId × FieldType), (xTy dB dI)[k]? = some q → ArrOfT s q.1 q.2 ∧ va_RA s q.1 q.2 := by
  obtain ⟨cB, kB, cmB, b1, b2, b3⟩ := Cond.arrayClass_spec (hts _ q79)
  obtain ⟨cI, kI, cmI, i1, i2, i3⟩ := Cond.arrayClass_spec (hts _ q80)
  refine ⟨cB, cI, fun k q hk => ?_⟩
  match k, hk with
  | 0, hk =>
    cases hk
    exact ⟨fun n z => ⟨fun k h => (by cases h), kB, b2, cmB, b3⟩, b1⟩
  | 1, hk =>
    cases hk
    exact ⟨fun n z => ⟨fun k h => (by cases h), kI, i2, cmI, i3⟩, i1⟩
  | k + 2, hk => simp at hk
end
section
set_option maxRecDepth 100000
abbrev rX1_init : Room := { frames := 1, cells := 12, slots := 689, locals := 12 }
set_option maxHeartbeats 8000000 in
set_option maxRecDepth 100000 in
/-- the constructor: 12 arrays -/
theorem kX1_init (l : Launch) (D : va_G) (dB dI : ClassId) (o sz : Nat) (cs rs : Int32) : Met l yX1_init (ws_ yX1_init cX1_init 4 none) rX1_init (tm_Pre D dB dI [.ref o, .int cs, .int rs] sz [(o, .inr (0, [.int (nI 0), .int (nI 0), .null, .null, .null, .null, .int (nI 0), .null, .null, .null, .null, .null, .null, .int (nI 0), .null, .null]))]) (tm_Qv (S := (Nat → Nat) × (Nat → Nat) × (Nat → Nat) × (Nat → Nat)) D dB dI [(o, .inr (0, [.int (nI 0), .int (nI 0), .null, .null, .null, .null, .int (nI 0), .null, .null, .null, .null, .null, .null, .int (nI 0), .null, .null]))] sz (fun u => u.1 0 = o ∧ (∀ q, q < 3 → u.2.1 q = 1 ∧ u.2.2.1 q = 1) ∧ ∀ k, k < 48 → u.2.2.2 k = if k % 16 = 0 then 1 else 0) (fun u => wX u.1 dB dI (tm_cl cs) (tm_cl rs) 0 0 (fun _ => 0) u.2.1 u.2.2.1 u.2.2.2 (fun _ => 0) (fun _ => 0) (fun _ => 0) (fun _ => 1) (fun _ => 0) (fun _ => 0) (fun _ => 0) (fun _ => 0))) 12 689 (va_A [(o, .inr (0, [.int (nI 0), .int (nI 0), .null, .null, .null, .null, .int (nI 0), .null, .null, .null, .null, .null, .null, .int (nI 0), .null, .null]))] sz) := by
  refine tm_met (nL := 4) (ret := none) RX1 rfl (by decide) (Nat.le_of_ble_eq_true rfl) ?_
  intro p e s m args below meth c ls A Q H locs hx hb hml hown hts hr hlk hnm hA hAe hQ hS hl
  have hl : lv_has ls 4 [(0, .ref o), (1, .int (cs)), (2, .int (rs))] := hl
  refine lv_aload_n hx hb dX1_init_0 rfl (lv_at hl 0 rfl) ?_
  refine W.objInit hx hb hown (hts _ q27) (hts _ q28) (hts _ q29) rfl (by rw [hml]; exact hl.1) rfl dX1_init_1 (Nat.le_of_ble_eq_true rfl) (Nat.le_of_ble_eq_true rfl) ?_
  refine W.eq (g2 := F0 m 4 ls []) rfl ?_
  refine lv_aload_n hx hb dX1_init_4 rfl (lv_at hl 0 rfl) ?_
  refine lv_sipush (v := nI 144) hx hb dX1_init_5 (by decide) ?_
  refine tm_newB hx hb hts hS hA (fun _ => nI 0) (fun _ => by decide) (by decide) (Nat.le_of_ble_eq_true rfl) (Nat.le_of_ble_eq_true rfl) dX1_init_8 (fun q1_ H hS => ?_)
  refine tm_pF (ty := (.array .byte)) hx hb hts hown hnm hS rfl 2 (by decide) q32 rfl (tyX1_ok 2 (by decide)) rfl rfl (Nat.le_of_ble_eq_true rfl) ([(o, .inr (0, [.int (nI 0), .int (nI 0), .ref q1_, .null, .null, .null, .int (nI 0), .null, .null, .null, .null, .null, .null, .int (nI 0), .null, .null])), (q1_, .inl (dB, 144, .inl (fun _ => nI 0)))]) rfl dX1_init_10 (fun H locs hS => ?_)
  refine lv_aload_n hx hb dX1_init_13 rfl (lv_at hl 0 rfl) ?_
  refine lv_iconst (v := nI 3) hx hb dX1_init_14 (by decide) ?_
  refine tm_newB hx hb hts hS hA (fun _ => nI 0) (fun _ => by decide) (by decide) (Nat.le_of_ble_eq_true rfl) (Nat.le_of_ble_eq_true rfl) dX1_init_15 (fun q2_ H hS => ?_)
  refine tm_pF (ty := (.array .byte)) hx hb hts hown hnm hS rfl 3 (by decide) q33 rfl (tyX1_ok 3 (by decide)) rfl rfl (Nat.le_of_ble_eq_true rfl) ([(o, .inr (0, [.int (nI 0), .int (nI 0), .ref q1_, .ref q2_, .null, .null, .int (nI 0), .null, .null, .null, .null, .null, .null, .int (nI 0), .null, .null])), (q1_, .inl (dB, 144, .inl (fun _ => nI 0))), (q2_, .inl (dB, 3, .inl (fun _ => nI 0)))]) rfl dX1_init_17 (fun H locs hS => ?_)
  refine lv_aload_n hx hb dX1_init_20 rfl (lv_at hl 0 rfl) ?_
  refine lv_iconst (v := nI 3) hx hb dX1_init_21 (by decide) ?_
  refine tm_newB hx hb hts hS hA (fun _ => nI 0) (fun _ => by decide) (by decide) (Nat.le_of_ble_eq_true rfl) (Nat.le_of_ble_eq_true rfl) dX1_init_22 (fun q3_ H hS => ?_)
  refine tm_pF (ty := (.array .byte)) hx hb hts hown hnm hS rfl 4 (by decide) q34 rfl (tyX1_ok 4 (by decide)) rfl rfl (Nat.le_of_ble_eq_true rfl) ([(o, .inr (0, [.int (nI 0), .int (nI 0), .ref q1_, .ref q2_, .ref q3_, .null, .int (nI 0), .null, .null, .null, .null, .null, .null, .int (nI 0), .null, .null])), (q1_, .inl (dB, 144, .inl (fun _ => nI 0))), (q2_, .inl (dB, 3, .inl (fun _ => nI 0))), (q3_, .inl (dB, 3, .inl (fun _ => nI 0)))]) rfl dX1_init_24 (fun H locs hS => ?_)
  refine lv_aload_n hx hb dX1_init_27 rfl (lv_at hl 0 rfl) ?_
  refine lv_bipush (v := nI 48) hx hb dX1_init_28 (by decide) ?_
  refine tm_newB hx hb hts hS hA (fun _ => nI 0) (fun _ => by decide) (by decide) (Nat.le_of_ble_eq_true rfl) (Nat.le_of_ble_eq_true rfl) dX1_init_30 (fun q4_ H hS => ?_)
  refine tm_pF (ty := (.array .byte)) hx hb hts hown hnm hS rfl 5 (by decide) q35 rfl (tyX1_ok 5 (by decide)) rfl rfl (Nat.le_of_ble_eq_true rfl) ([(o, .inr (0, [.int (nI 0), .int (nI 0), .ref q1_, .ref q2_, .ref q3_, .ref q4_, .int (nI 0), .null, .null, .null, .null, .null, .null, .int (nI 0), .null, .null])), (q1_, .inl (dB, 144, .inl (fun _ => nI 0))), (q2_, .inl (dB, 3, .inl (fun _ => nI 0))), (q3_, .inl (dB, 3, .inl (fun _ => nI 0))), (q4_, .inl (dB, 48, .inl (fun _ => nI 0)))]) rfl dX1_init_32 (fun H locs hS => ?_)
  refine lv_aload_n hx hb dX1_init_35 rfl (lv_at hl 0 rfl) ?_
  refine lv_sipush (v := nI 147) hx hb dX1_init_36 (by decide) ?_
  refine tm_newB hx hb hts hS hA (fun _ => nI 0) (fun _ => by decide) (by decide) (Nat.le_of_ble_eq_true rfl) (Nat.le_of_ble_eq_true rfl) dX1_init_39 (fun q5_ H hS => ?_)
  refine tm_pF (ty := (.array .byte)) hx hb hts hown hnm hS rfl 7 (by decide) q37 rfl (tyX1_ok 7 (by decide)) rfl rfl (Nat.le_of_ble_eq_true rfl) ([(o, .inr (0, [.int (nI 0), .int (nI 0), .ref q1_, .ref q2_, .ref q3_, .ref q4_, .int (nI 0), .ref q5_, .null, .null, .null, .null, .null, .int (nI 0), .null, .null])), (q1_, .inl (dB, 144, .inl (fun _ => nI 0))), (q2_, .inl (dB, 3, .inl (fun _ => nI 0))), (q3_, .inl (dB, 3, .inl (fun _ => nI 0))), (q4_, .inl (dB, 48, .inl (fun _ => nI 0))), (q5_, .inl (dB, 147, .inl (fun _ => nI 0)))]) rfl dX1_init_41 (fun H locs hS => ?_)
  refine lv_aload_n hx hb dX1_init_44 rfl (lv_at hl 0 rfl) ?_
  refine lv_bipush (v := nI 49) hx hb dX1_init_45 (by decide) ?_
  refine tm_newB hx hb hts hS hA (fun _ => nI 0) (fun _ => by decide) (by decide) (Nat.le_of_ble_eq_true rfl) (Nat.le_of_ble_eq_true rfl) dX1_init_47 (fun q6_ H hS => ?_)
  refine tm_pF (ty := (.array .byte)) hx hb hts hown hnm hS rfl 8 (by decide) q38 rfl (tyX1_ok 8 (by decide)) rfl rfl (Nat.le_of_ble_eq_true rfl) ([(o, .inr (0, [.int (nI 0), .int (nI 0), .ref q1_, .ref q2_, .ref q3_, .ref q4_, .int (nI 0), .ref q5_, .ref q6_, .null, .null, .null, .null, .int (nI 0), .null, .null])), (q1_, .inl (dB, 144, .inl (fun _ => nI 0))), (q2_, .inl (dB, 3, .inl (fun _ => nI 0))), (q3_, .inl (dB, 3, .inl (fun _ => nI 0))), (q4_, .inl (dB, 48, .inl (fun _ => nI 0))), (q5_, .inl (dB, 147, .inl (fun _ => nI 0))), (q6_, .inl (dB, 49, .inl (fun _ => nI 0)))]) rfl dX1_init_49 (fun H locs hS => ?_)
  refine lv_aload_n hx hb dX1_init_52 rfl (lv_at hl 0 rfl) ?_
  refine lv_bipush (v := nI 49) hx hb dX1_init_53 (by decide) ?_
  refine tm_newB hx hb hts hS hA (fun _ => nI 0) (fun _ => by decide) (by decide) (Nat.le_of_ble_eq_true rfl) (Nat.le_of_ble_eq_true rfl) dX1_init_55 (fun q7_ H hS => ?_)
  refine tm_pF (ty := (.array .byte)) hx hb hts hown hnm hS rfl 9 (by decide) q39 rfl (tyX1_ok 9 (by decide)) rfl rfl (Nat.le_of_ble_eq_true rfl) ([(o, .inr (0, [.int (nI 0), .int (nI 0), .ref q1_, .ref q2_, .ref q3_, .ref q4_, .int (nI 0), .ref q5_, .ref q6_, .ref q7_, .null, .null, .null, .int (nI 0), .null, .null])), (q1_, .inl (dB, 144, .inl (fun _ => nI 0))), (q2_, .inl (dB, 3, .inl (fun _ => nI 0))), (q3_, .inl (dB, 3, .inl (fun _ => nI 0))), (q4_, .inl (dB, 48, .inl (fun _ => nI 0))), (q5_, .inl (dB, 147, .inl (fun _ => nI 0))), (q6_, .inl (dB, 49, .inl (fun _ => nI 0))), (q7_, .inl (dB, 49, .inl (fun _ => nI 0)))]) rfl dX1_init_57 (fun H locs hS => ?_)
  refine lv_aload_n hx hb dX1_init_60 rfl (lv_at hl 0 rfl) ?_
  refine lv_sipush (v := nI 147) hx hb dX1_init_61 (by decide) ?_
  refine tm_newB hx hb hts hS hA (fun _ => nI 1 - 1) (fun _ => by decide) (by decide) (Nat.le_of_ble_eq_true rfl) (Nat.le_of_ble_eq_true rfl) dX1_init_64 (fun q8_ H hS => ?_)
  refine tm_pF (ty := (.array .byte)) hx hb hts hown hnm hS rfl 10 (by decide) q40 rfl (tyX1_ok 10 (by decide)) rfl rfl (Nat.le_of_ble_eq_true rfl) ([(o, .inr (0, [.int (nI 0), .int (nI 0), .ref q1_, .ref q2_, .ref q3_, .ref q4_, .int (nI 0), .ref q5_, .ref q6_, .ref q7_, .ref q8_, .null, .null, .int (nI 0), .null, .null])), (q1_, .inl (dB, 144, .inl (fun _ => nI 0))), (q2_, .inl (dB, 3, .inl (fun _ => nI 0))), (q3_, .inl (dB, 3, .inl (fun _ => nI 0))), (q4_, .inl (dB, 48, .inl (fun _ => nI 0))), (q5_, .inl (dB, 147, .inl (fun _ => nI 0))), (q6_, .inl (dB, 49, .inl (fun _ => nI 0))), (q7_, .inl (dB, 49, .inl (fun _ => nI 0))), (q8_, .inl (dB, 147, .inl (fun _ => nI 1 - 1)))]) rfl dX1_init_66 (fun H locs hS => ?_)
  refine lv_aload_n hx hb dX1_init_69 rfl (lv_at hl 0 rfl) ?_
  refine lv_bipush (v := nI 12) hx hb dX1_init_70 (by decide) ?_
  refine tm_newB hx hb hts hS hA (fun _ => nI 0) (fun _ => by decide) (by decide) (Nat.le_of_ble_eq_true rfl) (Nat.le_of_ble_eq_true rfl) dX1_init_72 (fun q9_ H hS => ?_)
  refine tm_pF (ty := (.array .byte)) hx hb hts hown hnm hS rfl 11 (by decide) q41 rfl (tyX1_ok 11 (by decide)) rfl rfl (Nat.le_of_ble_eq_true rfl) ([(o, .inr (0, [.int (nI 0), .int (nI 0), .ref q1_, .ref q2_, .ref q3_, .ref q4_, .int (nI 0), .ref q5_, .ref q6_, .ref q7_, .ref q8_, .ref q9_, .null, .int (nI 0), .null, .null])), (q1_, .inl (dB, 144, .inl (fun _ => nI 0))), (q2_, .inl (dB, 3, .inl (fun _ => nI 0))), (q3_, .inl (dB, 3, .inl (fun _ => nI 0))), (q4_, .inl (dB, 48, .inl (fun _ => nI 0))), (q5_, .inl (dB, 147, .inl (fun _ => nI 0))), (q6_, .inl (dB, 49, .inl (fun _ => nI 0))), (q7_, .inl (dB, 49, .inl (fun _ => nI 0))), (q8_, .inl (dB, 147, .inl (fun _ => nI 1 - 1))), (q9_, .inl (dB, 12, .inl (fun _ => nI 0)))]) rfl dX1_init_74 (fun H locs hS => ?_)
  refine lv_aload_n hx hb dX1_init_77 rfl (lv_at hl 0 rfl) ?_
  refine lv_bipush (v := nI 15) hx hb dX1_init_78 (by decide) ?_
  refine tm_newB hx hb hts hS hA (fun _ => nI 0) (fun _ => by decide) (by decide) (Nat.le_of_ble_eq_true rfl) (Nat.le_of_ble_eq_true rfl) dX1_init_80 (fun q10_ H hS => ?_)
  refine tm_pF (ty := (.array .byte)) hx hb hts hown hnm hS rfl 12 (by decide) q42 rfl (tyX1_ok 12 (by decide)) rfl rfl (Nat.le_of_ble_eq_true rfl) ([(o, .inr (0, [.int (nI 0), .int (nI 0), .ref q1_, .ref q2_, .ref q3_, .ref q4_, .int (nI 0), .ref q5_, .ref q6_, .ref q7_, .ref q8_, .ref q9_, .ref q10_, .int (nI 0), .null, .null])), (q1_, .inl (dB, 144, .inl (fun _ => nI 0))), (q2_, .inl (dB, 3, .inl (fun _ => nI 0))), (q3_, .inl (dB, 3, .inl (fun _ => nI 0))), (q4_, .inl (dB, 48, .inl (fun _ => nI 0))), (q5_, .inl (dB, 147, .inl (fun _ => nI 0))), (q6_, .inl (dB, 49, .inl (fun _ => nI 0))), (q7_, .inl (dB, 49, .inl (fun _ => nI 0))), (q8_, .inl (dB, 147, .inl (fun _ => nI 1 - 1))), (q9_, .inl (dB, 12, .inl (fun _ => nI 0))), (q10_, .inl (dB, 15, .inl (fun _ => nI 0)))]) rfl dX1_init_82 (fun H locs hS => ?_)
  refine lv_aload_n hx hb dX1_init_85 rfl (lv_at hl 0 rfl) ?_
  refine lv_bipush (v := nI 36) hx hb dX1_init_86 (by decide) ?_
  refine tm_newI hx hb hts hS hA (fun _ => nI 0) (fun _ => by decide) (by decide) (Nat.le_of_ble_eq_true rfl) (Nat.le_of_ble_eq_true rfl) dX1_init_88 (fun q11_ H hS => ?_)
  refine tm_pF (ty := (.array .int)) hx hb hts hown hnm hS rfl 14 (by decide) q44 rfl (tyX1_ok 14 (by decide)) rfl rfl (Nat.le_of_ble_eq_true rfl) ([(o, .inr (0, [.int (nI 0), .int (nI 0), .ref q1_, .ref q2_, .ref q3_, .ref q4_, .int (nI 0), .ref q5_, .ref q6_, .ref q7_, .ref q8_, .ref q9_, .ref q10_, .int (nI 0), .ref q11_, .null])), (q1_, .inl (dB, 144, .inl (fun _ => nI 0))), (q2_, .inl (dB, 3, .inl (fun _ => nI 0))), (q3_, .inl (dB, 3, .inl (fun _ => nI 0))), (q4_, .inl (dB, 48, .inl (fun _ => nI 0))), (q5_, .inl (dB, 147, .inl (fun _ => nI 0))), (q6_, .inl (dB, 49, .inl (fun _ => nI 0))), (q7_, .inl (dB, 49, .inl (fun _ => nI 0))), (q8_, .inl (dB, 147, .inl (fun _ => nI 1 - 1))), (q9_, .inl (dB, 12, .inl (fun _ => nI 0))), (q10_, .inl (dB, 15, .inl (fun _ => nI 0))), (q11_, .inl (dI, 36, .inl (fun _ => nI 0)))]) rfl dX1_init_90 (fun H locs hS => ?_)
  refine lv_aload_n hx hb dX1_init_93 rfl (lv_at hl 0 rfl) ?_
  refine lv_bipush (v := nI 36) hx hb dX1_init_94 (by decide) ?_
  refine tm_newB hx hb hts hS hA (fun _ => nI 0) (fun _ => by decide) (by decide) (Nat.le_of_ble_eq_true rfl) (Nat.le_of_ble_eq_true rfl) dX1_init_96 (fun q12_ H hS => ?_)
  refine tm_pF (ty := (.array .byte)) hx hb hts hown hnm hS rfl 15 (by decide) q45 rfl (tyX1_ok 15 (by decide)) rfl rfl (Nat.le_of_ble_eq_true rfl) ([(o, .inr (0, [.int (nI 0), .int (nI 0), .ref q1_, .ref q2_, .ref q3_, .ref q4_, .int (nI 0), .ref q5_, .ref q6_, .ref q7_, .ref q8_, .ref q9_, .ref q10_, .int (nI 0), .ref q11_, .ref q12_])), (q1_, .inl (dB, 144, .inl (fun _ => nI 0))), (q2_, .inl (dB, 3, .inl (fun _ => nI 0))), (q3_, .inl (dB, 3, .inl (fun _ => nI 0))), (q4_, .inl (dB, 48, .inl (fun _ => nI 0))), (q5_, .inl (dB, 147, .inl (fun _ => nI 0))), (q6_, .inl (dB, 49, .inl (fun _ => nI 0))), (q7_, .inl (dB, 49, .inl (fun _ => nI 0))), (q8_, .inl (dB, 147, .inl (fun _ => nI 1 - 1))), (q9_, .inl (dB, 12, .inl (fun _ => nI 0))), (q10_, .inl (dB, 15, .inl (fun _ => nI 0))), (q11_, .inl (dI, 36, .inl (fun _ => nI 0))), (q12_, .inl (dB, 36, .inl (fun _ => nI 0)))]) rfl dX1_init_98 (fun H locs hS => ?_)
  refine W.widen (k := 12) (n := 689) (by decide) (by decide) ?_
  obtain ⟨a, hae⟩ : ∃ z, z = tm_ad [o, q1_, q2_, q3_, q4_, q5_, q6_, q7_, q8_, q9_, q10_, q11_, q12_] := ⟨_, rfl⟩
  have hS : tm_S D dB dI s A A s.heap H locs (wX a dB dI 0 0 0 0 ((fun _ => 0)) ((fun _ => 0)) ((fun _ => 0)) ((fun _ => 0)) ((fun _ => 0)) ((fun _ => 0)) ((fun _ => 0)) ((fun _ => 1)) ((fun _ => 0)) ((fun _ => 0)) ((fun _ => 0)) ((fun _ => 0))) := by rw [hae]; exact hS
  have hl : lv_has ls 4 [(0, .ref (a 0)), (1, .int (cs)), (2, .int (rs))] := by rw [hae]; exact hl
  have ha0 : a 0 = o := by rw [hae]; rfl
  have LP : ∀ (n : Nat) (g : Nat) (pw1 : Nat → Nat) (ph1 : Nat → Nat) (pt1 : Nat → Nat), (3 - g < n) → (g ≤ 3) → (∀ q, q < g → pw1 q = 1 ∧ ph1 q = 1) → (∀ k, k < 48 → pt1 k = if k % 16 = 0 ∧ k < 16 * g then 1 else 0) → ∀ (H : Heap) (locs : List Loc) (ls : Array Slot), tm_S D dB dI s A A s.heap H locs (wX a dB dI (tm_cl cs) (tm_cl rs) 0 0 ((fun _ => 0)) pw1 ph1 pt1 ((fun _ => 0)) ((fun _ => 0)) ((fun _ => 0)) ((fun _ => 1)) ((fun _ => 0)) ((fun _ => 0)) ((fun _ => 0)) ((fun _ => 0))) → lv_has ls 4 [(0, .ref (a 0)), (3, .int (nI (g)))] → W p l e rX1_init s m args below meth c H locs 12 689 Q (F0 m 153 ls []) := by
    intro n
    induction n with
    | zero => intros; omega
    | succ n ih =>
      intro g pw1 ph1 pt1 hn hg h1 h2 H locs ls hS hl
      refine lv_iload_n hx hb dX1_init_153 rfl (lv_at hl 1 rfl) ?_
      refine lv_iconst (v := nI 3) hx hb dX1_init_154 (by decide) ?_
      refine tm_cge hx hb (by omega) (by omega) (tgt := 188) dX1_init_155 (by decide) (fun c_155 => ?_) (fun c_155 => ?_)
      · skip
        exact tm_vretN (S := (Nat → Nat) × (Nat → Nat) × (Nat → Nat) × (Nat → Nat)) (a, pw1, ph1, pt1) hQ hAe hx hb hr hlk hS ⟨ha0, fun q hq => h1 q (by omega), fun k hk => by show pt1 k = _; rw [h2 k hk]; by_cases e : k % 16 = 0; rw [if_pos (by omega), if_pos e]; rw [if_neg (by omega), if_neg e]⟩ dX1_init_188
      · skip
        refine lv_aload_n hx hb dX1_init_158 rfl (lv_at hl 0 rfl) ?_
        refine tm_gX hx hb hts hown hS rfl 3 (by decide) q33 rfl dX1_init_159 ?_
        refine lv_iload_n hx hb dX1_init_162 rfl (lv_at hl 1 rfl) ?_
        refine lv_iconst (v := nI 1) hx hb dX1_init_163 (by decide) ?_
        refine tm_bast (f := pw1) hx hb hS 2 rfl (by omega) (by decide) (by omega) (wX a dB dI (tm_cl cs) (tm_cl rs) 0 0 ((fun _ => 0)) (tm_up pw1 g 1) ph1 pt1 ((fun _ => 0)) ((fun _ => 0)) ((fun _ => 0)) ((fun _ => 1)) ((fun _ => 0)) ((fun _ => 0)) ((fun _ => 0)) ((fun _ => 0))) rfl dX1_init_164 (fun H locs hS => ?_)
        refine lv_aload_n hx hb dX1_init_165 rfl (lv_at hl 0 rfl) ?_
        refine tm_gX hx hb hts hown hS rfl 4 (by decide) q34 rfl dX1_init_166 ?_
        refine lv_iload_n hx hb dX1_init_169 rfl (lv_at hl 1 rfl) ?_
        refine lv_iconst (v := nI 1) hx hb dX1_init_170 (by decide) ?_
        refine tm_bast (f := ph1) hx hb hS 3 rfl (by omega) (by decide) (by omega) (wX a dB dI (tm_cl cs) (tm_cl rs) 0 0 ((fun _ => 0)) (tm_up pw1 g 1) (tm_up ph1 g 1) pt1 ((fun _ => 0)) ((fun _ => 0)) ((fun _ => 0)) ((fun _ => 1)) ((fun _ => 0)) ((fun _ => 0)) ((fun _ => 0)) ((fun _ => 0))) rfl dX1_init_171 (fun H locs hS => ?_)
        refine lv_aload_n hx hb dX1_init_172 rfl (lv_at hl 0 rfl) ?_
        refine tm_gX hx hb hts hown hS rfl 5 (by decide) q35 rfl dX1_init_173 ?_
        refine lv_bipush (v := nI 16) hx hb dX1_init_176 (by decide) ?_
        refine lv_iload_n hx hb dX1_init_178 rfl (lv_at hl 1 rfl) ?_
        refine tm_imul hx hb dX1_init_179 ?_
        refine lv_iconst (v := nI 1) hx hb dX1_init_180 (by decide) ?_
        refine tm_bast (f := pt1) hx hb hS 4 rfl (by omega) (by decide) (by omega) (wX a dB dI (tm_cl cs) (tm_cl rs) 0 0 ((fun _ => 0)) (tm_up pw1 g 1) (tm_up ph1 g 1) (tm_up pt1 (16 * g) 1) ((fun _ => 0)) ((fun _ => 0)) ((fun _ => 0)) ((fun _ => 1)) ((fun _ => 0)) ((fun _ => 0)) ((fun _ => 0)) ((fun _ => 0))) rfl dX1_init_181 (fun H locs hS => ?_)
        refine tm_iinc (lv' := [(3, .int (nI (g + 1))), (0, .ref (a 0))]) hx hb dX1_init_182 hl (k := 1) rfl (by decide) rfl (fun ls hl => ?_)
        refine lv_goto (tgt := 153) hx hb dX1_init_185 (by decide) ?_
        exact ih (g + 1) (tm_up pw1 g 1) (tm_up ph1 g 1) (tm_up pt1 (16 * g) 1) (by omega) (by omega) (fun q hq => by by_cases e : q = g; rw [e, tm_up_s, tm_up_s]; exact ⟨rfl, rfl⟩; rw [tm_up_n e, tm_up_n e]; exact h1 q (by omega)) (fun k hk => by by_cases e : k = 16 * g; rw [e, tm_up_s, if_pos (by omega)]; rw [tm_up_n e, h2 k hk]; by_cases e2 : k % 16 = 0 ∧ k < 16 * g; rw [if_pos e2, if_pos (by omega)]; rw [if_neg e2, if_neg (by omega)]) _ _ _ hS (lv_sub hl [1, 0] rfl)
  have JH : ∀ (w2 : Nat), (w2 = tm_cl rs) → ∀ (H : Heap) (locs : List Loc) (ls : Array Slot), tm_S D dB dI s A A s.heap H locs (wX a dB dI (tm_cl cs) 0 0 0 ((fun _ => 0)) ((fun _ => 0)) ((fun _ => 0)) ((fun _ => 0)) ((fun _ => 0)) ((fun _ => 0)) ((fun _ => 0)) ((fun _ => 1)) ((fun _ => 0)) ((fun _ => 0)) ((fun _ => 0)) ((fun _ => 0))) → lv_has ls 4 [(0, .ref (a 0))] → W p l e rX1_init s m args below meth c H locs 12 689 Q (F0 m 148 ls [.int (nI (w2)), .ref (a 0)]) := by
    intro w2 hw2 H locs ls hS hl
    subst hw2
    refine tm_pX (ty := .int) hx hb hts hown hS rfl 1 (by decide) q31 rfl (tyX1_ok 1 (by decide)) (by first | rfl | decide) (by first | rfl | decide) (Nat.le_of_ble_eq_true rfl) (wX a dB dI (tm_cl cs) (tm_cl rs) 0 0 ((fun _ => 0)) ((fun _ => 0)) ((fun _ => 0)) ((fun _ => 0)) ((fun _ => 0)) ((fun _ => 0)) ((fun _ => 0)) ((fun _ => 1)) ((fun _ => 0)) ((fun _ => 0)) ((fun _ => 0)) ((fun _ => 0))) rfl dX1_init_148 (fun H locs hS => ?_)
    refine lv_iconst (v := nI 0) hx hb dX1_init_151 (by decide) ?_
    refine lv_istore_n (lv' := [(3, .int (nI (0))), (0, .ref (a 0))]) hx hb dX1_init_152 rfl hl (by decide) rfl (fun ls hl => ?_)
    exact LP 4 0 (fun _ => 0) (fun _ => 0) (fun _ => 0) (by omega) (by omega) (fun q hq => absurd hq (by omega)) (fun k hk => by rw [if_neg (by omega)]) _ _ _ hS (lv_sub hl [1, 0] rfl)
  have JW : ∀ (w1 : Nat), (w1 = tm_cl cs) → ∀ (H : Heap) (locs : List Loc) (ls : Array Slot), tm_S D dB dI s A A s.heap H locs (wX a dB dI 0 0 0 0 ((fun _ => 0)) ((fun _ => 0)) ((fun _ => 0)) ((fun _ => 0)) ((fun _ => 0)) ((fun _ => 0)) ((fun _ => 0)) ((fun _ => 1)) ((fun _ => 0)) ((fun _ => 0)) ((fun _ => 0)) ((fun _ => 0))) → lv_has ls 4 [(0, .ref (a 0)), (2, .int (rs))] → W p l e rX1_init s m args below meth c H locs 12 689 Q (F0 m 123 ls [.int (nI (w1)), .ref (a 0)]) := by
    intro w1 hw1 H locs ls hS hl
    subst hw1
    refine tm_pX (ty := .int) hx hb hts hown hS rfl 0 (by decide) q30 rfl (tyX1_ok 0 (by decide)) (by first | rfl | decide) (by first | rfl | decide) (Nat.le_of_ble_eq_true rfl) (wX a dB dI (tm_cl cs) 0 0 0 ((fun _ => 0)) ((fun _ => 0)) ((fun _ => 0)) ((fun _ => 0)) ((fun _ => 0)) ((fun _ => 0)) ((fun _ => 0)) ((fun _ => 1)) ((fun _ => 0)) ((fun _ => 0)) ((fun _ => 0)) ((fun _ => 0))) rfl dX1_init_123 (fun H locs hS => ?_)
    refine lv_aload_n hx hb dX1_init_126 rfl (lv_at hl 0 rfl) ?_
    refine lv_iload_n hx hb dX1_init_127 rfl (lv_at hl 1 rfl) ?_
    refine lv_iconst (v := nI 4) hx hb dX1_init_128 (by decide) ?_
    refine tm_Ige hx hb (rs).toInt ((4 : Nat) : Int) rfl (nI_toInt (by omega)) (tgt := 136) dX1_init_129 (by decide) (fun c_129 => ?_) (fun c_129 => ?_)
    · skip
      refine lv_iload_n hx hb dX1_init_136 rfl (lv_at hl 1 rfl) ?_
      refine lv_bipush (v := nI 12) hx hb dX1_init_137 (by decide) ?_
      refine tm_Ile hx hb (rs).toInt ((12 : Nat) : Int) rfl (nI_toInt (by omega)) (tgt := 147) dX1_init_139 (by decide) (fun c_139 => ?_) (fun c_139 => ?_)
      · skip
        refine lv_iload_n hx hb dX1_init_147 rfl (lv_at hl 1 rfl) ?_
        refine tm_top (y := nI ((rs).toInt.toNat)) (tm_ofN (by omega)) ?_
        exact JH _ (by unfold tm_cl; rw [if_neg (by omega), if_neg (by omega)]) _ _ _ hS (lv_sub hl [0] rfl)
      · skip
        refine lv_bipush (v := nI 12) hx hb dX1_init_142 (by decide) ?_
        refine lv_goto (tgt := 148) hx hb dX1_init_144 (by decide) ?_
        exact JH _ (by unfold tm_cl; rw [if_neg (by omega), if_pos (by omega)]) _ _ _ hS (lv_sub hl [0] rfl)
    · skip
      refine lv_iconst (v := nI 4) hx hb dX1_init_132 (by decide) ?_
      refine lv_goto (tgt := 148) hx hb dX1_init_133 (by decide) ?_
      exact JH _ (by unfold tm_cl; rw [if_pos (by omega)]) _ _ _ hS (lv_sub hl [0] rfl)
  refine lv_aload_n hx hb dX1_init_101 rfl (lv_at hl 0 rfl) ?_
  refine lv_iload_n hx hb dX1_init_102 rfl (lv_at hl 1 rfl) ?_
  refine lv_iconst (v := nI 4) hx hb dX1_init_103 (by decide) ?_
  refine tm_Ige hx hb (cs).toInt ((4 : Nat) : Int) rfl (nI_toInt (by omega)) (tgt := 111) dX1_init_104 (by decide) (fun c_104 => ?_) (fun c_104 => ?_)
  · skip
    refine lv_iload_n hx hb dX1_init_111 rfl (lv_at hl 1 rfl) ?_
    refine lv_bipush (v := nI 12) hx hb dX1_init_112 (by decide) ?_
    refine tm_Ile hx hb (cs).toInt ((12 : Nat) : Int) rfl (nI_toInt (by omega)) (tgt := 122) dX1_init_114 (by decide) (fun c_114 => ?_) (fun c_114 => ?_)
    · skip
      refine lv_iload_n hx hb dX1_init_122 rfl (lv_at hl 1 rfl) ?_
      refine tm_top (y := nI ((cs).toInt.toNat)) (tm_ofN (by omega)) ?_
      exact JW _ (by unfold tm_cl; rw [if_neg (by omega), if_neg (by omega)]) _ _ _ hS (lv_sub hl [0, 2] rfl)
    · skip
      refine lv_bipush (v := nI 12) hx hb dX1_init_117 (by decide) ?_
      refine lv_goto (tgt := 123) hx hb dX1_init_119 (by decide) ?_
      exact JW _ (by unfold tm_cl; rw [if_neg (by omega), if_pos (by omega)]) _ _ _ hS (lv_sub hl [0, 2] rfl)
  · skip
    refine lv_iconst (v := nI 4) hx hb dX1_init_107 (by decide) ?_
    refine lv_goto (tgt := 123) hx hb dX1_init_108 (by decide) ?_
    exact JW _ (by unfold tm_cl; rw [if_pos (by omega)]) _ _ _ hS (lv_sub hl [0, 2] rfl)
end
section
set_option maxRecDepth 100000
abbrev rX2_init : Room := { frames := 1, cells := 4, slots := 246, locals := 12 }
set_option maxHeartbeats 8000000 in
set_option maxRecDepth 100000 in
/-- the constructor: 4 arrays -/
theorem kX2_init (l : Launch) (D : va_G) (dB dI : ClassId) (o sz : Nat) (cs rs : Int32) : Met l yX2_init (ws_ yX2_init cX2_init 4 none) rX2_init (tm_Pre D dB dI [.ref o, .int cs, .int rs] sz [(o, .inr (1, [.int (nI 0), .int (nI 0), .null, .null, .null, .null]))]) (tm_Qv (S := (Nat → Nat) × (Nat → Nat) × (Nat → Nat) × (Nat → Nat)) D dB dI [(o, .inr (1, [.int (nI 0), .int (nI 0), .null, .null, .null, .null]))] sz (fun u => u.1 0 = o ∧ (∀ q, q < 3 → u.2.1 q = 1 ∧ u.2.2.1 q = 1) ∧ ∀ k, k < 48 → u.2.2.2 k = if k % 16 = 0 then 1 else 0) (fun u => wM u.1 dI (tm_cl cs) (tm_cl rs) (fun _ => 0) u.2.2.2 u.2.1 u.2.2.1)) 4 246 (va_A [(o, .inr (1, [.int (nI 0), .int (nI 0), .null, .null, .null, .null]))] sz) := by
  refine tm_met (nL := 4) (ret := none) RX2 rfl (by decide) (Nat.le_of_ble_eq_true rfl) ?_
  intro p e s m args below meth c ls A Q H locs hx hb hml hown hts hr hlk hnm hA hAe hQ hS hl
  have hl : lv_has ls 4 [(0, .ref o), (1, .int (cs)), (2, .int (rs))] := hl
  refine lv_aload_n hx hb dX2_init_0 rfl (lv_at hl 0 rfl) ?_
  refine W.objInit hx hb hown (hts _ q189) (hts _ q28) (hts _ q29) rfl (by rw [hml]; exact hl.1) rfl dX2_init_1 (Nat.le_of_ble_eq_true rfl) (Nat.le_of_ble_eq_true rfl) ?_
  refine W.eq (g2 := F0 m 4 ls []) rfl ?_
  refine lv_aload_n hx hb dX2_init_4 rfl (lv_at hl 0 rfl) ?_
  refine lv_sipush (v := nI 192) hx hb dX2_init_5 (by decide) ?_
  refine tm_newI hx hb hts hS hA (fun _ => nI 0) (fun _ => by decide) (by decide) (Nat.le_of_ble_eq_true rfl) (Nat.le_of_ble_eq_true rfl) dX2_init_8 (fun q1_ H hS => ?_)
  refine tm_pM (ty := (.array .int)) hx hb hts hown hS rfl 2 (by decide) q192 rfl (tyX2_ok 2 (by decide)) rfl rfl (Nat.le_of_ble_eq_true rfl) ([(o, .inr (1, [.int (nI 0), .int (nI 0), .ref q1_, .null, .null, .null])), (q1_, .inl (dI, 192, .inl (fun _ => nI 0)))]) rfl dX2_init_10 (fun H locs hS => ?_)
  refine lv_aload_n hx hb dX2_init_13 rfl (lv_at hl 0 rfl) ?_
  refine lv_bipush (v := nI 48) hx hb dX2_init_14 (by decide) ?_
  refine tm_newI hx hb hts hS hA (fun _ => nI 0) (fun _ => by decide) (by decide) (Nat.le_of_ble_eq_true rfl) (Nat.le_of_ble_eq_true rfl) dX2_init_16 (fun q2_ H hS => ?_)
  refine tm_pM (ty := (.array .int)) hx hb hts hown hS rfl 3 (by decide) q193 rfl (tyX2_ok 3 (by decide)) rfl rfl (Nat.le_of_ble_eq_true rfl) ([(o, .inr (1, [.int (nI 0), .int (nI 0), .ref q1_, .ref q2_, .null, .null])), (q1_, .inl (dI, 192, .inl (fun _ => nI 0))), (q2_, .inl (dI, 48, .inl (fun _ => nI 0)))]) rfl dX2_init_18 (fun H locs hS => ?_)
  refine lv_aload_n hx hb dX2_init_21 rfl (lv_at hl 0 rfl) ?_
  refine lv_iconst (v := nI 3) hx hb dX2_init_22 (by decide) ?_
  refine tm_newI hx hb hts hS hA (fun _ => nI 0) (fun _ => by decide) (by decide) (Nat.le_of_ble_eq_true rfl) (Nat.le_of_ble_eq_true rfl) dX2_init_23 (fun q3_ H hS => ?_)
  refine tm_pM (ty := (.array .int)) hx hb hts hown hS rfl 4 (by decide) q194 rfl (tyX2_ok 4 (by decide)) rfl rfl (Nat.le_of_ble_eq_true rfl) ([(o, .inr (1, [.int (nI 0), .int (nI 0), .ref q1_, .ref q2_, .ref q3_, .null])), (q1_, .inl (dI, 192, .inl (fun _ => nI 0))), (q2_, .inl (dI, 48, .inl (fun _ => nI 0))), (q3_, .inl (dI, 3, .inl (fun _ => nI 0)))]) rfl dX2_init_25 (fun H locs hS => ?_)
  refine lv_aload_n hx hb dX2_init_28 rfl (lv_at hl 0 rfl) ?_
  refine lv_iconst (v := nI 3) hx hb dX2_init_29 (by decide) ?_
  refine tm_newI hx hb hts hS hA (fun _ => nI 0) (fun _ => by decide) (by decide) (Nat.le_of_ble_eq_true rfl) (Nat.le_of_ble_eq_true rfl) dX2_init_30 (fun q4_ H hS => ?_)
  refine tm_pM (ty := (.array .int)) hx hb hts hown hS rfl 5 (by decide) q195 rfl (tyX2_ok 5 (by decide)) rfl rfl (Nat.le_of_ble_eq_true rfl) ([(o, .inr (1, [.int (nI 0), .int (nI 0), .ref q1_, .ref q2_, .ref q3_, .ref q4_])), (q1_, .inl (dI, 192, .inl (fun _ => nI 0))), (q2_, .inl (dI, 48, .inl (fun _ => nI 0))), (q3_, .inl (dI, 3, .inl (fun _ => nI 0))), (q4_, .inl (dI, 3, .inl (fun _ => nI 0)))]) rfl dX2_init_32 (fun H locs hS => ?_)
  refine W.widen (k := 4) (n := 246) (by decide) (by decide) ?_
  obtain ⟨b, hae⟩ : ∃ z, z = tm_ad [o, q1_, q2_, q3_, q4_] := ⟨_, rfl⟩
  have hS : tm_S D dB dI s A A s.heap H locs (wM b dI 0 0 ((fun _ => 0)) ((fun _ => 0)) ((fun _ => 0)) ((fun _ => 0))) := by rw [hae]; exact hS
  have hl : lv_has ls 4 [(0, .ref (b 0)), (1, .int (cs)), (2, .int (rs))] := by rw [hae]; exact hl
  have ha0 : b 0 = o := by rw [hae]; rfl
  have LP : ∀ (n : Nat) (g : Nat) (pw1 : Nat → Nat) (ph1 : Nat → Nat) (pt1 : Nat → Nat), (3 - g < n) → (g ≤ 3) → (∀ q, q < g → pw1 q = 1 ∧ ph1 q = 1) → (∀ k, k < 48 → pt1 k = if k % 16 = 0 ∧ k < 16 * g then 1 else 0) → ∀ (H : Heap) (locs : List Loc) (ls : Array Slot), tm_S D dB dI s A A s.heap H locs (wM b dI (tm_cl cs) (tm_cl rs) ((fun _ => 0)) pt1 pw1 ph1) → lv_has ls 4 [(0, .ref (b 0)), (3, .int (nI (g)))] → W p l e rX2_init s m args below meth c H locs 4 246 Q (F0 m 87 ls []) := by
    intro n
    induction n with
    | zero => intros; omega
    | succ n ih =>
      intro g pw1 ph1 pt1 hn hg h1 h2 H locs ls hS hl
      refine lv_iload_n hx hb dX2_init_87 rfl (lv_at hl 1 rfl) ?_
      refine lv_iconst (v := nI 3) hx hb dX2_init_88 (by decide) ?_
      refine tm_cge hx hb (by omega) (by omega) (tgt := 122) dX2_init_89 (by decide) (fun c_89 => ?_) (fun c_89 => ?_)
      · skip
        exact tm_vretN (S := (Nat → Nat) × (Nat → Nat) × (Nat → Nat) × (Nat → Nat)) (b, pw1, ph1, pt1) hQ hAe hx hb hr hlk hS ⟨ha0, fun q hq => h1 q (by omega), fun k hk => by show pt1 k = _; rw [h2 k hk]; by_cases e : k % 16 = 0; rw [if_pos (by omega), if_pos e]; rw [if_neg (by omega), if_neg e]⟩ dX2_init_122
      · skip
        refine lv_aload_n hx hb dX2_init_92 rfl (lv_at hl 0 rfl) ?_
        refine tm_gM hx hb hts hown hS rfl 4 (by decide) q194 rfl dX2_init_93 ?_
        refine lv_iload_n hx hb dX2_init_96 rfl (lv_at hl 1 rfl) ?_
        refine lv_iconst (v := nI 1) hx hb dX2_init_97 (by decide) ?_
        refine tm_iast (f := pw1) hx hb hS 3 rfl (by omega) (by decide) (wM b dI (tm_cl cs) (tm_cl rs) ((fun _ => 0)) pt1 (tm_up pw1 g 1) ph1) rfl dX2_init_98 (fun H locs hS => ?_)
        refine lv_aload_n hx hb dX2_init_99 rfl (lv_at hl 0 rfl) ?_
        refine tm_gM hx hb hts hown hS rfl 5 (by decide) q195 rfl dX2_init_100 ?_
        refine lv_iload_n hx hb dX2_init_103 rfl (lv_at hl 1 rfl) ?_
        refine lv_iconst (v := nI 1) hx hb dX2_init_104 (by decide) ?_
        refine tm_iast (f := ph1) hx hb hS 4 rfl (by omega) (by decide) (wM b dI (tm_cl cs) (tm_cl rs) ((fun _ => 0)) pt1 (tm_up pw1 g 1) (tm_up ph1 g 1)) rfl dX2_init_105 (fun H locs hS => ?_)
        refine lv_aload_n hx hb dX2_init_106 rfl (lv_at hl 0 rfl) ?_
        refine tm_gM hx hb hts hown hS rfl 3 (by decide) q193 rfl dX2_init_107 ?_
        refine lv_bipush (v := nI 16) hx hb dX2_init_110 (by decide) ?_
        refine lv_iload_n hx hb dX2_init_112 rfl (lv_at hl 1 rfl) ?_
        refine tm_imul hx hb dX2_init_113 ?_
        refine lv_iconst (v := nI 1) hx hb dX2_init_114 (by decide) ?_
        refine tm_iast (f := pt1) hx hb hS 2 rfl (by omega) (by decide) (wM b dI (tm_cl cs) (tm_cl rs) ((fun _ => 0)) (tm_up pt1 (16 * g) 1) (tm_up pw1 g 1) (tm_up ph1 g 1)) rfl dX2_init_115 (fun H locs hS => ?_)
        refine tm_iinc (lv' := [(3, .int (nI (g + 1))), (0, .ref (b 0))]) hx hb dX2_init_116 hl (k := 1) rfl (by decide) rfl (fun ls hl => ?_)
        refine lv_goto (tgt := 87) hx hb dX2_init_119 (by decide) ?_
        exact ih (g + 1) (tm_up pw1 g 1) (tm_up ph1 g 1) (tm_up pt1 (16 * g) 1) (by omega) (by omega) (fun q hq => by by_cases e : q = g; rw [e, tm_up_s, tm_up_s]; exact ⟨rfl, rfl⟩; rw [tm_up_n e, tm_up_n e]; exact h1 q (by omega)) (fun k hk => by by_cases e : k = 16 * g; rw [e, tm_up_s, if_pos (by omega)]; rw [tm_up_n e, h2 k hk]; by_cases e2 : k % 16 = 0 ∧ k < 16 * g; rw [if_pos e2, if_pos (by omega)]; rw [if_neg e2, if_neg (by omega)]) _ _ _ hS (lv_sub hl [1, 0] rfl)
  have JH : ∀ (w2 : Nat), (w2 = tm_cl rs) → ∀ (H : Heap) (locs : List Loc) (ls : Array Slot), tm_S D dB dI s A A s.heap H locs (wM b dI (tm_cl cs) 0 ((fun _ => 0)) ((fun _ => 0)) ((fun _ => 0)) ((fun _ => 0))) → lv_has ls 4 [(0, .ref (b 0))] → W p l e rX2_init s m args below meth c H locs 4 246 Q (F0 m 82 ls [.int (nI (w2)), .ref (b 0)]) := by
    intro w2 hw2 H locs ls hS hl
    subst hw2
    refine tm_pM (ty := .int) hx hb hts hown hS rfl 1 (by decide) q191 rfl (tyX2_ok 1 (by decide)) (by first | rfl | decide) (by first | rfl | decide) (Nat.le_of_ble_eq_true rfl) (wM b dI (tm_cl cs) (tm_cl rs) ((fun _ => 0)) ((fun _ => 0)) ((fun _ => 0)) ((fun _ => 0))) rfl dX2_init_82 (fun H locs hS => ?_)
    refine lv_iconst (v := nI 0) hx hb dX2_init_85 (by decide) ?_
    refine lv_istore_n (lv' := [(3, .int (nI (0))), (0, .ref (b 0))]) hx hb dX2_init_86 rfl hl (by decide) rfl (fun ls hl => ?_)
    exact LP 4 0 (fun _ => 0) (fun _ => 0) (fun _ => 0) (by omega) (by omega) (fun q hq => absurd hq (by omega)) (fun k hk => by rw [if_neg (by omega)]) _ _ _ hS (lv_sub hl [1, 0] rfl)
  have JW : ∀ (w1 : Nat), (w1 = tm_cl cs) → ∀ (H : Heap) (locs : List Loc) (ls : Array Slot), tm_S D dB dI s A A s.heap H locs (wM b dI 0 0 ((fun _ => 0)) ((fun _ => 0)) ((fun _ => 0)) ((fun _ => 0))) → lv_has ls 4 [(0, .ref (b 0)), (2, .int (rs))] → W p l e rX2_init s m args below meth c H locs 4 246 Q (F0 m 57 ls [.int (nI (w1)), .ref (b 0)]) := by
    intro w1 hw1 H locs ls hS hl
    subst hw1
    refine tm_pM (ty := .int) hx hb hts hown hS rfl 0 (by decide) q190 rfl (tyX2_ok 0 (by decide)) (by first | rfl | decide) (by first | rfl | decide) (Nat.le_of_ble_eq_true rfl) (wM b dI (tm_cl cs) 0 ((fun _ => 0)) ((fun _ => 0)) ((fun _ => 0)) ((fun _ => 0))) rfl dX2_init_57 (fun H locs hS => ?_)
    refine lv_aload_n hx hb dX2_init_60 rfl (lv_at hl 0 rfl) ?_
    refine lv_iload_n hx hb dX2_init_61 rfl (lv_at hl 1 rfl) ?_
    refine lv_iconst (v := nI 4) hx hb dX2_init_62 (by decide) ?_
    refine tm_Ige hx hb (rs).toInt ((4 : Nat) : Int) rfl (nI_toInt (by omega)) (tgt := 70) dX2_init_63 (by decide) (fun c_63 => ?_) (fun c_63 => ?_)
    · skip
      refine lv_iload_n hx hb dX2_init_70 rfl (lv_at hl 1 rfl) ?_
      refine lv_bipush (v := nI 12) hx hb dX2_init_71 (by decide) ?_
      refine tm_Ile hx hb (rs).toInt ((12 : Nat) : Int) rfl (nI_toInt (by omega)) (tgt := 81) dX2_init_73 (by decide) (fun c_73 => ?_) (fun c_73 => ?_)
      · skip
        refine lv_iload_n hx hb dX2_init_81 rfl (lv_at hl 1 rfl) ?_
        refine tm_top (y := nI ((rs).toInt.toNat)) (tm_ofN (by omega)) ?_
        exact JH _ (by unfold tm_cl; rw [if_neg (by omega), if_neg (by omega)]) _ _ _ hS (lv_sub hl [0] rfl)
      · skip
        refine lv_bipush (v := nI 12) hx hb dX2_init_76 (by decide) ?_
        refine lv_goto (tgt := 82) hx hb dX2_init_78 (by decide) ?_
        exact JH _ (by unfold tm_cl; rw [if_neg (by omega), if_pos (by omega)]) _ _ _ hS (lv_sub hl [0] rfl)
    · skip
      refine lv_iconst (v := nI 4) hx hb dX2_init_66 (by decide) ?_
      refine lv_goto (tgt := 82) hx hb dX2_init_67 (by decide) ?_
      exact JH _ (by unfold tm_cl; rw [if_pos (by omega)]) _ _ _ hS (lv_sub hl [0] rfl)
  refine lv_aload_n hx hb dX2_init_35 rfl (lv_at hl 0 rfl) ?_
  refine lv_iload_n hx hb dX2_init_36 rfl (lv_at hl 1 rfl) ?_
  refine lv_iconst (v := nI 4) hx hb dX2_init_37 (by decide) ?_
  refine tm_Ige hx hb (cs).toInt ((4 : Nat) : Int) rfl (nI_toInt (by omega)) (tgt := 45) dX2_init_38 (by decide) (fun c_38 => ?_) (fun c_38 => ?_)
  · skip
    refine lv_iload_n hx hb dX2_init_45 rfl (lv_at hl 1 rfl) ?_
    refine lv_bipush (v := nI 12) hx hb dX2_init_46 (by decide) ?_
    refine tm_Ile hx hb (cs).toInt ((12 : Nat) : Int) rfl (nI_toInt (by omega)) (tgt := 56) dX2_init_48 (by decide) (fun c_48 => ?_) (fun c_48 => ?_)
    · skip
      refine lv_iload_n hx hb dX2_init_56 rfl (lv_at hl 1 rfl) ?_
      refine tm_top (y := nI ((cs).toInt.toNat)) (tm_ofN (by omega)) ?_
      exact JW _ (by unfold tm_cl; rw [if_neg (by omega), if_neg (by omega)]) _ _ _ hS (lv_sub hl [0, 2] rfl)
    · skip
      refine lv_bipush (v := nI 12) hx hb dX2_init_51 (by decide) ?_
      refine lv_goto (tgt := 57) hx hb dX2_init_53 (by decide) ?_
      exact JW _ (by unfold tm_cl; rw [if_neg (by omega), if_pos (by omega)]) _ _ _ hS (lv_sub hl [0, 2] rfl)
  · skip
    refine lv_iconst (v := nI 4) hx hb dX2_init_41 (by decide) ?_
    refine lv_goto (tgt := 57) hx hb dX2_init_42 (by decide) ?_
    exact JW _ (by unfold tm_cl; rw [if_pos (by omega)]) _ _ _ hS (lv_sub hl [0, 2] rfl)
end
section
/-! THE LAW'S PURE SIDE: one call of each kind, on both sides: the answers are the same, the states stay tied -/
def tm_rel (tx pt pw ph tx2 pt2 pw2 ph2 : Nat → Nat) : Prop := (∀ r c, r < 12 → c < 12 → tx (12 * r + c) = tx2 (16 * r + c)) ∧ (∀ k, k < 48 → pt k = pt2 k) ∧ ∀ q, q < 3 → pw q = pw2 q ∧ ph q = ph2 q
def tm_LI (wi hi sd : Nat) (tx pw ph pt fo tx2 pt2 pw2 ph2 : Nat → Nat) : Prop := tm_ok wi hi tx pw ph pt ∧ tm_om wi hi tx2 pt2 pw2 ph2 ∧ (sd = 0 ∨ (sd = 1 ∧ tk_FD wi hi tx pt pw ph fo)) ∧ tm_rel tx pt pw ph tx2 pt2 pw2 ph2
theorem tl_occ {wi hi sd : Nat} {tx pw ph pt fo tx2 pt2 pw2 ph2 : Nat → Nat} (h : tm_LI wi hi sd tx pw ph pt fo tx2 pt2 pw2 ph2) {q : Nat} (hq : q < 3) : tk_occ 12 wi hi tx pt pw ph q = tk_occ 16 wi hi tx2 pt2 pw2 ph2 q := by
  obtain ⟨⟨⟨ok1, ok2⟩, ⟨ok3, ok4⟩, ok5, ok6, ok7⟩, -, -, r1, r2, r3⟩ := h
  have okq := ok6 q hq
  obtain ⟨e1, e2⟩ := r3 q hq
  funext x y
  unfold tk_occ
  rw [← e1, ← e2]
  apply propext
  constructor
  · rintro ⟨a1, a2, a3⟩
    refine ⟨a1, a2, fun i hi_ j hj => ?_⟩
    have z := a3 i hi_ j hj
    have w := r1 (y + i) (x + j) (by omega) (by omega)
    rw [show 12 * (y + i) + (x + j) = 12 * (y + i) + x + j by omega, show 16 * (y + i) + (x + j) = 16 * (y + i) + x + j by omega] at w
    rw [← w, z, r2 _ (by omega)]
  · rintro ⟨a1, a2, a3⟩
    refine ⟨a1, a2, fun i hi_ j hj => ?_⟩
    have z := a3 i hi_ j hj
    have w := r1 (y + i) (x + j) (by omega) (by omega)
    rw [show 12 * (y + i) + (x + j) = 12 * (y + i) + x + j by omega, show 16 * (y + i) + (x + j) = 16 * (y + i) + x + j by omega] at w
    rw [w, z, r2 _ (by omega)]
theorem tm_rc_k {d v : Nat → Nat → Nat} {w i k : Nat} {f f' : Nat → Nat} (R : tm_rc d v w i 0 f f') : (∃ i' j', i' < i ∧ j' < w ∧ k = d i' j' ∧ f' k = v i' j') ∨ ((∀ i' j', i' < i → j' < w → k ≠ d i' j') ∧ f' k = f k) := by
  by_cases h : ∃ i' j', i' < i ∧ j' < w ∧ k = d i' j'
  · obtain ⟨i', j', h1, h2, h3⟩ := h
    exact Or.inl ⟨i', j', h1, h2, h3, by rw [h3]; exact R.1 i' j' h2 (Or.inl h1)⟩
  · have h2 : ∀ i' j', i' < i → j' < w → k ≠ d i' j' := fun i' j' a1 a2 a3 => h ⟨i', j', a1, a2, a3⟩
    exact Or.inr ⟨h2, R.2 k (fun i' j' a1 a2 => h2 i' j' (by omega) a1)⟩
set_option maxHeartbeats 4000000 in
theorem tl_write {wi hi sd : Nat} {tx pw ph pt fo tx2 pt2 pw2 ph2 : Nat → Nat} {x y lt : Int32} {sd1 : Nat} {tx1 : Nat → Nat} {tx3 : Nat → Nat} {r r2 : Int32} (h : tm_LI wi hi sd tx pw ph pt fo tx2 pt2 pw2 ph2) (hx : (((0 ≤ (x).toInt ∧ (x).toInt < wi ∧ 0 ≤ (y).toInt ∧ (y).toInt < hi) ∧ 0 ≤ (lt).toInt ∧ (lt).toInt ≤ 2) ∧ r = nI 1 ∧ sd1 = 0 ∧ tx1 = tm_up tx (12 * (y).toInt.toNat + (x).toInt.toNat) (lt).toInt.toNat) ∨ (¬ ((0 ≤ (x).toInt ∧ (x).toInt < wi ∧ 0 ≤ (y).toInt ∧ (y).toInt < hi) ∧ 0 ≤ (lt).toInt ∧ (lt).toInt ≤ 2) ∧ r = nI 0 ∧ sd1 = sd ∧ tx1 = tx)) (hm : (((0 ≤ (x).toInt ∧ (x).toInt < wi ∧ 0 ≤ (y).toInt ∧ (y).toInt < hi) ∧ 0 ≤ (lt).toInt ∧ (lt).toInt ≤ 2) ∧ r2 = nI 1 ∧ tx3 = tm_up tx2 (16 * (y).toInt.toNat + (x).toInt.toNat) (lt).toInt.toNat) ∨ (¬ ((0 ≤ (x).toInt ∧ (x).toInt < wi ∧ 0 ≤ (y).toInt ∧ (y).toInt < hi) ∧ 0 ≤ (lt).toInt ∧ (lt).toInt ≤ 2) ∧ r2 = nI 0 ∧ tx3 = tx2)) : r = r2 ∧ tm_LI wi hi sd1 tx1 pw ph pt fo tx3 pt2 pw2 ph2 := by
  obtain ⟨⟨⟨ok1, ok2⟩, ⟨ok3, ok4⟩, ok5, ok6, ok7⟩, ⟨-, -, om5, om6, om7⟩, hsd, r1, r2, r3⟩ := h
  rcases hx with ⟨c1, e1, e2, e3⟩ | ⟨c1, e1, e2, e3⟩
  · rcases hm with ⟨c2, f1, f2⟩ | ⟨c2, f1, f2⟩
    · rw [e2, e3, f2]
      refine ⟨by rw [e1, f1], ⟨⟨ok1, ok2⟩, ⟨ok3, ok4⟩, tm_up_le (by omega) ok5, ok6, ok7⟩, ⟨⟨ok1, ok2⟩, ⟨ok3, ok4⟩, tm_up_le (by omega) om5, om6, om7⟩, Or.inl rfl, ?_, r2, r3⟩
      intro a b ha hb
      by_cases e : a = y.toInt.toNat ∧ b = x.toInt.toNat
      · rw [e.1, e.2, tm_up_s, tm_up_s]
      · rw [tm_up_n (by omega), tm_up_n (by omega)]
        exact r1 a b ha hb
    · exact absurd c1 c2
  · rcases hm with ⟨c2, f1, f2⟩ | ⟨c2, f1, f2⟩
    · exact absurd c2 c1
    · rw [e2, e3, f2]
      exact ⟨by rw [e1, f1], ⟨⟨ok1, ok2⟩, ⟨ok3, ok4⟩, ok5, ok6, ok7⟩, ⟨⟨ok1, ok2⟩, ⟨ok3, ok4⟩, om5, om6, om7⟩, hsd, r1, r2, r3⟩
set_option maxHeartbeats 4000000 in
theorem tl_shape {wi hi sd : Nat} {tx pw ph pt fo tx2 pt2 pw2 ph2 : Nat → Nat} {pp cs rs : Int32} {sd1 : Nat} {pw1 ph1 pt1 : Nat → Nat} {pw3 ph3 pt3 : Nat → Nat} {r r2 : Int32} (h : tm_LI wi hi sd tx pw ph pt fo tx2 pt2 pw2 ph2) (hx : (((0 ≤ (pp).toInt ∧ (pp).toInt ≤ 2) ∧ 1 ≤ (cs).toInt ∧ (cs).toInt ≤ 4 ∧ 1 ≤ (rs).toInt ∧ (rs).toInt ≤ 4) ∧ r = nI 1 ∧ sd1 = 0 ∧ pw1 = tm_up pw (pp).toInt.toNat (cs).toInt.toNat ∧ ph1 = tm_up ph (pp).toInt.toNat (rs).toInt.toNat ∧ pt1 = tm_clr pt (16 * (pp).toInt.toNat) 16) ∨ (¬ ((0 ≤ (pp).toInt ∧ (pp).toInt ≤ 2) ∧ 1 ≤ (cs).toInt ∧ (cs).toInt ≤ 4 ∧ 1 ≤ (rs).toInt ∧ (rs).toInt ≤ 4) ∧ r = nI 0 ∧ sd1 = sd ∧ pw1 = pw ∧ ph1 = ph ∧ pt1 = pt)) (hm : (((0 ≤ (pp).toInt ∧ (pp).toInt ≤ 2) ∧ 1 ≤ (cs).toInt ∧ (cs).toInt ≤ 4 ∧ 1 ≤ (rs).toInt ∧ (rs).toInt ≤ 4) ∧ r2 = nI 1 ∧ pw3 = tm_up pw2 (pp).toInt.toNat (cs).toInt.toNat ∧ ph3 = tm_up ph2 (pp).toInt.toNat (rs).toInt.toNat ∧ pt3 = tm_clr pt2 (16 * (pp).toInt.toNat) 16) ∨ (¬ ((0 ≤ (pp).toInt ∧ (pp).toInt ≤ 2) ∧ 1 ≤ (cs).toInt ∧ (cs).toInt ≤ 4 ∧ 1 ≤ (rs).toInt ∧ (rs).toInt ≤ 4) ∧ r2 = nI 0 ∧ pw3 = pw2 ∧ ph3 = ph2 ∧ pt3 = pt2)) : r = r2 ∧ tm_LI wi hi sd1 tx pw1 ph1 pt1 fo tx2 pt3 pw3 ph3 := by
  obtain ⟨⟨⟨ok1, ok2⟩, ⟨ok3, ok4⟩, ok5, ok6, ok7⟩, ⟨-, -, om5, om6, om7⟩, hsd, r1, r2, r3⟩ := h
  rcases hx with ⟨c1, e1, e2, e3, e4, e5⟩ | ⟨c1, e1, e2, e3, e4, e5⟩
  · rcases hm with ⟨c2, f1, f2, f3, f4⟩ | ⟨c2, f1, f2, f3, f4⟩
    · rw [e2, e3, e4, e5, f2, f3, f4]
      have hq : ∀ (f g : Nat → Nat), (∀ q, q < 3 → 1 ≤ f q ∧ f q ≤ 4 ∧ 1 ≤ g q ∧ g q ≤ 4) → ∀ q, q < 3 → 1 ≤ tm_up f pp.toInt.toNat cs.toInt.toNat q ∧ tm_up f pp.toInt.toNat cs.toInt.toNat q ≤ 4 ∧ 1 ≤ tm_up g pp.toInt.toNat rs.toInt.toNat q ∧ tm_up g pp.toInt.toNat rs.toInt.toNat q ≤ 4 := by
        intro f g hfg q hq
        by_cases e : q = pp.toInt.toNat
        · rw [e, tm_up_s, tm_up_s]
          omega
        · rw [tm_up_n e, tm_up_n e]
          exact hfg q hq
      have hc : ∀ (f : Nat → Nat), (∀ k, k < 48 → f k ≤ 2) → ∀ k, k < 48 → tm_clr f (16 * pp.toInt.toNat) 16 k ≤ 2 := by
        intro f hf k hk
        unfold tm_clr
        split
        · omega
        · exact hf k hk
      refine ⟨by rw [e1, f1], ⟨⟨ok1, ok2⟩, ⟨ok3, ok4⟩, ok5, hq pw ph ok6, hc pt ok7⟩, ⟨⟨ok1, ok2⟩, ⟨ok3, ok4⟩, om5, hq pw2 ph2 om6, hc pt2 om7⟩, Or.inl rfl, r1, ?_, ?_⟩
      · intro k hk
        unfold tm_clr
        split
        · rfl
        · exact r2 k hk
      · intro q hq
        by_cases e : q = pp.toInt.toNat
        · rw [e, tm_up_s, tm_up_s, tm_up_s, tm_up_s]
          exact ⟨rfl, rfl⟩
        · rw [tm_up_n e, tm_up_n e, tm_up_n e, tm_up_n e]
          exact r3 q hq
    · exact absurd c1 c2
  · rcases hm with ⟨c2, f1, f2, f3, f4⟩ | ⟨c2, f1, f2, f3, f4⟩
    · exact absurd c2 c1
    · rw [e2, e3, e4, e5, f2, f3, f4]
      exact ⟨by rw [e1, f1], ⟨⟨ok1, ok2⟩, ⟨ok3, ok4⟩, ok5, ok6, ok7⟩, ⟨⟨ok1, ok2⟩, ⟨ok3, ok4⟩, om5, om6, om7⟩, hsd, r1, r2, r3⟩
set_option maxHeartbeats 4000000 in
theorem tl_paint {wi hi sd : Nat} {tx pw ph pt fo tx2 pt2 pw2 ph2 : Nat → Nat} {pp jj ii lt : Int32} {sd1 : Nat} {pt1 : Nat → Nat} {pt3 : Nat → Nat} {r r2 : Int32} (h : tm_LI wi hi sd tx pw ph pt fo tx2 pt2 pw2 ph2) (hx : (((0 ≤ (pp).toInt ∧ (pp).toInt ≤ 2) ∧ 0 ≤ (lt).toInt ∧ (lt).toInt ≤ 2 ∧ 0 ≤ (jj).toInt ∧ (jj).toInt < pw (pp).toInt.toNat ∧ 0 ≤ (ii).toInt ∧ (ii).toInt < ph (pp).toInt.toNat) ∧ r = nI 1 ∧ sd1 = 0 ∧ pt1 = tm_up pt (16 * (pp).toInt.toNat + 4 * (ii).toInt.toNat + (jj).toInt.toNat) (lt).toInt.toNat) ∨ (¬ ((0 ≤ (pp).toInt ∧ (pp).toInt ≤ 2) ∧ 0 ≤ (lt).toInt ∧ (lt).toInt ≤ 2 ∧ 0 ≤ (jj).toInt ∧ (jj).toInt < pw (pp).toInt.toNat ∧ 0 ≤ (ii).toInt ∧ (ii).toInt < ph (pp).toInt.toNat) ∧ r = nI 0 ∧ sd1 = sd ∧ pt1 = pt)) (hm : (((0 ≤ (pp).toInt ∧ (pp).toInt ≤ 2) ∧ 0 ≤ (lt).toInt ∧ (lt).toInt ≤ 2 ∧ 0 ≤ (jj).toInt ∧ (jj).toInt < pw2 (pp).toInt.toNat ∧ 0 ≤ (ii).toInt ∧ (ii).toInt < ph2 (pp).toInt.toNat) ∧ r2 = nI 1 ∧ pt3 = tm_up pt2 (16 * (pp).toInt.toNat + 4 * (ii).toInt.toNat + (jj).toInt.toNat) (lt).toInt.toNat) ∨ (¬ ((0 ≤ (pp).toInt ∧ (pp).toInt ≤ 2) ∧ 0 ≤ (lt).toInt ∧ (lt).toInt ≤ 2 ∧ 0 ≤ (jj).toInt ∧ (jj).toInt < pw2 (pp).toInt.toNat ∧ 0 ≤ (ii).toInt ∧ (ii).toInt < ph2 (pp).toInt.toNat) ∧ r2 = nI 0 ∧ pt3 = pt2)) : r = r2 ∧ tm_LI wi hi sd1 tx pw ph pt1 fo tx2 pt3 pw2 ph2 := by
  obtain ⟨⟨⟨ok1, ok2⟩, ⟨ok3, ok4⟩, ok5, ok6, ok7⟩, ⟨-, -, om5, om6, om7⟩, hsd, r1, r2, r3⟩ := h
  rcases hx with ⟨c1, e1, e2, e3⟩ | ⟨c1, e1, e2, e3⟩
  · have e9 := r3 pp.toInt.toNat (by omega)
    have o9 := ok6 pp.toInt.toNat (by omega)
    rcases hm with ⟨c2, f1, f2⟩ | ⟨c2, f1, f2⟩
    · rw [e2, e3, f2]
      refine ⟨by rw [e1, f1], ⟨⟨ok1, ok2⟩, ⟨ok3, ok4⟩, ok5, ok6, tm_up_le (by omega) ok7⟩, ⟨⟨ok1, ok2⟩, ⟨ok3, ok4⟩, om5, om6, tm_up_le (by omega) om7⟩, Or.inl rfl, r1, ?_, r3⟩
      intro k hk
      by_cases e : k = 16 * pp.toInt.toNat + 4 * ii.toInt.toNat + jj.toInt.toNat
      · rw [e, tm_up_s, tm_up_s]
      · rw [tm_up_n e, tm_up_n e]
        exact r2 k hk
    · exact absurd (by omega) c2
  · rcases hm with ⟨c2, f1, f2⟩ | ⟨c2, f1, f2⟩
    · have e9 := r3 pp.toInt.toNat (by omega)
      exact absurd (by omega) c1
    · rw [e2, e3, f2]
      exact ⟨by rw [e1, f1], ⟨⟨ok1, ok2⟩, ⟨ok3, ok4⟩, ok5, ok6, ok7⟩, ⟨⟨ok1, ok2⟩, ⟨ok3, ok4⟩, om5, om6, om7⟩, hsd, r1, r2, r3⟩
set_option maxHeartbeats 4000000 in
theorem tl_copy {wi hi sd : Nat} {tx pw ph pt fo tx2 pt2 pw2 ph2 : Nat → Nat} {pp x y : Int32} {sd1 : Nat} {pt1 : Nat → Nat} {pt3 : Nat → Nat} {r r2 : Int32} (h : tm_LI wi hi sd tx pw ph pt fo tx2 pt2 pw2 ph2) (hx : (((0 ≤ (pp).toInt ∧ (pp).toInt ≤ 2) ∧ (0 ≤ (x).toInt ∧ (x).toInt + pw (pp).toInt.toNat ≤ wi ∧ 0 ≤ (y).toInt ∧ (y).toInt + ph (pp).toInt.toNat ≤ hi)) ∧ r = nI 1 ∧ sd1 = 0 ∧ tm_rc (fun i j => 16 * (pp).toInt.toNat + 4 * i + j) (fun i j => tx (12 * ((y).toInt.toNat + i) + (x).toInt.toNat + j)) (pw (pp).toInt.toNat) (ph (pp).toInt.toNat) 0 pt pt1) ∨ (¬ ((0 ≤ (pp).toInt ∧ (pp).toInt ≤ 2) ∧ (0 ≤ (x).toInt ∧ (x).toInt + pw (pp).toInt.toNat ≤ wi ∧ 0 ≤ (y).toInt ∧ (y).toInt + ph (pp).toInt.toNat ≤ hi)) ∧ r = nI 0 ∧ sd1 = sd ∧ pt1 = pt)) (hm : (((0 ≤ (pp).toInt ∧ (pp).toInt ≤ 2) ∧ (0 ≤ (x).toInt ∧ (x).toInt + pw2 (pp).toInt.toNat ≤ wi ∧ 0 ≤ (y).toInt ∧ (y).toInt + ph2 (pp).toInt.toNat ≤ hi)) ∧ r2 = nI 1 ∧ tm_rc (fun i j => 16 * (pp).toInt.toNat + 4 * i + j) (fun i j => tx2 (16 * ((y).toInt.toNat + i) + (x).toInt.toNat + j)) (pw2 (pp).toInt.toNat) (ph2 (pp).toInt.toNat) 0 pt2 pt3) ∨ (¬ ((0 ≤ (pp).toInt ∧ (pp).toInt ≤ 2) ∧ (0 ≤ (x).toInt ∧ (x).toInt + pw2 (pp).toInt.toNat ≤ wi ∧ 0 ≤ (y).toInt ∧ (y).toInt + ph2 (pp).toInt.toNat ≤ hi)) ∧ r2 = nI 0 ∧ pt3 = pt2)) : r = r2 ∧ tm_LI wi hi sd1 tx pw ph pt1 fo tx2 pt3 pw2 ph2 := by
  obtain ⟨⟨⟨ok1, ok2⟩, ⟨ok3, ok4⟩, ok5, ok6, ok7⟩, ⟨-, -, om5, om6, om7⟩, hsd, r1, r2, r3⟩ := h
  rcases hx with ⟨c1, e1, e2, e3⟩ | ⟨c1, e1, e2, e3⟩
  · have e9 := r3 pp.toInt.toNat (by omega)
    have o9 := ok6 pp.toInt.toNat (by omega)
    rcases hm with ⟨c2, f1, f2⟩ | ⟨c2, f1, f2⟩
    · rw [e2]
      rw [← e9.1, ← e9.2] at f2
      have key : ∀ k, k < 48 → pt1 k = pt3 k ∧ pt1 k ≤ 2 := by
        intro k hk
        rcases tm_rc_k (k := k) e3 with ⟨i, j, i1, j1, k1, v1⟩ | ⟨n1, v1⟩
        · rcases tm_rc_k (k := k) f2 with ⟨i', j', i2, j2, k2, v2⟩ | ⟨n2, v2⟩
          · have ei : i = i' := by omega
            have ej : j = j' := by omega
            subst ei ej
            have w := r1 (y.toInt.toNat + i) (x.toInt.toNat + j) (by omega) (by omega)
            rw [show 12 * (y.toInt.toNat + i) + (x.toInt.toNat + j) = 12 * (y.toInt.toNat + i) + x.toInt.toNat + j by omega, show 16 * (y.toInt.toNat + i) + (x.toInt.toNat + j) = 16 * (y.toInt.toNat + i) + x.toInt.toNat + j by omega] at w
            rw [v1, v2]
            exact ⟨w, ok5 _ (by omega)⟩
          · exact absurd k1 (n2 i j i1 j1)
        · rcases tm_rc_k (k := k) f2 with ⟨i', j', i2, j2, k2, v2⟩ | ⟨n2, v2⟩
          · exact absurd k2 (n1 i' j' i2 j2)
          · rw [v1, v2]
            exact ⟨r2 k hk, ok7 k hk⟩
      exact ⟨by rw [e1, f1], ⟨⟨ok1, ok2⟩, ⟨ok3, ok4⟩, ok5, ok6, fun k hk => (key k hk).2⟩, ⟨⟨ok1, ok2⟩, ⟨ok3, ok4⟩, om5, om6, fun k hk => by have z := key k hk; rw [← z.1]; exact z.2⟩, Or.inl rfl, r1, fun k hk => (key k hk).1, r3⟩
    · exact absurd (by omega) c2
  · rcases hm with ⟨c2, f1, f2⟩ | ⟨c2, f1, f2⟩
    · have e9 := r3 pp.toInt.toNat (by omega)
      exact absurd (by omega) c1
    · rw [e2, e3, f2]
      exact ⟨by rw [e1, f1], ⟨⟨ok1, ok2⟩, ⟨ok3, ok4⟩, ok5, ok6, ok7⟩, ⟨⟨ok1, ok2⟩, ⟨ok3, ok4⟩, om5, om6, om7⟩, hsd, r1, r2, r3⟩
set_option maxHeartbeats 4000000 in
theorem tl_stamp {wi hi sd : Nat} {tx pw ph pt fo tx2 pt2 pw2 ph2 : Nat → Nat} {pp x y : Int32} {sd1 : Nat} {tx1 : Nat → Nat} {tx3 : Nat → Nat} {r r2 : Int32} (h : tm_LI wi hi sd tx pw ph pt fo tx2 pt2 pw2 ph2) (hx : (((0 ≤ (pp).toInt ∧ (pp).toInt ≤ 2) ∧ (0 ≤ (x).toInt ∧ (x).toInt + pw (pp).toInt.toNat ≤ wi ∧ 0 ≤ (y).toInt ∧ (y).toInt + ph (pp).toInt.toNat ≤ hi)) ∧ r = nI 1 ∧ sd1 = 0 ∧ tm_rc (fun i j => 12 * ((y).toInt.toNat + i) + (x).toInt.toNat + j) (fun i j => pt (16 * (pp).toInt.toNat + 4 * i + j)) (pw (pp).toInt.toNat) (ph (pp).toInt.toNat) 0 tx tx1) ∨ (¬ ((0 ≤ (pp).toInt ∧ (pp).toInt ≤ 2) ∧ (0 ≤ (x).toInt ∧ (x).toInt + pw (pp).toInt.toNat ≤ wi ∧ 0 ≤ (y).toInt ∧ (y).toInt + ph (pp).toInt.toNat ≤ hi)) ∧ r = nI 0 ∧ sd1 = sd ∧ tx1 = tx)) (hm : (((0 ≤ (pp).toInt ∧ (pp).toInt ≤ 2) ∧ (0 ≤ (x).toInt ∧ (x).toInt + pw2 (pp).toInt.toNat ≤ wi ∧ 0 ≤ (y).toInt ∧ (y).toInt + ph2 (pp).toInt.toNat ≤ hi)) ∧ r2 = nI 1 ∧ tm_rc (fun i j => 16 * ((y).toInt.toNat + i) + (x).toInt.toNat + j) (fun i j => pt2 (16 * (pp).toInt.toNat + 4 * i + j)) (pw2 (pp).toInt.toNat) (ph2 (pp).toInt.toNat) 0 tx2 tx3) ∨ (¬ ((0 ≤ (pp).toInt ∧ (pp).toInt ≤ 2) ∧ (0 ≤ (x).toInt ∧ (x).toInt + pw2 (pp).toInt.toNat ≤ wi ∧ 0 ≤ (y).toInt ∧ (y).toInt + ph2 (pp).toInt.toNat ≤ hi)) ∧ r2 = nI 0 ∧ tx3 = tx2)) : r = r2 ∧ tm_LI wi hi sd1 tx1 pw ph pt fo tx3 pt2 pw2 ph2 := by
  obtain ⟨⟨⟨ok1, ok2⟩, ⟨ok3, ok4⟩, ok5, ok6, ok7⟩, ⟨-, -, om5, om6, om7⟩, hsd, r1, r2, r3⟩ := h
  rcases hx with ⟨c1, e1, e2, e3⟩ | ⟨c1, e1, e2, e3⟩
  · have e9 := r3 pp.toInt.toNat (by omega)
    have o9 := ok6 pp.toInt.toNat (by omega)
    rcases hm with ⟨c2, f1, f2⟩ | ⟨c2, f1, f2⟩
    · rw [e2]
      rw [← e9.1, ← e9.2] at f2
      have b1 : ∀ k, k < 144 → tx1 k ≤ 2 := by
        intro k hk
        rcases tm_rc_k (k := k) e3 with ⟨i, j, i1, j1, k1, v1⟩ | ⟨n1, v1⟩
        · rw [v1]
          exact ok7 _ (by omega)
        · rw [v1]
          exact ok5 k hk
      have b2 : ∀ k, k < 192 → tx3 k ≤ 2 := by
        intro k hk
        rcases tm_rc_k (k := k) f2 with ⟨i, j, i1, j1, k1, v1⟩ | ⟨n1, v1⟩
        · rw [v1]
          exact om7 _ (by omega)
        · rw [v1]
          exact om5 k hk
      have key : ∀ a b, a < 12 → b < 12 → tx1 (12 * a + b) = tx3 (16 * a + b) := by
        intro a b ha hb
        rcases tm_rc_k (k := 12 * a + b) e3 with ⟨i, j, i1, j1, k1, v1⟩ | ⟨n1, v1⟩
        · have ea : a = y.toInt.toNat + i := by omega
          have eb : b = x.toInt.toNat + j := by omega
          rcases tm_rc_k (k := 16 * a + b) f2 with ⟨i', j', i2, j2, k2, v2⟩ | ⟨n2, v2⟩
          · have ei : i = i' := by omega
            have ej : j = j' := by omega
            subst ei ej
            rw [v1, v2]
            exact r2 _ (by omega)
          · exact absurd (by omega) (n2 i j i1 j1)
        · rcases tm_rc_k (k := 16 * a + b) f2 with ⟨i', j', i2, j2, k2, v2⟩ | ⟨n2, v2⟩
          · exact absurd (by omega) (n1 i' j' i2 j2)
          · rw [v1, v2]
            exact r1 a b ha hb
      exact ⟨by rw [e1, f1], ⟨⟨ok1, ok2⟩, ⟨ok3, ok4⟩, b1, ok6, ok7⟩, ⟨⟨ok1, ok2⟩, ⟨ok3, ok4⟩, b2, om6, om7⟩, Or.inl rfl, key, r2, r3⟩
    · exact absurd (by omega) c2
  · rcases hm with ⟨c2, f1, f2⟩ | ⟨c2, f1, f2⟩
    · have e9 := r3 pp.toInt.toNat (by omega)
      exact absurd (by omega) c1
    · rw [e2, e3, f2]
      exact ⟨by rw [e1, f1], ⟨⟨ok1, ok2⟩, ⟨ok3, ok4⟩, ok5, ok6, ok7⟩, ⟨⟨ok1, ok2⟩, ⟨ok3, ok4⟩, om5, om6, om7⟩, hsd, r1, r2, r3⟩
set_option maxHeartbeats 4000000 in
theorem tl_letter {wi hi sd : Nat} {tx pw ph pt fo tx2 pt2 pw2 ph2 : Nat → Nat} {x y : Int32} {r r2 : Int32} (h : tm_LI wi hi sd tx pw ph pt fo tx2 pt2 pw2 ph2) (hx : ((0 ≤ (x).toInt ∧ (x).toInt < wi ∧ 0 ≤ (y).toInt ∧ (y).toInt < hi) → r = nI (tx (12 * (y).toInt.toNat + (x).toInt.toNat))) ∧ (¬ (0 ≤ (x).toInt ∧ (x).toInt < wi ∧ 0 ≤ (y).toInt ∧ (y).toInt < hi) → r = -1)) (hm : ((0 ≤ (x).toInt ∧ (x).toInt < wi ∧ 0 ≤ (y).toInt ∧ (y).toInt < hi) → r2 = nI (tx2 (16 * (y).toInt.toNat + (x).toInt.toNat))) ∧ (¬ (0 ≤ (x).toInt ∧ (x).toInt < wi ∧ 0 ≤ (y).toInt ∧ (y).toInt < hi) → r2 = -1)) : r = r2 ∧ tm_LI wi hi sd tx pw ph pt fo tx2 pt2 pw2 ph2 := by
  refine ⟨?_, h⟩
  obtain ⟨⟨⟨ok1, ok2⟩, ⟨ok3, ok4⟩, ok5, ok6, ok7⟩, -, hsd, r1, r2, r3⟩ := h
  by_cases c : (0 ≤ (x).toInt ∧ (x).toInt < wi ∧ 0 ≤ (y).toInt ∧ (y).toInt < hi)
  · rw [hx.1 c, hm.1 c, r1 _ _ (by omega) (by omega)]
  · rw [hx.2 c, hm.2 c]
set_option maxHeartbeats 4000000 in
theorem tl_occurrences {wi hi sd : Nat} {tx pw ph pt fo tx2 pt2 pw2 ph2 : Nat → Nat} {pp : Int32} {nc1 sd1 : Nat} {br1 fb1 nq1 re1 rn1 fa1 fo1 pr1 : Nat → Nat} {r r2 : Int32} (h : tm_LI wi hi sd tx pw ph pt fo tx2 pt2 pw2 ph2) (hx : (sd1 = 0 ∨ (sd1 = 1 ∧ tk_FD wi hi tx pt pw ph fo1)) ∧ ((0 ≤ (pp).toInt ∧ (pp).toInt ≤ 2) → r = nI (tn_occ (tk_occ 12 wi hi tx pt pw ph (pp).toInt.toNat))) ∧ (¬ (0 ≤ (pp).toInt ∧ (pp).toInt ≤ 2) → r = -1)) (hm : ((0 ≤ (pp).toInt ∧ (pp).toInt ≤ 2) → r2 = nI (tn_occ (tk_occ 16 wi hi tx2 pt2 pw2 ph2 (pp).toInt.toNat))) ∧ (¬ (0 ≤ (pp).toInt ∧ (pp).toInt ≤ 2) → r2 = -1)) : r = r2 ∧ tm_LI wi hi sd1 tx pw ph pt fo1 tx2 pt2 pw2 ph2 := by
  obtain ⟨i1, i2, i3⟩ := hx
  refine ⟨?_, h.1, h.2.1, i1, h.2.2.2⟩
  by_cases c : (0 ≤ (pp).toInt ∧ (pp).toInt ≤ 2)
  · rw [i2 c, hm.1 c, tl_occ h (by omega)]
  · rw [i3 c, hm.2 c]
set_option maxHeartbeats 4000000 in
theorem tl_occurs {wi hi sd : Nat} {tx pw ph pt fo tx2 pt2 pw2 ph2 : Nat → Nat} {pp x y : Int32} {nc1 sd1 : Nat} {br1 fb1 nq1 re1 rn1 fa1 fo1 pr1 : Nat → Nat} {r r2 : Int32} (h : tm_LI wi hi sd tx pw ph pt fo tx2 pt2 pw2 ph2) (hx : (sd1 = 0 ∨ (sd1 = 1 ∧ tk_FD wi hi tx pt pw ph fo1)) ∧ ((((0 ≤ (pp).toInt ∧ (pp).toInt ≤ 2) ∧ (0 ≤ (x).toInt ∧ (x).toInt < wi ∧ 0 ≤ (y).toInt ∧ (y).toInt < hi) ∧ tk_occ 12 wi hi tx pt pw ph (pp).toInt.toNat (x).toInt.toNat (y).toInt.toNat) ∧ r = nI 1) ∨ (¬ ((0 ≤ (pp).toInt ∧ (pp).toInt ≤ 2) ∧ (0 ≤ (x).toInt ∧ (x).toInt < wi ∧ 0 ≤ (y).toInt ∧ (y).toInt < hi) ∧ tk_occ 12 wi hi tx pt pw ph (pp).toInt.toNat (x).toInt.toNat (y).toInt.toNat) ∧ r = nI 0))) (hm : (((0 ≤ (pp).toInt ∧ (pp).toInt ≤ 2) ∧ (0 ≤ (x).toInt ∧ (x).toInt < wi ∧ 0 ≤ (y).toInt ∧ (y).toInt < hi) ∧ tk_occ 16 wi hi tx2 pt2 pw2 ph2 (pp).toInt.toNat (x).toInt.toNat (y).toInt.toNat) ∧ r2 = nI 1) ∨ (¬ ((0 ≤ (pp).toInt ∧ (pp).toInt ≤ 2) ∧ (0 ≤ (x).toInt ∧ (x).toInt < wi ∧ 0 ≤ (y).toInt ∧ (y).toInt < hi) ∧ tk_occ 16 wi hi tx2 pt2 pw2 ph2 (pp).toInt.toNat (x).toInt.toNat (y).toInt.toNat) ∧ r2 = nI 0)) : r = r2 ∧ tm_LI wi hi sd1 tx pw ph pt fo1 tx2 pt2 pw2 ph2 := by
  obtain ⟨i1, i2⟩ := hx
  refine ⟨?_, h.1, h.2.1, i1, h.2.2.2⟩
  rcases i2 with ⟨c1, e1⟩ | ⟨c1, e1⟩
  · rcases hm with ⟨c2, f1⟩ | ⟨c2, f1⟩
    · rw [e1, f1]
    · exact absurd ⟨c1.1, c1.2.1, by rw [← tl_occ h (by omega)]; exact c1.2.2⟩ c2
  · rcases hm with ⟨c2, f1⟩ | ⟨c2, f1⟩
    · exact absurd ⟨c2.1, c2.2.1, by rw [tl_occ h (by omega)]; exact c2.2.2⟩ c1
    · rw [e1, f1]
set_option maxHeartbeats 4000000 in
theorem tl_next {wi hi sd : Nat} {tx pw ph pt fo tx2 pt2 pw2 ph2 : Nat → Nat} {pp fr : Int32} {nc1 sd1 : Nat} {br1 fb1 nq1 re1 rn1 fa1 fo1 pr1 : Nat → Nat} {r r2 : Int32} (h : tm_LI wi hi sd tx pw ph pt fo tx2 pt2 pw2 ph2) (hx : (sd1 = 0 ∨ (sd1 = 1 ∧ tk_FD wi hi tx pt pw ph fo1)) ∧ ((0 ≤ (pp).toInt ∧ (pp).toInt ≤ 2) → tn_nx (tk_occ 12 wi hi tx pt pw ph (pp).toInt.toNat) (fr).toInt r) ∧ (¬ (0 ≤ (pp).toInt ∧ (pp).toInt ≤ 2) → r = -1)) (hm : ((0 ≤ (pp).toInt ∧ (pp).toInt ≤ 2) → tn_nx (tk_occ 16 wi hi tx2 pt2 pw2 ph2 (pp).toInt.toNat) (fr).toInt r2) ∧ (¬ (0 ≤ (pp).toInt ∧ (pp).toInt ≤ 2) → r2 = -1)) : r = r2 ∧ tm_LI wi hi sd1 tx pw ph pt fo1 tx2 pt2 pw2 ph2 := by
  obtain ⟨i1, i2, i3⟩ := hx
  refine ⟨?_, h.1, h.2.1, i1, h.2.2.2⟩
  by_cases c : (0 ≤ (pp).toInt ∧ (pp).toInt ≤ 2)
  · have z := i2 c
    rw [tl_occ h (by omega)] at z
    exact tn_nx_eq z (hm.1 c)
  · rw [i3 c, hm.2 c]
set_option maxHeartbeats 4000000 in
theorem tl_covered {wi hi sd : Nat} {tx pw ph pt fo tx2 pt2 pw2 ph2 : Nat → Nat} {nc1 sd1 : Nat} {br1 fb1 nq1 re1 rn1 fa1 fo1 pr1 : Nat → Nat} {r r2 : Int32} (h : tm_LI wi hi sd tx pw ph pt fo tx2 pt2 pw2 ph2) (hx : (sd1 = 0 ∨ (sd1 = 1 ∧ tk_FD wi hi tx pt pw ph fo1)) ∧ r = nI (tn_cov wi hi pw ph (fun q => tk_occ 12 wi hi tx pt pw ph q))) (hm : r2 = nI (tn_cov wi hi pw2 ph2 (fun q => tk_occ 16 wi hi tx2 pt2 pw2 ph2 q))) : r = r2 ∧ tm_LI wi hi sd1 tx pw ph pt fo1 tx2 pt2 pw2 ph2 := by
  obtain ⟨i1, i2⟩ := hx
  refine ⟨?_, h.1, h.2.1, i1, h.2.2.2⟩
  rw [i2, hm]
  refine congrArg nI ?_
  unfold tn_cov
  have r3 := h.2.2.2.2.2
  refine tm_sm_cg (fun k _ => tc_cg ?_)
  constructor
  · rintro ⟨a1, q, hq, i, j, b1, b2, b3, b4, b5⟩
    exact ⟨a1, q, hq, i, j, by have := r3 q hq; omega, by have := r3 q hq; omega, b3, b4, by show tk_occ 16 wi hi tx2 pt2 pw2 ph2 q _ _; rw [← tl_occ h hq]; exact b5⟩
  · rintro ⟨a1, q, hq, i, j, b1, b2, b3, b4, b5⟩
    exact ⟨a1, q, hq, i, j, by have := r3 q hq; omega, by have := r3 q hq; omega, b3, b4, by show tk_occ 12 wi hi tx pt pw ph q _ _; rw [tl_occ h hq]; exact b5⟩
set_option maxHeartbeats 4000000 in
theorem tl_overlaps {wi hi sd : Nat} {tx pw ph pt fo tx2 pt2 pw2 ph2 : Nat → Nat} {pp : Int32} {nc1 sd1 : Nat} {br1 fb1 nq1 re1 rn1 fa1 fo1 pr1 : Nat → Nat} {r r2 : Int32} (h : tm_LI wi hi sd tx pw ph pt fo tx2 pt2 pw2 ph2) (hx : (sd1 = 0 ∨ (sd1 = 1 ∧ tk_FD wi hi tx pt pw ph fo1)) ∧ ((0 ≤ (pp).toInt ∧ (pp).toInt ≤ 2) → r = nI (tn_ov (pw (pp).toInt.toNat) (ph (pp).toInt.toNat) (tk_occ 12 wi hi tx pt pw ph (pp).toInt.toNat))) ∧ (¬ (0 ≤ (pp).toInt ∧ (pp).toInt ≤ 2) → r = -1)) (hm : ((0 ≤ (pp).toInt ∧ (pp).toInt ≤ 2) → r2 = nI (tn_ov (pw2 (pp).toInt.toNat) (ph2 (pp).toInt.toNat) (tk_occ 16 wi hi tx2 pt2 pw2 ph2 (pp).toInt.toNat))) ∧ (¬ (0 ≤ (pp).toInt ∧ (pp).toInt ≤ 2) → r2 = -1)) : r = r2 ∧ tm_LI wi hi sd1 tx pw ph pt fo1 tx2 pt2 pw2 ph2 := by
  obtain ⟨i1, i2, i3⟩ := hx
  refine ⟨?_, h.1, h.2.1, i1, h.2.2.2⟩
  by_cases c : (0 ≤ (pp).toInt ∧ (pp).toInt ≤ 2)
  · have e9 := h.2.2.2.2.2 pp.toInt.toNat (by omega)
    rw [i2 c, hm.1 c, tl_occ h (by omega), e9.1, e9.2]
  · rw [i3 c, hm.2 c]
end
section
set_option maxRecDepth 100000
/-! THE CLAIM OUT OF ONE WALK OF THE LAW'S BODY. Your part is whole_start (and what it stands on); all else here is the same for every law, but numbers. -/
def R_law : String := "TwoDimMatcherLaw"
def lw_P (b : Addr) (xs : List Int32) (args : Array Value) (s : State) : Prop := args = #[.ref b] ∧ s.IntsAt b xs ∧ xs.length ≤ 322 ∧ (Jvm.Cond.and given_1 narrow_1).before args s = true
def lw_Q (_ : Array Value) (s : State) (o : Outcome) (t : State) : Prop := o = .returned (some (.int 1)) ∧ Framed s o t [] 600000 7290000
def lw_Z (below : List Frame) (a : Array Value) (s : State) : State → Prop := fun t => ∃ o, t.status = .running ∧ Ended t below o ∧ lw_Q a s o t
/-- the law's own end, with 1 on the stack, nothing written that was there before, its room as the claim has it -/
theorem lw_ret {p : Program} {l : Launch} {e : Env} {s : State} {m : MethodId} {below : List Frame} {meth : Method} {c : Code} {b : Nat} (hx : p.tables.exec = Jvm.exec) (hb : c.code = code) (hr : meth.sig.returnType = ret) (hlocks : meth.locks = false) {pc : Nat} {H : Heap} {ls : Array Slot} (hdg : decode code pc = .ok (.ireturn, 1)) : W p l e room_1 s m #[Value.ref b] below meth c H [] 600000 7290000 (lw_Z below #[Value.ref b] s) (F0 m pc ls [.int 1]) := by
  intro T hT X
  obtain ⟨fs, hret, hrun, hended, hW, hframe⟩ := X.leave (v := some (.int 1)) (hlocks := hlocks) (fun h => by rw [hr] at h; cases h)
  have hmeth' : T.vm.method? m = some meth := X.method'
  refine ⟨T.setFrames fs, ?_, .returned (some (.int 1)), hrun, hended, rfl, ⟨_, rfl⟩, hW, hframe⟩
  jvm_step X.here [X.here.top, hx, hb, hdg, hmeth', hr, ret, narrow_b1]
  (try refine ⟨rfl, ?_⟩); (try refine ⟨rfl, ?_⟩)
  first | (intro acts; rw [hret _ acts rfl rfl rfl]) | rw [hret _ _ rfl rfl rfl]
  exact Steps.refl _
/-- what holds at the law's entry: the machine, the code, the tables' words (any of lw_tbl by 'hts w (by decide +kernel)'), the script of L ints xs at the cell b, what the Statement gives of the start (any of its parts by flat_of_before) -/
def lw_At (p : Program) (s : State) (m : MethodId) (meth : Method) (c : Code) (b L : Nat) (xs : Nat → Int32) : Prop :=
  p.tables.exec = Jvm.exec ∧ c.code = code ∧ meth.sig.returnType = ret ∧ c.maxLocals = 4 ∧ s.vm.findClass R_law = some m.cls ∧ (∀ w ∈ lw_tbl, w.before #[Value.ref b] s = true) ∧ va_X b L xs s s.heap ∧ b < s.heap.size ∧ meth.locks = false ∧ (Jvm.Cond.and given_1 narrow_1).before #[Value.ref b] s = true
-- ===== two worlds side by side =====
theorem tl_gl {w1 w2 : va_W} {k : Nat} {q : Nat × va_E} (h : w1[k]? = some q) : (w1 ++ w2)[k]? = some q := by
  rw [List.getElem?_append_left (List.getElem?_eq_some_iff.mp h).1]
  exact h
theorem tl_gr {w1 w2 : va_W} {k : Nat} {q : Nat × va_E} (h : w2[k]? = some q) : (w1 ++ w2)[w1.length + k]? = some q := by
  rw [List.getElem?_append_right (Nat.le_add_right _ _), Nat.add_sub_cancel_left]
  exact h
theorem tl_D {A : Nat → Prop} {w1 w2 : va_W} (h : va_D A (w1 ++ w2)) : va_D A w1 ∧ va_D A w2 ∧ ∀ (i j : Nat) (x y : Nat × va_E), w1[i]? = some x → w2[j]? = some y → x.1 ≠ y.1 := by
  refine ⟨⟨fun i j p q h1 h2 h3 => h.1 i j p q (tl_gl h1) (tl_gl h2) h3, fun k q hk => h.2 k q (tl_gl hk)⟩, ⟨fun i j p q h1 h2 h3 => ?_, fun k q hk => h.2 _ q (tl_gr hk)⟩, fun i j x y h1 h2 h3 => ?_⟩
  · have := h.1 _ _ p q (tl_gr h1) (tl_gr h2) h3
    omega
  · have h4 := h.1 _ _ x y (tl_gl h1) (tl_gr h2) h3
    have h5 := (List.getElem?_eq_some_iff.mp h1).1
    omega
theorem tl_swap {D : va_G} {dB dI : ClassId} {s : State} {A : Nat → Prop} {H0 H : Heap} {locs : List Loc} {w1 w2 : va_W} (h : tm_S D dB dI s A A H0 H locs (w1 ++ w2)) : tm_S D dB dI s A A H0 H locs (w2 ++ w1) := by
  obtain ⟨hK, hP, hD, hS⟩ := h
  obtain ⟨d1, d2, d3⟩ := tl_D hD
  exact ⟨hK, va_P.app (fun k q hq => hP _ q (tl_gr hq)) (fun k q hq => hP _ q (tl_gl hq)), va_D.app d2 d1 (fun i j x y h1 h2 e => d3 j i y x h2 h1 e.symm), hS⟩
theorem tl_join {D : va_G} {wc wr w1 : va_W} {A : Nat → Prop} {H H1 : Heap} (hP : va_P D xCl (wc ++ wr) H) (hD : va_D A (wc ++ wr)) (hF : ∀ z, va_A wc H.size z → A z) (hk : ∀ q : Nat, q < H.size → ¬ va_A wc H.size q → H1[q]? = H[q]?) (hP1 : va_P D xCl w1 H1) (hD1 : va_D (va_A wc H.size) w1) : va_P D xCl (wr ++ w1) H1 ∧ va_D A (wr ++ w1) := by
  obtain ⟨d1, d2, d3⟩ := tl_D hD
  have ap : ∀ (k : Nat) (q : Nat × va_E), wr[k]? = some q → q.1 < H.size ∧ ¬ va_A wc H.size q.1 := by
    intro k q hq
    have hl := (hP _ q (tl_gr hq)).lt
    refine ⟨hl, fun h => ?_⟩
    rcases h with ⟨k2, e, h⟩ | h
    · exact d3 k2 k _ q h hq rfl
    · exact absurd hl (Nat.not_lt.mpr h)
  exact ⟨va_P.app (fun k q hq => (hP _ q (tl_gr hq)).kept (hk q.1 (ap k q hq).1 (ap k q hq).2)) hP1, va_D.app d2 (hD1.weaken (fun k q _ h => hF q.1 h)) (fun i j x y hx hy e => (ap i x hx).2 (by rw [e]; exact hD1.2 j y hy))⟩
abbrev rX0_cell : Room := { frames := 0, cells := 0, slots := 0, locals := 0 }
abbrev tl_Pcell (sb L : Nat) (xs : Nat → Int32) (k sz : Nat) : Array Value → State → Prop := va_Pc [.ref sb, .int (nI k)] (fun U => U.heap.size = sz ∧ sb < sz ∧ va_X sb L xs U U.heap)
set_option maxHeartbeats 4000000 in
/-- cell(script, k) -/
theorem kX0_cell (l : Launch) (sb L k sz : Nat) (xs : Nat → Int32) (hL : L < 2 ^ 31) (hk : k < 2 ^ 31) : Met l yX0_cell (ws_ yX0_cell cX0_cell 2 (some .int)) rX0_cell (tl_Pcell sb L xs k sz) (tm_Qr sz (fun r => r = if k < L then xs k else 0)) 0 0 (va_A [] sz) := by
  refine Met.ofW (cc := cX0_cell) (maxL := 2) (ret := some .int) (by decide) rfl ?_
  intro p e s m args below meth c s₁ B hml hv
  obtain ⟨rfl, hsz, hbl, hX⟩ := hv
  have hx := B.exec
  have hb := B.bytes
  have hr := B.returns
  have hlk := B.notSynchronized
  have hS : va_S (va_A [] sz) s.heap s.heap [] := va_S.rf
  have hbA : ¬ va_A [] sz sb := by
    intro h
    rcases h with ⟨k2, e2, h⟩ | h
    · simp at h
    · exact absurd hbl (Nat.not_lt.mpr h)
  have hbs : sb < s.heap.size := by rw [hsz]; exact hbl
  have hl := lv_entry ([.ref sb, .int (nI k)]) (n := 2) (Nat.le_of_ble_eq_true rfl)
  rw [lg_entry_eq]
  generalize (lg_sl ([.ref sb, .int (nI k)]) ++ List.replicate (2 - (lg_sl ([.ref sb, .int (nI k)])).length) Slot.unset).toArray = ls at hl ⊢
  have hl : lv_has ls 2 [(0, .ref sb), (1, .int (nI k))] := hl
  refine lv_iload_n hx hb dX0_cell_0 rfl (lv_at hl 1 rfl) ?_
  refine lv_aload_n hx hb dX0_cell_1 rfl (lv_at hl 0 rfl) ?_
  refine va_slen hx hb hX hbs hbA hS dX0_cell_2 ?_
  refine tm_cge (b := L) hx hb hk hL (tgt := 12) dX0_cell_3 (by decide) (fun c3 => ?_) (fun c3 => ?_)
  · refine lv_iconst (v := nI 0) hx hb dX0_cell_12 (by decide) ?_
    exact W.iret hx hb hr (fun t ht hW => ⟨⟨_, (), rfl, by rw [if_neg (by omega)]; exact nI_0, trivial⟩, hS.F ht⟩) hS.2.2 dX0_cell_13 hlk
  · refine lv_aload_n hx hb dX0_cell_6 rfl (lv_at hl 0 rfl) ?_
    refine lv_iload_n hx hb dX0_cell_7 rfl (lv_at hl 1 rfl) ?_
    refine va_sld hx hb hX hbs hbA hS (vp_in_nI c3 hL) dX0_cell_8 ?_
    rw [nI_clamp hk]
    refine lv_goto (tgt := 13) hx hb dX0_cell_9 (by decide) ?_
    exact W.iret hx hb hr (fun t ht hW => ⟨⟨_, (), rfl, by rw [if_pos c3], trivial⟩, hS.F ht⟩) hS.2.2 dX0_cell_13 hlk
section TLC
variable {p : Program} {l : Launch} {e : Env} {R : Room} {s : State} {m : MethodId} {args : Array Value} {below : List Frame} {meth : Method} {c : Code} {H : Heap} {locs : List Loc} {cells slots : Nat} {Q : State → Prop}
variable {cc : ByteArray} {pc : Nat} {ls : Array Slot} {rest : List Value} {D : va_G} {dB dI : ClassId} {A : Nat → Prop} {H0 : Heap} {ws wr : va_W} {S : Type}
variable {y : MethodName} {bytes : ByteArray} {nL maxL index n ci a0 mc ms : Nat} {ret : Option FieldType} {rm : Room} {own : String} {q : vw_C} {fs : List Value} {As st : List Value}
theorem tl_calli {post : Int32 → S → Prop} {wf : S → va_W} (F : CallFix p m c cc nL s args lw_all own) (hM : Met l y (ws_ y bytes maxL ret) rm (tm_Pre D dB dI (.ref a0 :: As) H.size ws) (tm_Qi D dB dI ws H.size post wf) 0 0 (va_A ws H.size)) (cw : CallW R s args own q.1 index y bytes maxL ret (ws_ y bytes maxL ret) rm 0 0 n) (hS : tm_S D dB dI s A A H0 H locs (ws ++ wr)) (hA : ∀ z, H0.size ≤ z → A z) (hc : xCl[ci]? = some q) (he : ws[0]? = some (a0, .inr (ci, fs))) (hn : As.length = n) (hl : ls.size = nL) (hst : st = As.reverse ++ .ref a0 :: rest) (hrm : (rest.map fun v => v.category).sum ≤ 8) (hdg : decode cc pc = .ok (.invokevirtual index, 3)) (hf : cells ≤ R.cells ∧ slots ≤ R.slots)
    (kk : ∀ (r : Int32) (u : S) (H1 : Heap) (locs1 : List Loc), post r u → tm_S D dB dI s A A H0 H1 locs1 (wr ++ wf u) → W p l e R s m args below meth c H1 locs1 cells slots Q (F0 m (pc + 3) ls (.int r :: rest))) : W p l e R s m args below meth c H locs cells slots Q (F0 m pc ls st) := by
  obtain ⟨hK, hP, hD, hSS⟩ := hS
  have hPc : va_P D xCl ws H := fun k x hx => hP k x (tl_gl hx)
  have hF : ∀ z, va_A ws H.size z → A z := by
    intro z h
    rcases h with ⟨k, e, h⟩ | h
    · exact hD.2 k _ (tl_gl h)
    · exact hA z (Nat.le_trans hSS.1 h)
  refine va_calli (va_runV (As := As) (rest := rest) F hM cw ⟨tm_blind, va_recv hK hPc hc he, fun U hU hW => ⟨rfl, by rw [hU], by rw [hU]; exact hPc, va_K.moved hW.alike hK, (tl_D hD).1.weaken (fun _ _ _ _ => trivial)⟩⟩ rfl hn hl hst (lv_room hrm) hdg hf) hSS (fun z _ h => hF z h) hF ?_
  intro r u t H1 locs1 ht hvm hp hB hz hk hS1
  obtain ⟨hP1, hK1, hD1⟩ := hB
  rw [ht] at hP1
  obtain ⟨hP2, hD2⟩ := tl_join hP hD hF hk hP1 hD1
  exact kk r u H1 locs1 hp ⟨hK, hP2, hD2, hS1⟩
theorem tl_callR {post : Int32 → Prop} (F : CallFix p m c cc nL s args lw_all own) (hM : Met l y (ws_ y bytes maxL ret) rm (tm_Pre D dB dI (.ref a0 :: As) H.size ws) (tm_Qr H.size post) 0 0 (va_A [] H.size)) (cw : CallW R s args own q.1 index y bytes maxL ret (ws_ y bytes maxL ret) rm 0 0 n) (hS : tm_S D dB dI s A A H0 H locs (ws ++ wr)) (hA : ∀ z, H0.size ≤ z → A z) (hc : xCl[ci]? = some q) (he : ws[0]? = some (a0, .inr (ci, fs))) (hn : As.length = n) (hl : ls.size = nL) (hst : st = As.reverse ++ .ref a0 :: rest) (hrm : (rest.map fun v => v.category).sum ≤ 8) (hdg : decode cc pc = .ok (.invokevirtual index, 3)) (hf : cells ≤ R.cells ∧ slots ≤ R.slots)
    (kk : ∀ (r : Int32) (H1 : Heap) (locs1 : List Loc), post r → tm_S D dB dI s A A H0 H1 locs1 (wr ++ ws) → W p l e R s m args below meth c H1 locs1 cells slots Q (F0 m (pc + 3) ls (.int r :: rest))) : W p l e R s m args below meth c H locs cells slots Q (F0 m pc ls st) := by
  obtain ⟨hK, hP, hD, hSS⟩ := hS
  have hPc : va_P D xCl ws H := fun k x hx => hP k x (tl_gl hx)
  refine va_calli (va_runV (As := As) (rest := rest) F hM cw ⟨tm_blind, va_recv hK hPc hc he, fun U hU hW => ⟨rfl, by rw [hU], by rw [hU]; exact hPc, va_K.moved hW.alike hK, (tl_D hD).1.weaken (fun _ _ _ _ => trivial)⟩⟩ rfl hn hl hst (lv_room hrm) hdg hf) hSS ?_ ?_ ?_
  · intro z hz h
    rcases h with ⟨k, e, h⟩ | h
    · simp at h
    · exact absurd hz (Nat.not_lt.mpr h)
  · intro z h
    rcases h with ⟨k, e, h⟩ | h
    · simp at h
    · exact hA z (Nat.le_trans hSS.1 h)
  · intro r u t H1 locs1 ht hvm hp hB hz hk hS1
    refine kk r H1 locs1 hp (tl_swap ⟨hK, hP.kept (fun k x hx => hk x.1 ((hP k x hx).lt) ?_), hD, hS1⟩)
    intro h
    rcases h with ⟨k2, e, h⟩ | h
    · simp at h
    · exact absurd ((hP k x hx).lt) (Nat.not_lt.mpr h)
theorem tl_callC {post : S → Prop} {wf : S → va_W} (F : CallFix p m c cc nL s args lw_all own) (hM : Met l y (ws_ y bytes maxL none) rm (tm_Pre D dB dI (.ref a0 :: As) H.size ws) (tm_Qv D dB dI ws H.size post wf) mc ms (va_A ws H.size)) (cw : CallB R s args own index y bytes maxL none (ws_ y bytes maxL none) rm mc ms n ∧ y.name = "<init>" ∧ (Cond.instanceMethod y).before args s = true) (hS : tm_S D dB dI s A A H0 H locs (ws ++ wr)) (hA : ∀ z, H0.size ≤ z → A z) (hn : As.length = n) (hl : ls.size = nL) (hst : st = As.reverse ++ .ref a0 :: rest) (hrm : (rest.map fun v => v.category).sum ≤ 8) (hdg : decode cc pc = .ok (.invokespecial index, 3)) (hf : cells + mc ≤ R.cells ∧ slots + ms ≤ R.slots)
    (kk : ∀ (u : S) (H1 : Heap) (locs1 : List Loc), post u → tm_S D dB dI s A A H0 H1 locs1 (wr ++ wf u) → W p l e R s m args below meth c H1 locs1 (cells + mc) (slots + ms) Q (F0 m (pc + 3) ls rest)) : W p l e R s m args below meth c H locs cells slots Q (F0 m pc ls st) := by
  obtain ⟨hK, hP, hD, hSS⟩ := hS
  have hPc : va_P D xCl ws H := fun k x hx => hP k x (tl_gl hx)
  have hF : ∀ z, va_A ws H.size z → A z := by
    intro z h
    rcases h with ⟨k, e, h⟩ | h
    · exact hD.2 k _ (tl_gl h)
    · exact hA z (Nat.le_trans hSS.1 h)
  refine va_callv (va_runI (As := As) (rest := rest) F hM cw ⟨tm_blind, fun U hU hW => ⟨rfl, by rw [hU], by rw [hU]; exact hPc, va_K.moved hW.alike hK, (tl_D hD).1.weaken (fun _ _ _ _ => trivial)⟩⟩ rfl hn hl hst (lv_room hrm) hdg hf) hSS (fun z _ h => hF z h) hF ?_
  intro u t H1 locs1 ht hvm hp hB hz hk hS1
  obtain ⟨hP1, hK1, hD1⟩ := hB
  rw [ht] at hP1
  obtain ⟨hP2, hD2⟩ := tl_join hP hD hF hk hP1 hD1
  exact kk u H1 locs1 hp ⟨hK, hP2, hD2, hS1⟩
-- the script
variable {sb L i k : Nat} {xs : Nat → Int32}
theorem tl_sld (hx : p.tables.exec = Jvm.exec) (hb : c.code = cc) (hX : va_X sb L xs s H0) (hbl : sb < H0.size) (hbA : ¬ A sb) (hS : tm_S D dB dI s A A H0 H locs ws) (hi : i < L) (hL : L < 2 ^ 31) (hdg : decode cc pc = .ok (.iaload, 1))
    (kk : W p l e R s m args below meth c H locs cells slots Q (F0 m (pc + 1) ls (.int (xs i) :: rest))) : W p l e R s m args below meth c H locs cells slots Q (F0 m pc ls (.int (nI i) :: .ref sb :: rest)) := by
  refine va_sld hx hb hX hbl hbA hS.2.2.2 (vp_in_nI hi hL) hdg ?_
  rw [nI_clamp (by omega)]
  exact kk
theorem tl_slen (hx : p.tables.exec = Jvm.exec) (hb : c.code = cc) (hX : va_X sb L xs s H0) (hbl : sb < H0.size) (hbA : ¬ A sb) (hS : tm_S D dB dI s A A H0 H locs ws) (hdg : decode cc pc = .ok (.arraylength, 1))
    (kk : W p l e R s m args below meth c H locs cells slots Q (F0 m (pc + 1) ls (.int (nI L) :: rest))) : W p l e R s m args below meth c H locs cells slots Q (F0 m pc ls (.ref sb :: rest)) := va_slen hx hb hX hbl hbA hS.2.2.2 hdg kk
theorem tl_cell (F : CallFix p m c cc nL s args lw_all "TwoDimMatcherLaw") (hX : va_X sb L xs s H0) (hbl : sb < H0.size) (hbA : ¬ A sb) (hS : tm_S D dB dI s A A H0 H locs ws) (hA : ∀ z, H0.size ≤ z → A z) (hL : L < 2 ^ 31) (hk : k < 2 ^ 31) (hl : ls.size = nL) (hrm : (rest.map fun v => v.category).sum ≤ 8) (hfr : 0 + 1 ≤ R.frames) (hlo : 8 + (2 + 11) + 0 ≤ R.locals) (hdg : decode cc pc = .ok (.invokestatic 9, 3)) (hf : cells ≤ R.cells ∧ slots ≤ R.slots)
    (kk : ∀ (H1 : Heap) (locs1 : List Loc), tm_S D dB dI s A A H0 H1 locs1 ws → W p l e R s m args below meth c H1 locs1 cells slots Q (F0 m (pc + 3) ls (.int (if k < L then xs k else 0) :: rest))) : W p l e R s m args below meth c H locs cells slots Q (F0 m pc ls (.int (nI k) :: .ref sb :: rest)) := by
  obtain ⟨hK, hP, hD, hSS⟩ := hS
  obtain ⟨hx, hb, hml, hown, hts⟩ := id F
  have hX1 : va_X sb L xs s H := hX.kept (hSS.2.1 sb hbl hbA)
  refine va_calli (va_runS (As := [.ref sb, .int (nI k)]) (rest := rest) F (kX0_cell l sb L k H.size xs hL hk) (va_cwS 2 hts (lw_S q181 q182 q19 q183) rfl rfl rfl (by decide +kernel) ⟨hfr, hlo⟩) ⟨fun a U g mk q => ⟨q.1, q.2.1, q.2.2.1, va_X.moved (u := U) (U := U.calling g mk a) (Vm.Alike.refl U.vm) q.2.2.2⟩, fun U hU hW => ⟨rfl, by rw [hU], Nat.lt_of_lt_of_le hbl hSS.1, by rw [hU]; exact va_X.moved hW.alike hX1⟩⟩ rfl rfl hl rfl (lv_room hrm) hdg hf) hSS ?_ ?_ ?_
  · intro z hz h
    rcases h with ⟨k, e, h⟩ | h
    · simp at h
    · exact absurd hz (Nat.not_lt.mpr h)
  · intro z h
    rcases h with ⟨k, e, h⟩ | h
    · simp at h
    · exact hA z (Nat.le_trans hSS.1 h)
  · intro r u t H1 locs1 ht hvm hp hB hz hk hS1
    have hp : r = if k < L then xs k else 0 := hp
    rw [hp]
    refine kk H1 locs1 ⟨hK, hP.kept (fun k x hx => hk x.1 ((hP k x hx).lt) ?_), hD, hS1⟩
    intro h
    rcases h with ⟨k2, e, h⟩ | h
    · simp at h
    · exact absurd ((hP k x hx).lt) (Nat.not_lt.mpr h)
end TLC
/-- at the law's pc, with i the script's place: whatever the two worlds are, if they are tied, the run comes to its end -/
def tl_G (p : Program) (l : Launch) (e : Env) (s : State) (m : MethodId) (below : List Frame) (meth : Method) (c : Code) (D : va_G) (dB dI : ClassId) (a b : Nat → Nat) (sb wi hi i pc : Nat) : Prop :=
  ∀ (nc sd : Nat) (tx pw ph pt br fb nq re rn fa fo pr tx2 pt2 pw2 ph2 : Nat → Nat) (H : Heap) (locs : List Loc) (ls : Array Slot), tm_LI wi hi sd tx pw ph pt fo tx2 pt2 pw2 ph2 → tm_S D dB dI s (fun q : Nat => s.heap.size ≤ q) (fun q : Nat => s.heap.size ≤ q) s.heap H locs (wX a dB dI wi hi nc sd tx pw ph pt br fb nq re rn fa fo pr ++ wM b dI wi hi tx2 pt2 pw2 ph2) → lv_has ls 4 [(0, .ref sb), (1, .ref (a 0)), (2, .ref (b 0)), (3, .int (nI i))] → W p l e room_1 s m #[Value.ref sb] below meth c H locs 18 957 (lw_Z below #[Value.ref sb] s) (F0 m pc ls [])
/-- the two worlds as they are made -/
theorem tl_init {cs rs : Int32} {pw ph pt pw2 ph2 pt2 : Nat → Nat} (h1 : ∀ q, q < 3 → pw q = 1 ∧ ph q = 1) (h2 : ∀ k, k < 48 → pt k = if k % 16 = 0 then 1 else 0) (h3 : ∀ q, q < 3 → pw2 q = 1 ∧ ph2 q = 1) (h4 : ∀ k, k < 48 → pt2 k = if k % 16 = 0 then 1 else 0) : tm_LI (tm_cl cs) (tm_cl rs) 0 (fun _ => 0) pw ph pt (fun _ => 0) (fun _ => 0) pt2 pw2 ph2 := by
  refine ⟨⟨tm_cl_b cs, tm_cl_b rs, fun _ _ => Nat.zero_le 2, fun q hq => ?_, fun k hk => ?_⟩, ⟨tm_cl_b cs, tm_cl_b rs, fun _ _ => Nat.zero_le 2, fun q hq => ?_, fun k hk => ?_⟩, Or.inl rfl, fun _ _ _ _ => rfl, fun k hk => ?_, fun q hq => ?_⟩
  · have := h1 q hq
    omega
  · rw [h2 k hk]
    split <;> omega
  · have := h3 q hq
    omega
  · rw [h4 k hk]
    split <;> omega
  · rw [h2 k hk, h4 k hk]
  · have a1 := h1 q hq
    have a2 := h3 q hq
    omega
end
section
set_option maxRecDepth 100000
set_option maxHeartbeats 4000000 in
set_option maxRecDepth 100000 in
theorem tl_case_write {p : Program} {l : Launch} {e : Env} {s : State} {m : MethodId} {below : List Frame} {meth : Method} {c : Code} {D : va_G} {dB dI : ClassId} {a b : Nat → Nat} {sb wi hi L i : Nat} {xs : Nat → Int32} (hL : L ≤ 322) (C0 : lw_At p s m meth c sb L xs) (hi5 : i + 5 ≤ L) (nx : tl_G p l e s m below meth c D dB dI a b sb wi hi i 505) : tl_G p l e s m below meth c D dB dI a b sb wi hi i 112 := by
  obtain ⟨hx, hb, hr, hml, hown, hts0, hX, hbl, hlocks, hgv⟩ := C0
  have hts : ∀ w ∈ lw_all, w.before #[Value.ref sb] s = true := fun w h => hts0 w (lw_all_tbl h)
  have hown : s.vm.findClass "TwoDimMatcherLaw" = some m.cls := hown
  have hA : ∀ q : Nat, s.heap.size ≤ q → (fun q : Nat => s.heap.size ≤ q) q := fun _ h => h
  have hbA : ¬ (fun q : Nat => s.heap.size ≤ q) sb := Nat.not_le.mpr hbl
  intro nc sd tx pw ph pt br fb nq re rn fa fo pr tx2 pt2 pw2 ph2 H locs ls hLI hS hl
  refine lv_aload_n hx hb dL_law_112 rfl (lv_at hl 1 rfl) ?_
  refine lv_aload_n hx hb dL_law_113 rfl (lv_at hl 0 rfl) ?_
  refine lv_iload_n hx hb dL_law_114 rfl (lv_at hl 3 rfl) ?_
  refine lv_iconst (v := nI 1) hx hb dL_law_115 (by decide) ?_
  refine tm_iadd hx hb dL_law_116 ?_
  refine tl_sld hx hb hX hbl hbA hS (by omega) (by omega) dL_law_117 ?_
  refine lv_aload_n hx hb dL_law_118 rfl (lv_at hl 0 rfl) ?_
  refine lv_iload_n hx hb dL_law_119 rfl (lv_at hl 3 rfl) ?_
  refine lv_iconst (v := nI 2) hx hb dL_law_120 (by decide) ?_
  refine tm_iadd hx hb dL_law_121 ?_
  refine tl_sld hx hb hX hbl hbA hS (by omega) (by omega) dL_law_122 ?_
  refine lv_aload_n hx hb dL_law_123 rfl (lv_at hl 0 rfl) ?_
  refine lv_iload_n hx hb dL_law_124 rfl (lv_at hl 3 rfl) ?_
  refine lv_iconst (v := nI 3) hx hb dL_law_125 (by decide) ?_
  refine tm_iadd hx hb dL_law_126 ?_
  refine tl_sld hx hb hX hbl hbA hS (by omega) (by omega) dL_law_127 ?_
  refine tl_calli (q := (RX1, TX1, 16)) (As := [.int (xs (i + 1)), .int (xs (i + 2)), .int (xs (i + 3))]) (rest := []) ⟨hx, hb, hml, hown, hts⟩ (kX1_write l D dB dI a H.size wi hi nc sd tx pw ph pt br fb nq re rn fa fo pr (xs (i + 1)) (xs (i + 2)) (xs (i + 3)) hLI.1.1.2 hLI.1.2.1.2) (cwV 3 hts (lw_V q81 q82 q83 q20 q84) rfl rfl rfl (by decide +kernel) ⟨Nat.le_of_ble_eq_true rfl, Nat.le_of_ble_eq_true rfl⟩) hS hA rfl rfl rfl hl.1 rfl (Nat.le_of_ble_eq_true rfl) dL_law_128 ⟨Nat.le_of_ble_eq_true rfl, Nat.le_of_ble_eq_true rfl⟩ (fun r u H locs hp hS => ?_)
  obtain ⟨sd1, tx1⟩ := u
  have hS : tm_S D dB dI s (fun q : Nat => s.heap.size ≤ q) (fun q : Nat => s.heap.size ≤ q) s.heap H locs (wM b dI wi hi tx2 pt2 pw2 ph2 ++ wX a dB dI wi hi nc sd1 tx1 pw ph pt br fb nq re rn fa fo pr) := hS
  refine lv_aload_n hx hb dL_law_131 rfl (lv_at hl 2 rfl) ?_
  refine lv_aload_n hx hb dL_law_132 rfl (lv_at hl 0 rfl) ?_
  refine lv_iload_n hx hb dL_law_133 rfl (lv_at hl 3 rfl) ?_
  refine lv_iconst (v := nI 1) hx hb dL_law_134 (by decide) ?_
  refine tm_iadd hx hb dL_law_135 ?_
  refine tl_sld hx hb hX hbl hbA hS (by omega) (by omega) dL_law_136 ?_
  refine lv_aload_n hx hb dL_law_137 rfl (lv_at hl 0 rfl) ?_
  refine lv_iload_n hx hb dL_law_138 rfl (lv_at hl 3 rfl) ?_
  refine lv_iconst (v := nI 2) hx hb dL_law_139 (by decide) ?_
  refine tm_iadd hx hb dL_law_140 ?_
  refine tl_sld hx hb hX hbl hbA hS (by omega) (by omega) dL_law_141 ?_
  refine lv_aload_n hx hb dL_law_142 rfl (lv_at hl 0 rfl) ?_
  refine lv_iload_n hx hb dL_law_143 rfl (lv_at hl 3 rfl) ?_
  refine lv_iconst (v := nI 3) hx hb dL_law_144 (by decide) ?_
  refine tm_iadd hx hb dL_law_145 ?_
  refine tl_sld hx hb hX hbl hbA hS (by omega) (by omega) dL_law_146 ?_
  refine tl_calli (q := (RX2, TX2, 6)) (As := [.int (xs (i + 1)), .int (xs (i + 2)), .int (xs (i + 3))]) (rest := [.int r]) ⟨hx, hb, hml, hown, hts⟩ (kX2_write l D dB dI b H.size wi hi tx2 pt2 pw2 ph2 (xs (i + 1)) (xs (i + 2)) (xs (i + 3)) hLI.1.1.2 hLI.1.2.1.2) (cwV 3 hts (lw_V q209 q210 q211 q21 q212) rfl rfl rfl (by decide +kernel) ⟨Nat.le_of_ble_eq_true rfl, Nat.le_of_ble_eq_true rfl⟩) hS hA rfl rfl rfl hl.1 rfl (Nat.le_of_ble_eq_true rfl) dL_law_147 ⟨Nat.le_of_ble_eq_true rfl, Nat.le_of_ble_eq_true rfl⟩ (fun r2 tx3 H locs hm hS => ?_)
  have hS : tm_S D dB dI s (fun q : Nat => s.heap.size ≤ q) (fun q : Nat => s.heap.size ≤ q) s.heap H locs (wX a dB dI wi hi nc sd1 tx1 pw ph pt br fb nq re rn fa fo pr ++ wM b dI wi hi tx3 pt2 pw2 ph2) := hS
  obtain ⟨hrr, hLI⟩ := tl_write (x := xs (i + 1)) (y := xs (i + 2)) (lt := xs (i + 3)) (sd1 := sd1) (tx1 := tx1) (tx3 := tx3) (r := r) (r2 := r2) hLI hp hm
  refine lv_icmp_eq (tgt := 505) hx hb dL_law_150 (by decide) (fun _ => ?_) (fun q => absurd hrr q)
  exact nx nc sd1 tx1 pw ph pt br fb nq re rn fa fo pr tx3 pt2 pw2 ph2 H locs ls hLI hS hl
set_option maxHeartbeats 4000000 in
set_option maxRecDepth 100000 in
theorem tl_case_shape {p : Program} {l : Launch} {e : Env} {s : State} {m : MethodId} {below : List Frame} {meth : Method} {c : Code} {D : va_G} {dB dI : ClassId} {a b : Nat → Nat} {sb wi hi L i : Nat} {xs : Nat → Int32} (hL : L ≤ 322) (C0 : lw_At p s m meth c sb L xs) (hi5 : i + 5 ≤ L) (nx : tl_G p l e s m below meth c D dB dI a b sb wi hi i 505) : tl_G p l e s m below meth c D dB dI a b sb wi hi i 155 := by
  obtain ⟨hx, hb, hr, hml, hown, hts0, hX, hbl, hlocks, hgv⟩ := C0
  have hts : ∀ w ∈ lw_all, w.before #[Value.ref sb] s = true := fun w h => hts0 w (lw_all_tbl h)
  have hown : s.vm.findClass "TwoDimMatcherLaw" = some m.cls := hown
  have hA : ∀ q : Nat, s.heap.size ≤ q → (fun q : Nat => s.heap.size ≤ q) q := fun _ h => h
  have hbA : ¬ (fun q : Nat => s.heap.size ≤ q) sb := Nat.not_le.mpr hbl
  intro nc sd tx pw ph pt br fb nq re rn fa fo pr tx2 pt2 pw2 ph2 H locs ls hLI hS hl
  refine lv_aload_n hx hb dL_law_155 rfl (lv_at hl 1 rfl) ?_
  refine lv_aload_n hx hb dL_law_156 rfl (lv_at hl 0 rfl) ?_
  refine lv_iload_n hx hb dL_law_157 rfl (lv_at hl 3 rfl) ?_
  refine lv_iconst (v := nI 1) hx hb dL_law_158 (by decide) ?_
  refine tm_iadd hx hb dL_law_159 ?_
  refine tl_sld hx hb hX hbl hbA hS (by omega) (by omega) dL_law_160 ?_
  refine lv_aload_n hx hb dL_law_161 rfl (lv_at hl 0 rfl) ?_
  refine lv_iload_n hx hb dL_law_162 rfl (lv_at hl 3 rfl) ?_
  refine lv_iconst (v := nI 2) hx hb dL_law_163 (by decide) ?_
  refine tm_iadd hx hb dL_law_164 ?_
  refine tl_sld hx hb hX hbl hbA hS (by omega) (by omega) dL_law_165 ?_
  refine lv_aload_n hx hb dL_law_166 rfl (lv_at hl 0 rfl) ?_
  refine lv_iload_n hx hb dL_law_167 rfl (lv_at hl 3 rfl) ?_
  refine lv_iconst (v := nI 3) hx hb dL_law_168 (by decide) ?_
  refine tm_iadd hx hb dL_law_169 ?_
  refine tl_sld hx hb hX hbl hbA hS (by omega) (by omega) dL_law_170 ?_
  refine tl_calli (q := (RX1, TX1, 16)) (As := [.int (xs (i + 1)), .int (xs (i + 2)), .int (xs (i + 3))]) (rest := []) ⟨hx, hb, hml, hown, hts⟩ (kX1_shape l D dB dI a H.size wi hi nc sd tx pw ph pt br fb nq re rn fa fo pr (xs (i + 1)) (xs (i + 2)) (xs (i + 3)) ) (cwV 3 hts (lw_V q89 q90 q91 q20 q92) rfl rfl rfl (by decide +kernel) ⟨Nat.le_of_ble_eq_true rfl, Nat.le_of_ble_eq_true rfl⟩) hS hA rfl rfl rfl hl.1 rfl (Nat.le_of_ble_eq_true rfl) dL_law_171 ⟨Nat.le_of_ble_eq_true rfl, Nat.le_of_ble_eq_true rfl⟩ (fun r u H locs hp hS => ?_)
  obtain ⟨sd1, pw1, ph1, pt1⟩ := u
  have hS : tm_S D dB dI s (fun q : Nat => s.heap.size ≤ q) (fun q : Nat => s.heap.size ≤ q) s.heap H locs (wM b dI wi hi tx2 pt2 pw2 ph2 ++ wX a dB dI wi hi nc sd1 tx pw1 ph1 pt1 br fb nq re rn fa fo pr) := hS
  refine lv_aload_n hx hb dL_law_174 rfl (lv_at hl 2 rfl) ?_
  refine lv_aload_n hx hb dL_law_175 rfl (lv_at hl 0 rfl) ?_
  refine lv_iload_n hx hb dL_law_176 rfl (lv_at hl 3 rfl) ?_
  refine lv_iconst (v := nI 1) hx hb dL_law_177 (by decide) ?_
  refine tm_iadd hx hb dL_law_178 ?_
  refine tl_sld hx hb hX hbl hbA hS (by omega) (by omega) dL_law_179 ?_
  refine lv_aload_n hx hb dL_law_180 rfl (lv_at hl 0 rfl) ?_
  refine lv_iload_n hx hb dL_law_181 rfl (lv_at hl 3 rfl) ?_
  refine lv_iconst (v := nI 2) hx hb dL_law_182 (by decide) ?_
  refine tm_iadd hx hb dL_law_183 ?_
  refine tl_sld hx hb hX hbl hbA hS (by omega) (by omega) dL_law_184 ?_
  refine lv_aload_n hx hb dL_law_185 rfl (lv_at hl 0 rfl) ?_
  refine lv_iload_n hx hb dL_law_186 rfl (lv_at hl 3 rfl) ?_
  refine lv_iconst (v := nI 3) hx hb dL_law_187 (by decide) ?_
  refine tm_iadd hx hb dL_law_188 ?_
  refine tl_sld hx hb hX hbl hbA hS (by omega) (by omega) dL_law_189 ?_
  refine tl_calli (q := (RX2, TX2, 6)) (As := [.int (xs (i + 1)), .int (xs (i + 2)), .int (xs (i + 3))]) (rest := [.int r]) ⟨hx, hb, hml, hown, hts⟩ (kX2_shape l D dB dI b H.size wi hi tx2 pt2 pw2 ph2 (xs (i + 1)) (xs (i + 2)) (xs (i + 3)) ) (cwV 3 hts (lw_V q221 q222 q223 q21 q224) rfl rfl rfl (by decide +kernel) ⟨Nat.le_of_ble_eq_true rfl, Nat.le_of_ble_eq_true rfl⟩) hS hA rfl rfl rfl hl.1 rfl (Nat.le_of_ble_eq_true rfl) dL_law_190 ⟨Nat.le_of_ble_eq_true rfl, Nat.le_of_ble_eq_true rfl⟩ (fun r2 u H locs hm hS => ?_)
  obtain ⟨pw3, ph3, pt3⟩ := u
  have hS : tm_S D dB dI s (fun q : Nat => s.heap.size ≤ q) (fun q : Nat => s.heap.size ≤ q) s.heap H locs (wX a dB dI wi hi nc sd1 tx pw1 ph1 pt1 br fb nq re rn fa fo pr ++ wM b dI wi hi tx2 pt3 pw3 ph3) := hS
  obtain ⟨hrr, hLI⟩ := tl_shape (pp := xs (i + 1)) (cs := xs (i + 2)) (rs := xs (i + 3)) (sd1 := sd1) (pw1 := pw1) (ph1 := ph1) (pt1 := pt1) (pw3 := pw3) (ph3 := ph3) (pt3 := pt3) (r := r) (r2 := r2) hLI hp hm
  refine lv_icmp_eq (tgt := 505) hx hb dL_law_193 (by decide) (fun _ => ?_) (fun q => absurd hrr q)
  exact nx nc sd1 tx pw1 ph1 pt1 br fb nq re rn fa fo pr tx2 pt3 pw3 ph3 H locs ls hLI hS hl
set_option maxHeartbeats 4000000 in
set_option maxRecDepth 100000 in
theorem tl_case_paint {p : Program} {l : Launch} {e : Env} {s : State} {m : MethodId} {below : List Frame} {meth : Method} {c : Code} {D : va_G} {dB dI : ClassId} {a b : Nat → Nat} {sb wi hi L i : Nat} {xs : Nat → Int32} (hL : L ≤ 322) (C0 : lw_At p s m meth c sb L xs) (hi5 : i + 5 ≤ L) (nx : tl_G p l e s m below meth c D dB dI a b sb wi hi i 505) : tl_G p l e s m below meth c D dB dI a b sb wi hi i 198 := by
  obtain ⟨hx, hb, hr, hml, hown, hts0, hX, hbl, hlocks, hgv⟩ := C0
  have hts : ∀ w ∈ lw_all, w.before #[Value.ref sb] s = true := fun w h => hts0 w (lw_all_tbl h)
  have hown : s.vm.findClass "TwoDimMatcherLaw" = some m.cls := hown
  have hA : ∀ q : Nat, s.heap.size ≤ q → (fun q : Nat => s.heap.size ≤ q) q := fun _ h => h
  have hbA : ¬ (fun q : Nat => s.heap.size ≤ q) sb := Nat.not_le.mpr hbl
  intro nc sd tx pw ph pt br fb nq re rn fa fo pr tx2 pt2 pw2 ph2 H locs ls hLI hS hl
  refine lv_aload_n hx hb dL_law_198 rfl (lv_at hl 1 rfl) ?_
  refine lv_aload_n hx hb dL_law_199 rfl (lv_at hl 0 rfl) ?_
  refine lv_iload_n hx hb dL_law_200 rfl (lv_at hl 3 rfl) ?_
  refine lv_iconst (v := nI 1) hx hb dL_law_201 (by decide) ?_
  refine tm_iadd hx hb dL_law_202 ?_
  refine tl_sld hx hb hX hbl hbA hS (by omega) (by omega) dL_law_203 ?_
  refine lv_aload_n hx hb dL_law_204 rfl (lv_at hl 0 rfl) ?_
  refine lv_iload_n hx hb dL_law_205 rfl (lv_at hl 3 rfl) ?_
  refine lv_iconst (v := nI 2) hx hb dL_law_206 (by decide) ?_
  refine tm_iadd hx hb dL_law_207 ?_
  refine tl_sld hx hb hX hbl hbA hS (by omega) (by omega) dL_law_208 ?_
  refine lv_aload_n hx hb dL_law_209 rfl (lv_at hl 0 rfl) ?_
  refine lv_iload_n hx hb dL_law_210 rfl (lv_at hl 3 rfl) ?_
  refine lv_iconst (v := nI 3) hx hb dL_law_211 (by decide) ?_
  refine tm_iadd hx hb dL_law_212 ?_
  refine tl_sld hx hb hX hbl hbA hS (by omega) (by omega) dL_law_213 ?_
  refine lv_aload_n hx hb dL_law_214 rfl (lv_at hl 0 rfl) ?_
  refine lv_iload_n hx hb dL_law_215 rfl (lv_at hl 3 rfl) ?_
  refine lv_iconst (v := nI 4) hx hb dL_law_216 (by decide) ?_
  refine tm_iadd hx hb dL_law_217 ?_
  refine tl_sld hx hb hX hbl hbA hS (by omega) (by omega) dL_law_218 ?_
  refine tl_calli (q := (RX1, TX1, 16)) (As := [.int (xs (i + 1)), .int (xs (i + 2)), .int (xs (i + 3)), .int (xs (i + 4))]) (rest := []) ⟨hx, hb, hml, hown, hts⟩ (kX1_paint l D dB dI a H.size wi hi nc sd tx pw ph pt br fb nq re rn fa fo pr (xs (i + 1)) (xs (i + 2)) (xs (i + 3)) (xs (i + 4)) hLI.1) (cwV 4 hts (lw_V q97 q98 q99 q20 q100) rfl rfl rfl (by decide +kernel) ⟨Nat.le_of_ble_eq_true rfl, Nat.le_of_ble_eq_true rfl⟩) hS hA rfl rfl rfl hl.1 rfl (Nat.le_of_ble_eq_true rfl) dL_law_219 ⟨Nat.le_of_ble_eq_true rfl, Nat.le_of_ble_eq_true rfl⟩ (fun r u H locs hp hS => ?_)
  obtain ⟨sd1, pt1⟩ := u
  have hS : tm_S D dB dI s (fun q : Nat => s.heap.size ≤ q) (fun q : Nat => s.heap.size ≤ q) s.heap H locs (wM b dI wi hi tx2 pt2 pw2 ph2 ++ wX a dB dI wi hi nc sd1 tx pw ph pt1 br fb nq re rn fa fo pr) := hS
  refine lv_aload_n hx hb dL_law_222 rfl (lv_at hl 2 rfl) ?_
  refine lv_aload_n hx hb dL_law_223 rfl (lv_at hl 0 rfl) ?_
  refine lv_iload_n hx hb dL_law_224 rfl (lv_at hl 3 rfl) ?_
  refine lv_iconst (v := nI 1) hx hb dL_law_225 (by decide) ?_
  refine tm_iadd hx hb dL_law_226 ?_
  refine tl_sld hx hb hX hbl hbA hS (by omega) (by omega) dL_law_227 ?_
  refine lv_aload_n hx hb dL_law_228 rfl (lv_at hl 0 rfl) ?_
  refine lv_iload_n hx hb dL_law_229 rfl (lv_at hl 3 rfl) ?_
  refine lv_iconst (v := nI 2) hx hb dL_law_230 (by decide) ?_
  refine tm_iadd hx hb dL_law_231 ?_
  refine tl_sld hx hb hX hbl hbA hS (by omega) (by omega) dL_law_232 ?_
  refine lv_aload_n hx hb dL_law_233 rfl (lv_at hl 0 rfl) ?_
  refine lv_iload_n hx hb dL_law_234 rfl (lv_at hl 3 rfl) ?_
  refine lv_iconst (v := nI 3) hx hb dL_law_235 (by decide) ?_
  refine tm_iadd hx hb dL_law_236 ?_
  refine tl_sld hx hb hX hbl hbA hS (by omega) (by omega) dL_law_237 ?_
  refine lv_aload_n hx hb dL_law_238 rfl (lv_at hl 0 rfl) ?_
  refine lv_iload_n hx hb dL_law_239 rfl (lv_at hl 3 rfl) ?_
  refine lv_iconst (v := nI 4) hx hb dL_law_240 (by decide) ?_
  refine tm_iadd hx hb dL_law_241 ?_
  refine tl_sld hx hb hX hbl hbA hS (by omega) (by omega) dL_law_242 ?_
  refine tl_calli (q := (RX2, TX2, 6)) (As := [.int (xs (i + 1)), .int (xs (i + 2)), .int (xs (i + 3)), .int (xs (i + 4))]) (rest := [.int r]) ⟨hx, hb, hml, hown, hts⟩ (kX2_paint l D dB dI b H.size wi hi tx2 pt2 pw2 ph2 (xs (i + 1)) (xs (i + 2)) (xs (i + 3)) (xs (i + 4)) hLI.2.1) (cwV 4 hts (lw_V q229 q230 q231 q21 q232) rfl rfl rfl (by decide +kernel) ⟨Nat.le_of_ble_eq_true rfl, Nat.le_of_ble_eq_true rfl⟩) hS hA rfl rfl rfl hl.1 rfl (Nat.le_of_ble_eq_true rfl) dL_law_243 ⟨Nat.le_of_ble_eq_true rfl, Nat.le_of_ble_eq_true rfl⟩ (fun r2 pt3 H locs hm hS => ?_)
  have hS : tm_S D dB dI s (fun q : Nat => s.heap.size ≤ q) (fun q : Nat => s.heap.size ≤ q) s.heap H locs (wX a dB dI wi hi nc sd1 tx pw ph pt1 br fb nq re rn fa fo pr ++ wM b dI wi hi tx2 pt3 pw2 ph2) := hS
  obtain ⟨hrr, hLI⟩ := tl_paint (pp := xs (i + 1)) (jj := xs (i + 2)) (ii := xs (i + 3)) (lt := xs (i + 4)) (sd1 := sd1) (pt1 := pt1) (pt3 := pt3) (r := r) (r2 := r2) hLI hp hm
  refine lv_icmp_eq (tgt := 505) hx hb dL_law_246 (by decide) (fun _ => ?_) (fun q => absurd hrr q)
  exact nx nc sd1 tx pw ph pt1 br fb nq re rn fa fo pr tx2 pt3 pw2 ph2 H locs ls hLI hS hl
end
section
set_option maxRecDepth 100000
set_option maxHeartbeats 4000000 in
set_option maxRecDepth 100000 in
theorem tl_case_copy {p : Program} {l : Launch} {e : Env} {s : State} {m : MethodId} {below : List Frame} {meth : Method} {c : Code} {D : va_G} {dB dI : ClassId} {a b : Nat → Nat} {sb wi hi L i : Nat} {xs : Nat → Int32} (hL : L ≤ 322) (C0 : lw_At p s m meth c sb L xs) (hi5 : i + 5 ≤ L) (nx : tl_G p l e s m below meth c D dB dI a b sb wi hi i 505) : tl_G p l e s m below meth c D dB dI a b sb wi hi i 251 := by
  obtain ⟨hx, hb, hr, hml, hown, hts0, hX, hbl, hlocks, hgv⟩ := C0
  have hts : ∀ w ∈ lw_all, w.before #[Value.ref sb] s = true := fun w h => hts0 w (lw_all_tbl h)
  have hown : s.vm.findClass "TwoDimMatcherLaw" = some m.cls := hown
  have hA : ∀ q : Nat, s.heap.size ≤ q → (fun q : Nat => s.heap.size ≤ q) q := fun _ h => h
  have hbA : ¬ (fun q : Nat => s.heap.size ≤ q) sb := Nat.not_le.mpr hbl
  intro nc sd tx pw ph pt br fb nq re rn fa fo pr tx2 pt2 pw2 ph2 H locs ls hLI hS hl
  refine lv_aload_n hx hb dL_law_251 rfl (lv_at hl 1 rfl) ?_
  refine lv_aload_n hx hb dL_law_252 rfl (lv_at hl 0 rfl) ?_
  refine lv_iload_n hx hb dL_law_253 rfl (lv_at hl 3 rfl) ?_
  refine lv_iconst (v := nI 1) hx hb dL_law_254 (by decide) ?_
  refine tm_iadd hx hb dL_law_255 ?_
  refine tl_sld hx hb hX hbl hbA hS (by omega) (by omega) dL_law_256 ?_
  refine lv_aload_n hx hb dL_law_257 rfl (lv_at hl 0 rfl) ?_
  refine lv_iload_n hx hb dL_law_258 rfl (lv_at hl 3 rfl) ?_
  refine lv_iconst (v := nI 2) hx hb dL_law_259 (by decide) ?_
  refine tm_iadd hx hb dL_law_260 ?_
  refine tl_sld hx hb hX hbl hbA hS (by omega) (by omega) dL_law_261 ?_
  refine lv_aload_n hx hb dL_law_262 rfl (lv_at hl 0 rfl) ?_
  refine lv_iload_n hx hb dL_law_263 rfl (lv_at hl 3 rfl) ?_
  refine lv_iconst (v := nI 3) hx hb dL_law_264 (by decide) ?_
  refine tm_iadd hx hb dL_law_265 ?_
  refine tl_sld hx hb hX hbl hbA hS (by omega) (by omega) dL_law_266 ?_
  refine tl_calli (q := (RX1, TX1, 16)) (As := [.int (xs (i + 1)), .int (xs (i + 2)), .int (xs (i + 3))]) (rest := []) ⟨hx, hb, hml, hown, hts⟩ (kX1_copy l D dB dI a H.size wi hi nc sd tx pw ph pt br fb nq re rn fa fo pr (xs (i + 1)) (xs (i + 2)) (xs (i + 3)) hLI.1) (cwV 3 hts (lw_V q101 q102 q103 q20 q104) rfl rfl rfl (by decide +kernel) ⟨Nat.le_of_ble_eq_true rfl, Nat.le_of_ble_eq_true rfl⟩) hS hA rfl rfl rfl hl.1 rfl (Nat.le_of_ble_eq_true rfl) dL_law_267 ⟨Nat.le_of_ble_eq_true rfl, Nat.le_of_ble_eq_true rfl⟩ (fun r u H locs hp hS => ?_)
  obtain ⟨sd1, pt1⟩ := u
  have hS : tm_S D dB dI s (fun q : Nat => s.heap.size ≤ q) (fun q : Nat => s.heap.size ≤ q) s.heap H locs (wM b dI wi hi tx2 pt2 pw2 ph2 ++ wX a dB dI wi hi nc sd1 tx pw ph pt1 br fb nq re rn fa fo pr) := hS
  refine lv_aload_n hx hb dL_law_270 rfl (lv_at hl 2 rfl) ?_
  refine lv_aload_n hx hb dL_law_271 rfl (lv_at hl 0 rfl) ?_
  refine lv_iload_n hx hb dL_law_272 rfl (lv_at hl 3 rfl) ?_
  refine lv_iconst (v := nI 1) hx hb dL_law_273 (by decide) ?_
  refine tm_iadd hx hb dL_law_274 ?_
  refine tl_sld hx hb hX hbl hbA hS (by omega) (by omega) dL_law_275 ?_
  refine lv_aload_n hx hb dL_law_276 rfl (lv_at hl 0 rfl) ?_
  refine lv_iload_n hx hb dL_law_277 rfl (lv_at hl 3 rfl) ?_
  refine lv_iconst (v := nI 2) hx hb dL_law_278 (by decide) ?_
  refine tm_iadd hx hb dL_law_279 ?_
  refine tl_sld hx hb hX hbl hbA hS (by omega) (by omega) dL_law_280 ?_
  refine lv_aload_n hx hb dL_law_281 rfl (lv_at hl 0 rfl) ?_
  refine lv_iload_n hx hb dL_law_282 rfl (lv_at hl 3 rfl) ?_
  refine lv_iconst (v := nI 3) hx hb dL_law_283 (by decide) ?_
  refine tm_iadd hx hb dL_law_284 ?_
  refine tl_sld hx hb hX hbl hbA hS (by omega) (by omega) dL_law_285 ?_
  refine tl_calli (q := (RX2, TX2, 6)) (As := [.int (xs (i + 1)), .int (xs (i + 2)), .int (xs (i + 3))]) (rest := [.int r]) ⟨hx, hb, hml, hown, hts⟩ (kX2_copy l D dB dI b H.size wi hi tx2 pt2 pw2 ph2 (xs (i + 1)) (xs (i + 2)) (xs (i + 3)) hLI.2.1) (cwV 3 hts (lw_V q233 q234 q235 q21 q236) rfl rfl rfl (by decide +kernel) ⟨Nat.le_of_ble_eq_true rfl, Nat.le_of_ble_eq_true rfl⟩) hS hA rfl rfl rfl hl.1 rfl (Nat.le_of_ble_eq_true rfl) dL_law_286 ⟨Nat.le_of_ble_eq_true rfl, Nat.le_of_ble_eq_true rfl⟩ (fun r2 pt3 H locs hm hS => ?_)
  have hS : tm_S D dB dI s (fun q : Nat => s.heap.size ≤ q) (fun q : Nat => s.heap.size ≤ q) s.heap H locs (wX a dB dI wi hi nc sd1 tx pw ph pt1 br fb nq re rn fa fo pr ++ wM b dI wi hi tx2 pt3 pw2 ph2) := hS
  obtain ⟨hrr, hLI⟩ := tl_copy (pp := xs (i + 1)) (x := xs (i + 2)) (y := xs (i + 3)) (sd1 := sd1) (pt1 := pt1) (pt3 := pt3) (r := r) (r2 := r2) hLI hp hm
  refine lv_icmp_eq (tgt := 505) hx hb dL_law_289 (by decide) (fun _ => ?_) (fun q => absurd hrr q)
  exact nx nc sd1 tx pw ph pt1 br fb nq re rn fa fo pr tx2 pt3 pw2 ph2 H locs ls hLI hS hl
set_option maxHeartbeats 4000000 in
set_option maxRecDepth 100000 in
theorem tl_case_stamp {p : Program} {l : Launch} {e : Env} {s : State} {m : MethodId} {below : List Frame} {meth : Method} {c : Code} {D : va_G} {dB dI : ClassId} {a b : Nat → Nat} {sb wi hi L i : Nat} {xs : Nat → Int32} (hL : L ≤ 322) (C0 : lw_At p s m meth c sb L xs) (hi5 : i + 5 ≤ L) (nx : tl_G p l e s m below meth c D dB dI a b sb wi hi i 505) : tl_G p l e s m below meth c D dB dI a b sb wi hi i 294 := by
  obtain ⟨hx, hb, hr, hml, hown, hts0, hX, hbl, hlocks, hgv⟩ := C0
  have hts : ∀ w ∈ lw_all, w.before #[Value.ref sb] s = true := fun w h => hts0 w (lw_all_tbl h)
  have hown : s.vm.findClass "TwoDimMatcherLaw" = some m.cls := hown
  have hA : ∀ q : Nat, s.heap.size ≤ q → (fun q : Nat => s.heap.size ≤ q) q := fun _ h => h
  have hbA : ¬ (fun q : Nat => s.heap.size ≤ q) sb := Nat.not_le.mpr hbl
  intro nc sd tx pw ph pt br fb nq re rn fa fo pr tx2 pt2 pw2 ph2 H locs ls hLI hS hl
  refine lv_aload_n hx hb dL_law_294 rfl (lv_at hl 1 rfl) ?_
  refine lv_aload_n hx hb dL_law_295 rfl (lv_at hl 0 rfl) ?_
  refine lv_iload_n hx hb dL_law_296 rfl (lv_at hl 3 rfl) ?_
  refine lv_iconst (v := nI 1) hx hb dL_law_297 (by decide) ?_
  refine tm_iadd hx hb dL_law_298 ?_
  refine tl_sld hx hb hX hbl hbA hS (by omega) (by omega) dL_law_299 ?_
  refine lv_aload_n hx hb dL_law_300 rfl (lv_at hl 0 rfl) ?_
  refine lv_iload_n hx hb dL_law_301 rfl (lv_at hl 3 rfl) ?_
  refine lv_iconst (v := nI 2) hx hb dL_law_302 (by decide) ?_
  refine tm_iadd hx hb dL_law_303 ?_
  refine tl_sld hx hb hX hbl hbA hS (by omega) (by omega) dL_law_304 ?_
  refine lv_aload_n hx hb dL_law_305 rfl (lv_at hl 0 rfl) ?_
  refine lv_iload_n hx hb dL_law_306 rfl (lv_at hl 3 rfl) ?_
  refine lv_iconst (v := nI 3) hx hb dL_law_307 (by decide) ?_
  refine tm_iadd hx hb dL_law_308 ?_
  refine tl_sld hx hb hX hbl hbA hS (by omega) (by omega) dL_law_309 ?_
  refine tl_calli (q := (RX1, TX1, 16)) (As := [.int (xs (i + 1)), .int (xs (i + 2)), .int (xs (i + 3))]) (rest := []) ⟨hx, hb, hml, hown, hts⟩ (kX1_stamp l D dB dI a H.size wi hi nc sd tx pw ph pt br fb nq re rn fa fo pr (xs (i + 1)) (xs (i + 2)) (xs (i + 3)) hLI.1) (cwV 3 hts (lw_V q109 q110 q111 q20 q112) rfl rfl rfl (by decide +kernel) ⟨Nat.le_of_ble_eq_true rfl, Nat.le_of_ble_eq_true rfl⟩) hS hA rfl rfl rfl hl.1 rfl (Nat.le_of_ble_eq_true rfl) dL_law_310 ⟨Nat.le_of_ble_eq_true rfl, Nat.le_of_ble_eq_true rfl⟩ (fun r u H locs hp hS => ?_)
  obtain ⟨sd1, tx1⟩ := u
  have hS : tm_S D dB dI s (fun q : Nat => s.heap.size ≤ q) (fun q : Nat => s.heap.size ≤ q) s.heap H locs (wM b dI wi hi tx2 pt2 pw2 ph2 ++ wX a dB dI wi hi nc sd1 tx1 pw ph pt br fb nq re rn fa fo pr) := hS
  refine lv_aload_n hx hb dL_law_313 rfl (lv_at hl 2 rfl) ?_
  refine lv_aload_n hx hb dL_law_314 rfl (lv_at hl 0 rfl) ?_
  refine lv_iload_n hx hb dL_law_315 rfl (lv_at hl 3 rfl) ?_
  refine lv_iconst (v := nI 1) hx hb dL_law_316 (by decide) ?_
  refine tm_iadd hx hb dL_law_317 ?_
  refine tl_sld hx hb hX hbl hbA hS (by omega) (by omega) dL_law_318 ?_
  refine lv_aload_n hx hb dL_law_319 rfl (lv_at hl 0 rfl) ?_
  refine lv_iload_n hx hb dL_law_320 rfl (lv_at hl 3 rfl) ?_
  refine lv_iconst (v := nI 2) hx hb dL_law_321 (by decide) ?_
  refine tm_iadd hx hb dL_law_322 ?_
  refine tl_sld hx hb hX hbl hbA hS (by omega) (by omega) dL_law_323 ?_
  refine lv_aload_n hx hb dL_law_324 rfl (lv_at hl 0 rfl) ?_
  refine lv_iload_n hx hb dL_law_325 rfl (lv_at hl 3 rfl) ?_
  refine lv_iconst (v := nI 3) hx hb dL_law_326 (by decide) ?_
  refine tm_iadd hx hb dL_law_327 ?_
  refine tl_sld hx hb hX hbl hbA hS (by omega) (by omega) dL_law_328 ?_
  refine tl_calli (q := (RX2, TX2, 6)) (As := [.int (xs (i + 1)), .int (xs (i + 2)), .int (xs (i + 3))]) (rest := [.int r]) ⟨hx, hb, hml, hown, hts⟩ (kX2_stamp l D dB dI b H.size wi hi tx2 pt2 pw2 ph2 (xs (i + 1)) (xs (i + 2)) (xs (i + 3)) hLI.2.1) (cwV 3 hts (lw_V q241 q242 q243 q21 q244) rfl rfl rfl (by decide +kernel) ⟨Nat.le_of_ble_eq_true rfl, Nat.le_of_ble_eq_true rfl⟩) hS hA rfl rfl rfl hl.1 rfl (Nat.le_of_ble_eq_true rfl) dL_law_329 ⟨Nat.le_of_ble_eq_true rfl, Nat.le_of_ble_eq_true rfl⟩ (fun r2 tx3 H locs hm hS => ?_)
  have hS : tm_S D dB dI s (fun q : Nat => s.heap.size ≤ q) (fun q : Nat => s.heap.size ≤ q) s.heap H locs (wX a dB dI wi hi nc sd1 tx1 pw ph pt br fb nq re rn fa fo pr ++ wM b dI wi hi tx3 pt2 pw2 ph2) := hS
  obtain ⟨hrr, hLI⟩ := tl_stamp (pp := xs (i + 1)) (x := xs (i + 2)) (y := xs (i + 3)) (sd1 := sd1) (tx1 := tx1) (tx3 := tx3) (r := r) (r2 := r2) hLI hp hm
  refine lv_icmp_eq (tgt := 505) hx hb dL_law_332 (by decide) (fun _ => ?_) (fun q => absurd hrr q)
  exact nx nc sd1 tx1 pw ph pt br fb nq re rn fa fo pr tx3 pt2 pw2 ph2 H locs ls hLI hS hl
set_option maxHeartbeats 4000000 in
set_option maxRecDepth 100000 in
theorem tl_case_letter {p : Program} {l : Launch} {e : Env} {s : State} {m : MethodId} {below : List Frame} {meth : Method} {c : Code} {D : va_G} {dB dI : ClassId} {a b : Nat → Nat} {sb wi hi L i : Nat} {xs : Nat → Int32} (hL : L ≤ 322) (C0 : lw_At p s m meth c sb L xs) (hi5 : i + 5 ≤ L) (nx : tl_G p l e s m below meth c D dB dI a b sb wi hi i 505) : tl_G p l e s m below meth c D dB dI a b sb wi hi i 337 := by
  obtain ⟨hx, hb, hr, hml, hown, hts0, hX, hbl, hlocks, hgv⟩ := C0
  have hts : ∀ w ∈ lw_all, w.before #[Value.ref sb] s = true := fun w h => hts0 w (lw_all_tbl h)
  have hown : s.vm.findClass "TwoDimMatcherLaw" = some m.cls := hown
  have hA : ∀ q : Nat, s.heap.size ≤ q → (fun q : Nat => s.heap.size ≤ q) q := fun _ h => h
  have hbA : ¬ (fun q : Nat => s.heap.size ≤ q) sb := Nat.not_le.mpr hbl
  intro nc sd tx pw ph pt br fb nq re rn fa fo pr tx2 pt2 pw2 ph2 H locs ls hLI hS hl
  refine lv_aload_n hx hb dL_law_337 rfl (lv_at hl 1 rfl) ?_
  refine lv_aload_n hx hb dL_law_338 rfl (lv_at hl 0 rfl) ?_
  refine lv_iload_n hx hb dL_law_339 rfl (lv_at hl 3 rfl) ?_
  refine lv_iconst (v := nI 1) hx hb dL_law_340 (by decide) ?_
  refine tm_iadd hx hb dL_law_341 ?_
  refine tl_sld hx hb hX hbl hbA hS (by omega) (by omega) dL_law_342 ?_
  refine lv_aload_n hx hb dL_law_343 rfl (lv_at hl 0 rfl) ?_
  refine lv_iload_n hx hb dL_law_344 rfl (lv_at hl 3 rfl) ?_
  refine lv_iconst (v := nI 2) hx hb dL_law_345 (by decide) ?_
  refine tm_iadd hx hb dL_law_346 ?_
  refine tl_sld hx hb hX hbl hbA hS (by omega) (by omega) dL_law_347 ?_
  refine tl_callR (q := (RX1, TX1, 16)) (As := [.int (xs (i + 1)), .int (xs (i + 2))]) (rest := []) ⟨hx, hb, hml, hown, hts⟩ (kX1_letter l D dB dI a H.size wi hi nc sd tx pw ph pt br fb nq re rn fa fo pr (xs (i + 1)) (xs (i + 2)) hLI.1.1.2 hLI.1.2.1.2) (cwV 2 hts (lw_V q113 q114 q115 q20 q116) rfl rfl rfl (by decide +kernel) ⟨Nat.le_of_ble_eq_true rfl, Nat.le_of_ble_eq_true rfl⟩) hS hA rfl rfl rfl hl.1 rfl (Nat.le_of_ble_eq_true rfl) dL_law_348 ⟨Nat.le_of_ble_eq_true rfl, Nat.le_of_ble_eq_true rfl⟩ (fun r H locs hp hS => ?_)
  have hS : tm_S D dB dI s (fun q : Nat => s.heap.size ≤ q) (fun q : Nat => s.heap.size ≤ q) s.heap H locs (wM b dI wi hi tx2 pt2 pw2 ph2 ++ wX a dB dI wi hi nc sd tx pw ph pt br fb nq re rn fa fo pr) := hS
  refine lv_aload_n hx hb dL_law_351 rfl (lv_at hl 2 rfl) ?_
  refine lv_aload_n hx hb dL_law_352 rfl (lv_at hl 0 rfl) ?_
  refine lv_iload_n hx hb dL_law_353 rfl (lv_at hl 3 rfl) ?_
  refine lv_iconst (v := nI 1) hx hb dL_law_354 (by decide) ?_
  refine tm_iadd hx hb dL_law_355 ?_
  refine tl_sld hx hb hX hbl hbA hS (by omega) (by omega) dL_law_356 ?_
  refine lv_aload_n hx hb dL_law_357 rfl (lv_at hl 0 rfl) ?_
  refine lv_iload_n hx hb dL_law_358 rfl (lv_at hl 3 rfl) ?_
  refine lv_iconst (v := nI 2) hx hb dL_law_359 (by decide) ?_
  refine tm_iadd hx hb dL_law_360 ?_
  refine tl_sld hx hb hX hbl hbA hS (by omega) (by omega) dL_law_361 ?_
  refine tl_callR (q := (RX2, TX2, 6)) (As := [.int (xs (i + 1)), .int (xs (i + 2))]) (rest := [.int r]) ⟨hx, hb, hml, hown, hts⟩ (kX2_letter l D dB dI b H.size wi hi tx2 pt2 pw2 ph2 (xs (i + 1)) (xs (i + 2)) hLI.1.1.2 hLI.1.2.1.2) (cwV 2 hts (lw_V q245 q246 q247 q21 q248) rfl rfl rfl (by decide +kernel) ⟨Nat.le_of_ble_eq_true rfl, Nat.le_of_ble_eq_true rfl⟩) hS hA rfl rfl rfl hl.1 rfl (Nat.le_of_ble_eq_true rfl) dL_law_362 ⟨Nat.le_of_ble_eq_true rfl, Nat.le_of_ble_eq_true rfl⟩ (fun r2 H locs hm hS => ?_)
  have hS : tm_S D dB dI s (fun q : Nat => s.heap.size ≤ q) (fun q : Nat => s.heap.size ≤ q) s.heap H locs (wX a dB dI wi hi nc sd tx pw ph pt br fb nq re rn fa fo pr ++ wM b dI wi hi tx2 pt2 pw2 ph2) := hS
  obtain ⟨hrr, hLI⟩ := tl_letter (x := xs (i + 1)) (y := xs (i + 2))  (r := r) (r2 := r2) hLI hp hm
  refine lv_icmp_eq (tgt := 505) hx hb dL_law_365 (by decide) (fun _ => ?_) (fun q => absurd hrr q)
  exact nx nc sd tx pw ph pt br fb nq re rn fa fo pr tx2 pt2 pw2 ph2 H locs ls hLI hS hl
end
section
set_option maxRecDepth 100000
set_option maxHeartbeats 4000000 in
set_option maxRecDepth 100000 in
theorem tl_case_occurrences {p : Program} {l : Launch} {e : Env} {s : State} {m : MethodId} {below : List Frame} {meth : Method} {c : Code} {D : va_G} {dB dI : ClassId} {a b : Nat → Nat} {sb wi hi L i : Nat} {xs : Nat → Int32} (hL : L ≤ 322) (C0 : lw_At p s m meth c sb L xs) (hi5 : i + 5 ≤ L) (nx : tl_G p l e s m below meth c D dB dI a b sb wi hi i 505) : tl_G p l e s m below meth c D dB dI a b sb wi hi i 370 := by
  obtain ⟨hx, hb, hr, hml, hown, hts0, hX, hbl, hlocks, hgv⟩ := C0
  have hts : ∀ w ∈ lw_all, w.before #[Value.ref sb] s = true := fun w h => hts0 w (lw_all_tbl h)
  have hown : s.vm.findClass "TwoDimMatcherLaw" = some m.cls := hown
  have hA : ∀ q : Nat, s.heap.size ≤ q → (fun q : Nat => s.heap.size ≤ q) q := fun _ h => h
  have hbA : ¬ (fun q : Nat => s.heap.size ≤ q) sb := Nat.not_le.mpr hbl
  intro nc sd tx pw ph pt br fb nq re rn fa fo pr tx2 pt2 pw2 ph2 H locs ls hLI hS hl
  refine lv_aload_n hx hb dL_law_370 rfl (lv_at hl 1 rfl) ?_
  refine lv_aload_n hx hb dL_law_371 rfl (lv_at hl 0 rfl) ?_
  refine lv_iload_n hx hb dL_law_372 rfl (lv_at hl 3 rfl) ?_
  refine lv_iconst (v := nI 1) hx hb dL_law_373 (by decide) ?_
  refine tm_iadd hx hb dL_law_374 ?_
  refine tl_sld hx hb hX hbl hbA hS (by omega) (by omega) dL_law_375 ?_
  refine tl_calli (q := (RX1, TX1, 16)) (As := [.int (xs (i + 1))]) (rest := []) ⟨hx, hb, hml, hown, hts⟩ (kX1_occurrences l D dB dI a H.size wi hi nc sd tx pw ph pt br fb nq re rn fa fo pr (xs (i + 1)) hLI.1 hLI.2.2.1) (cwV 1 hts (lw_V q117 q118 q119 q20 q120) rfl rfl rfl (by decide +kernel) ⟨Nat.le_of_ble_eq_true rfl, Nat.le_of_ble_eq_true rfl⟩) hS hA rfl rfl rfl hl.1 rfl (Nat.le_of_ble_eq_true rfl) dL_law_376 ⟨Nat.le_of_ble_eq_true rfl, Nat.le_of_ble_eq_true rfl⟩ (fun r u H locs hp hS => ?_)
  obtain ⟨nc1, sd1, br1, fb1, nq1, re1, rn1, fa1, fo1, pr1⟩ := u
  have hS : tm_S D dB dI s (fun q : Nat => s.heap.size ≤ q) (fun q : Nat => s.heap.size ≤ q) s.heap H locs (wM b dI wi hi tx2 pt2 pw2 ph2 ++ wX a dB dI wi hi nc1 sd1 tx pw ph pt br1 fb1 nq1 re1 rn1 fa1 fo1 pr1) := hS
  refine lv_aload_n hx hb dL_law_379 rfl (lv_at hl 2 rfl) ?_
  refine lv_aload_n hx hb dL_law_380 rfl (lv_at hl 0 rfl) ?_
  refine lv_iload_n hx hb dL_law_381 rfl (lv_at hl 3 rfl) ?_
  refine lv_iconst (v := nI 1) hx hb dL_law_382 (by decide) ?_
  refine tm_iadd hx hb dL_law_383 ?_
  refine tl_sld hx hb hX hbl hbA hS (by omega) (by omega) dL_law_384 ?_
  refine tl_callR (q := (RX2, TX2, 6)) (As := [.int (xs (i + 1))]) (rest := [.int r]) ⟨hx, hb, hml, hown, hts⟩ (kX2_occurrences l D dB dI b H.size wi hi tx2 pt2 pw2 ph2 (xs (i + 1)) hLI.2.1) (cwV 1 hts (lw_V q249 q250 q251 q21 q252) rfl rfl rfl (by decide +kernel) ⟨Nat.le_of_ble_eq_true rfl, Nat.le_of_ble_eq_true rfl⟩) hS hA rfl rfl rfl hl.1 rfl (Nat.le_of_ble_eq_true rfl) dL_law_385 ⟨Nat.le_of_ble_eq_true rfl, Nat.le_of_ble_eq_true rfl⟩ (fun r2 H locs hm hS => ?_)
  have hS : tm_S D dB dI s (fun q : Nat => s.heap.size ≤ q) (fun q : Nat => s.heap.size ≤ q) s.heap H locs (wX a dB dI wi hi nc1 sd1 tx pw ph pt br1 fb1 nq1 re1 rn1 fa1 fo1 pr1 ++ wM b dI wi hi tx2 pt2 pw2 ph2) := hS
  obtain ⟨hrr, hLI⟩ := tl_occurrences (pp := xs (i + 1)) (nc1 := nc1) (sd1 := sd1) (br1 := br1) (fb1 := fb1) (nq1 := nq1) (re1 := re1) (rn1 := rn1) (fa1 := fa1) (fo1 := fo1) (pr1 := pr1) (r := r) (r2 := r2) hLI hp hm
  refine lv_icmp_eq (tgt := 505) hx hb dL_law_388 (by decide) (fun _ => ?_) (fun q => absurd hrr q)
  exact nx nc1 sd1 tx pw ph pt br1 fb1 nq1 re1 rn1 fa1 fo1 pr1 tx2 pt2 pw2 ph2 H locs ls hLI hS hl
set_option maxHeartbeats 4000000 in
set_option maxRecDepth 100000 in
theorem tl_case_occurs {p : Program} {l : Launch} {e : Env} {s : State} {m : MethodId} {below : List Frame} {meth : Method} {c : Code} {D : va_G} {dB dI : ClassId} {a b : Nat → Nat} {sb wi hi L i : Nat} {xs : Nat → Int32} (hL : L ≤ 322) (C0 : lw_At p s m meth c sb L xs) (hi5 : i + 5 ≤ L) (nx : tl_G p l e s m below meth c D dB dI a b sb wi hi i 505) : tl_G p l e s m below meth c D dB dI a b sb wi hi i 393 := by
  obtain ⟨hx, hb, hr, hml, hown, hts0, hX, hbl, hlocks, hgv⟩ := C0
  have hts : ∀ w ∈ lw_all, w.before #[Value.ref sb] s = true := fun w h => hts0 w (lw_all_tbl h)
  have hown : s.vm.findClass "TwoDimMatcherLaw" = some m.cls := hown
  have hA : ∀ q : Nat, s.heap.size ≤ q → (fun q : Nat => s.heap.size ≤ q) q := fun _ h => h
  have hbA : ¬ (fun q : Nat => s.heap.size ≤ q) sb := Nat.not_le.mpr hbl
  intro nc sd tx pw ph pt br fb nq re rn fa fo pr tx2 pt2 pw2 ph2 H locs ls hLI hS hl
  refine lv_aload_n hx hb dL_law_393 rfl (lv_at hl 1 rfl) ?_
  refine lv_aload_n hx hb dL_law_394 rfl (lv_at hl 0 rfl) ?_
  refine lv_iload_n hx hb dL_law_395 rfl (lv_at hl 3 rfl) ?_
  refine lv_iconst (v := nI 1) hx hb dL_law_396 (by decide) ?_
  refine tm_iadd hx hb dL_law_397 ?_
  refine tl_sld hx hb hX hbl hbA hS (by omega) (by omega) dL_law_398 ?_
  refine lv_aload_n hx hb dL_law_399 rfl (lv_at hl 0 rfl) ?_
  refine lv_iload_n hx hb dL_law_400 rfl (lv_at hl 3 rfl) ?_
  refine lv_iconst (v := nI 2) hx hb dL_law_401 (by decide) ?_
  refine tm_iadd hx hb dL_law_402 ?_
  refine tl_sld hx hb hX hbl hbA hS (by omega) (by omega) dL_law_403 ?_
  refine lv_aload_n hx hb dL_law_404 rfl (lv_at hl 0 rfl) ?_
  refine lv_iload_n hx hb dL_law_405 rfl (lv_at hl 3 rfl) ?_
  refine lv_iconst (v := nI 3) hx hb dL_law_406 (by decide) ?_
  refine tm_iadd hx hb dL_law_407 ?_
  refine tl_sld hx hb hX hbl hbA hS (by omega) (by omega) dL_law_408 ?_
  refine tl_calli (q := (RX1, TX1, 16)) (As := [.int (xs (i + 1)), .int (xs (i + 2)), .int (xs (i + 3))]) (rest := []) ⟨hx, hb, hml, hown, hts⟩ (kX1_occurs l D dB dI a H.size wi hi nc sd tx pw ph pt br fb nq re rn fa fo pr (xs (i + 1)) (xs (i + 2)) (xs (i + 3)) hLI.1 hLI.2.2.1) (cwV 3 hts (lw_V q157 q158 q159 q20 q160) rfl rfl rfl (by decide +kernel) ⟨Nat.le_of_ble_eq_true rfl, Nat.le_of_ble_eq_true rfl⟩) hS hA rfl rfl rfl hl.1 rfl (Nat.le_of_ble_eq_true rfl) dL_law_409 ⟨Nat.le_of_ble_eq_true rfl, Nat.le_of_ble_eq_true rfl⟩ (fun r u H locs hp hS => ?_)
  obtain ⟨nc1, sd1, br1, fb1, nq1, re1, rn1, fa1, fo1, pr1⟩ := u
  have hS : tm_S D dB dI s (fun q : Nat => s.heap.size ≤ q) (fun q : Nat => s.heap.size ≤ q) s.heap H locs (wM b dI wi hi tx2 pt2 pw2 ph2 ++ wX a dB dI wi hi nc1 sd1 tx pw ph pt br1 fb1 nq1 re1 rn1 fa1 fo1 pr1) := hS
  refine lv_aload_n hx hb dL_law_412 rfl (lv_at hl 2 rfl) ?_
  refine lv_aload_n hx hb dL_law_413 rfl (lv_at hl 0 rfl) ?_
  refine lv_iload_n hx hb dL_law_414 rfl (lv_at hl 3 rfl) ?_
  refine lv_iconst (v := nI 1) hx hb dL_law_415 (by decide) ?_
  refine tm_iadd hx hb dL_law_416 ?_
  refine tl_sld hx hb hX hbl hbA hS (by omega) (by omega) dL_law_417 ?_
  refine lv_aload_n hx hb dL_law_418 rfl (lv_at hl 0 rfl) ?_
  refine lv_iload_n hx hb dL_law_419 rfl (lv_at hl 3 rfl) ?_
  refine lv_iconst (v := nI 2) hx hb dL_law_420 (by decide) ?_
  refine tm_iadd hx hb dL_law_421 ?_
  refine tl_sld hx hb hX hbl hbA hS (by omega) (by omega) dL_law_422 ?_
  refine lv_aload_n hx hb dL_law_423 rfl (lv_at hl 0 rfl) ?_
  refine lv_iload_n hx hb dL_law_424 rfl (lv_at hl 3 rfl) ?_
  refine lv_iconst (v := nI 3) hx hb dL_law_425 (by decide) ?_
  refine tm_iadd hx hb dL_law_426 ?_
  refine tl_sld hx hb hX hbl hbA hS (by omega) (by omega) dL_law_427 ?_
  refine tl_callR (q := (RX2, TX2, 6)) (As := [.int (xs (i + 1)), .int (xs (i + 2)), .int (xs (i + 3))]) (rest := [.int r]) ⟨hx, hb, hml, hown, hts⟩ (kX2_occurs l D dB dI b H.size wi hi tx2 pt2 pw2 ph2 (xs (i + 1)) (xs (i + 2)) (xs (i + 3)) hLI.2.1) (cwV 3 hts (lw_V q257 q254 q255 q21 q256) rfl rfl rfl (by decide +kernel) ⟨Nat.le_of_ble_eq_true rfl, Nat.le_of_ble_eq_true rfl⟩) hS hA rfl rfl rfl hl.1 rfl (Nat.le_of_ble_eq_true rfl) dL_law_428 ⟨Nat.le_of_ble_eq_true rfl, Nat.le_of_ble_eq_true rfl⟩ (fun r2 H locs hm hS => ?_)
  have hS : tm_S D dB dI s (fun q : Nat => s.heap.size ≤ q) (fun q : Nat => s.heap.size ≤ q) s.heap H locs (wX a dB dI wi hi nc1 sd1 tx pw ph pt br1 fb1 nq1 re1 rn1 fa1 fo1 pr1 ++ wM b dI wi hi tx2 pt2 pw2 ph2) := hS
  obtain ⟨hrr, hLI⟩ := tl_occurs (pp := xs (i + 1)) (x := xs (i + 2)) (y := xs (i + 3)) (nc1 := nc1) (sd1 := sd1) (br1 := br1) (fb1 := fb1) (nq1 := nq1) (re1 := re1) (rn1 := rn1) (fa1 := fa1) (fo1 := fo1) (pr1 := pr1) (r := r) (r2 := r2) hLI hp hm
  refine lv_icmp_eq (tgt := 505) hx hb dL_law_431 (by decide) (fun _ => ?_) (fun q => absurd hrr q)
  exact nx nc1 sd1 tx pw ph pt br1 fb1 nq1 re1 rn1 fa1 fo1 pr1 tx2 pt2 pw2 ph2 H locs ls hLI hS hl
set_option maxHeartbeats 4000000 in
set_option maxRecDepth 100000 in
theorem tl_case_next {p : Program} {l : Launch} {e : Env} {s : State} {m : MethodId} {below : List Frame} {meth : Method} {c : Code} {D : va_G} {dB dI : ClassId} {a b : Nat → Nat} {sb wi hi L i : Nat} {xs : Nat → Int32} (hL : L ≤ 322) (C0 : lw_At p s m meth c sb L xs) (hi5 : i + 5 ≤ L) (nx : tl_G p l e s m below meth c D dB dI a b sb wi hi i 505) : tl_G p l e s m below meth c D dB dI a b sb wi hi i 436 := by
  obtain ⟨hx, hb, hr, hml, hown, hts0, hX, hbl, hlocks, hgv⟩ := C0
  have hts : ∀ w ∈ lw_all, w.before #[Value.ref sb] s = true := fun w h => hts0 w (lw_all_tbl h)
  have hown : s.vm.findClass "TwoDimMatcherLaw" = some m.cls := hown
  have hA : ∀ q : Nat, s.heap.size ≤ q → (fun q : Nat => s.heap.size ≤ q) q := fun _ h => h
  have hbA : ¬ (fun q : Nat => s.heap.size ≤ q) sb := Nat.not_le.mpr hbl
  intro nc sd tx pw ph pt br fb nq re rn fa fo pr tx2 pt2 pw2 ph2 H locs ls hLI hS hl
  refine lv_aload_n hx hb dL_law_436 rfl (lv_at hl 1 rfl) ?_
  refine lv_aload_n hx hb dL_law_437 rfl (lv_at hl 0 rfl) ?_
  refine lv_iload_n hx hb dL_law_438 rfl (lv_at hl 3 rfl) ?_
  refine lv_iconst (v := nI 1) hx hb dL_law_439 (by decide) ?_
  refine tm_iadd hx hb dL_law_440 ?_
  refine tl_sld hx hb hX hbl hbA hS (by omega) (by omega) dL_law_441 ?_
  refine lv_aload_n hx hb dL_law_442 rfl (lv_at hl 0 rfl) ?_
  refine lv_iload_n hx hb dL_law_443 rfl (lv_at hl 3 rfl) ?_
  refine lv_iconst (v := nI 2) hx hb dL_law_444 (by decide) ?_
  refine tm_iadd hx hb dL_law_445 ?_
  refine tl_sld hx hb hX hbl hbA hS (by omega) (by omega) dL_law_446 ?_
  refine tl_calli (q := (RX1, TX1, 16)) (As := [.int (xs (i + 1)), .int (xs (i + 2))]) (rest := []) ⟨hx, hb, hml, hown, hts⟩ (kX1_next l D dB dI a H.size wi hi nc sd tx pw ph pt br fb nq re rn fa fo pr (xs (i + 1)) (xs (i + 2)) hLI.1 hLI.2.2.1) (cwV 2 hts (lw_V q161 q162 q163 q20 q164) rfl rfl rfl (by decide +kernel) ⟨Nat.le_of_ble_eq_true rfl, Nat.le_of_ble_eq_true rfl⟩) hS hA rfl rfl rfl hl.1 rfl (Nat.le_of_ble_eq_true rfl) dL_law_447 ⟨Nat.le_of_ble_eq_true rfl, Nat.le_of_ble_eq_true rfl⟩ (fun r u H locs hp hS => ?_)
  obtain ⟨nc1, sd1, br1, fb1, nq1, re1, rn1, fa1, fo1, pr1⟩ := u
  have hS : tm_S D dB dI s (fun q : Nat => s.heap.size ≤ q) (fun q : Nat => s.heap.size ≤ q) s.heap H locs (wM b dI wi hi tx2 pt2 pw2 ph2 ++ wX a dB dI wi hi nc1 sd1 tx pw ph pt br1 fb1 nq1 re1 rn1 fa1 fo1 pr1) := hS
  refine lv_aload_n hx hb dL_law_450 rfl (lv_at hl 2 rfl) ?_
  refine lv_aload_n hx hb dL_law_451 rfl (lv_at hl 0 rfl) ?_
  refine lv_iload_n hx hb dL_law_452 rfl (lv_at hl 3 rfl) ?_
  refine lv_iconst (v := nI 1) hx hb dL_law_453 (by decide) ?_
  refine tm_iadd hx hb dL_law_454 ?_
  refine tl_sld hx hb hX hbl hbA hS (by omega) (by omega) dL_law_455 ?_
  refine lv_aload_n hx hb dL_law_456 rfl (lv_at hl 0 rfl) ?_
  refine lv_iload_n hx hb dL_law_457 rfl (lv_at hl 3 rfl) ?_
  refine lv_iconst (v := nI 2) hx hb dL_law_458 (by decide) ?_
  refine tm_iadd hx hb dL_law_459 ?_
  refine tl_sld hx hb hX hbl hbA hS (by omega) (by omega) dL_law_460 ?_
  refine tl_callR (q := (RX2, TX2, 6)) (As := [.int (xs (i + 1)), .int (xs (i + 2))]) (rest := [.int r]) ⟨hx, hb, hml, hown, hts⟩ (kX2_next l D dB dI b H.size wi hi tx2 pt2 pw2 ph2 (xs (i + 1)) (xs (i + 2)) hLI.2.1) (cwV 2 hts (lw_V q258 q259 q260 q21 q261) rfl rfl rfl (by decide +kernel) ⟨Nat.le_of_ble_eq_true rfl, Nat.le_of_ble_eq_true rfl⟩) hS hA rfl rfl rfl hl.1 rfl (Nat.le_of_ble_eq_true rfl) dL_law_461 ⟨Nat.le_of_ble_eq_true rfl, Nat.le_of_ble_eq_true rfl⟩ (fun r2 H locs hm hS => ?_)
  have hS : tm_S D dB dI s (fun q : Nat => s.heap.size ≤ q) (fun q : Nat => s.heap.size ≤ q) s.heap H locs (wX a dB dI wi hi nc1 sd1 tx pw ph pt br1 fb1 nq1 re1 rn1 fa1 fo1 pr1 ++ wM b dI wi hi tx2 pt2 pw2 ph2) := hS
  obtain ⟨hrr, hLI⟩ := tl_next (pp := xs (i + 1)) (fr := xs (i + 2)) (nc1 := nc1) (sd1 := sd1) (br1 := br1) (fb1 := fb1) (nq1 := nq1) (re1 := re1) (rn1 := rn1) (fa1 := fa1) (fo1 := fo1) (pr1 := pr1) (r := r) (r2 := r2) hLI hp hm
  refine lv_icmp_eq (tgt := 505) hx hb dL_law_464 (by decide) (fun _ => ?_) (fun q => absurd hrr q)
  exact nx nc1 sd1 tx pw ph pt br1 fb1 nq1 re1 rn1 fa1 fo1 pr1 tx2 pt2 pw2 ph2 H locs ls hLI hS hl
end
section
set_option maxRecDepth 100000
set_option maxHeartbeats 4000000 in
set_option maxRecDepth 100000 in
theorem tl_case_covered {p : Program} {l : Launch} {e : Env} {s : State} {m : MethodId} {below : List Frame} {meth : Method} {c : Code} {D : va_G} {dB dI : ClassId} {a b : Nat → Nat} {sb wi hi L i : Nat} {xs : Nat → Int32} (hL : L ≤ 322) (C0 : lw_At p s m meth c sb L xs) (hi5 : i + 5 ≤ L) (nx : tl_G p l e s m below meth c D dB dI a b sb wi hi i 505) : tl_G p l e s m below meth c D dB dI a b sb wi hi i 469 := by
  obtain ⟨hx, hb, hr, hml, hown, hts0, hX, hbl, hlocks, hgv⟩ := C0
  have hts : ∀ w ∈ lw_all, w.before #[Value.ref sb] s = true := fun w h => hts0 w (lw_all_tbl h)
  have hown : s.vm.findClass "TwoDimMatcherLaw" = some m.cls := hown
  have hA : ∀ q : Nat, s.heap.size ≤ q → (fun q : Nat => s.heap.size ≤ q) q := fun _ h => h
  have hbA : ¬ (fun q : Nat => s.heap.size ≤ q) sb := Nat.not_le.mpr hbl
  intro nc sd tx pw ph pt br fb nq re rn fa fo pr tx2 pt2 pw2 ph2 H locs ls hLI hS hl
  refine lv_aload_n hx hb dL_law_469 rfl (lv_at hl 1 rfl) ?_
  refine tl_calli (q := (RX1, TX1, 16)) (As := []) (rest := []) ⟨hx, hb, hml, hown, hts⟩ (kX1_covered l D dB dI a H.size wi hi nc sd tx pw ph pt br fb nq re rn fa fo pr  hLI.1 hLI.2.2.1) (cwV 0 hts (lw_V q165 q166 q167 q20 q168) rfl rfl rfl (by decide +kernel) ⟨Nat.le_of_ble_eq_true rfl, Nat.le_of_ble_eq_true rfl⟩) hS hA rfl rfl rfl hl.1 rfl (Nat.le_of_ble_eq_true rfl) dL_law_470 ⟨Nat.le_of_ble_eq_true rfl, Nat.le_of_ble_eq_true rfl⟩ (fun r u H locs hp hS => ?_)
  obtain ⟨nc1, sd1, br1, fb1, nq1, re1, rn1, fa1, fo1, pr1⟩ := u
  have hS : tm_S D dB dI s (fun q : Nat => s.heap.size ≤ q) (fun q : Nat => s.heap.size ≤ q) s.heap H locs (wM b dI wi hi tx2 pt2 pw2 ph2 ++ wX a dB dI wi hi nc1 sd1 tx pw ph pt br1 fb1 nq1 re1 rn1 fa1 fo1 pr1) := hS
  refine lv_aload_n hx hb dL_law_473 rfl (lv_at hl 2 rfl) ?_
  refine tl_callR (q := (RX2, TX2, 6)) (As := []) (rest := [.int r]) ⟨hx, hb, hml, hown, hts⟩ (kX2_covered l D dB dI b H.size wi hi tx2 pt2 pw2 ph2  hLI.2.1) (cwV 0 hts (lw_V q262 q263 q264 q21 q265) rfl rfl rfl (by decide +kernel) ⟨Nat.le_of_ble_eq_true rfl, Nat.le_of_ble_eq_true rfl⟩) hS hA rfl rfl rfl hl.1 rfl (Nat.le_of_ble_eq_true rfl) dL_law_474 ⟨Nat.le_of_ble_eq_true rfl, Nat.le_of_ble_eq_true rfl⟩ (fun r2 H locs hm hS => ?_)
  have hS : tm_S D dB dI s (fun q : Nat => s.heap.size ≤ q) (fun q : Nat => s.heap.size ≤ q) s.heap H locs (wX a dB dI wi hi nc1 sd1 tx pw ph pt br1 fb1 nq1 re1 rn1 fa1 fo1 pr1 ++ wM b dI wi hi tx2 pt2 pw2 ph2) := hS
  obtain ⟨hrr, hLI⟩ := tl_covered  (nc1 := nc1) (sd1 := sd1) (br1 := br1) (fb1 := fb1) (nq1 := nq1) (re1 := re1) (rn1 := rn1) (fa1 := fa1) (fo1 := fo1) (pr1 := pr1) (r := r) (r2 := r2) hLI hp hm
  refine lv_icmp_eq (tgt := 505) hx hb dL_law_477 (by decide) (fun _ => ?_) (fun q => absurd hrr q)
  exact nx nc1 sd1 tx pw ph pt br1 fb1 nq1 re1 rn1 fa1 fo1 pr1 tx2 pt2 pw2 ph2 H locs ls hLI hS hl
set_option maxHeartbeats 4000000 in
set_option maxRecDepth 100000 in
theorem tl_case_overlaps {p : Program} {l : Launch} {e : Env} {s : State} {m : MethodId} {below : List Frame} {meth : Method} {c : Code} {D : va_G} {dB dI : ClassId} {a b : Nat → Nat} {sb wi hi L i : Nat} {xs : Nat → Int32} (hL : L ≤ 322) (C0 : lw_At p s m meth c sb L xs) (hi5 : i + 5 ≤ L) (nx : tl_G p l e s m below meth c D dB dI a b sb wi hi i 505) : tl_G p l e s m below meth c D dB dI a b sb wi hi i 482 := by
  obtain ⟨hx, hb, hr, hml, hown, hts0, hX, hbl, hlocks, hgv⟩ := C0
  have hts : ∀ w ∈ lw_all, w.before #[Value.ref sb] s = true := fun w h => hts0 w (lw_all_tbl h)
  have hown : s.vm.findClass "TwoDimMatcherLaw" = some m.cls := hown
  have hA : ∀ q : Nat, s.heap.size ≤ q → (fun q : Nat => s.heap.size ≤ q) q := fun _ h => h
  have hbA : ¬ (fun q : Nat => s.heap.size ≤ q) sb := Nat.not_le.mpr hbl
  intro nc sd tx pw ph pt br fb nq re rn fa fo pr tx2 pt2 pw2 ph2 H locs ls hLI hS hl
  refine lv_aload_n hx hb dL_law_482 rfl (lv_at hl 1 rfl) ?_
  refine lv_aload_n hx hb dL_law_483 rfl (lv_at hl 0 rfl) ?_
  refine lv_iload_n hx hb dL_law_484 rfl (lv_at hl 3 rfl) ?_
  refine lv_iconst (v := nI 1) hx hb dL_law_485 (by decide) ?_
  refine tm_iadd hx hb dL_law_486 ?_
  refine tl_sld hx hb hX hbl hbA hS (by omega) (by omega) dL_law_487 ?_
  refine tl_calli (q := (RX1, TX1, 16)) (As := [.int (xs (i + 1))]) (rest := []) ⟨hx, hb, hml, hown, hts⟩ (kX1_overlaps l D dB dI a H.size wi hi nc sd tx pw ph pt br fb nq re rn fa fo pr (xs (i + 1)) hLI.1 hLI.2.2.1) (cwV 1 hts (lw_V q173 q174 q175 q20 q176) rfl rfl rfl (by decide +kernel) ⟨Nat.le_of_ble_eq_true rfl, Nat.le_of_ble_eq_true rfl⟩) hS hA rfl rfl rfl hl.1 rfl (Nat.le_of_ble_eq_true rfl) dL_law_488 ⟨Nat.le_of_ble_eq_true rfl, Nat.le_of_ble_eq_true rfl⟩ (fun r u H locs hp hS => ?_)
  obtain ⟨nc1, sd1, br1, fb1, nq1, re1, rn1, fa1, fo1, pr1⟩ := u
  have hS : tm_S D dB dI s (fun q : Nat => s.heap.size ≤ q) (fun q : Nat => s.heap.size ≤ q) s.heap H locs (wM b dI wi hi tx2 pt2 pw2 ph2 ++ wX a dB dI wi hi nc1 sd1 tx pw ph pt br1 fb1 nq1 re1 rn1 fa1 fo1 pr1) := hS
  refine lv_aload_n hx hb dL_law_491 rfl (lv_at hl 2 rfl) ?_
  refine lv_aload_n hx hb dL_law_492 rfl (lv_at hl 0 rfl) ?_
  refine lv_iload_n hx hb dL_law_493 rfl (lv_at hl 3 rfl) ?_
  refine lv_iconst (v := nI 1) hx hb dL_law_494 (by decide) ?_
  refine tm_iadd hx hb dL_law_495 ?_
  refine tl_sld hx hb hX hbl hbA hS (by omega) (by omega) dL_law_496 ?_
  refine tl_callR (q := (RX2, TX2, 6)) (As := [.int (xs (i + 1))]) (rest := [.int r]) ⟨hx, hb, hml, hown, hts⟩ (kX2_overlaps l D dB dI b H.size wi hi tx2 pt2 pw2 ph2 (xs (i + 1)) hLI.2.1) (cwV 1 hts (lw_V q270 q271 q272 q21 q273) rfl rfl rfl (by decide +kernel) ⟨Nat.le_of_ble_eq_true rfl, Nat.le_of_ble_eq_true rfl⟩) hS hA rfl rfl rfl hl.1 rfl (Nat.le_of_ble_eq_true rfl) dL_law_497 ⟨Nat.le_of_ble_eq_true rfl, Nat.le_of_ble_eq_true rfl⟩ (fun r2 H locs hm hS => ?_)
  have hS : tm_S D dB dI s (fun q : Nat => s.heap.size ≤ q) (fun q : Nat => s.heap.size ≤ q) s.heap H locs (wX a dB dI wi hi nc1 sd1 tx pw ph pt br1 fb1 nq1 re1 rn1 fa1 fo1 pr1 ++ wM b dI wi hi tx2 pt2 pw2 ph2) := hS
  obtain ⟨hrr, hLI⟩ := tl_overlaps (pp := xs (i + 1)) (nc1 := nc1) (sd1 := sd1) (br1 := br1) (fb1 := fb1) (nq1 := nq1) (re1 := re1) (rn1 := rn1) (fa1 := fa1) (fo1 := fo1) (pr1 := pr1) (r := r) (r2 := r2) hLI hp hm
  refine lv_icmp_eq (tgt := 505) hx hb dL_law_500 (by decide) (fun _ => ?_) (fun q => absurd hrr q)
  exact nx nc1 sd1 tx pw ph pt br1 fb1 nq1 re1 rn1 fa1 fo1 pr1 tx2 pt2 pw2 ph2 H locs ls hLI hS hl
end
section
set_option maxRecDepth 100000
set_option maxHeartbeats 8000000 in
set_option maxRecDepth 100000 in
/-- THE LAW'S LOOP -/
theorem tl_loop {p : Program} {l : Launch} {e : Env} {s : State} {m : MethodId} {below : List Frame} {meth : Method} {c : Code} {D : va_G} {dB dI : ClassId} {a b : Nat → Nat} {sb wi hi L : Nat} {xs : Nat → Int32} (hL : L ≤ 322) (C0 : lw_At p s m meth c sb L xs) : ∀ (n i : Nat), 400 - i < n → i ≤ 330 → tl_G p l e s m below meth c D dB dI a b sb wi hi i 38 := by
  obtain ⟨hx, hb, hr, hml, hown, hts0, hX, hbl, hlocks, hgv⟩ := id C0
  have hA : ∀ q : Nat, s.heap.size ≤ q → (fun q : Nat => s.heap.size ≤ q) q := fun _ h => h
  have hbA : ¬ (fun q : Nat => s.heap.size ≤ q) sb := Nat.not_le.mpr hbl
  intro n
  induction n with
  | zero => intros; omega
  | succ n ih =>
    intro i hn hi330
    intro nc sd tx pw ph pt br fb nq re rn fa fo pr tx2 pt2 pw2 ph2 H locs ls hLI hS hl
    refine lv_iload_n hx hb dL_law_38 rfl (lv_at hl 3 rfl) ?_
    refine lv_aload_n hx hb dL_law_39 rfl (lv_at hl 0 rfl) ?_
    refine tl_slen hx hb hX hbl hbA hS dL_law_40 ?_
    refine lv_iconst (v := nI 5) hx hb dL_law_41 (by decide) ?_
    refine lv_isub hx hb dL_law_42 ?_
    refine tm_Igt hx hb ((i : Nat) : Int) (((L : Nat) : Int) - ((5 : Nat) : Int)) (nI_toInt (by omega)) (pk_sub_toInt (by omega) (by omega)) (tgt := 511) dL_law_43 (by decide) (fun c43 => ?_) (fun c43 => ?_)
    · refine lv_iconst (v := 1) hx hb dL_law_511 (by decide) ?_
      refine va_forget (fun q hq => hS.2.2.2.2.2 q hq) ?_
      refine W.widen (k := 600000) (n := 7290000) (by decide) (by decide) ?_
      exact lw_ret hx hb hr hlocks dL_law_512
    have hi5 : i + 5 ≤ L := by omega
    refine lv_aload_n hx hb dL_law_46 rfl (lv_at hl 0 rfl) ?_
    refine lv_iload_n hx hb dL_law_47 rfl (lv_at hl 3 rfl) ?_
    refine tl_sld hx hb hX hbl hbA hS (by omega) (by omega) dL_law_48 ?_
    refine lv_bipush (v := nI 15) hx hb dL_law_49 (by decide) ?_
    refine lv_iand hx hb dL_law_51 ?_
    obtain ⟨j, hj, ej⟩ := pk_andE (xs i) (m := nI 15) 4 (by decide)
    refine tm_top ej ?_
    have nx : tl_G p l e s m below meth c D dB dI a b sb wi hi i 505 := by
      intro nc sd tx pw ph pt br fb nq re rn fa fo pr tx2 pt2 pw2 ph2 H locs ls hLI hS hl
      refine lv_iinc (v := nI (i + 5)) (lv' := [(3, .int (nI (i + 5))), (0, .ref sb), (1, .ref (a 0)), (2, .ref (b 0))]) hx hb dL_law_505 hl (k := 3) rfl (by rw [show Int32.ofInt 5 = nI 5 by decide]; exact nI_add i 5) (by decide) rfl (fun ls hl => ?_)
      refine lv_goto (tgt := 38) hx hb dL_law_508 (by decide) ?_
      exact ih (i + 5) (by omega) (by omega) nc sd tx pw ph pt br fb nq re rn fa fo pr tx2 pt2 pw2 ph2 H locs ls hLI hS (lv_sub hl [1, 2, 3, 0] rfl)
    have hj2 : j = 0 ∨ j = 1 ∨ j = 2 ∨ j = 3 ∨ j = 4 ∨ j = 5 ∨ j = 6 ∨ j = 7 ∨ j = 8 ∨ j = 9 ∨ j = 10 ∨ 11 ≤ j := by omega
    rcases hj2 with rfl | rfl | rfl | rfl | rfl | rfl | rfl | rfl | rfl | rfl | rfl | hj2
    · refine lv_tableIn (off := 60) (tgt := 112) hx hb dL_law_52 (by decide) (by decide) (by first | rfl | decide) (by decide) ?_
      exact tl_case_write hL C0 hi5 nx nc sd tx pw ph pt br fb nq re rn fa fo pr tx2 pt2 pw2 ph2 H locs ls hLI hS hl
    · refine lv_tableIn (off := 103) (tgt := 155) hx hb dL_law_52 (by decide) (by decide) (by first | rfl | decide) (by decide) ?_
      exact tl_case_shape hL C0 hi5 nx nc sd tx pw ph pt br fb nq re rn fa fo pr tx2 pt2 pw2 ph2 H locs ls hLI hS hl
    · refine lv_tableIn (off := 146) (tgt := 198) hx hb dL_law_52 (by decide) (by decide) (by first | rfl | decide) (by decide) ?_
      exact tl_case_paint hL C0 hi5 nx nc sd tx pw ph pt br fb nq re rn fa fo pr tx2 pt2 pw2 ph2 H locs ls hLI hS hl
    · refine lv_tableIn (off := 199) (tgt := 251) hx hb dL_law_52 (by decide) (by decide) (by first | rfl | decide) (by decide) ?_
      exact tl_case_copy hL C0 hi5 nx nc sd tx pw ph pt br fb nq re rn fa fo pr tx2 pt2 pw2 ph2 H locs ls hLI hS hl
    · refine lv_tableIn (off := 242) (tgt := 294) hx hb dL_law_52 (by decide) (by decide) (by first | rfl | decide) (by decide) ?_
      exact tl_case_stamp hL C0 hi5 nx nc sd tx pw ph pt br fb nq re rn fa fo pr tx2 pt2 pw2 ph2 H locs ls hLI hS hl
    · refine lv_tableIn (off := 285) (tgt := 337) hx hb dL_law_52 (by decide) (by decide) (by first | rfl | decide) (by decide) ?_
      exact tl_case_letter hL C0 hi5 nx nc sd tx pw ph pt br fb nq re rn fa fo pr tx2 pt2 pw2 ph2 H locs ls hLI hS hl
    · refine lv_tableIn (off := 318) (tgt := 370) hx hb dL_law_52 (by decide) (by decide) (by first | rfl | decide) (by decide) ?_
      exact tl_case_occurrences hL C0 hi5 nx nc sd tx pw ph pt br fb nq re rn fa fo pr tx2 pt2 pw2 ph2 H locs ls hLI hS hl
    · refine lv_tableIn (off := 341) (tgt := 393) hx hb dL_law_52 (by decide) (by decide) (by first | rfl | decide) (by decide) ?_
      exact tl_case_occurs hL C0 hi5 nx nc sd tx pw ph pt br fb nq re rn fa fo pr tx2 pt2 pw2 ph2 H locs ls hLI hS hl
    · refine lv_tableIn (off := 384) (tgt := 436) hx hb dL_law_52 (by decide) (by decide) (by first | rfl | decide) (by decide) ?_
      exact tl_case_next hL C0 hi5 nx nc sd tx pw ph pt br fb nq re rn fa fo pr tx2 pt2 pw2 ph2 H locs ls hLI hS hl
    · refine lv_tableIn (off := 417) (tgt := 469) hx hb dL_law_52 (by decide) (by decide) (by first | rfl | decide) (by decide) ?_
      exact tl_case_covered hL C0 hi5 nx nc sd tx pw ph pt br fb nq re rn fa fo pr tx2 pt2 pw2 ph2 H locs ls hLI hS hl
    · refine lv_tableIn (off := 430) (tgt := 482) hx hb dL_law_52 (by decide) (by decide) (by first | rfl | decide) (by decide) ?_
      exact tl_case_overlaps hL C0 hi5 nx nc sd tx pw ph pt br fb nq re rn fa fo pr tx2 pt2 pw2 ph2 H locs ls hLI hS hl
    · refine lv_tableOut (tgt := 505) hx hb dL_law_52 (Or.inr (by rw [nI_toInt (by omega)]; omega)) (by decide) ?_
      exact nx nc sd tx pw ph pt br fb nq re rn fa fo pr tx2 pt2 pw2 ph2 H locs ls hLI hS hl
set_option maxHeartbeats 8000000 in
set_option maxRecDepth 100000 in
/-- THE LAW, from its entry -/
theorem whole_start {p : Program} {e : Env} {s : State} {m : MethodId} {below : List Frame} {meth : Method} {c : Code} (l : Launch) {b L : Nat} {xs : Nat → Int32} (hL : L ≤ 322) (C0 : lw_At p s m meth c b L xs) : W p l e room_1 s m #[Value.ref b] below meth c s.heap [] 0 0 (lw_Z below #[Value.ref b] s) (entryFrame m ([Value.ref b] : List Value).toArray 4) := by
  obtain ⟨hx, hb, hr, hml, hown, hts0, hX, hbl, hlocks, hgv⟩ := id C0
  have hts : ∀ w ∈ lw_all, w.before #[Value.ref b] s = true := fun w h => hts0 w (lw_all_tbl h)
  have hown : s.vm.findClass "TwoDimMatcherLaw" = some m.cls := hown
  obtain ⟨A, hAe⟩ : ∃ A : Nat → Prop, A = (fun q : Nat => s.heap.size ≤ q) := ⟨_, rfl⟩
  have hbA : ¬ A b := by rw [hAe]; exact Nat.not_le.mpr hbl
  have hA : ∀ q : Nat, s.heap.size ≤ q → A q := fun q h => by rw [hAe]; exact h
  obtain ⟨c0, iS0, hKn0⟩ := u_known (C := RX1) (T := TX1) (N := 16) (n := 16) hts in_X1 (hts _ q23)
  obtain ⟨c1, iS1, hKn1⟩ := u_known (C := RX2) (T := TX2) (N := 6) (n := 6) hts in_X2 (hts _ q185)
  obtain ⟨D, hKc⟩ : ∃ (D : va_G), ∀ (k : Nat) (q : vw_C), xCl[k]? = some q → u_Kn s q.1 q.2.1 q.2.2 (D.1 k) (D.2 k) := by
    refine ⟨(fun k => if k = 0 then c0 else c1, fun k => if k = 0 then iS0 else iS1), ?_⟩
    intro k q hq
    match k, hq with
    | 0, hq => cases hq; exact hKn0
    | 1, hq => cases hq; exact hKn1
    | k + 2, hq => simp at hq
  obtain ⟨dB, dI, hKt⟩ := tm_arrK hts
  have hK : va_K D xCl (xTy dB dI) s := ⟨hKc, hKt⟩
  have hS : tm_S D dB dI s A A s.heap s.heap [] [] := ⟨hK, fun k q h => by simp at h, ⟨fun i j p q h => by simp at h, fun k q h => by simp at h⟩, va_S.rf⟩
  have hl := lv_entry ([.ref b]) (n := 4) (Nat.le_of_ble_eq_true rfl)
  rw [lg_entry_eq]
  generalize (lg_sl ([.ref b]) ++ List.replicate (4 - (lg_sl ([.ref b])).length) Slot.unset).toArray = ls at hl ⊢
  have hl : lv_has ls 4 [(0, .ref b)] := hl
  refine va_new (ci := 0) (fs := [.int (nI 0), .int (nI 0), .null, .null, .null, .null, .int (nI 0), .null, .null, .null, .null, .null, .null, .int (nI 0), .null, .null]) (C := RX1) (T := TX1) (N := 16) hx hb hts in_X1 tyX1 tyX1_ok hown (hts _ q22) (hts _ q23) (hts _ q20) hS.1 hS.2.1 hS.2.2.1 hS.2.2.2 hA rfl (fun j hj => by rcases (show j = 0 ∨ j = 1 ∨ j = 2 ∨ j = 3 ∨ j = 4 ∨ j = 5 ∨ j = 6 ∨ j = 7 ∨ j = 8 ∨ j = 9 ∨ j = 10 ∨ j = 11 ∨ j = 12 ∨ j = 13 ∨ j = 14 ∨ j = 15 by omega) with rfl | rfl | rfl | rfl | rfl | rfl | rfl | rfl | rfl | rfl | rfl | rfl | rfl | rfl | rfl | rfl <;> rfl) (Nat.le_of_ble_eq_true rfl) (Nat.le_of_ble_eq_true rfl) dL_law_0 (fun o H hP hD hSS => ?_)
  have hS : tm_S D dB dI s A A s.heap H [] ([(o, .inr (0, [.int (nI 0), .int (nI 0), .null, .null, .null, .null, .int (nI 0), .null, .null, .null, .null, .null, .null, .int (nI 0), .null, .null]))] ++ []) := ⟨hK, hP, hD, hSS⟩
  refine lv_dup hx hb dL_law_3 rfl ?_
  refine lv_aload_n hx hb dL_law_4 rfl (lv_at hl 0 rfl) ?_
  refine lv_iconst (v := nI 0) hx hb dL_law_5 (by decide) ?_
  refine tl_cell ⟨hx, hb, hml, hown, hts⟩ hX hbl hbA hS hA (by omega) (by omega) hl.1 (Nat.le_of_ble_eq_true rfl) (Nat.le_of_ble_eq_true rfl) (Nat.le_of_ble_eq_true rfl) dL_law_6 ⟨Nat.le_of_ble_eq_true rfl, Nat.le_of_ble_eq_true rfl⟩ (fun H locs hS => ?_)
  obtain ⟨cs, hcs⟩ : ∃ z : Int32, z = if 0 < L then xs 0 else 0 := ⟨_, rfl⟩
  rw [← hcs]
  refine lv_aload_n hx hb dL_law_9 rfl (lv_at hl 0 rfl) ?_
  refine lv_iconst (v := nI 1) hx hb dL_law_10 (by decide) ?_
  refine tl_cell ⟨hx, hb, hml, hown, hts⟩ hX hbl hbA hS hA (by omega) (by omega) hl.1 (Nat.le_of_ble_eq_true rfl) (Nat.le_of_ble_eq_true rfl) (Nat.le_of_ble_eq_true rfl) dL_law_11 ⟨Nat.le_of_ble_eq_true rfl, Nat.le_of_ble_eq_true rfl⟩ (fun H locs hS => ?_)
  obtain ⟨rs, hrs⟩ : ∃ z : Int32, z = if 1 < L then xs 1 else 0 := ⟨_, rfl⟩
  rw [← hrs]
  refine tl_callC (As := [.int cs, .int rs]) (rest := [.ref o]) ⟨hx, hb, hml, hown, hts⟩ (kX1_init l D dB dI o H.size cs rs) (cwI 2 hts (lw_meth q26) rfl rfl rfl (hts _ q20) (hts _ q24) (hts _ q25) rfl (by decide +kernel) ⟨Nat.le_of_ble_eq_true rfl, Nat.le_of_ble_eq_true rfl⟩) hS hA rfl hl.1 rfl (Nat.le_of_ble_eq_true rfl) dL_law_14 ⟨Nat.le_of_ble_eq_true rfl, Nat.le_of_ble_eq_true rfl⟩ (fun u H locs hp hSn => ?_)
  obtain ⟨a, pw, ph, pt⟩ := u
  obtain ⟨ha, h1, h2⟩ := hp
  have ha : a 0 = o := ha
  subst ha
  have hS : tm_S D dB dI s A A s.heap H locs (wX a dB dI (tm_cl cs) (tm_cl rs) 0 0 (fun _ => 0) pw ph pt (fun _ => 0) (fun _ => 0) (fun _ => 0) (fun _ => 1) (fun _ => 0) (fun _ => 0) (fun _ => 0) (fun _ => 0)) := hSn
  refine W.widen (k := 13) (n := 705) (by decide) (by decide) ?_
  refine lv_astore_n (lv' := [(1, .ref (a 0)), (0, .ref b)]) hx hb dL_law_17 rfl hl (by decide) rfl (fun ls hl => ?_)
  refine va_new (ci := 1) (fs := [.int (nI 0), .int (nI 0), .null, .null, .null, .null]) (C := RX2) (T := TX2) (N := 6) hx hb hts in_X2 tyX2 tyX2_ok hown (hts _ q184) (hts _ q185) (hts _ q21) hS.1 hS.2.1 hS.2.2.1 hS.2.2.2 hA rfl (fun j hj => by rcases (show j = 0 ∨ j = 1 ∨ j = 2 ∨ j = 3 ∨ j = 4 ∨ j = 5 by omega) with rfl | rfl | rfl | rfl | rfl | rfl <;> rfl) (Nat.le_of_ble_eq_true rfl) (Nat.le_of_ble_eq_true rfl) dL_law_18 (fun o H hP hD hSS => ?_)
  have hS : tm_S D dB dI s A A s.heap H locs ([(o, .inr (1, [.int (nI 0), .int (nI 0), .null, .null, .null, .null]))] ++ wX a dB dI (tm_cl cs) (tm_cl rs) 0 0 (fun _ => 0) pw ph pt (fun _ => 0) (fun _ => 0) (fun _ => 0) (fun _ => 1) (fun _ => 0) (fun _ => 0) (fun _ => 0) (fun _ => 0)) := tl_swap ⟨hK, hP, hD, hSS⟩
  refine lv_dup hx hb dL_law_21 rfl ?_
  refine lv_aload_n hx hb dL_law_22 rfl (lv_at hl 1 rfl) ?_
  refine lv_iconst (v := nI 0) hx hb dL_law_23 (by decide) ?_
  refine tl_cell ⟨hx, hb, hml, hown, hts⟩ hX hbl hbA hS hA (by omega) (by omega) hl.1 (Nat.le_of_ble_eq_true rfl) (Nat.le_of_ble_eq_true rfl) (Nat.le_of_ble_eq_true rfl) dL_law_24 ⟨Nat.le_of_ble_eq_true rfl, Nat.le_of_ble_eq_true rfl⟩ (fun H locs hS => ?_)
  rw [← hcs]
  refine lv_aload_n hx hb dL_law_27 rfl (lv_at hl 1 rfl) ?_
  refine lv_iconst (v := nI 1) hx hb dL_law_28 (by decide) ?_
  refine tl_cell ⟨hx, hb, hml, hown, hts⟩ hX hbl hbA hS hA (by omega) (by omega) hl.1 (Nat.le_of_ble_eq_true rfl) (Nat.le_of_ble_eq_true rfl) (Nat.le_of_ble_eq_true rfl) dL_law_29 ⟨Nat.le_of_ble_eq_true rfl, Nat.le_of_ble_eq_true rfl⟩ (fun H locs hS => ?_)
  rw [← hrs]
  refine tl_callC (As := [.int cs, .int rs]) (rest := [.ref o]) ⟨hx, hb, hml, hown, hts⟩ (kX2_init l D dB dI o H.size cs rs) (cwI 2 hts (lw_meth q188) rfl rfl rfl (hts _ q21) (hts _ q186) (hts _ q187) rfl (by decide +kernel) ⟨Nat.le_of_ble_eq_true rfl, Nat.le_of_ble_eq_true rfl⟩) hS hA rfl hl.1 rfl (Nat.le_of_ble_eq_true rfl) dL_law_32 ⟨Nat.le_of_ble_eq_true rfl, Nat.le_of_ble_eq_true rfl⟩ (fun u H locs hp hSn => ?_)
  obtain ⟨b2, pw2, ph2, pt2⟩ := u
  obtain ⟨hb2, h3, h4⟩ := hp
  have hb2 : b2 0 = o := hb2
  subst hb2
  have hS : tm_S D dB dI s A A s.heap H locs (wX a dB dI (tm_cl cs) (tm_cl rs) 0 0 (fun _ => 0) pw ph pt (fun _ => 0) (fun _ => 0) (fun _ => 0) (fun _ => 1) (fun _ => 0) (fun _ => 0) (fun _ => 0) (fun _ => 0) ++ wM b2 dI (tm_cl cs) (tm_cl rs) (fun _ => 0) pt2 pw2 ph2) := hSn
  refine W.widen (k := 18) (n := 957) (by decide) (by decide) ?_
  refine lv_astore_n (lv' := [(2, .ref (b2 0)), (1, .ref (a 0)), (0, .ref b)]) hx hb dL_law_35 rfl hl (by decide) rfl (fun ls hl => ?_)
  refine lv_iconst (v := nI 2) hx hb dL_law_36 (by decide) ?_
  refine lv_istore_n (lv' := [(3, .int (nI 2)), (2, .ref (b2 0)), (1, .ref (a 0)), (0, .ref b)]) hx hb dL_law_37 rfl hl (by decide) rfl (fun ls hl => ?_)
  rw [hAe] at hS
  exact tl_loop hL C0 500 2 (by omega) (by omega) 0 0 (fun _ => 0) pw ph pt (fun _ => 0) (fun _ => 0) (fun _ => 0) (fun _ => 1) (fun _ => 0) (fun _ => 0) (fun _ => 0) (fun _ => 0) (fun _ => 0) pt2 pw2 ph2 H locs ls (tl_init h1 h2 h3 h4) hS (lv_sub hl [3, 2, 1, 0] rfl)
end
section
set_option maxRecDepth 100000
set_option maxHeartbeats 4000000 in
theorem lw_walk (l : Launch) (b : Addr) (xs : List Int32) : MetFree l x (headSpec (Jvm.Cond.code x code maxLocals ret :: tables_1) room_1) (lw_P b xs) (fun _ _ _ _ _ => True) lw_Q := by
  refine MetFree.of_bodyS (code := code) (maxLocals := maxLocals) (ret := ret) (by decide) ?_ ?_
  · intro args s m h hn
    obtain ⟨meth, c, h1, h2, h3, h4, h5, h6, -, -⟩ := Cond.code_spec hn (atoms_spec (ws := Jvm.Cond.code x code maxLocals ret :: tables_1) h _ List.mem_cons_self)
    exact ⟨meth, c, h1, h2, h3, h4, h5, h6⟩
  · intro p e s m args below meth c s₁ B hml0 hP _
    obtain ⟨rfl, hx, hbd, hgv⟩ := hP
    obtain ⟨scr, harrAt, hlist, hof, hsmall⟩ := hx
    obtain ⟨hcb, hkn, -, -⟩ := State.arrayAt?_spec harrAt
    have hown : s.vm.findClass R_law = some m.cls := findClass_of_methodNamed B.named
    have hts0 : ∀ c ∈ (Jvm.Cond.code x code maxLocals ret :: tables_1), c.before #[Value.ref b] s = true := atoms_spec (ws := Jvm.Cond.code x code maxLocals ret :: tables_1) B.pre
    have hts : ∀ w ∈ lw_tbl, w.before #[Value.ref b] s = true := k2_hts_sels lw_privs (fun w hw => hts0 w (List.mem_cons_of_mem _ hw)) lw_privs_ok
    have hml : c.maxLocals = 4 := B.maxLocals_eq (hts0 _ List.mem_cons_self)
    have X₀ : Stand p l e room_1 s m #[Value.ref b] below meth c s₁ [] 0 0 := Stand.of_body B
    have hh0 : s₁.heap = s.heap := by rw [B.state]; rfl
    have hsz : scr.slots.size = xs.length := by rw [← Array.length_toList, hlist, List.length_map]
    have hval : ∀ j : Nat, j < xs.length → scr.slots[j]? = some (.int (xs.getD j 0)) := fun j hj => by
      rw [← Array.getElem?_toList, hlist]
      simp [hj]
    have hbl : b < s.heap.size := (Array.getElem?_eq_some_iff.mp hcb).1
    have hX : va_X b xs.length (fun j => xs.getD j 0) s s.heap := ⟨scr, hcb, hof, hkn, hsz, hval⟩
    have K : W p l e room_1 s m #[Value.ref b] below meth c s₁.heap [] 0 0 (lw_Z below #[Value.ref b] s) (entryFrame m ([Value.ref b] : List Value).toArray 4) := by
      rw [hh0]
      exact whole_start l hbd ⟨B.exec, B.bytes, B.returns, hml, hown, hts, hX, hbl, B.notSynchronized, hgv⟩
    obtain ⟨t, a1, o, b1, b2, b3⟩ := K s₁ rfl X₀
    exact ⟨t, o, a1, b1, b2, b3⟩
theorem lw_pre_spec {args : Array Value} {s : State} (h : (Jvm.Cond.and given_1 narrow_1).before args s = true) (hr : rest_1_c.before args s = true) : ∃ (b : Addr) (xs : List Int32), lw_P b xs args s := by
  have hs := flat_of_before _ h
  have hq := flat_of_before _ hr
  have hc : (Cond.count 1).before args s = true := hs _ (by decide +kernel)
  have harr : (Cond.arrayOf (.arg 0) .int).before args s = true := hs _ (by decide +kernel)
  have hle : (Cond.le (.length (.arg 0)) (.int 322)).before args s = true := hs _ (by decide +kernel)
  have hlen : (Cond.isInt (.length (.arg 0))).before args s = true := hq _ (by decide +kernel)
  have hall : (Cond.all (.arg 0) (.isInt (.elem (.arg 0) (.index 0)))).before args s = true := hq _ (by decide +kernel)
  obtain ⟨b, xs, hb, hx⟩ := State.ints_of_pre rfl harr hlen hall
  have hsm : xs.length < 2 ^ 31 := hx.choose_spec.2.2.2
  have hev : (Term.length (.arg 0)).eval args s none [] s = some (.int xs.length.toInt32) := hx.length_eval hb
  have hv := Cond.le_ints hev (show (Term.int 322).eval args s none [] s = some (.int 322) from rfl)
  have hd : xs.length.toInt32 ≤ 322 := by
    simpa [Cond.before, Cond.holds, hv] using hle
  have hN : xs.length ≤ 322 := (Int32.ofNat_le_ofNat hsm (by decide)).mp (show Int32.ofNat xs.length ≤ Int32.ofNat 322 from hd)
  exact ⟨b, xs, Cond.one_arg hc (show args[0]? = some (.ref b) from hb), hx, hN, h⟩
theorem lw_comes (l : Launch) : Comes l x (Jvm.Cond.code x code maxLocals ret :: tables_1) room_1 (fun tb e args s => Calls_1 tb e args s ∧ rest_1 tb e args s ∧ Pre_1 tb e args s)
    (fun _ _ args s o t => lw_Q args s o t) := by
  intro p e ha hc hk s m args below hf hfit hheap happ hpre
  obtain ⟨b, xs, hP⟩ := lw_pre_spec hpre.2.2 hpre.2.1
  obtain ⟨k, o, h1, h2, h3, hQ⟩ := lw_walk l b xs p e ha hc hk s m args below hf ((Spec.applies_iff_loose hf).mp happ).1 hP trivial
  exact ⟨k, o, h1, h2, h3, hQ⟩
theorem lw_frame {s t : State} {o : Outcome} {args : Array Value} (h : Framed s o t [] 600000 7290000) :
    Framed s o t (fieldLocs frame_1_writes args s ++ arrayLocs frame_1_arrays args s ++ staticLocs frame_1_statics s) 600000 7290000 := h
theorem lw_limb (L : Cond) (hL : ∀ (args : Array Value) (s t : State), L.after args s (.returned (some (.int 1))) t = true) :
    ArmFor flags0 classFile x code maxLocals ret World_1 tables_1 room_1 Calls_1 rest_1 Pre_1
      (fun tb e a s o t => postC L tb e a s o t ∧ Framed s o t (fieldLocs frame_1_writes a s ++ arrayLocs frame_1_arrays a s ++ staticLocs frame_1_statics s) 600000 7290000) := by
  intro l _ _ _ p e ha hc hk s m args below hf hfit hheap happ hpre
  obtain ⟨k, o, h1, h2, h3, rfl, hF⟩ := lw_comes l p e ha hc hk s m args below hf hfit hheap happ hpre
  exact ⟨k, _, h1, h2, h3, hL args s _, lw_frame hF⟩
theorem i_vc : Claimed_1_1 ∧ Claimed_1_2 := ⟨lw_limb limb_1_1 (fun args s t => by simp [limb_1_1, Cond.after, Cond.holds, Cond.value]), lw_limb limb_1_2 (fun args s t => Cond.after_iff.mpr (by
  first | (rw [show limb_1_2 = Cond.eq .result (.int 1) from rfl, Cond.eq_ints (x := 1) (y := 1) rfl rfl]; simp; done) | (simp [limb_1_2, Cond.value, Term.eval]; done)))⟩
end
