section
-- ===== PART A: goes FIRST, ahead of the names: the tables' words, and 'selects' of the private methods out of them =====
/-- a private method of a class that the tables say can be made, by its rows of tables_1 -/
def lw_okq (q : MethodName × Nat) : Prop := (q.1.cls ≠ "java/lang/invoke/MethodHandle" ∧ q.1.cls ≠ "java/lang/invoke/VarHandle") ∧ Cond.instantiable q.1.cls q.2 ∈ tables_1 ∧ Cond.privateMethod q.1 ∈ tables_1 ∧ Cond.instanceMethod q.1 ∈ tables_1
set_option maxRecDepth 100000
theorem lw_t1 {w : Cond} (h : w ∈ tables_1_1) : w ∈ tables_1 := List.mem_append_left _ h
theorem lw_t2 {w : Cond} (h : w ∈ tables_1_2) : w ∈ tables_1 := List.mem_append_right _ h
theorem lw_p0 : lw_okq (⟨"IgnoreRules", "goodPattern", "()Z"⟩, 18) := ⟨⟨by decide +kernel, by decide +kernel⟩, lw_t1 (List.mem_of_getElem? (i := 4) rfl), lw_t1 (List.mem_of_getElem? (i := 77) rfl), lw_t1 (List.mem_of_getElem? (i := 78) rfl)⟩
theorem lw_p1 : lw_okq (⟨"IgnoreRules", "partBorder", "(I)Z"⟩, 18) := ⟨⟨by decide +kernel, by decide +kernel⟩, lw_t1 (List.mem_of_getElem? (i := 4) rfl), lw_t1 (List.mem_of_getElem? (i := 81) rfl), lw_t1 (List.mem_of_getElem? (i := 82) rfl)⟩
theorem lw_p2 : lw_okq (⟨"IgnoreRules", "makeSets", "(II)V"⟩, 18) := ⟨⟨by decide +kernel, by decide +kernel⟩, lw_t1 (List.mem_of_getElem? (i := 4) rfl), lw_t1 (List.mem_of_getElem? (i := 85) rfl), lw_t1 (List.mem_of_getElem? (i := 86) rfl)⟩
theorem lw_p3 : lw_okq (⟨"IgnoreRules", "makeEnds", "(II)V"⟩, 18) := ⟨⟨by decide +kernel, by decide +kernel⟩, lw_t1 (List.mem_of_getElem? (i := 4) rfl), lw_t1 (List.mem_of_getElem? (i := 89) rfl), lw_t1 (List.mem_of_getElem? (i := 90) rfl)⟩
theorem lw_p4 : lw_okq (⟨"IgnoreRules", "walk", "(Z)Z"⟩, 18) := ⟨⟨by decide +kernel, by decide +kernel⟩, lw_t1 (List.mem_of_getElem? (i := 4) rfl), lw_t1 (List.mem_of_getElem? (i := 109) rfl), lw_t1 (List.mem_of_getElem? (i := 110) rfl)⟩
theorem lw_p5 : lw_okq (⟨"IgnoreRules", "walkName", "(I)V"⟩, 18) := ⟨⟨by decide +kernel, by decide +kernel⟩, lw_t1 (List.mem_of_getElem? (i := 4) rfl), lw_t1 (List.mem_of_getElem? (i := 113) rfl), lw_t1 (List.mem_of_getElem? (i := 114) rfl)⟩
theorem lw_p6 : lw_okq (⟨"IgnoreRules", "spread", "(IIZ)I"⟩, 18) := ⟨⟨by decide +kernel, by decide +kernel⟩, lw_t1 (List.mem_of_getElem? (i := 4) rfl), lw_t1 (List.mem_of_getElem? (i := 117) rfl), lw_t1 (List.mem_of_getElem? (i := 118) rfl)⟩
theorem lw_p7 : lw_okq (⟨"IgnoreRules", "onBorder", "(II)I"⟩, 18) := ⟨⟨by decide +kernel, by decide +kernel⟩, lw_t1 (List.mem_of_getElem? (i := 4) rfl), lw_t1 (List.mem_of_getElem? (i := 121) rfl), lw_t1 (List.mem_of_getElem? (i := 122) rfl)⟩
theorem lw_p8 : lw_okq (⟨"IgnoreRules", "onLetter", "(III)I"⟩, 18) := ⟨⟨by decide +kernel, by decide +kernel⟩, lw_t1 (List.mem_of_getElem? (i := 4) rfl), lw_t1 (List.mem_of_getElem? (i := 125) rfl), lw_t1 (List.mem_of_getElem? (i := 126) rfl)⟩
theorem lw_p9 : lw_okq (⟨"IgnoreRules", "firstIgnored", "()I"⟩, 18) := ⟨⟨by decide +kernel, by decide +kernel⟩, lw_t1 (List.mem_of_getElem? (i := 4) rfl), lw_t1 (List.mem_of_getElem? (i := 129) rfl), lw_t1 (List.mem_of_getElem? (i := 130) rfl)⟩
theorem lw_p10 : lw_okq (⟨"IgnoreRulesModel", "good", "()Z"⟩, 14) := ⟨⟨by decide +kernel, by decide +kernel⟩, lw_t1 (List.mem_of_getElem? (i := 149) rfl), lw_t1 (List.mem_of_getElem? (i := 206) rfl), lw_t1 (List.mem_of_getElem? (i := 207) rfl)⟩
theorem lw_p11 : lw_okq (⟨"IgnoreRulesModel", "isPath", "()Z"⟩, 14) := ⟨⟨by decide +kernel, by decide +kernel⟩, lw_t1 (List.mem_of_getElem? (i := 149) rfl), lw_t1 (List.mem_of_getElem? (i := 230) rfl), lw_t1 (List.mem_of_getElem? (i := 231) rfl)⟩
theorem lw_p12 : lw_okq (⟨"IgnoreRulesModel", "lastFor", "(IZ)I"⟩, 14) := ⟨⟨by decide +kernel, by decide +kernel⟩, lw_t1 (List.mem_of_getElem? (i := 149) rfl), lw_t1 (List.mem_of_getElem? (i := 234) rfl), lw_t1 (List.mem_of_getElem? (i := 235) rfl)⟩
theorem lw_p13 : lw_okq (⟨"IgnoreRulesModel", "matchesRule", "(IIZ)Z"⟩, 14) := ⟨⟨by decide +kernel, by decide +kernel⟩, lw_t1 (List.mem_of_getElem? (i := 149) rfl), lw_t1 (List.mem_of_getElem? (i := 238) rfl), lw_t1 (List.mem_of_getElem? (i := 239) rfl)⟩
theorem lw_p14 : lw_okq (⟨"IgnoreRulesModel", "cut", "(I)V"⟩, 14) := ⟨⟨by decide +kernel, by decide +kernel⟩, lw_t1 (List.mem_of_getElem? (i := 149) rfl), lw_t2 (List.mem_of_getElem? (i := 2) rfl), lw_t2 (List.mem_of_getElem? (i := 3) rfl)⟩
theorem lw_p15 : lw_okq (⟨"IgnoreRulesModel", "partFits", "(II)Z"⟩, 14) := ⟨⟨by decide +kernel, by decide +kernel⟩, lw_t1 (List.mem_of_getElem? (i := 149) rfl), lw_t2 (List.mem_of_getElem? (i := 6) rfl), lw_t2 (List.mem_of_getElem? (i := 7) rfl)⟩
def lw_privs_1 : List (MethodName × Nat) := [(⟨"IgnoreRules", "goodPattern", "()Z"⟩, 18), (⟨"IgnoreRules", "partBorder", "(I)Z"⟩, 18), (⟨"IgnoreRules", "makeSets", "(II)V"⟩, 18), (⟨"IgnoreRules", "makeEnds", "(II)V"⟩, 18), (⟨"IgnoreRules", "walk", "(Z)Z"⟩, 18), (⟨"IgnoreRules", "walkName", "(I)V"⟩, 18), (⟨"IgnoreRules", "spread", "(IIZ)I"⟩, 18), (⟨"IgnoreRules", "onBorder", "(II)I"⟩, 18), (⟨"IgnoreRules", "onLetter", "(III)I"⟩, 18), (⟨"IgnoreRules", "firstIgnored", "()I"⟩, 18), (⟨"IgnoreRulesModel", "good", "()Z"⟩, 14), (⟨"IgnoreRulesModel", "isPath", "()Z"⟩, 14), (⟨"IgnoreRulesModel", "lastFor", "(IZ)I"⟩, 14), (⟨"IgnoreRulesModel", "matchesRule", "(IIZ)Z"⟩, 14), (⟨"IgnoreRulesModel", "cut", "(I)V"⟩, 14), (⟨"IgnoreRulesModel", "partFits", "(II)Z"⟩, 14)]
theorem lw_r1 : ∀ q ∈ lw_privs_1, lw_okq q := List.forall_mem_cons.mpr ⟨lw_p0, List.forall_mem_cons.mpr ⟨lw_p1, List.forall_mem_cons.mpr ⟨lw_p2, List.forall_mem_cons.mpr ⟨lw_p3, List.forall_mem_cons.mpr ⟨lw_p4, List.forall_mem_cons.mpr ⟨lw_p5, List.forall_mem_cons.mpr ⟨lw_p6, List.forall_mem_cons.mpr ⟨lw_p7, List.forall_mem_cons.mpr ⟨lw_p8, List.forall_mem_cons.mpr ⟨lw_p9, List.forall_mem_cons.mpr ⟨lw_p10, List.forall_mem_cons.mpr ⟨lw_p11, List.forall_mem_cons.mpr ⟨lw_p12, List.forall_mem_cons.mpr ⟨lw_p13, List.forall_mem_cons.mpr ⟨lw_p14, List.forall_mem_cons.mpr ⟨lw_p15, fun _ h => absurd h List.not_mem_nil⟩⟩⟩⟩⟩⟩⟩⟩⟩⟩⟩⟩⟩⟩⟩⟩
theorem lw_p16 : lw_okq (⟨"IgnoreRulesModel", "allFit", "(I)Z"⟩, 14) := ⟨⟨by decide +kernel, by decide +kernel⟩, lw_t1 (List.mem_of_getElem? (i := 149) rfl), lw_t2 (List.mem_of_getElem? (i := 10) rfl), lw_t2 (List.mem_of_getElem? (i := 11) rfl)⟩
def lw_privs_2 : List (MethodName × Nat) := [(⟨"IgnoreRulesModel", "allFit", "(I)Z"⟩, 14)]
theorem lw_r2 : ∀ q ∈ lw_privs_2, lw_okq q := List.forall_mem_cons.mpr ⟨lw_p16, fun _ h => absurd h List.not_mem_nil⟩
def lw_privs : List (MethodName × Nat) := lw_privs_1 ++ (lw_privs_2)
def lw_tbl : List Cond := k2_sels lw_privs ++ tables_1
theorem lw_privs_ok : ∀ q ∈ lw_privs, lw_okq q := by
  show ∀ q ∈ lw_privs_1 ++ (lw_privs_2), lw_okq q
  exact List.forall_mem_append.mpr ⟨lw_r1, lw_r2⟩
-- ===== ONE list of words for every method: the tables' words that hold all through a run =====
def lw_all : List Cond := lw_tbl.filter goodWord
/-- a word of the tables by its place: claim/WORDS.tsv -/
theorem lw_w {w : Cond} (i : Nat) (h : lw_tbl[i]? = some w) (g : goodWord w = true) : w ∈ lw_all := List.mem_filter.mpr ⟨List.mem_of_getElem? h, g⟩
theorem lw_all_tbl {w : Cond} (h : w ∈ lw_all) : w ∈ lw_tbl := (List.mem_filter.mp h).1
theorem lw_self : GoodIn lw_all lw_all := fun w h => ⟨h, good_of_word (List.mem_filter.mp h).2⟩
/-- a class's field words, by their places -/
theorem lw_in (ws : List Cond) (ps : List Nat) (hp : ws = ps.filterMap (fun i => lw_tbl[i]?)) (hg : ws.all goodWord = true) : ∀ w ∈ ws, w ∈ lw_all := by
  intro w h
  have h1 := List.all_eq_true.mp hg w h
  rw [hp] at h
  obtain ⟨i, -, hi⟩ := List.mem_filterMap.mp h
  exact lw_w i hi h1
/-- the words of a contract for the method y with code b, L locals, answer r -/
abbrev ws_ (y : MethodName) (b : ByteArray) (L : Nat) (r : Option FieldType) : List Cond := Cond.code y b L r :: lw_all
theorem lw_meth {y : MethodName} {b : ByteArray} {L : Nat} {r : Option FieldType} (h : Cond.code y b L r ∈ lw_all) : GoodIn lw_all (ws_ y b L r) := by
  intro w hw
  rcases List.mem_cons.mp hw with e | e
  · rw [e]
    exact lw_self _ h
  · exact lw_self _ e
theorem lw_app {a c : List Cond} (ha : ∀ w ∈ a, w ∈ lw_all) (hc : GoodIn lw_all c) : GoodIn lw_all (a ++ c) := by
  intro w hw
  rcases List.mem_append.mp hw with e | e
  · exact lw_self w (ha w e)
  · exact hc w e
/-- what a call through an object asks: cwV n hts (lw_V ..) -/
theorem lw_V {own : String} {idx : Nat} {C : String} {y : MethodName} {b : ByteArray} {L : Nat} {r : Option FieldType} (h1 : Cond.methodLink own idx y ∈ lw_all) (h2 : Cond.instanceMethod y ∈ lw_all) (h3 : Cond.selects C y y ∈ lw_all) (h4 : Cond.initialized C ∈ lw_all) (h5 : Cond.code y b L r ∈ lw_all) : GoodIn lw_all (wsV own idx C y (ws_ y b L r)) := by
  refine lw_app ?_ (lw_meth h5)
  intro w hw
  simp only [List.mem_cons, List.not_mem_nil, or_false] at hw
  rcases hw with e | e | e | e
  · rw [e]; exact h1
  · rw [e]; exact h2
  · rw [e]; exact h3
  · rw [e]; exact h4
/-- what a static call asks: va_cwS n hts (lw_S ..) -/
theorem lw_S {own : String} {idx : Nat} {y : MethodName} {b : ByteArray} {L : Nat} {r : Option FieldType} (h1 : Cond.methodLink own idx y ∈ lw_all) (h2 : Cond.static y ∈ lw_all) (h3 : Cond.initialized y.cls ∈ lw_all) (h4 : Cond.code y b L r ∈ lw_all) : GoodIn lw_all (va_wsS own idx y (ws_ y b L r)) := by
  refine lw_app ?_ (lw_meth h4)
  intro w hw
  simp only [List.mem_cons, List.not_mem_nil, or_false] at hw
  rcases hw with e | e | e
  · rw [e]; exact h1
  · rw [e]; exact h2
  · rw [e]; exact h3
/-- the words of a contract for a method WITH HANDLERS (hh: its table) -/
abbrev wsW_ (y : MethodName) (b : ByteArray) (L : Nat) (r : Option FieldType) (hh : List (Nat × Nat × Nat × Nat)) : List Cond := Cond.codeWith y b L r hh :: lw_all
theorem lw_methW {y : MethodName} {b : ByteArray} {L : Nat} {r : Option FieldType} {hh : List (Nat × Nat × Nat × Nat)} (h : Cond.codeWith y b L r hh ∈ lw_all) : GoodIn lw_all (wsW_ y b L r hh) := by
  intro w hw
  rcases List.mem_cons.mp hw with e | e
  · rw [e]
    exact lw_self _ h
  · exact lw_self _ e
/-- any list of words by their places (lw_in), good -/
theorem lw_good {ws : List Cond} (h : ∀ w ∈ ws, w ∈ lw_all) : GoodIn lw_all ws := fun w hw => lw_self w (h w hw)
/-- what a call of a method with handlers asks: vx_cwVW n hts (lw_VW ..), vx_cwSW n hts (lw_SW ..) -/
theorem lw_VW {own : String} {idx : Nat} {C : String} {y : MethodName} {b : ByteArray} {L : Nat} {r : Option FieldType} {hh : List (Nat × Nat × Nat × Nat)} (h1 : Cond.methodLink own idx y ∈ lw_all) (h2 : Cond.instanceMethod y ∈ lw_all) (h3 : Cond.selects C y y ∈ lw_all) (h4 : Cond.initialized C ∈ lw_all) (h5 : Cond.codeWith y b L r hh ∈ lw_all) : GoodIn lw_all (wsV own idx C y (wsW_ y b L r hh)) := by
  refine lw_app ?_ (lw_methW h5)
  intro w hw
  simp only [List.mem_cons, List.not_mem_nil, or_false] at hw
  rcases hw with e | e | e | e
  · rw [e]; exact h1
  · rw [e]; exact h2
  · rw [e]; exact h3
  · rw [e]; exact h4
theorem lw_SW {own : String} {idx : Nat} {y : MethodName} {b : ByteArray} {L : Nat} {r : Option FieldType} {hh : List (Nat × Nat × Nat × Nat)} (h1 : Cond.methodLink own idx y ∈ lw_all) (h2 : Cond.static y ∈ lw_all) (h3 : Cond.initialized y.cls ∈ lw_all) (h4 : Cond.codeWith y b L r hh ∈ lw_all) : GoodIn lw_all (va_wsS own idx y (wsW_ y b L r hh)) := by
  refine lw_app ?_ (lw_methW h4)
  intro w hw
  simp only [List.mem_cons, List.not_mem_nil, or_false] at hw
  rcases hw with e | e | e
  · rw [e]; exact h1
  · rw [e]; exact h2
  · rw [e]; exact h3
/-- a word by its place in its run of the tables -/
theorem lw_at {r : List Cond} (hr : ∀ w ∈ r, w ∈ lw_tbl) {w : Cond} (i : Nat) (h : r[i]? = some w) : w ∈ lw_tbl := hr w (List.mem_of_getElem? h)
theorem lw_g {w : Cond} (h : w ∈ lw_tbl) (g : goodWord w = true) : w ∈ lw_all := List.mem_filter.mpr ⟨h, g⟩
theorem lw_ms : ∀ w ∈ k2_sels lw_privs, w ∈ lw_tbl := fun w h => show w ∈ k2_sels lw_privs ++ tables_1 from List.mem_append_left _ h
theorem lw_m1 : ∀ w ∈ tables_1_1, w ∈ lw_tbl := fun w h => show w ∈ k2_sels lw_privs ++ tables_1 from List.mem_append_right (k2_sels lw_privs) (show w ∈ tables_1 from List.mem_append_left _ h)
theorem lw_m2 : ∀ w ∈ tables_1_2, w ∈ lw_tbl := fun w h => show w ∈ k2_sels lw_privs ++ tables_1 from List.mem_append_right (k2_sels lw_privs) (show w ∈ tables_1 from List.mem_append_right _ h)
theorem qs0 : (Cond.selects "IgnoreRules" ⟨"IgnoreRules", "goodPattern", "()Z"⟩ ⟨"IgnoreRules", "goodPattern", "()Z"⟩) ∈ lw_all := lw_g (lw_at lw_ms 0 rfl) rfl
theorem qs1 : (Cond.selects "IgnoreRules" ⟨"IgnoreRules", "partBorder", "(I)Z"⟩ ⟨"IgnoreRules", "partBorder", "(I)Z"⟩) ∈ lw_all := lw_g (lw_at lw_ms 1 rfl) rfl
theorem qs2 : (Cond.selects "IgnoreRules" ⟨"IgnoreRules", "makeSets", "(II)V"⟩ ⟨"IgnoreRules", "makeSets", "(II)V"⟩) ∈ lw_all := lw_g (lw_at lw_ms 2 rfl) rfl
theorem qs3 : (Cond.selects "IgnoreRules" ⟨"IgnoreRules", "makeEnds", "(II)V"⟩ ⟨"IgnoreRules", "makeEnds", "(II)V"⟩) ∈ lw_all := lw_g (lw_at lw_ms 3 rfl) rfl
theorem qs4 : (Cond.selects "IgnoreRules" ⟨"IgnoreRules", "walk", "(Z)Z"⟩ ⟨"IgnoreRules", "walk", "(Z)Z"⟩) ∈ lw_all := lw_g (lw_at lw_ms 4 rfl) rfl
theorem qs5 : (Cond.selects "IgnoreRules" ⟨"IgnoreRules", "walkName", "(I)V"⟩ ⟨"IgnoreRules", "walkName", "(I)V"⟩) ∈ lw_all := lw_g (lw_at lw_ms 5 rfl) rfl
theorem qs6 : (Cond.selects "IgnoreRules" ⟨"IgnoreRules", "spread", "(IIZ)I"⟩ ⟨"IgnoreRules", "spread", "(IIZ)I"⟩) ∈ lw_all := lw_g (lw_at lw_ms 6 rfl) rfl
theorem qs7 : (Cond.selects "IgnoreRules" ⟨"IgnoreRules", "onBorder", "(II)I"⟩ ⟨"IgnoreRules", "onBorder", "(II)I"⟩) ∈ lw_all := lw_g (lw_at lw_ms 7 rfl) rfl
theorem qs8 : (Cond.selects "IgnoreRules" ⟨"IgnoreRules", "onLetter", "(III)I"⟩ ⟨"IgnoreRules", "onLetter", "(III)I"⟩) ∈ lw_all := lw_g (lw_at lw_ms 8 rfl) rfl
theorem qs9 : (Cond.selects "IgnoreRules" ⟨"IgnoreRules", "firstIgnored", "()I"⟩ ⟨"IgnoreRules", "firstIgnored", "()I"⟩) ∈ lw_all := lw_g (lw_at lw_ms 9 rfl) rfl
theorem qs10 : (Cond.selects "IgnoreRulesModel" ⟨"IgnoreRulesModel", "good", "()Z"⟩ ⟨"IgnoreRulesModel", "good", "()Z"⟩) ∈ lw_all := lw_g (lw_at lw_ms 10 rfl) rfl
theorem qs11 : (Cond.selects "IgnoreRulesModel" ⟨"IgnoreRulesModel", "isPath", "()Z"⟩ ⟨"IgnoreRulesModel", "isPath", "()Z"⟩) ∈ lw_all := lw_g (lw_at lw_ms 11 rfl) rfl
theorem qs12 : (Cond.selects "IgnoreRulesModel" ⟨"IgnoreRulesModel", "lastFor", "(IZ)I"⟩ ⟨"IgnoreRulesModel", "lastFor", "(IZ)I"⟩) ∈ lw_all := lw_g (lw_at lw_ms 12 rfl) rfl
theorem qs13 : (Cond.selects "IgnoreRulesModel" ⟨"IgnoreRulesModel", "matchesRule", "(IIZ)Z"⟩ ⟨"IgnoreRulesModel", "matchesRule", "(IIZ)Z"⟩) ∈ lw_all := lw_g (lw_at lw_ms 13 rfl) rfl
theorem qs14 : (Cond.selects "IgnoreRulesModel" ⟨"IgnoreRulesModel", "cut", "(I)V"⟩ ⟨"IgnoreRulesModel", "cut", "(I)V"⟩) ∈ lw_all := lw_g (lw_at lw_ms 14 rfl) rfl
theorem qs15 : (Cond.selects "IgnoreRulesModel" ⟨"IgnoreRulesModel", "partFits", "(II)Z"⟩ ⟨"IgnoreRulesModel", "partFits", "(II)Z"⟩) ∈ lw_all := lw_g (lw_at lw_ms 15 rfl) rfl
theorem qs16 : (Cond.selects "IgnoreRulesModel" ⟨"IgnoreRulesModel", "allFit", "(I)Z"⟩ ⟨"IgnoreRulesModel", "allFit", "(I)Z"⟩) ∈ lw_all := lw_g (lw_at lw_ms 16 rfl) rfl
end
section
/-! java/lang/Object -/
set_option maxRecDepth 100000
def RJ0 : String := "java/lang/Object"
abbrev cJ0_init : ByteArray := object_method_1_code
def yJ0_init : MethodName := ⟨RJ0, "<init>", "()V"⟩
theorem q26 : (Jvm.Cond.instanceMethod ({ cls := "java/lang/Object", name := "<init>", desc := "()V" } : Jvm.MethodName)) ∈ lw_all := lw_g (lw_at lw_m1 9 rfl) rfl
theorem q27 : (Jvm.Cond.code ({ cls := "java/lang/Object", name := "<init>", desc := "()V" } : Jvm.MethodName) object_method_1_code (1 : Nat) (Option.none : Option Jvm.ClassFile.FieldType)) ∈ lw_all := lw_g (lw_at lw_m1 10 rfl) rfl

theorem q83 : (Jvm.Cond.arrayClass Jvm.ClassFile.FieldType.int) ∈ lw_all := lw_g (lw_at lw_m1 66 rfl) rfl
set_option maxRecDepth 100000
theorem q84 : (Jvm.Cond.arrayClass Jvm.ClassFile.FieldType.boolean) ∈ lw_all := lw_g (lw_at lw_m1 67 rfl) rfl

theorem q17 : (Jvm.Cond.initialized "IgnoreRulesLaw") ∈ lw_all := lw_g (lw_at lw_m1 0 rfl) rfl
set_option maxRecDepth 100000
theorem q20 : (Jvm.Cond.classLink "IgnoreRulesLaw" (7 : Nat) "IgnoreRules") ∈ lw_all := lw_g (lw_at lw_m1 3 rfl) rfl
theorem q22 : (Jvm.Cond.methodLink "IgnoreRulesLaw" (9 : Nat) ({ cls := "IgnoreRules", name := "<init>", desc := "()V" } : Jvm.MethodName)) ∈ lw_all := lw_g (lw_at lw_m1 5 rfl) rfl
theorem q85 : (Jvm.Cond.methodLink "IgnoreRulesLaw" (13 : Nat) ({ cls := "IgnoreRules", name := "pattern", desc := "(I)I" } : Jvm.MethodName)) ∈ lw_all := lw_g (lw_at lw_m1 68 rfl) rfl
theorem q89 : (Jvm.Cond.methodLink "IgnoreRulesLaw" (18 : Nat) ({ cls := "IgnoreRules", name := "rule", desc := "(I)I" } : Jvm.MethodName)) ∈ lw_all := lw_g (lw_at lw_m1 72 rfl) rfl
theorem q109 : (Jvm.Cond.methodLink "IgnoreRulesLaw" (22 : Nat) ({ cls := "IgnoreRules", name := "dropRule", desc := "()I" } : Jvm.MethodName)) ∈ lw_all := lw_g (lw_at lw_m1 92 rfl) rfl
theorem q113 : (Jvm.Cond.methodLink "IgnoreRulesLaw" (27 : Nat) ({ cls := "IgnoreRules", name := "path", desc := "(I)I" } : Jvm.MethodName)) ∈ lw_all := lw_g (lw_at lw_m1 96 rfl) rfl
theorem q117 : (Jvm.Cond.methodLink "IgnoreRulesLaw" (31 : Nat) ({ cls := "IgnoreRules", name := "clearPath", desc := "()V" } : Jvm.MethodName)) ∈ lw_all := lw_g (lw_at lw_m1 100 rfl) rfl
theorem q121 : (Jvm.Cond.methodLink "IgnoreRulesLaw" (35 : Nat) ({ cls := "IgnoreRules", name := "ignored", desc := "(Z)Z" } : Jvm.MethodName)) ∈ lw_all := lw_g (lw_at lw_m1 104 rfl) rfl
theorem q149 : (Jvm.Cond.methodLink "IgnoreRulesLaw" (40 : Nat) ({ cls := "IgnoreRules", name := "lastMatch", desc := "(Z)I" } : Jvm.MethodName)) ∈ lw_all := lw_g (lw_at lw_m1 132 rfl) rfl
theorem q153 : (Jvm.Cond.methodLink "IgnoreRulesLaw" (45 : Nat) ({ cls := "IgnoreRules", name := "matches", desc := "(Z)I" } : Jvm.MethodName)) ∈ lw_all := lw_g (lw_at lw_m1 136 rfl) rfl
theorem q157 : (Jvm.Cond.methodLink "IgnoreRulesLaw" (49 : Nat) ({ cls := "IgnoreRules", name := "cutAt", desc := "(Z)I" } : Jvm.MethodName)) ∈ lw_all := lw_g (lw_at lw_m1 140 rfl) rfl
theorem q161 : (Jvm.Cond.methodLink "IgnoreRulesLaw" (53 : Nat) ({ cls := "IgnoreRules", name := "rules", desc := "()I" } : Jvm.MethodName)) ∈ lw_all := lw_g (lw_at lw_m1 144 rfl) rfl
theorem q165 : (Jvm.Cond.classLink "IgnoreRulesLaw" (10 : Nat) "IgnoreRulesModel") ∈ lw_all := lw_g (lw_at lw_m1 148 rfl) rfl
theorem q167 : (Jvm.Cond.methodLink "IgnoreRulesLaw" (12 : Nat) ({ cls := "IgnoreRulesModel", name := "<init>", desc := "()V" } : Jvm.MethodName)) ∈ lw_all := lw_g (lw_at lw_m1 150 rfl) rfl
theorem q214 : (Jvm.Cond.methodLink "IgnoreRulesLaw" (17 : Nat) ({ cls := "IgnoreRulesModel", name := "pattern", desc := "(I)I" } : Jvm.MethodName)) ∈ lw_all := lw_g (lw_at lw_m1 197 rfl) rfl
theorem q218 : (Jvm.Cond.methodLink "IgnoreRulesLaw" (21 : Nat) ({ cls := "IgnoreRulesModel", name := "rule", desc := "(I)I" } : Jvm.MethodName)) ∈ lw_all := lw_g (lw_at lw_m1 201 rfl) rfl
theorem q226 : (Jvm.Cond.methodLink "IgnoreRulesLaw" (26 : Nat) ({ cls := "IgnoreRulesModel", name := "dropRule", desc := "()I" } : Jvm.MethodName)) ∈ lw_all := lw_g (lw_at lw_m1 209 rfl) rfl
theorem q230 : (Jvm.Cond.methodLink "IgnoreRulesLaw" (30 : Nat) ({ cls := "IgnoreRulesModel", name := "path", desc := "(I)I" } : Jvm.MethodName)) ∈ lw_all := lw_g (lw_at lw_m1 213 rfl) rfl
theorem q234 : (Jvm.Cond.methodLink "IgnoreRulesLaw" (34 : Nat) ({ cls := "IgnoreRulesModel", name := "clearPath", desc := "()V" } : Jvm.MethodName)) ∈ lw_all := lw_g (lw_at lw_m1 217 rfl) rfl
theorem q238 : (Jvm.Cond.methodLink "IgnoreRulesLaw" (39 : Nat) ({ cls := "IgnoreRulesModel", name := "ignored", desc := "(Z)Z" } : Jvm.MethodName)) ∈ lw_all := lw_g (lw_at lw_m1 221 rfl) rfl
theorem q270 : (Jvm.Cond.methodLink "IgnoreRulesLaw" (44 : Nat) ({ cls := "IgnoreRulesModel", name := "lastMatch", desc := "(Z)I" } : Jvm.MethodName)) ∈ lw_all := lw_g (lw_at lw_m2 13 rfl) rfl
theorem q274 : (Jvm.Cond.methodLink "IgnoreRulesLaw" (48 : Nat) ({ cls := "IgnoreRulesModel", name := "matches", desc := "(Z)I" } : Jvm.MethodName)) ∈ lw_all := lw_g (lw_at lw_m2 17 rfl) rfl
theorem q278 : (Jvm.Cond.methodLink "IgnoreRulesLaw" (52 : Nat) ({ cls := "IgnoreRulesModel", name := "cutAt", desc := "(Z)I" } : Jvm.MethodName)) ∈ lw_all := lw_g (lw_at lw_m2 21 rfl) rfl
theorem q279 : (Jvm.Cond.methodLink "IgnoreRulesLaw" (56 : Nat) ({ cls := "IgnoreRulesModel", name := "rules", desc := "()I" } : Jvm.MethodName)) ∈ lw_all := lw_g (lw_at lw_m2 22 rfl) rfl

/-! IgnoreRules -/
set_option maxRecDepth 100000
def RX0 : String := "IgnoreRules"
def TX0 : u_T := fun k => match k with
  | 0 => ("IgnoreRules", "patternLen", "I", false)
  | 1 => ("IgnoreRules", "buffer", "[I", true)
  | 2 => ("IgnoreRules", "rules", "I", false)
  | 3 => ("IgnoreRules", "negated", "[Z", true)
  | 4 => ("IgnoreRules", "foldersOnly", "[Z", true)
  | 5 => ("IgnoreRules", "lastNameOnly", "[Z", true)
  | 6 => ("IgnoreRules", "stepOn", "[I", true)
  | 7 => ("IgnoreRules", "stars", "[I", true)
  | 8 => ("IgnoreRules", "slashes", "[I", true)
  | 9 => ("IgnoreRules", "skips", "[I", true)
  | 10 => ("IgnoreRules", "doubles", "[I", true)
  | 11 => ("IgnoreRules", "ends", "[I", true)
  | 12 => ("IgnoreRules", "names", "I", false)
  | 13 => ("IgnoreRules", "nameLen", "[I", true)
  | 14 => ("IgnoreRules", "letters", "[I", true)
  | 15 => ("IgnoreRules", "states", "[I", true)
  | 16 => ("IgnoreRules", "lastAt", "[I", true)
  | _ => ("IgnoreRules", "countAt", "[I", true)
def tyX0 : Nat → FieldType := fun k => match k with
  | 0 => .int
  | 1 => .array .int
  | 2 => .int
  | 3 => .array .boolean
  | 4 => .array .boolean
  | 5 => .array .boolean
  | 6 => .array .int
  | 7 => .array .int
  | 8 => .array .int
  | 9 => .array .int
  | 10 => .array .int
  | 11 => .array .int
  | 12 => .int
  | 13 => .array .int
  | 14 => .array .int
  | 15 => .array .int
  | 16 => .array .int
  | _ => .array .int
abbrev wsX00 : List Cond := u_ws RX0 TX0 18
set_option maxRecDepth 100000 in
theorem nmX0 : ∀ a, a < 18 → ∀ b, b < 18 → a ≠ b → (TX0 a).2.1 ≠ (TX0 b).2.1 := by decide +kernel
set_option maxRecDepth 100000 in
theorem tyX0_ok : ∀ k, k < 18 → parseFieldDescriptor (TX0 k).2.2.1 = some (tyX0 k) := by decide +kernel
abbrev cX0_init : ByteArray := prog_1_method_1_code
def yX0_init : MethodName := ⟨RX0, "<init>", "()V"⟩
abbrev cX0_pattern : ByteArray := prog_1_method_2_code
def yX0_pattern : MethodName := ⟨RX0, "pattern", "(I)I"⟩
abbrev cX0_rule : ByteArray := prog_1_method_5_code
def yX0_rule : MethodName := ⟨RX0, "rule", "(I)I"⟩
abbrev cX0_goodPattern : ByteArray := prog_1_method_4_code
def yX0_goodPattern : MethodName := ⟨RX0, "goodPattern", "()Z"⟩
abbrev cX0_partBorder : ByteArray := prog_1_method_3_code
def yX0_partBorder : MethodName := ⟨RX0, "partBorder", "(I)Z"⟩
abbrev cX0_makeSets : ByteArray := prog_1_method_6_code
def yX0_makeSets : MethodName := ⟨RX0, "makeSets", "(II)V"⟩
abbrev cX0_makeEnds : ByteArray := prog_1_method_7_code
def yX0_makeEnds : MethodName := ⟨RX0, "makeEnds", "(II)V"⟩
abbrev cX0_dropRule : ByteArray := prog_1_method_8_code
def yX0_dropRule : MethodName := ⟨RX0, "dropRule", "()I"⟩
abbrev cX0_path : ByteArray := prog_1_method_9_code
def yX0_path : MethodName := ⟨RX0, "path", "(I)I"⟩
abbrev cX0_clearPath : ByteArray := prog_1_method_10_code
def yX0_clearPath : MethodName := ⟨RX0, "clearPath", "()V"⟩
abbrev cX0_ignored : ByteArray := prog_1_method_17_code
def yX0_ignored : MethodName := ⟨RX0, "ignored", "(Z)Z"⟩
abbrev cX0_walk : ByteArray := prog_1_method_15_code
def yX0_walk : MethodName := ⟨RX0, "walk", "(Z)Z"⟩
abbrev cX0_walkName : ByteArray := prog_1_method_14_code
def yX0_walkName : MethodName := ⟨RX0, "walkName", "(I)V"⟩
abbrev cX0_spread : ByteArray := prog_1_method_11_code
def yX0_spread : MethodName := ⟨RX0, "spread", "(IIZ)I"⟩
abbrev cX0_onBorder : ByteArray := prog_1_method_13_code
def yX0_onBorder : MethodName := ⟨RX0, "onBorder", "(II)I"⟩
abbrev cX0_onLetter : ByteArray := prog_1_method_12_code
def yX0_onLetter : MethodName := ⟨RX0, "onLetter", "(III)I"⟩
abbrev cX0_firstIgnored : ByteArray := prog_1_method_16_code
def yX0_firstIgnored : MethodName := ⟨RX0, "firstIgnored", "()I"⟩
abbrev cX0_lastMatch : ByteArray := prog_1_method_18_code
def yX0_lastMatch : MethodName := ⟨RX0, "lastMatch", "(Z)I"⟩
abbrev cX0_matches : ByteArray := prog_1_method_19_code
def yX0_matches : MethodName := ⟨RX0, "matches", "(Z)I"⟩
abbrev cX0_cutAt : ByteArray := prog_1_method_20_code
def yX0_cutAt : MethodName := ⟨RX0, "cutAt", "(Z)I"⟩
abbrev cX0_rules : ByteArray := prog_1_method_21_code
def yX0_rules : MethodName := ⟨RX0, "rules", "()I"⟩
theorem q18 : (Jvm.Cond.initialized "IgnoreRules") ∈ lw_all := lw_g (lw_at lw_m1 1 rfl) rfl
theorem q21 : (Jvm.Cond.instantiable "IgnoreRules" (18 : Nat)) ∈ lw_all := lw_g (lw_at lw_m1 4 rfl) rfl
theorem q23 : (Jvm.Cond.instanceMethod ({ cls := "IgnoreRules", name := "<init>", desc := "()V" } : Jvm.MethodName)) ∈ lw_all := lw_g (lw_at lw_m1 6 rfl) rfl
theorem q24 : (Jvm.Cond.code ({ cls := "IgnoreRules", name := "<init>", desc := "()V" } : Jvm.MethodName) prog_1_method_1_code (1 : Nat) (Option.none : Option Jvm.ClassFile.FieldType)) ∈ lw_all := lw_g (lw_at lw_m1 7 rfl) rfl
theorem q25 : (Jvm.Cond.methodLink "IgnoreRules" (1 : Nat) ({ cls := "java/lang/Object", name := "<init>", desc := "()V" } : Jvm.MethodName)) ∈ lw_all := lw_g (lw_at lw_m1 8 rfl) rfl
theorem q28 : (Jvm.Cond.fieldLink "IgnoreRules" (60 : Nat) "IgnoreRules" "patternLen" "I") ∈ lw_all := lw_g (lw_at lw_m1 11 rfl) rfl
theorem q29 : (Jvm.Cond.fieldLink "IgnoreRules" (7 : Nat) "IgnoreRules" "buffer" "[I") ∈ lw_all := lw_g (lw_at lw_m1 12 rfl) rfl
theorem q30 : (Jvm.Cond.fieldLink "IgnoreRules" (71 : Nat) "IgnoreRules" "rules" "I") ∈ lw_all := lw_g (lw_at lw_m1 13 rfl) rfl
theorem q31 : (Jvm.Cond.fieldLink "IgnoreRules" (13 : Nat) "IgnoreRules" "negated" "[Z") ∈ lw_all := lw_g (lw_at lw_m1 14 rfl) rfl
theorem q32 : (Jvm.Cond.fieldLink "IgnoreRules" (17 : Nat) "IgnoreRules" "foldersOnly" "[Z") ∈ lw_all := lw_g (lw_at lw_m1 15 rfl) rfl
theorem q33 : (Jvm.Cond.fieldLink "IgnoreRules" (20 : Nat) "IgnoreRules" "lastNameOnly" "[Z") ∈ lw_all := lw_g (lw_at lw_m1 16 rfl) rfl
theorem q34 : (Jvm.Cond.fieldLink "IgnoreRules" (23 : Nat) "IgnoreRules" "stepOn" "[I") ∈ lw_all := lw_g (lw_at lw_m1 17 rfl) rfl
theorem q35 : (Jvm.Cond.fieldLink "IgnoreRules" (26 : Nat) "IgnoreRules" "stars" "[I") ∈ lw_all := lw_g (lw_at lw_m1 18 rfl) rfl
theorem q36 : (Jvm.Cond.fieldLink "IgnoreRules" (29 : Nat) "IgnoreRules" "slashes" "[I") ∈ lw_all := lw_g (lw_at lw_m1 19 rfl) rfl
theorem q37 : (Jvm.Cond.fieldLink "IgnoreRules" (32 : Nat) "IgnoreRules" "skips" "[I") ∈ lw_all := lw_g (lw_at lw_m1 20 rfl) rfl
theorem q38 : (Jvm.Cond.fieldLink "IgnoreRules" (35 : Nat) "IgnoreRules" "doubles" "[I") ∈ lw_all := lw_g (lw_at lw_m1 21 rfl) rfl
theorem q39 : (Jvm.Cond.fieldLink "IgnoreRules" (38 : Nat) "IgnoreRules" "ends" "[I") ∈ lw_all := lw_g (lw_at lw_m1 22 rfl) rfl
theorem q40 : (Jvm.Cond.fieldLink "IgnoreRules" (56 : Nat) "IgnoreRules" "names" "I") ∈ lw_all := lw_g (lw_at lw_m1 23 rfl) rfl
theorem q41 : (Jvm.Cond.fieldLink "IgnoreRules" (41 : Nat) "IgnoreRules" "nameLen" "[I") ∈ lw_all := lw_g (lw_at lw_m1 24 rfl) rfl
theorem q42 : (Jvm.Cond.fieldLink "IgnoreRules" (44 : Nat) "IgnoreRules" "letters" "[I") ∈ lw_all := lw_g (lw_at lw_m1 25 rfl) rfl
theorem q43 : (Jvm.Cond.fieldLink "IgnoreRules" (47 : Nat) "IgnoreRules" "states" "[I") ∈ lw_all := lw_g (lw_at lw_m1 26 rfl) rfl
theorem q44 : (Jvm.Cond.fieldLink "IgnoreRules" (50 : Nat) "IgnoreRules" "lastAt" "[I") ∈ lw_all := lw_g (lw_at lw_m1 27 rfl) rfl
theorem q45 : (Jvm.Cond.fieldLink "IgnoreRules" (53 : Nat) "IgnoreRules" "countAt" "[I") ∈ lw_all := lw_g (lw_at lw_m1 28 rfl) rfl
theorem q46 : (Jvm.Cond.lays "IgnoreRules" "IgnoreRules" "patternLen" "I") ∈ lw_all := lw_g (lw_at lw_m1 29 rfl) rfl
theorem q47 : (Jvm.Cond.soleField "IgnoreRules" "patternLen") ∈ lw_all := lw_g (lw_at lw_m1 30 rfl) rfl
theorem q48 : (Jvm.Cond.laysFinal "IgnoreRules" "IgnoreRules" "buffer" "[I") ∈ lw_all := lw_g (lw_at lw_m1 31 rfl) rfl
theorem q49 : (Jvm.Cond.soleField "IgnoreRules" "buffer") ∈ lw_all := lw_g (lw_at lw_m1 32 rfl) rfl
theorem q50 : (Jvm.Cond.lays "IgnoreRules" "IgnoreRules" "rules" "I") ∈ lw_all := lw_g (lw_at lw_m1 33 rfl) rfl
theorem q51 : (Jvm.Cond.soleField "IgnoreRules" "rules") ∈ lw_all := lw_g (lw_at lw_m1 34 rfl) rfl
theorem q52 : (Jvm.Cond.laysFinal "IgnoreRules" "IgnoreRules" "negated" "[Z") ∈ lw_all := lw_g (lw_at lw_m1 35 rfl) rfl
theorem q53 : (Jvm.Cond.soleField "IgnoreRules" "negated") ∈ lw_all := lw_g (lw_at lw_m1 36 rfl) rfl
theorem q54 : (Jvm.Cond.laysFinal "IgnoreRules" "IgnoreRules" "foldersOnly" "[Z") ∈ lw_all := lw_g (lw_at lw_m1 37 rfl) rfl
theorem q55 : (Jvm.Cond.soleField "IgnoreRules" "foldersOnly") ∈ lw_all := lw_g (lw_at lw_m1 38 rfl) rfl
theorem q56 : (Jvm.Cond.laysFinal "IgnoreRules" "IgnoreRules" "lastNameOnly" "[Z") ∈ lw_all := lw_g (lw_at lw_m1 39 rfl) rfl
theorem q57 : (Jvm.Cond.soleField "IgnoreRules" "lastNameOnly") ∈ lw_all := lw_g (lw_at lw_m1 40 rfl) rfl
theorem q58 : (Jvm.Cond.laysFinal "IgnoreRules" "IgnoreRules" "stepOn" "[I") ∈ lw_all := lw_g (lw_at lw_m1 41 rfl) rfl
theorem q59 : (Jvm.Cond.soleField "IgnoreRules" "stepOn") ∈ lw_all := lw_g (lw_at lw_m1 42 rfl) rfl
theorem q60 : (Jvm.Cond.laysFinal "IgnoreRules" "IgnoreRules" "stars" "[I") ∈ lw_all := lw_g (lw_at lw_m1 43 rfl) rfl
theorem q61 : (Jvm.Cond.soleField "IgnoreRules" "stars") ∈ lw_all := lw_g (lw_at lw_m1 44 rfl) rfl
theorem q62 : (Jvm.Cond.laysFinal "IgnoreRules" "IgnoreRules" "slashes" "[I") ∈ lw_all := lw_g (lw_at lw_m1 45 rfl) rfl
theorem q63 : (Jvm.Cond.soleField "IgnoreRules" "slashes") ∈ lw_all := lw_g (lw_at lw_m1 46 rfl) rfl
theorem q64 : (Jvm.Cond.laysFinal "IgnoreRules" "IgnoreRules" "skips" "[I") ∈ lw_all := lw_g (lw_at lw_m1 47 rfl) rfl
theorem q65 : (Jvm.Cond.soleField "IgnoreRules" "skips") ∈ lw_all := lw_g (lw_at lw_m1 48 rfl) rfl
theorem q66 : (Jvm.Cond.laysFinal "IgnoreRules" "IgnoreRules" "doubles" "[I") ∈ lw_all := lw_g (lw_at lw_m1 49 rfl) rfl
theorem q67 : (Jvm.Cond.soleField "IgnoreRules" "doubles") ∈ lw_all := lw_g (lw_at lw_m1 50 rfl) rfl
theorem q68 : (Jvm.Cond.laysFinal "IgnoreRules" "IgnoreRules" "ends" "[I") ∈ lw_all := lw_g (lw_at lw_m1 51 rfl) rfl
theorem q69 : (Jvm.Cond.soleField "IgnoreRules" "ends") ∈ lw_all := lw_g (lw_at lw_m1 52 rfl) rfl
theorem q70 : (Jvm.Cond.lays "IgnoreRules" "IgnoreRules" "names" "I") ∈ lw_all := lw_g (lw_at lw_m1 53 rfl) rfl
theorem q71 : (Jvm.Cond.soleField "IgnoreRules" "names") ∈ lw_all := lw_g (lw_at lw_m1 54 rfl) rfl
theorem q72 : (Jvm.Cond.laysFinal "IgnoreRules" "IgnoreRules" "nameLen" "[I") ∈ lw_all := lw_g (lw_at lw_m1 55 rfl) rfl
theorem q73 : (Jvm.Cond.soleField "IgnoreRules" "nameLen") ∈ lw_all := lw_g (lw_at lw_m1 56 rfl) rfl
theorem q74 : (Jvm.Cond.laysFinal "IgnoreRules" "IgnoreRules" "letters" "[I") ∈ lw_all := lw_g (lw_at lw_m1 57 rfl) rfl
theorem q75 : (Jvm.Cond.soleField "IgnoreRules" "letters") ∈ lw_all := lw_g (lw_at lw_m1 58 rfl) rfl
theorem q76 : (Jvm.Cond.laysFinal "IgnoreRules" "IgnoreRules" "states" "[I") ∈ lw_all := lw_g (lw_at lw_m1 59 rfl) rfl
theorem q77 : (Jvm.Cond.soleField "IgnoreRules" "states") ∈ lw_all := lw_g (lw_at lw_m1 60 rfl) rfl
theorem q78 : (Jvm.Cond.laysFinal "IgnoreRules" "IgnoreRules" "lastAt" "[I") ∈ lw_all := lw_g (lw_at lw_m1 61 rfl) rfl
theorem q79 : (Jvm.Cond.soleField "IgnoreRules" "lastAt") ∈ lw_all := lw_g (lw_at lw_m1 62 rfl) rfl
theorem q80 : (Jvm.Cond.laysFinal "IgnoreRules" "IgnoreRules" "countAt" "[I") ∈ lw_all := lw_g (lw_at lw_m1 63 rfl) rfl
theorem q81 : (Jvm.Cond.soleField "IgnoreRules" "countAt") ∈ lw_all := lw_g (lw_at lw_m1 64 rfl) rfl
theorem q82 : (Jvm.Cond.superclass "IgnoreRules" "java/lang/Object") ∈ lw_all := lw_g (lw_at lw_m1 65 rfl) rfl
theorem q86 : (Jvm.Cond.instanceMethod ({ cls := "IgnoreRules", name := "pattern", desc := "(I)I" } : Jvm.MethodName)) ∈ lw_all := lw_g (lw_at lw_m1 69 rfl) rfl
theorem q87 : (Jvm.Cond.selects "IgnoreRules" ({ cls := "IgnoreRules", name := "pattern", desc := "(I)I" } : Jvm.MethodName) ({ cls := "IgnoreRules", name := "pattern", desc := "(I)I" } : Jvm.MethodName)) ∈ lw_all := lw_g (lw_at lw_m1 70 rfl) rfl
theorem q88 : (Jvm.Cond.code ({ cls := "IgnoreRules", name := "pattern", desc := "(I)I" } : Jvm.MethodName) prog_1_method_2_code (2 : Nat) (Option.some Jvm.ClassFile.FieldType.int)) ∈ lw_all := lw_g (lw_at lw_m1 71 rfl) rfl
theorem q90 : (Jvm.Cond.instanceMethod ({ cls := "IgnoreRules", name := "rule", desc := "(I)I" } : Jvm.MethodName)) ∈ lw_all := lw_g (lw_at lw_m1 73 rfl) rfl
theorem q91 : (Jvm.Cond.selects "IgnoreRules" ({ cls := "IgnoreRules", name := "rule", desc := "(I)I" } : Jvm.MethodName) ({ cls := "IgnoreRules", name := "rule", desc := "(I)I" } : Jvm.MethodName)) ∈ lw_all := lw_g (lw_at lw_m1 74 rfl) rfl
theorem q92 : (Jvm.Cond.code ({ cls := "IgnoreRules", name := "rule", desc := "(I)I" } : Jvm.MethodName) prog_1_method_5_code (5 : Nat) (Option.some Jvm.ClassFile.FieldType.int)) ∈ lw_all := lw_g (lw_at lw_m1 75 rfl) rfl
theorem q93 : (Jvm.Cond.methodLink "IgnoreRules" (67 : Nat) ({ cls := "IgnoreRules", name := "goodPattern", desc := "()Z" } : Jvm.MethodName)) ∈ lw_all := lw_g (lw_at lw_m1 76 rfl) rfl
theorem q94 : (Jvm.Cond.privateMethod ({ cls := "IgnoreRules", name := "goodPattern", desc := "()Z" } : Jvm.MethodName)) ∈ lw_tbl := lw_at lw_m1 77 rfl
theorem q95 : (Jvm.Cond.instanceMethod ({ cls := "IgnoreRules", name := "goodPattern", desc := "()Z" } : Jvm.MethodName)) ∈ lw_all := lw_g (lw_at lw_m1 78 rfl) rfl
theorem q96 : (Jvm.Cond.code ({ cls := "IgnoreRules", name := "goodPattern", desc := "()Z" } : Jvm.MethodName) prog_1_method_4_code (4 : Nat) (Option.some Jvm.ClassFile.FieldType.boolean)) ∈ lw_all := lw_g (lw_at lw_m1 79 rfl) rfl
theorem q97 : (Jvm.Cond.methodLink "IgnoreRules" (63 : Nat) ({ cls := "IgnoreRules", name := "partBorder", desc := "(I)Z" } : Jvm.MethodName)) ∈ lw_all := lw_g (lw_at lw_m1 80 rfl) rfl
theorem q98 : (Jvm.Cond.privateMethod ({ cls := "IgnoreRules", name := "partBorder", desc := "(I)Z" } : Jvm.MethodName)) ∈ lw_tbl := lw_at lw_m1 81 rfl
theorem q99 : (Jvm.Cond.instanceMethod ({ cls := "IgnoreRules", name := "partBorder", desc := "(I)Z" } : Jvm.MethodName)) ∈ lw_all := lw_g (lw_at lw_m1 82 rfl) rfl
theorem q100 : (Jvm.Cond.code ({ cls := "IgnoreRules", name := "partBorder", desc := "(I)Z" } : Jvm.MethodName) prog_1_method_3_code (2 : Nat) (Option.some Jvm.ClassFile.FieldType.boolean)) ∈ lw_all := lw_g (lw_at lw_m1 83 rfl) rfl
theorem q101 : (Jvm.Cond.methodLink "IgnoreRules" (74 : Nat) ({ cls := "IgnoreRules", name := "makeSets", desc := "(II)V" } : Jvm.MethodName)) ∈ lw_all := lw_g (lw_at lw_m1 84 rfl) rfl
theorem q102 : (Jvm.Cond.privateMethod ({ cls := "IgnoreRules", name := "makeSets", desc := "(II)V" } : Jvm.MethodName)) ∈ lw_tbl := lw_at lw_m1 85 rfl
theorem q103 : (Jvm.Cond.instanceMethod ({ cls := "IgnoreRules", name := "makeSets", desc := "(II)V" } : Jvm.MethodName)) ∈ lw_all := lw_g (lw_at lw_m1 86 rfl) rfl
theorem q104 : (Jvm.Cond.code ({ cls := "IgnoreRules", name := "makeSets", desc := "(II)V" } : Jvm.MethodName) prog_1_method_6_code (6 : Nat) (Option.none : Option Jvm.ClassFile.FieldType)) ∈ lw_all := lw_g (lw_at lw_m1 87 rfl) rfl
theorem q105 : (Jvm.Cond.methodLink "IgnoreRules" (78 : Nat) ({ cls := "IgnoreRules", name := "makeEnds", desc := "(II)V" } : Jvm.MethodName)) ∈ lw_all := lw_g (lw_at lw_m1 88 rfl) rfl
theorem q106 : (Jvm.Cond.privateMethod ({ cls := "IgnoreRules", name := "makeEnds", desc := "(II)V" } : Jvm.MethodName)) ∈ lw_tbl := lw_at lw_m1 89 rfl
theorem q107 : (Jvm.Cond.instanceMethod ({ cls := "IgnoreRules", name := "makeEnds", desc := "(II)V" } : Jvm.MethodName)) ∈ lw_all := lw_g (lw_at lw_m1 90 rfl) rfl
theorem q108 : (Jvm.Cond.code ({ cls := "IgnoreRules", name := "makeEnds", desc := "(II)V" } : Jvm.MethodName) prog_1_method_7_code (6 : Nat) (Option.none : Option Jvm.ClassFile.FieldType)) ∈ lw_all := lw_g (lw_at lw_m1 91 rfl) rfl
theorem q110 : (Jvm.Cond.instanceMethod ({ cls := "IgnoreRules", name := "dropRule", desc := "()I" } : Jvm.MethodName)) ∈ lw_all := lw_g (lw_at lw_m1 93 rfl) rfl
theorem q111 : (Jvm.Cond.selects "IgnoreRules" ({ cls := "IgnoreRules", name := "dropRule", desc := "()I" } : Jvm.MethodName) ({ cls := "IgnoreRules", name := "dropRule", desc := "()I" } : Jvm.MethodName)) ∈ lw_all := lw_g (lw_at lw_m1 94 rfl) rfl
theorem q112 : (Jvm.Cond.code ({ cls := "IgnoreRules", name := "dropRule", desc := "()I" } : Jvm.MethodName) prog_1_method_8_code (1 : Nat) (Option.some Jvm.ClassFile.FieldType.int)) ∈ lw_all := lw_g (lw_at lw_m1 95 rfl) rfl
theorem q114 : (Jvm.Cond.instanceMethod ({ cls := "IgnoreRules", name := "path", desc := "(I)I" } : Jvm.MethodName)) ∈ lw_all := lw_g (lw_at lw_m1 97 rfl) rfl
theorem q115 : (Jvm.Cond.selects "IgnoreRules" ({ cls := "IgnoreRules", name := "path", desc := "(I)I" } : Jvm.MethodName) ({ cls := "IgnoreRules", name := "path", desc := "(I)I" } : Jvm.MethodName)) ∈ lw_all := lw_g (lw_at lw_m1 98 rfl) rfl
theorem q116 : (Jvm.Cond.code ({ cls := "IgnoreRules", name := "path", desc := "(I)I" } : Jvm.MethodName) prog_1_method_9_code (3 : Nat) (Option.some Jvm.ClassFile.FieldType.int)) ∈ lw_all := lw_g (lw_at lw_m1 99 rfl) rfl
theorem q118 : (Jvm.Cond.instanceMethod ({ cls := "IgnoreRules", name := "clearPath", desc := "()V" } : Jvm.MethodName)) ∈ lw_all := lw_g (lw_at lw_m1 101 rfl) rfl
theorem q119 : (Jvm.Cond.selects "IgnoreRules" ({ cls := "IgnoreRules", name := "clearPath", desc := "()V" } : Jvm.MethodName) ({ cls := "IgnoreRules", name := "clearPath", desc := "()V" } : Jvm.MethodName)) ∈ lw_all := lw_g (lw_at lw_m1 102 rfl) rfl
theorem q120 : (Jvm.Cond.code ({ cls := "IgnoreRules", name := "clearPath", desc := "()V" } : Jvm.MethodName) prog_1_method_10_code (1 : Nat) (Option.none : Option Jvm.ClassFile.FieldType)) ∈ lw_all := lw_g (lw_at lw_m1 103 rfl) rfl
theorem q122 : (Jvm.Cond.instanceMethod ({ cls := "IgnoreRules", name := "ignored", desc := "(Z)Z" } : Jvm.MethodName)) ∈ lw_all := lw_g (lw_at lw_m1 105 rfl) rfl
theorem q123 : (Jvm.Cond.selects "IgnoreRules" ({ cls := "IgnoreRules", name := "ignored", desc := "(Z)Z" } : Jvm.MethodName) ({ cls := "IgnoreRules", name := "ignored", desc := "(Z)Z" } : Jvm.MethodName)) ∈ lw_all := lw_g (lw_at lw_m1 106 rfl) rfl
theorem q124 : (Jvm.Cond.code ({ cls := "IgnoreRules", name := "ignored", desc := "(Z)Z" } : Jvm.MethodName) prog_1_method_17_code (4 : Nat) (Option.some Jvm.ClassFile.FieldType.boolean)) ∈ lw_all := lw_g (lw_at lw_m1 107 rfl) rfl
theorem q125 : (Jvm.Cond.methodLink "IgnoreRules" (97 : Nat) ({ cls := "IgnoreRules", name := "walk", desc := "(Z)Z" } : Jvm.MethodName)) ∈ lw_all := lw_g (lw_at lw_m1 108 rfl) rfl
theorem q126 : (Jvm.Cond.privateMethod ({ cls := "IgnoreRules", name := "walk", desc := "(Z)Z" } : Jvm.MethodName)) ∈ lw_tbl := lw_at lw_m1 109 rfl
theorem q127 : (Jvm.Cond.instanceMethod ({ cls := "IgnoreRules", name := "walk", desc := "(Z)Z" } : Jvm.MethodName)) ∈ lw_all := lw_g (lw_at lw_m1 110 rfl) rfl
theorem q128 : (Jvm.Cond.code ({ cls := "IgnoreRules", name := "walk", desc := "(Z)Z" } : Jvm.MethodName) prog_1_method_15_code (5 : Nat) (Option.some Jvm.ClassFile.FieldType.boolean)) ∈ lw_all := lw_g (lw_at lw_m1 111 rfl) rfl
theorem q129 : (Jvm.Cond.methodLink "IgnoreRules" (93 : Nat) ({ cls := "IgnoreRules", name := "walkName", desc := "(I)V" } : Jvm.MethodName)) ∈ lw_all := lw_g (lw_at lw_m1 112 rfl) rfl
theorem q130 : (Jvm.Cond.privateMethod ({ cls := "IgnoreRules", name := "walkName", desc := "(I)V" } : Jvm.MethodName)) ∈ lw_tbl := lw_at lw_m1 113 rfl
theorem q131 : (Jvm.Cond.instanceMethod ({ cls := "IgnoreRules", name := "walkName", desc := "(I)V" } : Jvm.MethodName)) ∈ lw_all := lw_g (lw_at lw_m1 114 rfl) rfl
theorem q132 : (Jvm.Cond.code ({ cls := "IgnoreRules", name := "walkName", desc := "(I)V" } : Jvm.MethodName) prog_1_method_14_code (5 : Nat) (Option.none : Option Jvm.ClassFile.FieldType)) ∈ lw_all := lw_g (lw_at lw_m1 115 rfl) rfl
theorem q133 : (Jvm.Cond.methodLink "IgnoreRules" (81 : Nat) ({ cls := "IgnoreRules", name := "spread", desc := "(IIZ)I" } : Jvm.MethodName)) ∈ lw_all := lw_g (lw_at lw_m1 116 rfl) rfl
theorem q134 : (Jvm.Cond.privateMethod ({ cls := "IgnoreRules", name := "spread", desc := "(IIZ)I" } : Jvm.MethodName)) ∈ lw_tbl := lw_at lw_m1 117 rfl
theorem q135 : (Jvm.Cond.instanceMethod ({ cls := "IgnoreRules", name := "spread", desc := "(IIZ)I" } : Jvm.MethodName)) ∈ lw_all := lw_g (lw_at lw_m1 118 rfl) rfl
theorem q136 : (Jvm.Cond.code ({ cls := "IgnoreRules", name := "spread", desc := "(IIZ)I" } : Jvm.MethodName) prog_1_method_11_code (6 : Nat) (Option.some Jvm.ClassFile.FieldType.int)) ∈ lw_all := lw_g (lw_at lw_m1 119 rfl) rfl
theorem q137 : (Jvm.Cond.methodLink "IgnoreRules" (85 : Nat) ({ cls := "IgnoreRules", name := "onBorder", desc := "(II)I" } : Jvm.MethodName)) ∈ lw_all := lw_g (lw_at lw_m1 120 rfl) rfl
theorem q138 : (Jvm.Cond.privateMethod ({ cls := "IgnoreRules", name := "onBorder", desc := "(II)I" } : Jvm.MethodName)) ∈ lw_tbl := lw_at lw_m1 121 rfl
theorem q139 : (Jvm.Cond.instanceMethod ({ cls := "IgnoreRules", name := "onBorder", desc := "(II)I" } : Jvm.MethodName)) ∈ lw_all := lw_g (lw_at lw_m1 122 rfl) rfl
theorem q140 : (Jvm.Cond.code ({ cls := "IgnoreRules", name := "onBorder", desc := "(II)I" } : Jvm.MethodName) prog_1_method_13_code (4 : Nat) (Option.some Jvm.ClassFile.FieldType.int)) ∈ lw_all := lw_g (lw_at lw_m1 123 rfl) rfl
theorem q141 : (Jvm.Cond.methodLink "IgnoreRules" (89 : Nat) ({ cls := "IgnoreRules", name := "onLetter", desc := "(III)I" } : Jvm.MethodName)) ∈ lw_all := lw_g (lw_at lw_m1 124 rfl) rfl
theorem q142 : (Jvm.Cond.privateMethod ({ cls := "IgnoreRules", name := "onLetter", desc := "(III)I" } : Jvm.MethodName)) ∈ lw_tbl := lw_at lw_m1 125 rfl
theorem q143 : (Jvm.Cond.instanceMethod ({ cls := "IgnoreRules", name := "onLetter", desc := "(III)I" } : Jvm.MethodName)) ∈ lw_all := lw_g (lw_at lw_m1 126 rfl) rfl
theorem q144 : (Jvm.Cond.code ({ cls := "IgnoreRules", name := "onLetter", desc := "(III)I" } : Jvm.MethodName) prog_1_method_12_code (6 : Nat) (Option.some Jvm.ClassFile.FieldType.int)) ∈ lw_all := lw_g (lw_at lw_m1 127 rfl) rfl
theorem q145 : (Jvm.Cond.methodLink "IgnoreRules" (101 : Nat) ({ cls := "IgnoreRules", name := "firstIgnored", desc := "()I" } : Jvm.MethodName)) ∈ lw_all := lw_g (lw_at lw_m1 128 rfl) rfl
theorem q146 : (Jvm.Cond.privateMethod ({ cls := "IgnoreRules", name := "firstIgnored", desc := "()I" } : Jvm.MethodName)) ∈ lw_tbl := lw_at lw_m1 129 rfl
theorem q147 : (Jvm.Cond.instanceMethod ({ cls := "IgnoreRules", name := "firstIgnored", desc := "()I" } : Jvm.MethodName)) ∈ lw_all := lw_g (lw_at lw_m1 130 rfl) rfl
theorem q148 : (Jvm.Cond.code ({ cls := "IgnoreRules", name := "firstIgnored", desc := "()I" } : Jvm.MethodName) prog_1_method_16_code (2 : Nat) (Option.some Jvm.ClassFile.FieldType.int)) ∈ lw_all := lw_g (lw_at lw_m1 131 rfl) rfl
theorem q150 : (Jvm.Cond.instanceMethod ({ cls := "IgnoreRules", name := "lastMatch", desc := "(Z)I" } : Jvm.MethodName)) ∈ lw_all := lw_g (lw_at lw_m1 133 rfl) rfl
theorem q151 : (Jvm.Cond.selects "IgnoreRules" ({ cls := "IgnoreRules", name := "lastMatch", desc := "(Z)I" } : Jvm.MethodName) ({ cls := "IgnoreRules", name := "lastMatch", desc := "(Z)I" } : Jvm.MethodName)) ∈ lw_all := lw_g (lw_at lw_m1 134 rfl) rfl
theorem q152 : (Jvm.Cond.code ({ cls := "IgnoreRules", name := "lastMatch", desc := "(Z)I" } : Jvm.MethodName) prog_1_method_18_code (3 : Nat) (Option.some Jvm.ClassFile.FieldType.int)) ∈ lw_all := lw_g (lw_at lw_m1 135 rfl) rfl
theorem q154 : (Jvm.Cond.instanceMethod ({ cls := "IgnoreRules", name := "matches", desc := "(Z)I" } : Jvm.MethodName)) ∈ lw_all := lw_g (lw_at lw_m1 137 rfl) rfl
theorem q155 : (Jvm.Cond.selects "IgnoreRules" ({ cls := "IgnoreRules", name := "matches", desc := "(Z)I" } : Jvm.MethodName) ({ cls := "IgnoreRules", name := "matches", desc := "(Z)I" } : Jvm.MethodName)) ∈ lw_all := lw_g (lw_at lw_m1 138 rfl) rfl
theorem q156 : (Jvm.Cond.code ({ cls := "IgnoreRules", name := "matches", desc := "(Z)I" } : Jvm.MethodName) prog_1_method_19_code (3 : Nat) (Option.some Jvm.ClassFile.FieldType.int)) ∈ lw_all := lw_g (lw_at lw_m1 139 rfl) rfl
theorem q158 : (Jvm.Cond.instanceMethod ({ cls := "IgnoreRules", name := "cutAt", desc := "(Z)I" } : Jvm.MethodName)) ∈ lw_all := lw_g (lw_at lw_m1 141 rfl) rfl
theorem q159 : (Jvm.Cond.selects "IgnoreRules" ({ cls := "IgnoreRules", name := "cutAt", desc := "(Z)I" } : Jvm.MethodName) ({ cls := "IgnoreRules", name := "cutAt", desc := "(Z)I" } : Jvm.MethodName)) ∈ lw_all := lw_g (lw_at lw_m1 142 rfl) rfl
theorem q160 : (Jvm.Cond.code ({ cls := "IgnoreRules", name := "cutAt", desc := "(Z)I" } : Jvm.MethodName) prog_1_method_20_code (3 : Nat) (Option.some Jvm.ClassFile.FieldType.int)) ∈ lw_all := lw_g (lw_at lw_m1 143 rfl) rfl
theorem q162 : (Jvm.Cond.instanceMethod ({ cls := "IgnoreRules", name := "rules", desc := "()I" } : Jvm.MethodName)) ∈ lw_all := lw_g (lw_at lw_m1 145 rfl) rfl
theorem q163 : (Jvm.Cond.selects "IgnoreRules" ({ cls := "IgnoreRules", name := "rules", desc := "()I" } : Jvm.MethodName) ({ cls := "IgnoreRules", name := "rules", desc := "()I" } : Jvm.MethodName)) ∈ lw_all := lw_g (lw_at lw_m1 146 rfl) rfl
theorem q164 : (Jvm.Cond.code ({ cls := "IgnoreRules", name := "rules", desc := "()I" } : Jvm.MethodName) prog_1_method_21_code (1 : Nat) (Option.some Jvm.ClassFile.FieldType.int)) ∈ lw_all := lw_g (lw_at lw_m1 147 rfl) rfl
theorem in_X0 : ∀ w ∈ wsX00, w ∈ lw_all := lw_in wsX00 [46, 48, 50, 52, 54, 56, 58, 60, 62, 64, 66, 68, 70, 72, 74, 76, 78, 80] (by decide +kernel) (by decide +kernel)

/-! IgnoreRulesModel -/
set_option maxRecDepth 100000
def RX1 : String := "IgnoreRulesModel"
def TX1 : u_T := fun k => match k with
  | 0 => ("IgnoreRulesModel", "buffer", "[I", true)
  | 1 => ("IgnoreRulesModel", "buffered", "I", false)
  | 2 => ("IgnoreRulesModel", "signs", "[I", true)
  | 3 => ("IgnoreRulesModel", "signCount", "[I", true)
  | 4 => ("IgnoreRulesModel", "mark", "[I", true)
  | 5 => ("IgnoreRulesModel", "ruleCount", "I", false)
  | 6 => ("IgnoreRulesModel", "letters", "[I", true)
  | 7 => ("IgnoreRulesModel", "nameLength", "[I", true)
  | 8 => ("IgnoreRulesModel", "names", "I", false)
  | 9 => ("IgnoreRulesModel", "partFrom", "[I", true)
  | 10 => ("IgnoreRulesModel", "partTo", "[I", true)
  | 11 => ("IgnoreRulesModel", "parts", "I", false)
  | 12 => ("IgnoreRulesModel", "restFits", "[Z", true)
  | _ => ("IgnoreRulesModel", "listFits", "[Z", true)
def tyX1 : Nat → FieldType := fun k => match k with
  | 0 => .array .int
  | 1 => .int
  | 2 => .array .int
  | 3 => .array .int
  | 4 => .array .int
  | 5 => .int
  | 6 => .array .int
  | 7 => .array .int
  | 8 => .int
  | 9 => .array .int
  | 10 => .array .int
  | 11 => .int
  | 12 => .array .boolean
  | _ => .array .boolean
abbrev wsX10 : List Cond := u_ws RX1 TX1 14
set_option maxRecDepth 100000 in
theorem nmX1 : ∀ a, a < 14 → ∀ b, b < 14 → a ≠ b → (TX1 a).2.1 ≠ (TX1 b).2.1 := by decide +kernel
set_option maxRecDepth 100000 in
theorem tyX1_ok : ∀ k, k < 14 → parseFieldDescriptor (TX1 k).2.2.1 = some (tyX1 k) := by decide +kernel
abbrev cX1_init : ByteArray := prog_3_method_1_code
def yX1_init : MethodName := ⟨RX1, "<init>", "()V"⟩
abbrev cX1_pattern : ByteArray := prog_3_method_2_code
def yX1_pattern : MethodName := ⟨RX1, "pattern", "(I)I"⟩
abbrev cX1_rule : ByteArray := prog_3_method_4_code
def yX1_rule : MethodName := ⟨RX1, "rule", "(I)I"⟩
abbrev cX1_good : ByteArray := prog_3_method_3_code
def yX1_good : MethodName := ⟨RX1, "good", "()Z"⟩
abbrev cX1_dropRule : ByteArray := prog_3_method_5_code
def yX1_dropRule : MethodName := ⟨RX1, "dropRule", "()I"⟩
abbrev cX1_path : ByteArray := prog_3_method_6_code
def yX1_path : MethodName := ⟨RX1, "path", "(I)I"⟩
abbrev cX1_clearPath : ByteArray := prog_3_method_7_code
def yX1_clearPath : MethodName := ⟨RX1, "clearPath", "()V"⟩
abbrev cX1_ignored : ByteArray := prog_3_method_8_code
def yX1_ignored : MethodName := ⟨RX1, "ignored", "(Z)Z"⟩
abbrev cX1_cutAt : ByteArray := prog_3_method_11_code
def yX1_cutAt : MethodName := ⟨RX1, "cutAt", "(Z)I"⟩
abbrev cX1_isPath : ByteArray := prog_3_method_13_code
def yX1_isPath : MethodName := ⟨RX1, "isPath", "()Z"⟩
abbrev cX1_lastFor : ByteArray := prog_3_method_14_code
def yX1_lastFor : MethodName := ⟨RX1, "lastFor", "(IZ)I"⟩
abbrev cX1_matchesRule : ByteArray := prog_3_method_15_code
def yX1_matchesRule : MethodName := ⟨RX1, "matchesRule", "(IIZ)Z"⟩
abbrev cX1_cut : ByteArray := prog_3_method_16_code
def yX1_cut : MethodName := ⟨RX1, "cut", "(I)V"⟩
abbrev cX1_partFits : ByteArray := prog_3_method_17_code
def yX1_partFits : MethodName := ⟨RX1, "partFits", "(II)Z"⟩
abbrev cX1_allFit : ByteArray := prog_3_method_18_code
def yX1_allFit : MethodName := ⟨RX1, "allFit", "(I)Z"⟩
abbrev cX1_lastMatch : ByteArray := prog_3_method_9_code
def yX1_lastMatch : MethodName := ⟨RX1, "lastMatch", "(Z)I"⟩
abbrev cX1_matches : ByteArray := prog_3_method_10_code
def yX1_matches : MethodName := ⟨RX1, "matches", "(Z)I"⟩
abbrev cX1_rules : ByteArray := prog_3_method_12_code
def yX1_rules : MethodName := ⟨RX1, "rules", "()I"⟩
theorem q19 : (Jvm.Cond.initialized "IgnoreRulesModel") ∈ lw_all := lw_g (lw_at lw_m1 2 rfl) rfl
theorem q166 : (Jvm.Cond.instantiable "IgnoreRulesModel" (14 : Nat)) ∈ lw_all := lw_g (lw_at lw_m1 149 rfl) rfl
theorem q168 : (Jvm.Cond.instanceMethod ({ cls := "IgnoreRulesModel", name := "<init>", desc := "()V" } : Jvm.MethodName)) ∈ lw_all := lw_g (lw_at lw_m1 151 rfl) rfl
theorem q169 : (Jvm.Cond.code ({ cls := "IgnoreRulesModel", name := "<init>", desc := "()V" } : Jvm.MethodName) prog_3_method_1_code (1 : Nat) (Option.none : Option Jvm.ClassFile.FieldType)) ∈ lw_all := lw_g (lw_at lw_m1 152 rfl) rfl
theorem q170 : (Jvm.Cond.methodLink "IgnoreRulesModel" (1 : Nat) ({ cls := "java/lang/Object", name := "<init>", desc := "()V" } : Jvm.MethodName)) ∈ lw_all := lw_g (lw_at lw_m1 153 rfl) rfl
theorem q171 : (Jvm.Cond.fieldLink "IgnoreRulesModel" (7 : Nat) "IgnoreRulesModel" "buffer" "[I") ∈ lw_all := lw_g (lw_at lw_m1 154 rfl) rfl
theorem q172 : (Jvm.Cond.fieldLink "IgnoreRulesModel" (45 : Nat) "IgnoreRulesModel" "buffered" "I") ∈ lw_all := lw_g (lw_at lw_m1 155 rfl) rfl
theorem q173 : (Jvm.Cond.fieldLink "IgnoreRulesModel" (13 : Nat) "IgnoreRulesModel" "signs" "[I") ∈ lw_all := lw_g (lw_at lw_m1 156 rfl) rfl
theorem q174 : (Jvm.Cond.fieldLink "IgnoreRulesModel" (16 : Nat) "IgnoreRulesModel" "signCount" "[I") ∈ lw_all := lw_g (lw_at lw_m1 157 rfl) rfl
theorem q175 : (Jvm.Cond.fieldLink "IgnoreRulesModel" (19 : Nat) "IgnoreRulesModel" "mark" "[I") ∈ lw_all := lw_g (lw_at lw_m1 158 rfl) rfl
theorem q176 : (Jvm.Cond.fieldLink "IgnoreRulesModel" (52 : Nat) "IgnoreRulesModel" "ruleCount" "I") ∈ lw_all := lw_g (lw_at lw_m1 159 rfl) rfl
theorem q177 : (Jvm.Cond.fieldLink "IgnoreRulesModel" (22 : Nat) "IgnoreRulesModel" "letters" "[I") ∈ lw_all := lw_g (lw_at lw_m1 160 rfl) rfl
theorem q178 : (Jvm.Cond.fieldLink "IgnoreRulesModel" (25 : Nat) "IgnoreRulesModel" "nameLength" "[I") ∈ lw_all := lw_g (lw_at lw_m1 161 rfl) rfl
theorem q179 : (Jvm.Cond.fieldLink "IgnoreRulesModel" (28 : Nat) "IgnoreRulesModel" "names" "I") ∈ lw_all := lw_g (lw_at lw_m1 162 rfl) rfl
theorem q180 : (Jvm.Cond.fieldLink "IgnoreRulesModel" (32 : Nat) "IgnoreRulesModel" "partFrom" "[I") ∈ lw_all := lw_g (lw_at lw_m1 163 rfl) rfl
theorem q181 : (Jvm.Cond.fieldLink "IgnoreRulesModel" (35 : Nat) "IgnoreRulesModel" "partTo" "[I") ∈ lw_all := lw_g (lw_at lw_m1 164 rfl) rfl
theorem q182 : (Jvm.Cond.fieldLink "IgnoreRulesModel" (74 : Nat) "IgnoreRulesModel" "parts" "I") ∈ lw_all := lw_g (lw_at lw_m1 165 rfl) rfl
theorem q183 : (Jvm.Cond.fieldLink "IgnoreRulesModel" (38 : Nat) "IgnoreRulesModel" "restFits" "[Z") ∈ lw_all := lw_g (lw_at lw_m1 166 rfl) rfl
theorem q184 : (Jvm.Cond.fieldLink "IgnoreRulesModel" (42 : Nat) "IgnoreRulesModel" "listFits" "[Z") ∈ lw_all := lw_g (lw_at lw_m1 167 rfl) rfl
theorem q185 : (Jvm.Cond.laysFinal "IgnoreRulesModel" "IgnoreRulesModel" "buffer" "[I") ∈ lw_all := lw_g (lw_at lw_m1 168 rfl) rfl
theorem q186 : (Jvm.Cond.soleField "IgnoreRulesModel" "buffer") ∈ lw_all := lw_g (lw_at lw_m1 169 rfl) rfl
theorem q187 : (Jvm.Cond.lays "IgnoreRulesModel" "IgnoreRulesModel" "buffered" "I") ∈ lw_all := lw_g (lw_at lw_m1 170 rfl) rfl
theorem q188 : (Jvm.Cond.soleField "IgnoreRulesModel" "buffered") ∈ lw_all := lw_g (lw_at lw_m1 171 rfl) rfl
theorem q189 : (Jvm.Cond.laysFinal "IgnoreRulesModel" "IgnoreRulesModel" "signs" "[I") ∈ lw_all := lw_g (lw_at lw_m1 172 rfl) rfl
theorem q190 : (Jvm.Cond.soleField "IgnoreRulesModel" "signs") ∈ lw_all := lw_g (lw_at lw_m1 173 rfl) rfl
theorem q191 : (Jvm.Cond.laysFinal "IgnoreRulesModel" "IgnoreRulesModel" "signCount" "[I") ∈ lw_all := lw_g (lw_at lw_m1 174 rfl) rfl
theorem q192 : (Jvm.Cond.soleField "IgnoreRulesModel" "signCount") ∈ lw_all := lw_g (lw_at lw_m1 175 rfl) rfl
theorem q193 : (Jvm.Cond.laysFinal "IgnoreRulesModel" "IgnoreRulesModel" "mark" "[I") ∈ lw_all := lw_g (lw_at lw_m1 176 rfl) rfl
theorem q194 : (Jvm.Cond.soleField "IgnoreRulesModel" "mark") ∈ lw_all := lw_g (lw_at lw_m1 177 rfl) rfl
theorem q195 : (Jvm.Cond.lays "IgnoreRulesModel" "IgnoreRulesModel" "ruleCount" "I") ∈ lw_all := lw_g (lw_at lw_m1 178 rfl) rfl
theorem q196 : (Jvm.Cond.soleField "IgnoreRulesModel" "ruleCount") ∈ lw_all := lw_g (lw_at lw_m1 179 rfl) rfl
theorem q197 : (Jvm.Cond.laysFinal "IgnoreRulesModel" "IgnoreRulesModel" "letters" "[I") ∈ lw_all := lw_g (lw_at lw_m1 180 rfl) rfl
theorem q198 : (Jvm.Cond.soleField "IgnoreRulesModel" "letters") ∈ lw_all := lw_g (lw_at lw_m1 181 rfl) rfl
theorem q199 : (Jvm.Cond.laysFinal "IgnoreRulesModel" "IgnoreRulesModel" "nameLength" "[I") ∈ lw_all := lw_g (lw_at lw_m1 182 rfl) rfl
theorem q200 : (Jvm.Cond.soleField "IgnoreRulesModel" "nameLength") ∈ lw_all := lw_g (lw_at lw_m1 183 rfl) rfl
theorem q201 : (Jvm.Cond.lays "IgnoreRulesModel" "IgnoreRulesModel" "names" "I") ∈ lw_all := lw_g (lw_at lw_m1 184 rfl) rfl
theorem q202 : (Jvm.Cond.soleField "IgnoreRulesModel" "names") ∈ lw_all := lw_g (lw_at lw_m1 185 rfl) rfl
theorem q203 : (Jvm.Cond.laysFinal "IgnoreRulesModel" "IgnoreRulesModel" "partFrom" "[I") ∈ lw_all := lw_g (lw_at lw_m1 186 rfl) rfl
theorem q204 : (Jvm.Cond.soleField "IgnoreRulesModel" "partFrom") ∈ lw_all := lw_g (lw_at lw_m1 187 rfl) rfl
theorem q205 : (Jvm.Cond.laysFinal "IgnoreRulesModel" "IgnoreRulesModel" "partTo" "[I") ∈ lw_all := lw_g (lw_at lw_m1 188 rfl) rfl
theorem q206 : (Jvm.Cond.soleField "IgnoreRulesModel" "partTo") ∈ lw_all := lw_g (lw_at lw_m1 189 rfl) rfl
theorem q207 : (Jvm.Cond.lays "IgnoreRulesModel" "IgnoreRulesModel" "parts" "I") ∈ lw_all := lw_g (lw_at lw_m1 190 rfl) rfl
theorem q208 : (Jvm.Cond.soleField "IgnoreRulesModel" "parts") ∈ lw_all := lw_g (lw_at lw_m1 191 rfl) rfl
theorem q209 : (Jvm.Cond.laysFinal "IgnoreRulesModel" "IgnoreRulesModel" "restFits" "[Z") ∈ lw_all := lw_g (lw_at lw_m1 192 rfl) rfl
theorem q210 : (Jvm.Cond.soleField "IgnoreRulesModel" "restFits") ∈ lw_all := lw_g (lw_at lw_m1 193 rfl) rfl
theorem q211 : (Jvm.Cond.laysFinal "IgnoreRulesModel" "IgnoreRulesModel" "listFits" "[Z") ∈ lw_all := lw_g (lw_at lw_m1 194 rfl) rfl
theorem q212 : (Jvm.Cond.soleField "IgnoreRulesModel" "listFits") ∈ lw_all := lw_g (lw_at lw_m1 195 rfl) rfl
theorem q213 : (Jvm.Cond.superclass "IgnoreRulesModel" "java/lang/Object") ∈ lw_all := lw_g (lw_at lw_m1 196 rfl) rfl
theorem q215 : (Jvm.Cond.instanceMethod ({ cls := "IgnoreRulesModel", name := "pattern", desc := "(I)I" } : Jvm.MethodName)) ∈ lw_all := lw_g (lw_at lw_m1 198 rfl) rfl
theorem q216 : (Jvm.Cond.selects "IgnoreRulesModel" ({ cls := "IgnoreRulesModel", name := "pattern", desc := "(I)I" } : Jvm.MethodName) ({ cls := "IgnoreRulesModel", name := "pattern", desc := "(I)I" } : Jvm.MethodName)) ∈ lw_all := lw_g (lw_at lw_m1 199 rfl) rfl
theorem q217 : (Jvm.Cond.code ({ cls := "IgnoreRulesModel", name := "pattern", desc := "(I)I" } : Jvm.MethodName) prog_3_method_2_code (2 : Nat) (Option.some Jvm.ClassFile.FieldType.int)) ∈ lw_all := lw_g (lw_at lw_m1 200 rfl) rfl
theorem q219 : (Jvm.Cond.instanceMethod ({ cls := "IgnoreRulesModel", name := "rule", desc := "(I)I" } : Jvm.MethodName)) ∈ lw_all := lw_g (lw_at lw_m1 202 rfl) rfl
theorem q220 : (Jvm.Cond.selects "IgnoreRulesModel" ({ cls := "IgnoreRulesModel", name := "rule", desc := "(I)I" } : Jvm.MethodName) ({ cls := "IgnoreRulesModel", name := "rule", desc := "(I)I" } : Jvm.MethodName)) ∈ lw_all := lw_g (lw_at lw_m1 203 rfl) rfl
theorem q221 : (Jvm.Cond.code ({ cls := "IgnoreRulesModel", name := "rule", desc := "(I)I" } : Jvm.MethodName) prog_3_method_4_code (5 : Nat) (Option.some Jvm.ClassFile.FieldType.int)) ∈ lw_all := lw_g (lw_at lw_m1 204 rfl) rfl
theorem q222 : (Jvm.Cond.methodLink "IgnoreRulesModel" (48 : Nat) ({ cls := "IgnoreRulesModel", name := "good", desc := "()Z" } : Jvm.MethodName)) ∈ lw_all := lw_g (lw_at lw_m1 205 rfl) rfl
theorem q223 : (Jvm.Cond.privateMethod ({ cls := "IgnoreRulesModel", name := "good", desc := "()Z" } : Jvm.MethodName)) ∈ lw_tbl := lw_at lw_m1 206 rfl
theorem q224 : (Jvm.Cond.instanceMethod ({ cls := "IgnoreRulesModel", name := "good", desc := "()Z" } : Jvm.MethodName)) ∈ lw_all := lw_g (lw_at lw_m1 207 rfl) rfl
theorem q225 : (Jvm.Cond.code ({ cls := "IgnoreRulesModel", name := "good", desc := "()Z" } : Jvm.MethodName) prog_3_method_3_code (4 : Nat) (Option.some Jvm.ClassFile.FieldType.boolean)) ∈ lw_all := lw_g (lw_at lw_m1 208 rfl) rfl
theorem q227 : (Jvm.Cond.instanceMethod ({ cls := "IgnoreRulesModel", name := "dropRule", desc := "()I" } : Jvm.MethodName)) ∈ lw_all := lw_g (lw_at lw_m1 210 rfl) rfl
theorem q228 : (Jvm.Cond.selects "IgnoreRulesModel" ({ cls := "IgnoreRulesModel", name := "dropRule", desc := "()I" } : Jvm.MethodName) ({ cls := "IgnoreRulesModel", name := "dropRule", desc := "()I" } : Jvm.MethodName)) ∈ lw_all := lw_g (lw_at lw_m1 211 rfl) rfl
theorem q229 : (Jvm.Cond.code ({ cls := "IgnoreRulesModel", name := "dropRule", desc := "()I" } : Jvm.MethodName) prog_3_method_5_code (1 : Nat) (Option.some Jvm.ClassFile.FieldType.int)) ∈ lw_all := lw_g (lw_at lw_m1 212 rfl) rfl
theorem q231 : (Jvm.Cond.instanceMethod ({ cls := "IgnoreRulesModel", name := "path", desc := "(I)I" } : Jvm.MethodName)) ∈ lw_all := lw_g (lw_at lw_m1 214 rfl) rfl
theorem q232 : (Jvm.Cond.selects "IgnoreRulesModel" ({ cls := "IgnoreRulesModel", name := "path", desc := "(I)I" } : Jvm.MethodName) ({ cls := "IgnoreRulesModel", name := "path", desc := "(I)I" } : Jvm.MethodName)) ∈ lw_all := lw_g (lw_at lw_m1 215 rfl) rfl
theorem q233 : (Jvm.Cond.code ({ cls := "IgnoreRulesModel", name := "path", desc := "(I)I" } : Jvm.MethodName) prog_3_method_6_code (3 : Nat) (Option.some Jvm.ClassFile.FieldType.int)) ∈ lw_all := lw_g (lw_at lw_m1 216 rfl) rfl
theorem q235 : (Jvm.Cond.instanceMethod ({ cls := "IgnoreRulesModel", name := "clearPath", desc := "()V" } : Jvm.MethodName)) ∈ lw_all := lw_g (lw_at lw_m1 218 rfl) rfl
theorem q236 : (Jvm.Cond.selects "IgnoreRulesModel" ({ cls := "IgnoreRulesModel", name := "clearPath", desc := "()V" } : Jvm.MethodName) ({ cls := "IgnoreRulesModel", name := "clearPath", desc := "()V" } : Jvm.MethodName)) ∈ lw_all := lw_g (lw_at lw_m1 219 rfl) rfl
theorem q237 : (Jvm.Cond.code ({ cls := "IgnoreRulesModel", name := "clearPath", desc := "()V" } : Jvm.MethodName) prog_3_method_7_code (1 : Nat) (Option.none : Option Jvm.ClassFile.FieldType)) ∈ lw_all := lw_g (lw_at lw_m1 220 rfl) rfl
theorem q239 : (Jvm.Cond.instanceMethod ({ cls := "IgnoreRulesModel", name := "ignored", desc := "(Z)Z" } : Jvm.MethodName)) ∈ lw_all := lw_g (lw_at lw_m1 222 rfl) rfl
theorem q240 : (Jvm.Cond.selects "IgnoreRulesModel" ({ cls := "IgnoreRulesModel", name := "ignored", desc := "(Z)Z" } : Jvm.MethodName) ({ cls := "IgnoreRulesModel", name := "ignored", desc := "(Z)Z" } : Jvm.MethodName)) ∈ lw_all := lw_g (lw_at lw_m1 223 rfl) rfl
theorem q241 : (Jvm.Cond.code ({ cls := "IgnoreRulesModel", name := "ignored", desc := "(Z)Z" } : Jvm.MethodName) prog_3_method_8_code (2 : Nat) (Option.some Jvm.ClassFile.FieldType.boolean)) ∈ lw_all := lw_g (lw_at lw_m1 224 rfl) rfl
theorem q242 : (Jvm.Cond.methodLink "IgnoreRulesModel" (55 : Nat) ({ cls := "IgnoreRulesModel", name := "cutAt", desc := "(Z)I" } : Jvm.MethodName)) ∈ lw_all := lw_g (lw_at lw_m1 225 rfl) rfl
theorem q243 : (Jvm.Cond.instanceMethod ({ cls := "IgnoreRulesModel", name := "cutAt", desc := "(Z)I" } : Jvm.MethodName)) ∈ lw_all := lw_g (lw_at lw_m1 226 rfl) rfl
theorem q244 : (Jvm.Cond.selects "IgnoreRulesModel" ({ cls := "IgnoreRulesModel", name := "cutAt", desc := "(Z)I" } : Jvm.MethodName) ({ cls := "IgnoreRulesModel", name := "cutAt", desc := "(Z)I" } : Jvm.MethodName)) ∈ lw_all := lw_g (lw_at lw_m1 227 rfl) rfl
theorem q245 : (Jvm.Cond.code ({ cls := "IgnoreRulesModel", name := "cutAt", desc := "(Z)I" } : Jvm.MethodName) prog_3_method_11_code (4 : Nat) (Option.some Jvm.ClassFile.FieldType.int)) ∈ lw_all := lw_g (lw_at lw_m1 228 rfl) rfl
theorem q246 : (Jvm.Cond.methodLink "IgnoreRulesModel" (59 : Nat) ({ cls := "IgnoreRulesModel", name := "isPath", desc := "()Z" } : Jvm.MethodName)) ∈ lw_all := lw_g (lw_at lw_m1 229 rfl) rfl
theorem q247 : (Jvm.Cond.privateMethod ({ cls := "IgnoreRulesModel", name := "isPath", desc := "()Z" } : Jvm.MethodName)) ∈ lw_tbl := lw_at lw_m1 230 rfl
theorem q248 : (Jvm.Cond.instanceMethod ({ cls := "IgnoreRulesModel", name := "isPath", desc := "()Z" } : Jvm.MethodName)) ∈ lw_all := lw_g (lw_at lw_m1 231 rfl) rfl
theorem q249 : (Jvm.Cond.code ({ cls := "IgnoreRulesModel", name := "isPath", desc := "()Z" } : Jvm.MethodName) prog_3_method_13_code (1 : Nat) (Option.some Jvm.ClassFile.FieldType.boolean)) ∈ lw_all := lw_g (lw_at lw_m1 232 rfl) rfl
theorem q250 : (Jvm.Cond.methodLink "IgnoreRulesModel" (62 : Nat) ({ cls := "IgnoreRulesModel", name := "lastFor", desc := "(IZ)I" } : Jvm.MethodName)) ∈ lw_all := lw_g (lw_at lw_m1 233 rfl) rfl
theorem q251 : (Jvm.Cond.privateMethod ({ cls := "IgnoreRulesModel", name := "lastFor", desc := "(IZ)I" } : Jvm.MethodName)) ∈ lw_tbl := lw_at lw_m1 234 rfl
theorem q252 : (Jvm.Cond.instanceMethod ({ cls := "IgnoreRulesModel", name := "lastFor", desc := "(IZ)I" } : Jvm.MethodName)) ∈ lw_all := lw_g (lw_at lw_m1 235 rfl) rfl
theorem q253 : (Jvm.Cond.code ({ cls := "IgnoreRulesModel", name := "lastFor", desc := "(IZ)I" } : Jvm.MethodName) prog_3_method_14_code (5 : Nat) (Option.some Jvm.ClassFile.FieldType.int)) ∈ lw_all := lw_g (lw_at lw_m1 236 rfl) rfl
theorem q254 : (Jvm.Cond.methodLink "IgnoreRulesModel" (66 : Nat) ({ cls := "IgnoreRulesModel", name := "matchesRule", desc := "(IIZ)Z" } : Jvm.MethodName)) ∈ lw_all := lw_g (lw_at lw_m1 237 rfl) rfl
theorem q255 : (Jvm.Cond.privateMethod ({ cls := "IgnoreRulesModel", name := "matchesRule", desc := "(IIZ)Z" } : Jvm.MethodName)) ∈ lw_tbl := lw_at lw_m1 238 rfl
theorem q256 : (Jvm.Cond.instanceMethod ({ cls := "IgnoreRulesModel", name := "matchesRule", desc := "(IIZ)Z" } : Jvm.MethodName)) ∈ lw_all := lw_g (lw_at lw_m1 239 rfl) rfl
theorem q257 : (Jvm.Cond.code ({ cls := "IgnoreRulesModel", name := "matchesRule", desc := "(IIZ)Z" } : Jvm.MethodName) prog_3_method_15_code (4 : Nat) (Option.some Jvm.ClassFile.FieldType.boolean)) ∈ lw_all := lw_g (lw_at lw_m2 0 rfl) rfl
theorem q258 : (Jvm.Cond.methodLink "IgnoreRulesModel" (70 : Nat) ({ cls := "IgnoreRulesModel", name := "cut", desc := "(I)V" } : Jvm.MethodName)) ∈ lw_all := lw_g (lw_at lw_m2 1 rfl) rfl
theorem q259 : (Jvm.Cond.privateMethod ({ cls := "IgnoreRulesModel", name := "cut", desc := "(I)V" } : Jvm.MethodName)) ∈ lw_tbl := lw_at lw_m2 2 rfl
theorem q260 : (Jvm.Cond.instanceMethod ({ cls := "IgnoreRulesModel", name := "cut", desc := "(I)V" } : Jvm.MethodName)) ∈ lw_all := lw_g (lw_at lw_m2 3 rfl) rfl
theorem q261 : (Jvm.Cond.code ({ cls := "IgnoreRulesModel", name := "cut", desc := "(I)V" } : Jvm.MethodName) prog_3_method_16_code (5 : Nat) (Option.none : Option Jvm.ClassFile.FieldType)) ∈ lw_all := lw_g (lw_at lw_m2 4 rfl) rfl
theorem q262 : (Jvm.Cond.methodLink "IgnoreRulesModel" (77 : Nat) ({ cls := "IgnoreRulesModel", name := "partFits", desc := "(II)Z" } : Jvm.MethodName)) ∈ lw_all := lw_g (lw_at lw_m2 5 rfl) rfl
theorem q263 : (Jvm.Cond.privateMethod ({ cls := "IgnoreRulesModel", name := "partFits", desc := "(II)Z" } : Jvm.MethodName)) ∈ lw_tbl := lw_at lw_m2 6 rfl
theorem q264 : (Jvm.Cond.instanceMethod ({ cls := "IgnoreRulesModel", name := "partFits", desc := "(II)Z" } : Jvm.MethodName)) ∈ lw_all := lw_g (lw_at lw_m2 7 rfl) rfl
theorem q265 : (Jvm.Cond.code ({ cls := "IgnoreRulesModel", name := "partFits", desc := "(II)Z" } : Jvm.MethodName) prog_3_method_17_code (10 : Nat) (Option.some Jvm.ClassFile.FieldType.boolean)) ∈ lw_all := lw_g (lw_at lw_m2 8 rfl) rfl
theorem q266 : (Jvm.Cond.methodLink "IgnoreRulesModel" (81 : Nat) ({ cls := "IgnoreRulesModel", name := "allFit", desc := "(I)Z" } : Jvm.MethodName)) ∈ lw_all := lw_g (lw_at lw_m2 9 rfl) rfl
theorem q267 : (Jvm.Cond.privateMethod ({ cls := "IgnoreRulesModel", name := "allFit", desc := "(I)Z" } : Jvm.MethodName)) ∈ lw_tbl := lw_at lw_m2 10 rfl
theorem q268 : (Jvm.Cond.instanceMethod ({ cls := "IgnoreRulesModel", name := "allFit", desc := "(I)Z" } : Jvm.MethodName)) ∈ lw_all := lw_g (lw_at lw_m2 11 rfl) rfl
theorem q269 : (Jvm.Cond.code ({ cls := "IgnoreRulesModel", name := "allFit", desc := "(I)Z" } : Jvm.MethodName) prog_3_method_18_code (6 : Nat) (Option.some Jvm.ClassFile.FieldType.boolean)) ∈ lw_all := lw_g (lw_at lw_m2 12 rfl) rfl
theorem q271 : (Jvm.Cond.instanceMethod ({ cls := "IgnoreRulesModel", name := "lastMatch", desc := "(Z)I" } : Jvm.MethodName)) ∈ lw_all := lw_g (lw_at lw_m2 14 rfl) rfl
theorem q272 : (Jvm.Cond.selects "IgnoreRulesModel" ({ cls := "IgnoreRulesModel", name := "lastMatch", desc := "(Z)I" } : Jvm.MethodName) ({ cls := "IgnoreRulesModel", name := "lastMatch", desc := "(Z)I" } : Jvm.MethodName)) ∈ lw_all := lw_g (lw_at lw_m2 15 rfl) rfl
theorem q273 : (Jvm.Cond.code ({ cls := "IgnoreRulesModel", name := "lastMatch", desc := "(Z)I" } : Jvm.MethodName) prog_3_method_9_code (2 : Nat) (Option.some Jvm.ClassFile.FieldType.int)) ∈ lw_all := lw_g (lw_at lw_m2 16 rfl) rfl
theorem q275 : (Jvm.Cond.instanceMethod ({ cls := "IgnoreRulesModel", name := "matches", desc := "(Z)I" } : Jvm.MethodName)) ∈ lw_all := lw_g (lw_at lw_m2 18 rfl) rfl
theorem q276 : (Jvm.Cond.selects "IgnoreRulesModel" ({ cls := "IgnoreRulesModel", name := "matches", desc := "(Z)I" } : Jvm.MethodName) ({ cls := "IgnoreRulesModel", name := "matches", desc := "(Z)I" } : Jvm.MethodName)) ∈ lw_all := lw_g (lw_at lw_m2 19 rfl) rfl
theorem q277 : (Jvm.Cond.code ({ cls := "IgnoreRulesModel", name := "matches", desc := "(Z)I" } : Jvm.MethodName) prog_3_method_10_code (4 : Nat) (Option.some Jvm.ClassFile.FieldType.int)) ∈ lw_all := lw_g (lw_at lw_m2 20 rfl) rfl
theorem q280 : (Jvm.Cond.instanceMethod ({ cls := "IgnoreRulesModel", name := "rules", desc := "()I" } : Jvm.MethodName)) ∈ lw_all := lw_g (lw_at lw_m2 23 rfl) rfl
theorem q281 : (Jvm.Cond.selects "IgnoreRulesModel" ({ cls := "IgnoreRulesModel", name := "rules", desc := "()I" } : Jvm.MethodName) ({ cls := "IgnoreRulesModel", name := "rules", desc := "()I" } : Jvm.MethodName)) ∈ lw_all := lw_g (lw_at lw_m2 24 rfl) rfl
theorem q282 : (Jvm.Cond.code ({ cls := "IgnoreRulesModel", name := "rules", desc := "()I" } : Jvm.MethodName) prog_3_method_12_code (1 : Nat) (Option.some Jvm.ClassFile.FieldType.int)) ∈ lw_all := lw_g (lw_at lw_m2 25 rfl) rfl
theorem in_X1 : ∀ w ∈ wsX10, w ∈ lw_all := lw_in wsX10 [185, 187, 189, 191, 193, 195, 197, 199, 201, 203, 205, 207, 209, 211] (by decide +kernel) (by decide +kernel)

/-! the law's own entry -/
set_option maxRecDepth 100000
abbrev cL_law : ByteArray := code

abbrev vwCl : List vw_C := [(RX0, TX0, 18), (RX1, TX1, 14)]
end
section
set_option maxRecDepth 100000
theorem dX0_init_0 : decode cX0_init 0 = .ok (.aload_n 0, 1) := by decide +kernel
theorem dX0_init_1 : decode cX0_init 1 = .ok (.invokespecial 1, 3) := by decide +kernel
theorem dX0_init_4 : decode cX0_init 4 = .ok (.aload_n 0, 1) := by decide +kernel
theorem dX0_init_5 : decode cX0_init 5 = .ok (.bipush 10, 2) := by decide +kernel
theorem dX0_init_7 : decode cX0_init 7 = .ok (.newarray .int, 2) := by decide +kernel
theorem dX0_init_9 : decode cX0_init 9 = .ok (.putfield 7, 3) := by decide +kernel
theorem dX0_init_12 : decode cX0_init 12 = .ok (.aload_n 0, 1) := by decide +kernel
theorem dX0_init_13 : decode cX0_init 13 = .ok (.bipush 12, 2) := by decide +kernel
theorem dX0_init_15 : decode cX0_init 15 = .ok (.newarray .boolean, 2) := by decide +kernel
theorem dX0_init_17 : decode cX0_init 17 = .ok (.putfield 13, 3) := by decide +kernel
theorem dX0_init_20 : decode cX0_init 20 = .ok (.aload_n 0, 1) := by decide +kernel
theorem dX0_init_21 : decode cX0_init 21 = .ok (.bipush 12, 2) := by decide +kernel
theorem dX0_init_23 : decode cX0_init 23 = .ok (.newarray .boolean, 2) := by decide +kernel
theorem dX0_init_25 : decode cX0_init 25 = .ok (.putfield 17, 3) := by decide +kernel
theorem dX0_init_28 : decode cX0_init 28 = .ok (.aload_n 0, 1) := by decide +kernel
theorem dX0_init_29 : decode cX0_init 29 = .ok (.bipush 12, 2) := by decide +kernel
theorem dX0_init_31 : decode cX0_init 31 = .ok (.newarray .boolean, 2) := by decide +kernel
theorem dX0_init_33 : decode cX0_init 33 = .ok (.putfield 20, 3) := by decide +kernel
theorem dX0_init_36 : decode cX0_init 36 = .ok (.aload_n 0, 1) := by decide +kernel
theorem dX0_init_37 : decode cX0_init 37 = .ok (.bipush 84, 2) := by decide +kernel
theorem dX0_init_39 : decode cX0_init 39 = .ok (.newarray .int, 2) := by decide +kernel
theorem dX0_init_41 : decode cX0_init 41 = .ok (.putfield 23, 3) := by decide +kernel
theorem dX0_init_44 : decode cX0_init 44 = .ok (.aload_n 0, 1) := by decide +kernel
theorem dX0_init_45 : decode cX0_init 45 = .ok (.bipush 12, 2) := by decide +kernel
theorem dX0_init_47 : decode cX0_init 47 = .ok (.newarray .int, 2) := by decide +kernel
theorem dX0_init_49 : decode cX0_init 49 = .ok (.putfield 26, 3) := by decide +kernel
theorem dX0_init_52 : decode cX0_init 52 = .ok (.aload_n 0, 1) := by decide +kernel
theorem dX0_init_53 : decode cX0_init 53 = .ok (.bipush 12, 2) := by decide +kernel
theorem dX0_init_55 : decode cX0_init 55 = .ok (.newarray .int, 2) := by decide +kernel
theorem dX0_init_57 : decode cX0_init 57 = .ok (.putfield 29, 3) := by decide +kernel
theorem dX0_init_60 : decode cX0_init 60 = .ok (.aload_n 0, 1) := by decide +kernel
theorem dX0_init_61 : decode cX0_init 61 = .ok (.bipush 12, 2) := by decide +kernel
theorem dX0_init_63 : decode cX0_init 63 = .ok (.newarray .int, 2) := by decide +kernel
theorem dX0_init_65 : decode cX0_init 65 = .ok (.putfield 32, 3) := by decide +kernel
theorem dX0_init_68 : decode cX0_init 68 = .ok (.aload_n 0, 1) := by decide +kernel
theorem dX0_init_69 : decode cX0_init 69 = .ok (.bipush 12, 2) := by decide +kernel
theorem dX0_init_71 : decode cX0_init 71 = .ok (.newarray .int, 2) := by decide +kernel
theorem dX0_init_73 : decode cX0_init 73 = .ok (.putfield 35, 3) := by decide +kernel
theorem dX0_init_76 : decode cX0_init 76 = .ok (.aload_n 0, 1) := by decide +kernel
theorem dX0_init_77 : decode cX0_init 77 = .ok (.bipush 12, 2) := by decide +kernel
theorem dX0_init_79 : decode cX0_init 79 = .ok (.newarray .int, 2) := by decide +kernel
theorem dX0_init_81 : decode cX0_init 81 = .ok (.putfield 38, 3) := by decide +kernel
theorem dX0_init_84 : decode cX0_init 84 = .ok (.aload_n 0, 1) := by decide +kernel
theorem dX0_init_85 : decode cX0_init 85 = .ok (.bipush 6, 2) := by decide +kernel
theorem dX0_init_87 : decode cX0_init 87 = .ok (.newarray .int, 2) := by decide +kernel
theorem dX0_init_89 : decode cX0_init 89 = .ok (.putfield 41, 3) := by decide +kernel
theorem dX0_init_92 : decode cX0_init 92 = .ok (.aload_n 0, 1) := by decide +kernel
theorem dX0_init_93 : decode cX0_init 93 = .ok (.bipush 48, 2) := by decide +kernel
theorem dX0_init_95 : decode cX0_init 95 = .ok (.newarray .int, 2) := by decide +kernel
theorem dX0_init_97 : decode cX0_init 97 = .ok (.putfield 44, 3) := by decide +kernel
theorem dX0_init_100 : decode cX0_init 100 = .ok (.aload_n 0, 1) := by decide +kernel
theorem dX0_init_101 : decode cX0_init 101 = .ok (.bipush 12, 2) := by decide +kernel
theorem dX0_init_103 : decode cX0_init 103 = .ok (.newarray .int, 2) := by decide +kernel
theorem dX0_init_105 : decode cX0_init 105 = .ok (.putfield 47, 3) := by decide +kernel
theorem dX0_init_108 : decode cX0_init 108 = .ok (.aload_n 0, 1) := by decide +kernel
theorem dX0_init_109 : decode cX0_init 109 = .ok (.bipush 6, 2) := by decide +kernel
theorem dX0_init_111 : decode cX0_init 111 = .ok (.newarray .int, 2) := by decide +kernel
theorem dX0_init_113 : decode cX0_init 113 = .ok (.putfield 50, 3) := by decide +kernel
theorem dX0_init_116 : decode cX0_init 116 = .ok (.aload_n 0, 1) := by decide +kernel
theorem dX0_init_117 : decode cX0_init 117 = .ok (.bipush 6, 2) := by decide +kernel
theorem dX0_init_119 : decode cX0_init 119 = .ok (.newarray .int, 2) := by decide +kernel
theorem dX0_init_121 : decode cX0_init 121 = .ok (.putfield 53, 3) := by decide +kernel
theorem dX0_init_124 : decode cX0_init 124 = .ok (.aload_n 0, 1) := by decide +kernel
theorem dX0_init_125 : decode cX0_init 125 = .ok (.iconst 1, 1) := by decide +kernel
theorem dX0_init_126 : decode cX0_init 126 = .ok (.putfield 56, 3) := by decide +kernel
theorem dX0_init_129 : decode cX0_init 129 = .ok (.return_, 1) := by decide +kernel
theorem dX0_pattern_0 : decode cX0_pattern 0 = .ok (.iload_n 1, 1) := by decide +kernel
theorem dX0_pattern_1 : decode cX0_pattern 1 = .ok (.iconst 1, 1) := by decide +kernel
theorem dX0_pattern_2 : decode cX0_pattern 2 = .ok (.if_icmp .lt 9, 3) := by decide +kernel
theorem dX0_pattern_5 : decode cX0_pattern 5 = .ok (.iload_n 1, 1) := by decide +kernel
theorem dX0_pattern_6 : decode cX0_pattern 6 = .ok (.bipush 10, 2) := by decide +kernel
theorem dX0_pattern_8 : decode cX0_pattern 8 = .ok (.if_icmp .le 5, 3) := by decide +kernel
theorem dX0_pattern_11 : decode cX0_pattern 11 = .ok (.iconst (-1), 1) := by decide +kernel
theorem dX0_pattern_12 : decode cX0_pattern 12 = .ok (.ireturn, 1) := by decide +kernel
theorem dX0_pattern_13 : decode cX0_pattern 13 = .ok (.aload_n 0, 1) := by decide +kernel
theorem dX0_pattern_14 : decode cX0_pattern 14 = .ok (.getfield 60, 3) := by decide +kernel
theorem dX0_pattern_17 : decode cX0_pattern 17 = .ok (.bipush 10, 2) := by decide +kernel
theorem dX0_pattern_19 : decode cX0_pattern 19 = .ok (.if_icmp .lt 6, 3) := by decide +kernel
theorem dX0_pattern_22 : decode cX0_pattern 22 = .ok (.bipush (-2), 2) := by decide +kernel
theorem dX0_pattern_24 : decode cX0_pattern 24 = .ok (.ireturn, 1) := by decide +kernel
theorem dX0_pattern_25 : decode cX0_pattern 25 = .ok (.aload_n 0, 1) := by decide +kernel
theorem dX0_pattern_26 : decode cX0_pattern 26 = .ok (.getfield 7, 3) := by decide +kernel
theorem dX0_pattern_29 : decode cX0_pattern 29 = .ok (.aload_n 0, 1) := by decide +kernel
theorem dX0_pattern_30 : decode cX0_pattern 30 = .ok (.getfield 60, 3) := by decide +kernel
theorem dX0_pattern_33 : decode cX0_pattern 33 = .ok (.iload_n 1, 1) := by decide +kernel
theorem dX0_pattern_34 : decode cX0_pattern 34 = .ok (.iastore, 1) := by decide +kernel
theorem dX0_pattern_35 : decode cX0_pattern 35 = .ok (.aload_n 0, 1) := by decide +kernel
theorem dX0_pattern_36 : decode cX0_pattern 36 = .ok (.dup, 1) := by decide +kernel
theorem dX0_pattern_37 : decode cX0_pattern 37 = .ok (.getfield 60, 3) := by decide +kernel
theorem dX0_pattern_40 : decode cX0_pattern 40 = .ok (.iconst 1, 1) := by decide +kernel
theorem dX0_pattern_41 : decode cX0_pattern 41 = .ok (.iadd, 1) := by decide +kernel
theorem dX0_pattern_42 : decode cX0_pattern 42 = .ok (.putfield 60, 3) := by decide +kernel
theorem dX0_pattern_45 : decode cX0_pattern 45 = .ok (.aload_n 0, 1) := by decide +kernel
theorem dX0_pattern_46 : decode cX0_pattern 46 = .ok (.getfield 60, 3) := by decide +kernel
theorem dX0_pattern_49 : decode cX0_pattern 49 = .ok (.ireturn, 1) := by decide +kernel
theorem dX0_rule_0 : decode cX0_rule 0 = .ok (.aload_n 0, 1) := by decide +kernel
theorem dX0_rule_1 : decode cX0_rule 1 = .ok (.invokevirtual 67, 3) := by decide +kernel
theorem dX0_rule_4 : decode cX0_rule 4 = .ok (.istore_n 2, 1) := by decide +kernel
theorem dX0_rule_5 : decode cX0_rule 5 = .ok (.aload_n 0, 1) := by decide +kernel
theorem dX0_rule_6 : decode cX0_rule 6 = .ok (.getfield 60, 3) := by decide +kernel
theorem dX0_rule_9 : decode cX0_rule 9 = .ok (.istore_n 3, 1) := by decide +kernel
theorem dX0_rule_10 : decode cX0_rule 10 = .ok (.aload_n 0, 1) := by decide +kernel
theorem dX0_rule_11 : decode cX0_rule 11 = .ok (.iconst 0, 1) := by decide +kernel
theorem dX0_rule_12 : decode cX0_rule 12 = .ok (.putfield 60, 3) := by decide +kernel
theorem dX0_rule_15 : decode cX0_rule 15 = .ok (.iload_n 2, 1) := by decide +kernel
theorem dX0_rule_16 : decode cX0_rule 16 = .ok (.ifCond .ne 6, 3) := by decide +kernel
theorem dX0_rule_19 : decode cX0_rule 19 = .ok (.bipush (-3), 2) := by decide +kernel
theorem dX0_rule_21 : decode cX0_rule 21 = .ok (.ireturn, 1) := by decide +kernel
theorem dX0_rule_22 : decode cX0_rule 22 = .ok (.aload_n 0, 1) := by decide +kernel
theorem dX0_rule_23 : decode cX0_rule 23 = .ok (.getfield 71, 3) := by decide +kernel
theorem dX0_rule_26 : decode cX0_rule 26 = .ok (.bipush 12, 2) := by decide +kernel
theorem dX0_rule_28 : decode cX0_rule 28 = .ok (.if_icmp .lt 6, 3) := by decide +kernel
theorem dX0_rule_31 : decode cX0_rule 31 = .ok (.bipush (-2), 2) := by decide +kernel
theorem dX0_rule_33 : decode cX0_rule 33 = .ok (.ireturn, 1) := by decide +kernel
theorem dX0_rule_34 : decode cX0_rule 34 = .ok (.aload_n 0, 1) := by decide +kernel
theorem dX0_rule_35 : decode cX0_rule 35 = .ok (.getfield 71, 3) := by decide +kernel
theorem dX0_rule_38 : decode cX0_rule 38 = .ok (.istore 4, 2) := by decide +kernel
theorem dX0_rule_40 : decode cX0_rule 40 = .ok (.aload_n 0, 1) := by decide +kernel
theorem dX0_rule_41 : decode cX0_rule 41 = .ok (.getfield 13, 3) := by decide +kernel
theorem dX0_rule_44 : decode cX0_rule 44 = .ok (.iload 4, 2) := by decide +kernel
theorem dX0_rule_46 : decode cX0_rule 46 = .ok (.iload_n 1, 1) := by decide +kernel
theorem dX0_rule_47 : decode cX0_rule 47 = .ok (.iconst 1, 1) := by decide +kernel
theorem dX0_rule_48 : decode cX0_rule 48 = .ok (.iand, 1) := by decide +kernel
theorem dX0_rule_49 : decode cX0_rule 49 = .ok (.iconst 1, 1) := by decide +kernel
theorem dX0_rule_50 : decode cX0_rule 50 = .ok (.if_icmp .ne 7, 3) := by decide +kernel
theorem dX0_rule_53 : decode cX0_rule 53 = .ok (.iconst 1, 1) := by decide +kernel
theorem dX0_rule_54 : decode cX0_rule 54 = .ok (.goto 4, 3) := by decide +kernel
theorem dX0_rule_57 : decode cX0_rule 57 = .ok (.iconst 0, 1) := by decide +kernel
theorem dX0_rule_58 : decode cX0_rule 58 = .ok (.bastore, 1) := by decide +kernel
theorem dX0_rule_59 : decode cX0_rule 59 = .ok (.aload_n 0, 1) := by decide +kernel
theorem dX0_rule_60 : decode cX0_rule 60 = .ok (.getfield 17, 3) := by decide +kernel
theorem dX0_rule_63 : decode cX0_rule 63 = .ok (.iload 4, 2) := by decide +kernel
theorem dX0_rule_65 : decode cX0_rule 65 = .ok (.iload_n 1, 1) := by decide +kernel
theorem dX0_rule_66 : decode cX0_rule 66 = .ok (.iconst 4, 1) := by decide +kernel
theorem dX0_rule_67 : decode cX0_rule 67 = .ok (.iand, 1) := by decide +kernel
theorem dX0_rule_68 : decode cX0_rule 68 = .ok (.iconst 4, 1) := by decide +kernel
theorem dX0_rule_69 : decode cX0_rule 69 = .ok (.if_icmp .ne 7, 3) := by decide +kernel
theorem dX0_rule_72 : decode cX0_rule 72 = .ok (.iconst 1, 1) := by decide +kernel
theorem dX0_rule_73 : decode cX0_rule 73 = .ok (.goto 4, 3) := by decide +kernel
theorem dX0_rule_76 : decode cX0_rule 76 = .ok (.iconst 0, 1) := by decide +kernel
theorem dX0_rule_77 : decode cX0_rule 77 = .ok (.bastore, 1) := by decide +kernel
theorem dX0_rule_78 : decode cX0_rule 78 = .ok (.aload_n 0, 1) := by decide +kernel
theorem dX0_rule_79 : decode cX0_rule 79 = .ok (.iload 4, 2) := by decide +kernel
theorem dX0_rule_81 : decode cX0_rule 81 = .ok (.iload_n 3, 1) := by decide +kernel
theorem dX0_rule_82 : decode cX0_rule 82 = .ok (.invokevirtual 74, 3) := by decide +kernel
theorem dX0_rule_85 : decode cX0_rule 85 = .ok (.aload_n 0, 1) := by decide +kernel
theorem dX0_rule_86 : decode cX0_rule 86 = .ok (.iload 4, 2) := by decide +kernel
theorem dX0_rule_88 : decode cX0_rule 88 = .ok (.iload_n 3, 1) := by decide +kernel
theorem dX0_rule_89 : decode cX0_rule 89 = .ok (.invokevirtual 78, 3) := by decide +kernel
theorem dX0_rule_92 : decode cX0_rule 92 = .ok (.aload_n 0, 1) := by decide +kernel
theorem dX0_rule_93 : decode cX0_rule 93 = .ok (.getfield 20, 3) := by decide +kernel
theorem dX0_rule_96 : decode cX0_rule 96 = .ok (.iload 4, 2) := by decide +kernel
theorem dX0_rule_98 : decode cX0_rule 98 = .ok (.aload_n 0, 1) := by decide +kernel
theorem dX0_rule_99 : decode cX0_rule 99 = .ok (.getfield 29, 3) := by decide +kernel
theorem dX0_rule_102 : decode cX0_rule 102 = .ok (.iload 4, 2) := by decide +kernel
theorem dX0_rule_104 : decode cX0_rule 104 = .ok (.iaload, 1) := by decide +kernel
theorem dX0_rule_105 : decode cX0_rule 105 = .ok (.ifCond .ne 13, 3) := by decide +kernel
theorem dX0_rule_108 : decode cX0_rule 108 = .ok (.iload_n 1, 1) := by decide +kernel
theorem dX0_rule_109 : decode cX0_rule 109 = .ok (.iconst 2, 1) := by decide +kernel
theorem dX0_rule_110 : decode cX0_rule 110 = .ok (.iand, 1) := by decide +kernel
theorem dX0_rule_111 : decode cX0_rule 111 = .ok (.ifCond .ne 7, 3) := by decide +kernel
theorem dX0_rule_114 : decode cX0_rule 114 = .ok (.iconst 1, 1) := by decide +kernel
theorem dX0_rule_115 : decode cX0_rule 115 = .ok (.goto 4, 3) := by decide +kernel
theorem dX0_rule_118 : decode cX0_rule 118 = .ok (.iconst 0, 1) := by decide +kernel
theorem dX0_rule_119 : decode cX0_rule 119 = .ok (.bastore, 1) := by decide +kernel
theorem dX0_rule_120 : decode cX0_rule 120 = .ok (.aload_n 0, 1) := by decide +kernel
theorem dX0_rule_121 : decode cX0_rule 121 = .ok (.dup, 1) := by decide +kernel
theorem dX0_rule_122 : decode cX0_rule 122 = .ok (.getfield 71, 3) := by decide +kernel
theorem dX0_rule_125 : decode cX0_rule 125 = .ok (.iconst 1, 1) := by decide +kernel
theorem dX0_rule_126 : decode cX0_rule 126 = .ok (.iadd, 1) := by decide +kernel
theorem dX0_rule_127 : decode cX0_rule 127 = .ok (.putfield 71, 3) := by decide +kernel
theorem dX0_rule_130 : decode cX0_rule 130 = .ok (.iload 4, 2) := by decide +kernel
theorem dX0_rule_132 : decode cX0_rule 132 = .ok (.ireturn, 1) := by decide +kernel
theorem dX0_goodPattern_0 : decode cX0_goodPattern 0 = .ok (.aload_n 0, 1) := by decide +kernel
theorem dX0_goodPattern_1 : decode cX0_goodPattern 1 = .ok (.getfield 60, 3) := by decide +kernel
theorem dX0_goodPattern_4 : decode cX0_goodPattern 4 = .ok (.ifCond .ne 5, 3) := by decide +kernel
theorem dX0_goodPattern_7 : decode cX0_goodPattern 7 = .ok (.iconst 0, 1) := by decide +kernel
theorem dX0_goodPattern_8 : decode cX0_goodPattern 8 = .ok (.ireturn, 1) := by decide +kernel
theorem dX0_goodPattern_9 : decode cX0_goodPattern 9 = .ok (.iconst 0, 1) := by decide +kernel
theorem dX0_goodPattern_10 : decode cX0_goodPattern 10 = .ok (.istore_n 1, 1) := by decide +kernel
theorem dX0_goodPattern_11 : decode cX0_goodPattern 11 = .ok (.iload_n 1, 1) := by decide +kernel
theorem dX0_goodPattern_12 : decode cX0_goodPattern 12 = .ok (.aload_n 0, 1) := by decide +kernel
theorem dX0_goodPattern_13 : decode cX0_goodPattern 13 = .ok (.getfield 60, 3) := by decide +kernel
theorem dX0_goodPattern_16 : decode cX0_goodPattern 16 = .ok (.if_icmp .ge 67, 3) := by decide +kernel
theorem dX0_goodPattern_19 : decode cX0_goodPattern 19 = .ok (.aload_n 0, 1) := by decide +kernel
theorem dX0_goodPattern_20 : decode cX0_goodPattern 20 = .ok (.iload_n 1, 1) := by decide +kernel
theorem dX0_goodPattern_21 : decode cX0_goodPattern 21 = .ok (.iconst 1, 1) := by decide +kernel
theorem dX0_goodPattern_22 : decode cX0_goodPattern 22 = .ok (.isub, 1) := by decide +kernel
theorem dX0_goodPattern_23 : decode cX0_goodPattern 23 = .ok (.invokevirtual 63, 3) := by decide +kernel
theorem dX0_goodPattern_26 : decode cX0_goodPattern 26 = .ok (.istore_n 2, 1) := by decide +kernel
theorem dX0_goodPattern_27 : decode cX0_goodPattern 27 = .ok (.aload_n 0, 1) := by decide +kernel
theorem dX0_goodPattern_28 : decode cX0_goodPattern 28 = .ok (.iload_n 1, 1) := by decide +kernel
theorem dX0_goodPattern_29 : decode cX0_goodPattern 29 = .ok (.iconst 1, 1) := by decide +kernel
theorem dX0_goodPattern_30 : decode cX0_goodPattern 30 = .ok (.iadd, 1) := by decide +kernel
theorem dX0_goodPattern_31 : decode cX0_goodPattern 31 = .ok (.invokevirtual 63, 3) := by decide +kernel
theorem dX0_goodPattern_34 : decode cX0_goodPattern 34 = .ok (.istore_n 3, 1) := by decide +kernel
theorem dX0_goodPattern_35 : decode cX0_goodPattern 35 = .ok (.aload_n 0, 1) := by decide +kernel
theorem dX0_goodPattern_36 : decode cX0_goodPattern 36 = .ok (.getfield 7, 3) := by decide +kernel
theorem dX0_goodPattern_39 : decode cX0_goodPattern 39 = .ok (.iload_n 1, 1) := by decide +kernel
theorem dX0_goodPattern_40 : decode cX0_goodPattern 40 = .ok (.iaload, 1) := by decide +kernel
theorem dX0_goodPattern_41 : decode cX0_goodPattern 41 = .ok (.bipush 9, 2) := by decide +kernel
theorem dX0_goodPattern_43 : decode cX0_goodPattern 43 = .ok (.if_icmp .ne 13, 3) := by decide +kernel
theorem dX0_goodPattern_46 : decode cX0_goodPattern 46 = .ok (.iload_n 2, 1) := by decide +kernel
theorem dX0_goodPattern_47 : decode cX0_goodPattern 47 = .ok (.ifCond .ne 7, 3) := by decide +kernel
theorem dX0_goodPattern_50 : decode cX0_goodPattern 50 = .ok (.iload_n 3, 1) := by decide +kernel
theorem dX0_goodPattern_51 : decode cX0_goodPattern 51 = .ok (.ifCond .eq 5, 3) := by decide +kernel
theorem dX0_goodPattern_54 : decode cX0_goodPattern 54 = .ok (.iconst 0, 1) := by decide +kernel
theorem dX0_goodPattern_55 : decode cX0_goodPattern 55 = .ok (.ireturn, 1) := by decide +kernel
theorem dX0_goodPattern_56 : decode cX0_goodPattern 56 = .ok (.aload_n 0, 1) := by decide +kernel
theorem dX0_goodPattern_57 : decode cX0_goodPattern 57 = .ok (.getfield 7, 3) := by decide +kernel
theorem dX0_goodPattern_60 : decode cX0_goodPattern 60 = .ok (.iload_n 1, 1) := by decide +kernel
theorem dX0_goodPattern_61 : decode cX0_goodPattern 61 = .ok (.iaload, 1) := by decide +kernel
theorem dX0_goodPattern_62 : decode cX0_goodPattern 62 = .ok (.bipush 10, 2) := by decide +kernel
theorem dX0_goodPattern_64 : decode cX0_goodPattern 64 = .ok (.if_icmp .ne 13, 3) := by decide +kernel
theorem dX0_goodPattern_67 : decode cX0_goodPattern 67 = .ok (.iload_n 2, 1) := by decide +kernel
theorem dX0_goodPattern_68 : decode cX0_goodPattern 68 = .ok (.ifCond .eq 7, 3) := by decide +kernel
theorem dX0_goodPattern_71 : decode cX0_goodPattern 71 = .ok (.iload_n 3, 1) := by decide +kernel
theorem dX0_goodPattern_72 : decode cX0_goodPattern 72 = .ok (.ifCond .ne 5, 3) := by decide +kernel
theorem dX0_goodPattern_75 : decode cX0_goodPattern 75 = .ok (.iconst 0, 1) := by decide +kernel
theorem dX0_goodPattern_76 : decode cX0_goodPattern 76 = .ok (.ireturn, 1) := by decide +kernel
theorem dX0_goodPattern_77 : decode cX0_goodPattern 77 = .ok (.iinc 1 1, 3) := by decide +kernel
theorem dX0_goodPattern_80 : decode cX0_goodPattern 80 = .ok (.goto (-69), 3) := by decide +kernel
theorem dX0_goodPattern_83 : decode cX0_goodPattern 83 = .ok (.iconst 1, 1) := by decide +kernel
theorem dX0_goodPattern_84 : decode cX0_goodPattern 84 = .ok (.ireturn, 1) := by decide +kernel
theorem dX0_partBorder_0 : decode cX0_partBorder 0 = .ok (.iload_n 1, 1) := by decide +kernel
theorem dX0_partBorder_1 : decode cX0_partBorder 1 = .ok (.ifCond .lt 22, 3) := by decide +kernel
theorem dX0_partBorder_4 : decode cX0_partBorder 4 = .ok (.iload_n 1, 1) := by decide +kernel
theorem dX0_partBorder_5 : decode cX0_partBorder 5 = .ok (.aload_n 0, 1) := by decide +kernel
theorem dX0_partBorder_6 : decode cX0_partBorder 6 = .ok (.getfield 60, 3) := by decide +kernel
theorem dX0_partBorder_9 : decode cX0_partBorder 9 = .ok (.if_icmp .ge 14, 3) := by decide +kernel
theorem dX0_partBorder_12 : decode cX0_partBorder 12 = .ok (.aload_n 0, 1) := by decide +kernel
theorem dX0_partBorder_13 : decode cX0_partBorder 13 = .ok (.getfield 7, 3) := by decide +kernel
theorem dX0_partBorder_16 : decode cX0_partBorder 16 = .ok (.iload_n 1, 1) := by decide +kernel
theorem dX0_partBorder_17 : decode cX0_partBorder 17 = .ok (.iaload, 1) := by decide +kernel
theorem dX0_partBorder_18 : decode cX0_partBorder 18 = .ok (.bipush 9, 2) := by decide +kernel
theorem dX0_partBorder_20 : decode cX0_partBorder 20 = .ok (.if_icmp .ne 7, 3) := by decide +kernel
theorem dX0_partBorder_23 : decode cX0_partBorder 23 = .ok (.iconst 1, 1) := by decide +kernel
theorem dX0_partBorder_24 : decode cX0_partBorder 24 = .ok (.goto 4, 3) := by decide +kernel
theorem dX0_partBorder_27 : decode cX0_partBorder 27 = .ok (.iconst 0, 1) := by decide +kernel
theorem dX0_partBorder_28 : decode cX0_partBorder 28 = .ok (.ireturn, 1) := by decide +kernel
theorem dX0_makeSets_0 : decode cX0_makeSets 0 = .ok (.iconst 0, 1) := by decide +kernel
theorem dX0_makeSets_1 : decode cX0_makeSets 1 = .ok (.istore_n 3, 1) := by decide +kernel
theorem dX0_makeSets_2 : decode cX0_makeSets 2 = .ok (.iload_n 3, 1) := by decide +kernel
theorem dX0_makeSets_3 : decode cX0_makeSets 3 = .ok (.bipush 7, 2) := by decide +kernel
theorem dX0_makeSets_5 : decode cX0_makeSets 5 = .ok (.if_icmp .ge 21, 3) := by decide +kernel
theorem dX0_makeSets_8 : decode cX0_makeSets 8 = .ok (.aload_n 0, 1) := by decide +kernel
theorem dX0_makeSets_9 : decode cX0_makeSets 9 = .ok (.getfield 23, 3) := by decide +kernel
theorem dX0_makeSets_12 : decode cX0_makeSets 12 = .ok (.iload_n 1, 1) := by decide +kernel
theorem dX0_makeSets_13 : decode cX0_makeSets 13 = .ok (.bipush 7, 2) := by decide +kernel
theorem dX0_makeSets_15 : decode cX0_makeSets 15 = .ok (.imul, 1) := by decide +kernel
theorem dX0_makeSets_16 : decode cX0_makeSets 16 = .ok (.iload_n 3, 1) := by decide +kernel
theorem dX0_makeSets_17 : decode cX0_makeSets 17 = .ok (.iadd, 1) := by decide +kernel
theorem dX0_makeSets_18 : decode cX0_makeSets 18 = .ok (.iconst 0, 1) := by decide +kernel
theorem dX0_makeSets_19 : decode cX0_makeSets 19 = .ok (.iastore, 1) := by decide +kernel
theorem dX0_makeSets_20 : decode cX0_makeSets 20 = .ok (.iinc 3 1, 3) := by decide +kernel
theorem dX0_makeSets_23 : decode cX0_makeSets 23 = .ok (.goto (-21), 3) := by decide +kernel
theorem dX0_makeSets_26 : decode cX0_makeSets 26 = .ok (.aload_n 0, 1) := by decide +kernel
theorem dX0_makeSets_27 : decode cX0_makeSets 27 = .ok (.getfield 26, 3) := by decide +kernel
theorem dX0_makeSets_30 : decode cX0_makeSets 30 = .ok (.iload_n 1, 1) := by decide +kernel
theorem dX0_makeSets_31 : decode cX0_makeSets 31 = .ok (.iconst 0, 1) := by decide +kernel
theorem dX0_makeSets_32 : decode cX0_makeSets 32 = .ok (.iastore, 1) := by decide +kernel
theorem dX0_makeSets_33 : decode cX0_makeSets 33 = .ok (.aload_n 0, 1) := by decide +kernel
theorem dX0_makeSets_34 : decode cX0_makeSets 34 = .ok (.getfield 29, 3) := by decide +kernel
theorem dX0_makeSets_37 : decode cX0_makeSets 37 = .ok (.iload_n 1, 1) := by decide +kernel
theorem dX0_makeSets_38 : decode cX0_makeSets 38 = .ok (.iconst 0, 1) := by decide +kernel
theorem dX0_makeSets_39 : decode cX0_makeSets 39 = .ok (.iastore, 1) := by decide +kernel
theorem dX0_makeSets_40 : decode cX0_makeSets 40 = .ok (.aload_n 0, 1) := by decide +kernel
theorem dX0_makeSets_41 : decode cX0_makeSets 41 = .ok (.getfield 32, 3) := by decide +kernel
theorem dX0_makeSets_44 : decode cX0_makeSets 44 = .ok (.iload_n 1, 1) := by decide +kernel
theorem dX0_makeSets_45 : decode cX0_makeSets 45 = .ok (.iconst 0, 1) := by decide +kernel
theorem dX0_makeSets_46 : decode cX0_makeSets 46 = .ok (.iastore, 1) := by decide +kernel
theorem dX0_makeSets_47 : decode cX0_makeSets 47 = .ok (.aload_n 0, 1) := by decide +kernel
theorem dX0_makeSets_48 : decode cX0_makeSets 48 = .ok (.getfield 35, 3) := by decide +kernel
theorem dX0_makeSets_51 : decode cX0_makeSets 51 = .ok (.iload_n 1, 1) := by decide +kernel
theorem dX0_makeSets_52 : decode cX0_makeSets 52 = .ok (.iconst 0, 1) := by decide +kernel
theorem dX0_makeSets_53 : decode cX0_makeSets 53 = .ok (.iastore, 1) := by decide +kernel
theorem dX0_makeSets_54 : decode cX0_makeSets 54 = .ok (.iconst 0, 1) := by decide +kernel
theorem dX0_makeSets_55 : decode cX0_makeSets 55 = .ok (.istore_n 3, 1) := by decide +kernel
theorem dX0_makeSets_56 : decode cX0_makeSets 56 = .ok (.iload_n 3, 1) := by decide +kernel
theorem dX0_makeSets_57 : decode cX0_makeSets 57 = .ok (.iload_n 2, 1) := by decide +kernel
theorem dX0_makeSets_58 : decode cX0_makeSets 58 = .ok (.if_icmp .ge 151, 3) := by decide +kernel
theorem dX0_makeSets_61 : decode cX0_makeSets 61 = .ok (.iconst 1, 1) := by decide +kernel
theorem dX0_makeSets_62 : decode cX0_makeSets 62 = .ok (.iload_n 3, 1) := by decide +kernel
theorem dX0_makeSets_63 : decode cX0_makeSets 63 = .ok (.ishl, 1) := by decide +kernel
theorem dX0_makeSets_64 : decode cX0_makeSets 64 = .ok (.istore 4, 2) := by decide +kernel
theorem dX0_makeSets_66 : decode cX0_makeSets 66 = .ok (.aload_n 0, 1) := by decide +kernel
theorem dX0_makeSets_67 : decode cX0_makeSets 67 = .ok (.getfield 7, 3) := by decide +kernel
theorem dX0_makeSets_70 : decode cX0_makeSets 70 = .ok (.iload_n 3, 1) := by decide +kernel
theorem dX0_makeSets_71 : decode cX0_makeSets 71 = .ok (.iaload, 1) := by decide +kernel
theorem dX0_makeSets_72 : decode cX0_makeSets 72 = .ok (.istore 5, 2) := by decide +kernel
theorem dX0_makeSets_74 : decode cX0_makeSets 74 = .ok (.iload 5, 2) := by decide +kernel
theorem dX0_makeSets_76 : decode cX0_makeSets 76 = .ok (.bipush 7, 2) := by decide +kernel
theorem dX0_makeSets_78 : decode cX0_makeSets 78 = .ok (.if_icmp .ge 23, 3) := by decide +kernel
theorem dX0_makeSets_81 : decode cX0_makeSets 81 = .ok (.aload_n 0, 1) := by decide +kernel
theorem dX0_makeSets_82 : decode cX0_makeSets 82 = .ok (.getfield 23, 3) := by decide +kernel
theorem dX0_makeSets_85 : decode cX0_makeSets 85 = .ok (.iload_n 1, 1) := by decide +kernel
theorem dX0_makeSets_86 : decode cX0_makeSets 86 = .ok (.bipush 7, 2) := by decide +kernel
theorem dX0_makeSets_88 : decode cX0_makeSets 88 = .ok (.imul, 1) := by decide +kernel
theorem dX0_makeSets_89 : decode cX0_makeSets 89 = .ok (.iload 5, 2) := by decide +kernel
theorem dX0_makeSets_91 : decode cX0_makeSets 91 = .ok (.iadd, 1) := by decide +kernel
end
section
set_option maxRecDepth 100000
theorem dX0_makeSets_92 : decode cX0_makeSets 92 = .ok (.dup2, 1) := by decide +kernel
theorem dX0_makeSets_93 : decode cX0_makeSets 93 = .ok (.iaload, 1) := by decide +kernel
theorem dX0_makeSets_94 : decode cX0_makeSets 94 = .ok (.iload 4, 2) := by decide +kernel
theorem dX0_makeSets_96 : decode cX0_makeSets 96 = .ok (.ior, 1) := by decide +kernel
theorem dX0_makeSets_97 : decode cX0_makeSets 97 = .ok (.iastore, 1) := by decide +kernel
theorem dX0_makeSets_98 : decode cX0_makeSets 98 = .ok (.goto 80, 3) := by decide +kernel
theorem dX0_makeSets_101 : decode cX0_makeSets 101 = .ok (.iload 5, 2) := by decide +kernel
theorem dX0_makeSets_103 : decode cX0_makeSets 103 = .ok (.bipush 7, 2) := by decide +kernel
theorem dX0_makeSets_105 : decode cX0_makeSets 105 = .ok (.if_icmp .ne 17, 3) := by decide +kernel
theorem dX0_makeSets_108 : decode cX0_makeSets 108 = .ok (.aload_n 0, 1) := by decide +kernel
theorem dX0_makeSets_109 : decode cX0_makeSets 109 = .ok (.getfield 26, 3) := by decide +kernel
theorem dX0_makeSets_112 : decode cX0_makeSets 112 = .ok (.iload_n 1, 1) := by decide +kernel
theorem dX0_makeSets_113 : decode cX0_makeSets 113 = .ok (.dup2, 1) := by decide +kernel
theorem dX0_makeSets_114 : decode cX0_makeSets 114 = .ok (.iaload, 1) := by decide +kernel
theorem dX0_makeSets_115 : decode cX0_makeSets 115 = .ok (.iload 4, 2) := by decide +kernel
theorem dX0_makeSets_117 : decode cX0_makeSets 117 = .ok (.ior, 1) := by decide +kernel
theorem dX0_makeSets_118 : decode cX0_makeSets 118 = .ok (.iastore, 1) := by decide +kernel
theorem dX0_makeSets_119 : decode cX0_makeSets 119 = .ok (.goto 59, 3) := by decide +kernel
theorem dX0_makeSets_122 : decode cX0_makeSets 122 = .ok (.iload 5, 2) := by decide +kernel
theorem dX0_makeSets_124 : decode cX0_makeSets 124 = .ok (.bipush 8, 2) := by decide +kernel
theorem dX0_makeSets_126 : decode cX0_makeSets 126 = .ok (.if_icmp .ne 20, 3) := by decide +kernel
theorem dX0_makeSets_129 : decode cX0_makeSets 129 = .ok (.aload_n 0, 1) := by decide +kernel
theorem dX0_makeSets_130 : decode cX0_makeSets 130 = .ok (.getfield 23, 3) := by decide +kernel
theorem dX0_makeSets_133 : decode cX0_makeSets 133 = .ok (.iload_n 1, 1) := by decide +kernel
theorem dX0_makeSets_134 : decode cX0_makeSets 134 = .ok (.bipush 7, 2) := by decide +kernel
theorem dX0_makeSets_136 : decode cX0_makeSets 136 = .ok (.imul, 1) := by decide +kernel
theorem dX0_makeSets_137 : decode cX0_makeSets 137 = .ok (.dup2, 1) := by decide +kernel
theorem dX0_makeSets_138 : decode cX0_makeSets 138 = .ok (.iaload, 1) := by decide +kernel
theorem dX0_makeSets_139 : decode cX0_makeSets 139 = .ok (.iload 4, 2) := by decide +kernel
theorem dX0_makeSets_141 : decode cX0_makeSets 141 = .ok (.ior, 1) := by decide +kernel
theorem dX0_makeSets_142 : decode cX0_makeSets 142 = .ok (.iastore, 1) := by decide +kernel
theorem dX0_makeSets_143 : decode cX0_makeSets 143 = .ok (.goto 35, 3) := by decide +kernel
theorem dX0_makeSets_146 : decode cX0_makeSets 146 = .ok (.iload 5, 2) := by decide +kernel
theorem dX0_makeSets_148 : decode cX0_makeSets 148 = .ok (.bipush 9, 2) := by decide +kernel
theorem dX0_makeSets_150 : decode cX0_makeSets 150 = .ok (.if_icmp .ne 17, 3) := by decide +kernel
theorem dX0_makeSets_153 : decode cX0_makeSets 153 = .ok (.aload_n 0, 1) := by decide +kernel
theorem dX0_makeSets_154 : decode cX0_makeSets 154 = .ok (.getfield 29, 3) := by decide +kernel
theorem dX0_makeSets_157 : decode cX0_makeSets 157 = .ok (.iload_n 1, 1) := by decide +kernel
theorem dX0_makeSets_158 : decode cX0_makeSets 158 = .ok (.dup2, 1) := by decide +kernel
theorem dX0_makeSets_159 : decode cX0_makeSets 159 = .ok (.iaload, 1) := by decide +kernel
theorem dX0_makeSets_160 : decode cX0_makeSets 160 = .ok (.iload 4, 2) := by decide +kernel
theorem dX0_makeSets_162 : decode cX0_makeSets 162 = .ok (.ior, 1) := by decide +kernel
theorem dX0_makeSets_163 : decode cX0_makeSets 163 = .ok (.iastore, 1) := by decide +kernel
theorem dX0_makeSets_164 : decode cX0_makeSets 164 = .ok (.goto 14, 3) := by decide +kernel
theorem dX0_makeSets_167 : decode cX0_makeSets 167 = .ok (.aload_n 0, 1) := by decide +kernel
theorem dX0_makeSets_168 : decode cX0_makeSets 168 = .ok (.getfield 35, 3) := by decide +kernel
theorem dX0_makeSets_171 : decode cX0_makeSets 171 = .ok (.iload_n 1, 1) := by decide +kernel
theorem dX0_makeSets_172 : decode cX0_makeSets 172 = .ok (.dup2, 1) := by decide +kernel
theorem dX0_makeSets_173 : decode cX0_makeSets 173 = .ok (.iaload, 1) := by decide +kernel
theorem dX0_makeSets_174 : decode cX0_makeSets 174 = .ok (.iload 4, 2) := by decide +kernel
theorem dX0_makeSets_176 : decode cX0_makeSets 176 = .ok (.ior, 1) := by decide +kernel
theorem dX0_makeSets_177 : decode cX0_makeSets 177 = .ok (.iastore, 1) := by decide +kernel
theorem dX0_makeSets_178 : decode cX0_makeSets 178 = .ok (.iload 5, 2) := by decide +kernel
theorem dX0_makeSets_180 : decode cX0_makeSets 180 = .ok (.bipush 10, 2) := by decide +kernel
theorem dX0_makeSets_182 : decode cX0_makeSets 182 = .ok (.if_icmp .ne 21, 3) := by decide +kernel
theorem dX0_makeSets_185 : decode cX0_makeSets 185 = .ok (.iload_n 3, 1) := by decide +kernel
theorem dX0_makeSets_186 : decode cX0_makeSets 186 = .ok (.iconst 1, 1) := by decide +kernel
theorem dX0_makeSets_187 : decode cX0_makeSets 187 = .ok (.iadd, 1) := by decide +kernel
theorem dX0_makeSets_188 : decode cX0_makeSets 188 = .ok (.iload_n 2, 1) := by decide +kernel
theorem dX0_makeSets_189 : decode cX0_makeSets 189 = .ok (.if_icmp .ge 14, 3) := by decide +kernel
theorem dX0_makeSets_192 : decode cX0_makeSets 192 = .ok (.aload_n 0, 1) := by decide +kernel
theorem dX0_makeSets_193 : decode cX0_makeSets 193 = .ok (.getfield 32, 3) := by decide +kernel
theorem dX0_makeSets_196 : decode cX0_makeSets 196 = .ok (.iload_n 1, 1) := by decide +kernel
theorem dX0_makeSets_197 : decode cX0_makeSets 197 = .ok (.dup2, 1) := by decide +kernel
theorem dX0_makeSets_198 : decode cX0_makeSets 198 = .ok (.iaload, 1) := by decide +kernel
theorem dX0_makeSets_199 : decode cX0_makeSets 199 = .ok (.iload 4, 2) := by decide +kernel
theorem dX0_makeSets_201 : decode cX0_makeSets 201 = .ok (.ior, 1) := by decide +kernel
theorem dX0_makeSets_202 : decode cX0_makeSets 202 = .ok (.iastore, 1) := by decide +kernel
theorem dX0_makeSets_203 : decode cX0_makeSets 203 = .ok (.iinc 3 1, 3) := by decide +kernel
theorem dX0_makeSets_206 : decode cX0_makeSets 206 = .ok (.goto (-150), 3) := by decide +kernel
theorem dX0_makeSets_209 : decode cX0_makeSets 209 = .ok (.return_, 1) := by decide +kernel
theorem dX0_makeEnds_0 : decode cX0_makeEnds 0 = .ok (.iconst 1, 1) := by decide +kernel
theorem dX0_makeEnds_1 : decode cX0_makeEnds 1 = .ok (.iload_n 2, 1) := by decide +kernel
theorem dX0_makeEnds_2 : decode cX0_makeEnds 2 = .ok (.ishl, 1) := by decide +kernel
theorem dX0_makeEnds_3 : decode cX0_makeEnds 3 = .ok (.istore_n 3, 1) := by decide +kernel
theorem dX0_makeEnds_4 : decode cX0_makeEnds 4 = .ok (.iconst 1, 1) := by decide +kernel
theorem dX0_makeEnds_5 : decode cX0_makeEnds 5 = .ok (.istore 4, 2) := by decide +kernel
theorem dX0_makeEnds_7 : decode cX0_makeEnds 7 = .ok (.iload_n 2, 1) := by decide +kernel
theorem dX0_makeEnds_8 : decode cX0_makeEnds 8 = .ok (.iconst 1, 1) := by decide +kernel
theorem dX0_makeEnds_9 : decode cX0_makeEnds 9 = .ok (.isub, 1) := by decide +kernel
theorem dX0_makeEnds_10 : decode cX0_makeEnds 10 = .ok (.istore 5, 2) := by decide +kernel
theorem dX0_makeEnds_12 : decode cX0_makeEnds 12 = .ok (.iload 5, 2) := by decide +kernel
theorem dX0_makeEnds_14 : decode cX0_makeEnds 14 = .ok (.ifCond .lt 57, 3) := by decide +kernel
theorem dX0_makeEnds_17 : decode cX0_makeEnds 17 = .ok (.iload 4, 2) := by decide +kernel
theorem dX0_makeEnds_19 : decode cX0_makeEnds 19 = .ok (.ifCond .eq 52, 3) := by decide +kernel
theorem dX0_makeEnds_22 : decode cX0_makeEnds 22 = .ok (.aload_n 0, 1) := by decide +kernel
theorem dX0_makeEnds_23 : decode cX0_makeEnds 23 = .ok (.getfield 7, 3) := by decide +kernel
theorem dX0_makeEnds_26 : decode cX0_makeEnds 26 = .ok (.iload 5, 2) := by decide +kernel
theorem dX0_makeEnds_28 : decode cX0_makeEnds 28 = .ok (.iaload, 1) := by decide +kernel
theorem dX0_makeEnds_29 : decode cX0_makeEnds 29 = .ok (.bipush 10, 2) := by decide +kernel
theorem dX0_makeEnds_31 : decode cX0_makeEnds 31 = .ok (.if_icmp .eq 15, 3) := by decide +kernel
theorem dX0_makeEnds_34 : decode cX0_makeEnds 34 = .ok (.aload_n 0, 1) := by decide +kernel
theorem dX0_makeEnds_35 : decode cX0_makeEnds 35 = .ok (.getfield 7, 3) := by decide +kernel
theorem dX0_makeEnds_38 : decode cX0_makeEnds 38 = .ok (.iload 5, 2) := by decide +kernel
theorem dX0_makeEnds_40 : decode cX0_makeEnds 40 = .ok (.iaload, 1) := by decide +kernel
theorem dX0_makeEnds_41 : decode cX0_makeEnds 41 = .ok (.bipush 9, 2) := by decide +kernel
theorem dX0_makeEnds_43 : decode cX0_makeEnds 43 = .ok (.if_icmp .ne 7, 3) := by decide +kernel
theorem dX0_makeEnds_46 : decode cX0_makeEnds 46 = .ok (.iconst 1, 1) := by decide +kernel
theorem dX0_makeEnds_47 : decode cX0_makeEnds 47 = .ok (.goto 4, 3) := by decide +kernel
theorem dX0_makeEnds_50 : decode cX0_makeEnds 50 = .ok (.iconst 0, 1) := by decide +kernel
theorem dX0_makeEnds_51 : decode cX0_makeEnds 51 = .ok (.istore 4, 2) := by decide +kernel
theorem dX0_makeEnds_53 : decode cX0_makeEnds 53 = .ok (.iload 4, 2) := by decide +kernel
theorem dX0_makeEnds_55 : decode cX0_makeEnds 55 = .ok (.ifCond .eq 10, 3) := by decide +kernel
theorem dX0_makeEnds_58 : decode cX0_makeEnds 58 = .ok (.iload_n 3, 1) := by decide +kernel
theorem dX0_makeEnds_59 : decode cX0_makeEnds 59 = .ok (.iconst 1, 1) := by decide +kernel
theorem dX0_makeEnds_60 : decode cX0_makeEnds 60 = .ok (.iload 5, 2) := by decide +kernel
theorem dX0_makeEnds_62 : decode cX0_makeEnds 62 = .ok (.ishl, 1) := by decide +kernel
theorem dX0_makeEnds_63 : decode cX0_makeEnds 63 = .ok (.ior, 1) := by decide +kernel
theorem dX0_makeEnds_64 : decode cX0_makeEnds 64 = .ok (.istore_n 3, 1) := by decide +kernel
theorem dX0_makeEnds_65 : decode cX0_makeEnds 65 = .ok (.iinc 5 (-1), 3) := by decide +kernel
theorem dX0_makeEnds_68 : decode cX0_makeEnds 68 = .ok (.goto (-56), 3) := by decide +kernel
theorem dX0_makeEnds_71 : decode cX0_makeEnds 71 = .ok (.aload_n 0, 1) := by decide +kernel
theorem dX0_makeEnds_72 : decode cX0_makeEnds 72 = .ok (.getfield 38, 3) := by decide +kernel
theorem dX0_makeEnds_75 : decode cX0_makeEnds 75 = .ok (.iload_n 1, 1) := by decide +kernel
theorem dX0_makeEnds_76 : decode cX0_makeEnds 76 = .ok (.iload_n 3, 1) := by decide +kernel
theorem dX0_makeEnds_77 : decode cX0_makeEnds 77 = .ok (.iastore, 1) := by decide +kernel
theorem dX0_makeEnds_78 : decode cX0_makeEnds 78 = .ok (.return_, 1) := by decide +kernel
theorem dX0_dropRule_0 : decode cX0_dropRule 0 = .ok (.aload_n 0, 1) := by decide +kernel
theorem dX0_dropRule_1 : decode cX0_dropRule 1 = .ok (.getfield 71, 3) := by decide +kernel
theorem dX0_dropRule_4 : decode cX0_dropRule 4 = .ok (.ifCond .ne 6, 3) := by decide +kernel
theorem dX0_dropRule_7 : decode cX0_dropRule 7 = .ok (.bipush (-5), 2) := by decide +kernel
theorem dX0_dropRule_9 : decode cX0_dropRule 9 = .ok (.ireturn, 1) := by decide +kernel
theorem dX0_dropRule_10 : decode cX0_dropRule 10 = .ok (.aload_n 0, 1) := by decide +kernel
theorem dX0_dropRule_11 : decode cX0_dropRule 11 = .ok (.dup, 1) := by decide +kernel
theorem dX0_dropRule_12 : decode cX0_dropRule 12 = .ok (.getfield 71, 3) := by decide +kernel
theorem dX0_dropRule_15 : decode cX0_dropRule 15 = .ok (.iconst 1, 1) := by decide +kernel
theorem dX0_dropRule_16 : decode cX0_dropRule 16 = .ok (.isub, 1) := by decide +kernel
theorem dX0_dropRule_17 : decode cX0_dropRule 17 = .ok (.putfield 71, 3) := by decide +kernel
theorem dX0_dropRule_20 : decode cX0_dropRule 20 = .ok (.aload_n 0, 1) := by decide +kernel
theorem dX0_dropRule_21 : decode cX0_dropRule 21 = .ok (.getfield 71, 3) := by decide +kernel
theorem dX0_dropRule_24 : decode cX0_dropRule 24 = .ok (.ireturn, 1) := by decide +kernel
theorem dX0_path_0 : decode cX0_path 0 = .ok (.iload_n 1, 1) := by decide +kernel
theorem dX0_path_1 : decode cX0_path 1 = .ok (.iconst 1, 1) := by decide +kernel
theorem dX0_path_2 : decode cX0_path 2 = .ok (.if_icmp .lt 9, 3) := by decide +kernel
theorem dX0_path_5 : decode cX0_path 5 = .ok (.iload_n 1, 1) := by decide +kernel
theorem dX0_path_6 : decode cX0_path 6 = .ok (.bipush 6, 2) := by decide +kernel
theorem dX0_path_8 : decode cX0_path 8 = .ok (.if_icmp .le 11, 3) := by decide +kernel
theorem dX0_path_11 : decode cX0_path 11 = .ok (.iload_n 1, 1) := by decide +kernel
theorem dX0_path_12 : decode cX0_path 12 = .ok (.bipush 9, 2) := by decide +kernel
theorem dX0_path_14 : decode cX0_path 14 = .ok (.if_icmp .eq 5, 3) := by decide +kernel
theorem dX0_path_17 : decode cX0_path 17 = .ok (.iconst (-1), 1) := by decide +kernel
theorem dX0_path_18 : decode cX0_path 18 = .ok (.ireturn, 1) := by decide +kernel
theorem dX0_path_19 : decode cX0_path 19 = .ok (.aload_n 0, 1) := by decide +kernel
theorem dX0_path_20 : decode cX0_path 20 = .ok (.getfield 56, 3) := by decide +kernel
theorem dX0_path_23 : decode cX0_path 23 = .ok (.iconst 1, 1) := by decide +kernel
theorem dX0_path_24 : decode cX0_path 24 = .ok (.isub, 1) := by decide +kernel
theorem dX0_path_25 : decode cX0_path 25 = .ok (.istore_n 2, 1) := by decide +kernel
theorem dX0_path_26 : decode cX0_path 26 = .ok (.iload_n 1, 1) := by decide +kernel
theorem dX0_path_27 : decode cX0_path 27 = .ok (.bipush 9, 2) := by decide +kernel
theorem dX0_path_29 : decode cX0_path 29 = .ok (.if_icmp .ne 49, 3) := by decide +kernel
theorem dX0_path_32 : decode cX0_path 32 = .ok (.aload_n 0, 1) := by decide +kernel
theorem dX0_path_33 : decode cX0_path 33 = .ok (.getfield 41, 3) := by decide +kernel
theorem dX0_path_36 : decode cX0_path 36 = .ok (.iload_n 2, 1) := by decide +kernel
theorem dX0_path_37 : decode cX0_path 37 = .ok (.iaload, 1) := by decide +kernel
theorem dX0_path_38 : decode cX0_path 38 = .ok (.ifCond .eq 12, 3) := by decide +kernel
theorem dX0_path_41 : decode cX0_path 41 = .ok (.aload_n 0, 1) := by decide +kernel
theorem dX0_path_42 : decode cX0_path 42 = .ok (.getfield 56, 3) := by decide +kernel
theorem dX0_path_45 : decode cX0_path 45 = .ok (.bipush 6, 2) := by decide +kernel
theorem dX0_path_47 : decode cX0_path 47 = .ok (.if_icmp .ne 6, 3) := by decide +kernel
theorem dX0_path_50 : decode cX0_path 50 = .ok (.bipush (-4), 2) := by decide +kernel
theorem dX0_path_52 : decode cX0_path 52 = .ok (.ireturn, 1) := by decide +kernel
theorem dX0_path_53 : decode cX0_path 53 = .ok (.aload_n 0, 1) := by decide +kernel
theorem dX0_path_54 : decode cX0_path 54 = .ok (.getfield 41, 3) := by decide +kernel
theorem dX0_path_57 : decode cX0_path 57 = .ok (.aload_n 0, 1) := by decide +kernel
theorem dX0_path_58 : decode cX0_path 58 = .ok (.getfield 56, 3) := by decide +kernel
theorem dX0_path_61 : decode cX0_path 61 = .ok (.iconst 0, 1) := by decide +kernel
theorem dX0_path_62 : decode cX0_path 62 = .ok (.iastore, 1) := by decide +kernel
theorem dX0_path_63 : decode cX0_path 63 = .ok (.aload_n 0, 1) := by decide +kernel
theorem dX0_path_64 : decode cX0_path 64 = .ok (.dup, 1) := by decide +kernel
theorem dX0_path_65 : decode cX0_path 65 = .ok (.getfield 56, 3) := by decide +kernel
theorem dX0_path_68 : decode cX0_path 68 = .ok (.iconst 1, 1) := by decide +kernel
theorem dX0_path_69 : decode cX0_path 69 = .ok (.iadd, 1) := by decide +kernel
theorem dX0_path_70 : decode cX0_path 70 = .ok (.putfield 56, 3) := by decide +kernel
theorem dX0_path_73 : decode cX0_path 73 = .ok (.aload_n 0, 1) := by decide +kernel
theorem dX0_path_74 : decode cX0_path 74 = .ok (.getfield 56, 3) := by decide +kernel
theorem dX0_path_77 : decode cX0_path 77 = .ok (.ireturn, 1) := by decide +kernel
theorem dX0_path_78 : decode cX0_path 78 = .ok (.aload_n 0, 1) := by decide +kernel
theorem dX0_path_79 : decode cX0_path 79 = .ok (.getfield 41, 3) := by decide +kernel
theorem dX0_path_82 : decode cX0_path 82 = .ok (.iload_n 2, 1) := by decide +kernel
theorem dX0_path_83 : decode cX0_path 83 = .ok (.iaload, 1) := by decide +kernel
theorem dX0_path_84 : decode cX0_path 84 = .ok (.bipush 8, 2) := by decide +kernel
theorem dX0_path_86 : decode cX0_path 86 = .ok (.if_icmp .lt 6, 3) := by decide +kernel
theorem dX0_path_89 : decode cX0_path 89 = .ok (.bipush (-2), 2) := by decide +kernel
theorem dX0_path_91 : decode cX0_path 91 = .ok (.ireturn, 1) := by decide +kernel
theorem dX0_path_92 : decode cX0_path 92 = .ok (.aload_n 0, 1) := by decide +kernel
theorem dX0_path_93 : decode cX0_path 93 = .ok (.getfield 44, 3) := by decide +kernel
theorem dX0_path_96 : decode cX0_path 96 = .ok (.iload_n 2, 1) := by decide +kernel
theorem dX0_path_97 : decode cX0_path 97 = .ok (.bipush 8, 2) := by decide +kernel
theorem dX0_path_99 : decode cX0_path 99 = .ok (.imul, 1) := by decide +kernel
theorem dX0_path_100 : decode cX0_path 100 = .ok (.aload_n 0, 1) := by decide +kernel
theorem dX0_path_101 : decode cX0_path 101 = .ok (.getfield 41, 3) := by decide +kernel
theorem dX0_path_104 : decode cX0_path 104 = .ok (.iload_n 2, 1) := by decide +kernel
theorem dX0_path_105 : decode cX0_path 105 = .ok (.iaload, 1) := by decide +kernel
theorem dX0_path_106 : decode cX0_path 106 = .ok (.iadd, 1) := by decide +kernel
theorem dX0_path_107 : decode cX0_path 107 = .ok (.iload_n 1, 1) := by decide +kernel
theorem dX0_path_108 : decode cX0_path 108 = .ok (.iastore, 1) := by decide +kernel
theorem dX0_path_109 : decode cX0_path 109 = .ok (.aload_n 0, 1) := by decide +kernel
theorem dX0_path_110 : decode cX0_path 110 = .ok (.getfield 41, 3) := by decide +kernel
theorem dX0_path_113 : decode cX0_path 113 = .ok (.iload_n 2, 1) := by decide +kernel
theorem dX0_path_114 : decode cX0_path 114 = .ok (.dup2, 1) := by decide +kernel
theorem dX0_path_115 : decode cX0_path 115 = .ok (.iaload, 1) := by decide +kernel
theorem dX0_path_116 : decode cX0_path 116 = .ok (.iconst 1, 1) := by decide +kernel
theorem dX0_path_117 : decode cX0_path 117 = .ok (.iadd, 1) := by decide +kernel
theorem dX0_path_118 : decode cX0_path 118 = .ok (.iastore, 1) := by decide +kernel
theorem dX0_path_119 : decode cX0_path 119 = .ok (.aload_n 0, 1) := by decide +kernel
theorem dX0_path_120 : decode cX0_path 120 = .ok (.getfield 56, 3) := by decide +kernel
theorem dX0_path_123 : decode cX0_path 123 = .ok (.ireturn, 1) := by decide +kernel
theorem dX0_clearPath_0 : decode cX0_clearPath 0 = .ok (.aload_n 0, 1) := by decide +kernel
theorem dX0_clearPath_1 : decode cX0_clearPath 1 = .ok (.iconst 1, 1) := by decide +kernel
theorem dX0_clearPath_2 : decode cX0_clearPath 2 = .ok (.putfield 56, 3) := by decide +kernel
theorem dX0_clearPath_5 : decode cX0_clearPath 5 = .ok (.aload_n 0, 1) := by decide +kernel
theorem dX0_clearPath_6 : decode cX0_clearPath 6 = .ok (.getfield 41, 3) := by decide +kernel
theorem dX0_clearPath_9 : decode cX0_clearPath 9 = .ok (.iconst 0, 1) := by decide +kernel
theorem dX0_clearPath_10 : decode cX0_clearPath 10 = .ok (.iconst 0, 1) := by decide +kernel
theorem dX0_clearPath_11 : decode cX0_clearPath 11 = .ok (.iastore, 1) := by decide +kernel
theorem dX0_clearPath_12 : decode cX0_clearPath 12 = .ok (.return_, 1) := by decide +kernel
theorem dX0_ignored_0 : decode cX0_ignored 0 = .ok (.aload_n 0, 1) := by decide +kernel
theorem dX0_ignored_1 : decode cX0_ignored 1 = .ok (.iload_n 1, 1) := by decide +kernel
theorem dX0_ignored_2 : decode cX0_ignored 2 = .ok (.invokevirtual 97, 3) := by decide +kernel
theorem dX0_ignored_5 : decode cX0_ignored 5 = .ok (.istore_n 2, 1) := by decide +kernel
theorem dX0_ignored_6 : decode cX0_ignored 6 = .ok (.iload_n 2, 1) := by decide +kernel
theorem dX0_ignored_7 : decode cX0_ignored 7 = .ok (.ifCond .ne 5, 3) := by decide +kernel
theorem dX0_ignored_10 : decode cX0_ignored 10 = .ok (.iconst 0, 1) := by decide +kernel
theorem dX0_ignored_11 : decode cX0_ignored 11 = .ok (.ireturn, 1) := by decide +kernel
theorem dX0_ignored_12 : decode cX0_ignored 12 = .ok (.aload_n 0, 1) := by decide +kernel
theorem dX0_ignored_13 : decode cX0_ignored 13 = .ok (.invokevirtual 101, 3) := by decide +kernel
theorem dX0_ignored_16 : decode cX0_ignored 16 = .ok (.istore_n 3, 1) := by decide +kernel
theorem dX0_ignored_17 : decode cX0_ignored 17 = .ok (.iload_n 3, 1) := by decide +kernel
theorem dX0_ignored_18 : decode cX0_ignored 18 = .ok (.bipush (-5), 2) := by decide +kernel
theorem dX0_ignored_20 : decode cX0_ignored 20 = .ok (.if_icmp .eq 7, 3) := by decide +kernel
theorem dX0_ignored_23 : decode cX0_ignored 23 = .ok (.iconst 1, 1) := by decide +kernel
theorem dX0_ignored_24 : decode cX0_ignored 24 = .ok (.goto 4, 3) := by decide +kernel
theorem dX0_ignored_27 : decode cX0_ignored 27 = .ok (.iconst 0, 1) := by decide +kernel
theorem dX0_ignored_28 : decode cX0_ignored 28 = .ok (.ireturn, 1) := by decide +kernel
theorem dX0_walk_0 : decode cX0_walk 0 = .ok (.aload_n 0, 1) := by decide +kernel
theorem dX0_walk_1 : decode cX0_walk 1 = .ok (.getfield 41, 3) := by decide +kernel
theorem dX0_walk_4 : decode cX0_walk 4 = .ok (.aload_n 0, 1) := by decide +kernel
theorem dX0_walk_5 : decode cX0_walk 5 = .ok (.getfield 56, 3) := by decide +kernel
theorem dX0_walk_8 : decode cX0_walk 8 = .ok (.iconst 1, 1) := by decide +kernel
theorem dX0_walk_9 : decode cX0_walk 9 = .ok (.isub, 1) := by decide +kernel
theorem dX0_walk_10 : decode cX0_walk 10 = .ok (.iaload, 1) := by decide +kernel
theorem dX0_walk_11 : decode cX0_walk 11 = .ok (.ifCond .ne 5, 3) := by decide +kernel
theorem dX0_walk_14 : decode cX0_walk 14 = .ok (.iconst 0, 1) := by decide +kernel
theorem dX0_walk_15 : decode cX0_walk 15 = .ok (.ireturn, 1) := by decide +kernel
theorem dX0_walk_16 : decode cX0_walk 16 = .ok (.iconst 0, 1) := by decide +kernel
theorem dX0_walk_17 : decode cX0_walk 17 = .ok (.istore_n 2, 1) := by decide +kernel
theorem dX0_walk_18 : decode cX0_walk 18 = .ok (.iload_n 2, 1) := by decide +kernel
theorem dX0_walk_19 : decode cX0_walk 19 = .ok (.aload_n 0, 1) := by decide +kernel
theorem dX0_walk_20 : decode cX0_walk 20 = .ok (.getfield 56, 3) := by decide +kernel
theorem dX0_walk_23 : decode cX0_walk 23 = .ok (.if_icmp .ge 117, 3) := by decide +kernel
theorem dX0_walk_26 : decode cX0_walk 26 = .ok (.aload_n 0, 1) := by decide +kernel
theorem dX0_walk_27 : decode cX0_walk 27 = .ok (.iload_n 2, 1) := by decide +kernel
theorem dX0_walk_28 : decode cX0_walk 28 = .ok (.invokevirtual 93, 3) := by decide +kernel
theorem dX0_walk_31 : decode cX0_walk 31 = .ok (.iload_n 1, 1) := by decide +kernel
theorem dX0_walk_32 : decode cX0_walk 32 = .ok (.ifCond .ne 13, 3) := by decide +kernel
theorem dX0_walk_35 : decode cX0_walk 35 = .ok (.iload_n 2, 1) := by decide +kernel
theorem dX0_walk_36 : decode cX0_walk 36 = .ok (.aload_n 0, 1) := by decide +kernel
theorem dX0_walk_37 : decode cX0_walk 37 = .ok (.getfield 56, 3) := by decide +kernel
theorem dX0_walk_40 : decode cX0_walk 40 = .ok (.iconst 1, 1) := by decide +kernel
theorem dX0_walk_41 : decode cX0_walk 41 = .ok (.isub, 1) := by decide +kernel
theorem dX0_walk_42 : decode cX0_walk 42 = .ok (.if_icmp .ge 7, 3) := by decide +kernel
theorem dX0_walk_45 : decode cX0_walk 45 = .ok (.iconst 1, 1) := by decide +kernel
theorem dX0_walk_46 : decode cX0_walk 46 = .ok (.goto 4, 3) := by decide +kernel
theorem dX0_walk_49 : decode cX0_walk 49 = .ok (.iconst 0, 1) := by decide +kernel
theorem dX0_walk_50 : decode cX0_walk 50 = .ok (.istore_n 3, 1) := by decide +kernel
theorem dX0_walk_51 : decode cX0_walk 51 = .ok (.aload_n 0, 1) := by decide +kernel
theorem dX0_walk_52 : decode cX0_walk 52 = .ok (.getfield 50, 3) := by decide +kernel
theorem dX0_walk_55 : decode cX0_walk 55 = .ok (.iload_n 2, 1) := by decide +kernel
theorem dX0_walk_56 : decode cX0_walk 56 = .ok (.bipush (-5), 2) := by decide +kernel
theorem dX0_walk_58 : decode cX0_walk 58 = .ok (.iastore, 1) := by decide +kernel
theorem dX0_walk_59 : decode cX0_walk 59 = .ok (.aload_n 0, 1) := by decide +kernel
theorem dX0_walk_60 : decode cX0_walk 60 = .ok (.getfield 53, 3) := by decide +kernel
theorem dX0_walk_63 : decode cX0_walk 63 = .ok (.iload_n 2, 1) := by decide +kernel
theorem dX0_walk_64 : decode cX0_walk 64 = .ok (.iconst 0, 1) := by decide +kernel
theorem dX0_walk_65 : decode cX0_walk 65 = .ok (.iastore, 1) := by decide +kernel
theorem dX0_walk_66 : decode cX0_walk 66 = .ok (.iconst 0, 1) := by decide +kernel
theorem dX0_walk_67 : decode cX0_walk 67 = .ok (.istore 4, 2) := by decide +kernel
theorem dX0_walk_69 : decode cX0_walk 69 = .ok (.iload 4, 2) := by decide +kernel
theorem dX0_walk_71 : decode cX0_walk 71 = .ok (.aload_n 0, 1) := by decide +kernel
theorem dX0_walk_72 : decode cX0_walk 72 = .ok (.getfield 71, 3) := by decide +kernel
theorem dX0_walk_75 : decode cX0_walk 75 = .ok (.if_icmp .ge 59, 3) := by decide +kernel
theorem dX0_walk_78 : decode cX0_walk 78 = .ok (.aload_n 0, 1) := by decide +kernel
theorem dX0_walk_79 : decode cX0_walk 79 = .ok (.getfield 47, 3) := by decide +kernel
theorem dX0_walk_82 : decode cX0_walk 82 = .ok (.iload 4, 2) := by decide +kernel
theorem dX0_walk_84 : decode cX0_walk 84 = .ok (.iaload, 1) := by decide +kernel
theorem dX0_walk_85 : decode cX0_walk 85 = .ok (.aload_n 0, 1) := by decide +kernel
theorem dX0_walk_86 : decode cX0_walk 86 = .ok (.getfield 38, 3) := by decide +kernel
theorem dX0_walk_89 : decode cX0_walk 89 = .ok (.iload 4, 2) := by decide +kernel
theorem dX0_walk_91 : decode cX0_walk 91 = .ok (.iaload, 1) := by decide +kernel
theorem dX0_walk_92 : decode cX0_walk 92 = .ok (.iand, 1) := by decide +kernel
theorem dX0_walk_93 : decode cX0_walk 93 = .ok (.ifCond .eq 35, 3) := by decide +kernel
theorem dX0_walk_96 : decode cX0_walk 96 = .ok (.iload_n 3, 1) := by decide +kernel
theorem dX0_walk_97 : decode cX0_walk 97 = .ok (.ifCond .ne 13, 3) := by decide +kernel
theorem dX0_walk_100 : decode cX0_walk 100 = .ok (.aload_n 0, 1) := by decide +kernel
theorem dX0_walk_101 : decode cX0_walk 101 = .ok (.getfield 17, 3) := by decide +kernel
theorem dX0_walk_104 : decode cX0_walk 104 = .ok (.iload 4, 2) := by decide +kernel
theorem dX0_walk_106 : decode cX0_walk 106 = .ok (.baload, 1) := by decide +kernel
theorem dX0_walk_107 : decode cX0_walk 107 = .ok (.ifCond .ne 21, 3) := by decide +kernel
theorem dX0_walk_110 : decode cX0_walk 110 = .ok (.aload_n 0, 1) := by decide +kernel
theorem dX0_walk_111 : decode cX0_walk 111 = .ok (.getfield 50, 3) := by decide +kernel
end
section
set_option maxRecDepth 100000
theorem dX0_walk_114 : decode cX0_walk 114 = .ok (.iload_n 2, 1) := by decide +kernel
theorem dX0_walk_115 : decode cX0_walk 115 = .ok (.iload 4, 2) := by decide +kernel
theorem dX0_walk_117 : decode cX0_walk 117 = .ok (.iastore, 1) := by decide +kernel
theorem dX0_walk_118 : decode cX0_walk 118 = .ok (.aload_n 0, 1) := by decide +kernel
theorem dX0_walk_119 : decode cX0_walk 119 = .ok (.getfield 53, 3) := by decide +kernel
theorem dX0_walk_122 : decode cX0_walk 122 = .ok (.iload_n 2, 1) := by decide +kernel
theorem dX0_walk_123 : decode cX0_walk 123 = .ok (.dup2, 1) := by decide +kernel
theorem dX0_walk_124 : decode cX0_walk 124 = .ok (.iaload, 1) := by decide +kernel
theorem dX0_walk_125 : decode cX0_walk 125 = .ok (.iconst 1, 1) := by decide +kernel
theorem dX0_walk_126 : decode cX0_walk 126 = .ok (.iadd, 1) := by decide +kernel
theorem dX0_walk_127 : decode cX0_walk 127 = .ok (.iastore, 1) := by decide +kernel
theorem dX0_walk_128 : decode cX0_walk 128 = .ok (.iinc 4 1, 3) := by decide +kernel
theorem dX0_walk_131 : decode cX0_walk 131 = .ok (.goto (-62), 3) := by decide +kernel
theorem dX0_walk_134 : decode cX0_walk 134 = .ok (.iinc 2 1, 3) := by decide +kernel
theorem dX0_walk_137 : decode cX0_walk 137 = .ok (.goto (-119), 3) := by decide +kernel
theorem dX0_walk_140 : decode cX0_walk 140 = .ok (.iconst 1, 1) := by decide +kernel
theorem dX0_walk_141 : decode cX0_walk 141 = .ok (.ireturn, 1) := by decide +kernel
theorem dX0_walkName_0 : decode cX0_walkName 0 = .ok (.iconst 0, 1) := by decide +kernel
theorem dX0_walkName_1 : decode cX0_walkName 1 = .ok (.istore_n 2, 1) := by decide +kernel
theorem dX0_walkName_2 : decode cX0_walkName 2 = .ok (.iload_n 2, 1) := by decide +kernel
theorem dX0_walkName_3 : decode cX0_walkName 3 = .ok (.aload_n 0, 1) := by decide +kernel
theorem dX0_walkName_4 : decode cX0_walkName 4 = .ok (.getfield 71, 3) := by decide +kernel
theorem dX0_walkName_7 : decode cX0_walkName 7 = .ok (.if_icmp .ge 81, 3) := by decide +kernel
theorem dX0_walkName_10 : decode cX0_walkName 10 = .ok (.iload_n 1, 1) := by decide +kernel
theorem dX0_walkName_11 : decode cX0_walkName 11 = .ok (.ifCond .ne 13, 3) := by decide +kernel
theorem dX0_walkName_14 : decode cX0_walkName 14 = .ok (.aload_n 0, 1) := by decide +kernel
theorem dX0_walkName_15 : decode cX0_walkName 15 = .ok (.iload_n 2, 1) := by decide +kernel
theorem dX0_walkName_16 : decode cX0_walkName 16 = .ok (.iconst 1, 1) := by decide +kernel
theorem dX0_walkName_17 : decode cX0_walkName 17 = .ok (.iconst 1, 1) := by decide +kernel
theorem dX0_walkName_18 : decode cX0_walkName 18 = .ok (.invokevirtual 81, 3) := by decide +kernel
theorem dX0_walkName_21 : decode cX0_walkName 21 = .ok (.goto 14, 3) := by decide +kernel
theorem dX0_walkName_24 : decode cX0_walkName 24 = .ok (.aload_n 0, 1) := by decide +kernel
theorem dX0_walkName_25 : decode cX0_walkName 25 = .ok (.iload_n 2, 1) := by decide +kernel
theorem dX0_walkName_26 : decode cX0_walkName 26 = .ok (.aload_n 0, 1) := by decide +kernel
theorem dX0_walkName_27 : decode cX0_walkName 27 = .ok (.getfield 47, 3) := by decide +kernel
theorem dX0_walkName_30 : decode cX0_walkName 30 = .ok (.iload_n 2, 1) := by decide +kernel
theorem dX0_walkName_31 : decode cX0_walkName 31 = .ok (.iaload, 1) := by decide +kernel
theorem dX0_walkName_32 : decode cX0_walkName 32 = .ok (.invokevirtual 85, 3) := by decide +kernel
theorem dX0_walkName_35 : decode cX0_walkName 35 = .ok (.istore_n 3, 1) := by decide +kernel
theorem dX0_walkName_36 : decode cX0_walkName 36 = .ok (.iconst 0, 1) := by decide +kernel
theorem dX0_walkName_37 : decode cX0_walkName 37 = .ok (.istore 4, 2) := by decide +kernel
theorem dX0_walkName_39 : decode cX0_walkName 39 = .ok (.iload 4, 2) := by decide +kernel
theorem dX0_walkName_41 : decode cX0_walkName 41 = .ok (.aload_n 0, 1) := by decide +kernel
theorem dX0_walkName_42 : decode cX0_walkName 42 = .ok (.getfield 41, 3) := by decide +kernel
theorem dX0_walkName_45 : decode cX0_walkName 45 = .ok (.iload_n 1, 1) := by decide +kernel
theorem dX0_walkName_46 : decode cX0_walkName 46 = .ok (.iaload, 1) := by decide +kernel
theorem dX0_walkName_47 : decode cX0_walkName 47 = .ok (.if_icmp .ge 28, 3) := by decide +kernel
theorem dX0_walkName_50 : decode cX0_walkName 50 = .ok (.aload_n 0, 1) := by decide +kernel
theorem dX0_walkName_51 : decode cX0_walkName 51 = .ok (.iload_n 2, 1) := by decide +kernel
theorem dX0_walkName_52 : decode cX0_walkName 52 = .ok (.iload_n 3, 1) := by decide +kernel
theorem dX0_walkName_53 : decode cX0_walkName 53 = .ok (.aload_n 0, 1) := by decide +kernel
theorem dX0_walkName_54 : decode cX0_walkName 54 = .ok (.getfield 44, 3) := by decide +kernel
theorem dX0_walkName_57 : decode cX0_walkName 57 = .ok (.iload_n 1, 1) := by decide +kernel
theorem dX0_walkName_58 : decode cX0_walkName 58 = .ok (.bipush 8, 2) := by decide +kernel
theorem dX0_walkName_60 : decode cX0_walkName 60 = .ok (.imul, 1) := by decide +kernel
theorem dX0_walkName_61 : decode cX0_walkName 61 = .ok (.iload 4, 2) := by decide +kernel
theorem dX0_walkName_63 : decode cX0_walkName 63 = .ok (.iadd, 1) := by decide +kernel
theorem dX0_walkName_64 : decode cX0_walkName 64 = .ok (.iaload, 1) := by decide +kernel
theorem dX0_walkName_65 : decode cX0_walkName 65 = .ok (.invokevirtual 89, 3) := by decide +kernel
theorem dX0_walkName_68 : decode cX0_walkName 68 = .ok (.istore_n 3, 1) := by decide +kernel
theorem dX0_walkName_69 : decode cX0_walkName 69 = .ok (.iinc 4 1, 3) := by decide +kernel
theorem dX0_walkName_72 : decode cX0_walkName 72 = .ok (.goto (-33), 3) := by decide +kernel
theorem dX0_walkName_75 : decode cX0_walkName 75 = .ok (.aload_n 0, 1) := by decide +kernel
theorem dX0_walkName_76 : decode cX0_walkName 76 = .ok (.getfield 47, 3) := by decide +kernel
theorem dX0_walkName_79 : decode cX0_walkName 79 = .ok (.iload_n 2, 1) := by decide +kernel
theorem dX0_walkName_80 : decode cX0_walkName 80 = .ok (.iload_n 3, 1) := by decide +kernel
theorem dX0_walkName_81 : decode cX0_walkName 81 = .ok (.iastore, 1) := by decide +kernel
theorem dX0_walkName_82 : decode cX0_walkName 82 = .ok (.iinc 2 1, 3) := by decide +kernel
theorem dX0_walkName_85 : decode cX0_walkName 85 = .ok (.goto (-83), 3) := by decide +kernel
theorem dX0_walkName_88 : decode cX0_walkName 88 = .ok (.return_, 1) := by decide +kernel
theorem dX0_spread_0 : decode cX0_spread 0 = .ok (.iload_n 2, 1) := by decide +kernel
theorem dX0_spread_1 : decode cX0_spread 1 = .ok (.istore 4, 2) := by decide +kernel
theorem dX0_spread_3 : decode cX0_spread 3 = .ok (.iconst 0, 1) := by decide +kernel
theorem dX0_spread_4 : decode cX0_spread 4 = .ok (.istore 5, 2) := by decide +kernel
theorem dX0_spread_6 : decode cX0_spread 6 = .ok (.iload 5, 2) := by decide +kernel
theorem dX0_spread_8 : decode cX0_spread 8 = .ok (.bipush 10, 2) := by decide +kernel
theorem dX0_spread_10 : decode cX0_spread 10 = .ok (.if_icmp .ge 45, 3) := by decide +kernel
theorem dX0_spread_13 : decode cX0_spread 13 = .ok (.iload 4, 2) := by decide +kernel
theorem dX0_spread_15 : decode cX0_spread 15 = .ok (.iload 4, 2) := by decide +kernel
theorem dX0_spread_17 : decode cX0_spread 17 = .ok (.aload_n 0, 1) := by decide +kernel
theorem dX0_spread_18 : decode cX0_spread 18 = .ok (.getfield 26, 3) := by decide +kernel
theorem dX0_spread_21 : decode cX0_spread 21 = .ok (.iload_n 1, 1) := by decide +kernel
theorem dX0_spread_22 : decode cX0_spread 22 = .ok (.iaload, 1) := by decide +kernel
theorem dX0_spread_23 : decode cX0_spread 23 = .ok (.iand, 1) := by decide +kernel
theorem dX0_spread_24 : decode cX0_spread 24 = .ok (.iconst 1, 1) := by decide +kernel
theorem dX0_spread_25 : decode cX0_spread 25 = .ok (.ishl, 1) := by decide +kernel
theorem dX0_spread_26 : decode cX0_spread 26 = .ok (.ior, 1) := by decide +kernel
theorem dX0_spread_27 : decode cX0_spread 27 = .ok (.istore 4, 2) := by decide +kernel
theorem dX0_spread_29 : decode cX0_spread 29 = .ok (.iload_n 3, 1) := by decide +kernel
theorem dX0_spread_30 : decode cX0_spread 30 = .ok (.ifCond .eq 19, 3) := by decide +kernel
theorem dX0_spread_33 : decode cX0_spread 33 = .ok (.iload 4, 2) := by decide +kernel
theorem dX0_spread_35 : decode cX0_spread 35 = .ok (.iload 4, 2) := by decide +kernel
theorem dX0_spread_37 : decode cX0_spread 37 = .ok (.aload_n 0, 1) := by decide +kernel
theorem dX0_spread_38 : decode cX0_spread 38 = .ok (.getfield 32, 3) := by decide +kernel
theorem dX0_spread_41 : decode cX0_spread 41 = .ok (.iload_n 1, 1) := by decide +kernel
theorem dX0_spread_42 : decode cX0_spread 42 = .ok (.iaload, 1) := by decide +kernel
theorem dX0_spread_43 : decode cX0_spread 43 = .ok (.iand, 1) := by decide +kernel
theorem dX0_spread_44 : decode cX0_spread 44 = .ok (.iconst 2, 1) := by decide +kernel
theorem dX0_spread_45 : decode cX0_spread 45 = .ok (.ishl, 1) := by decide +kernel
theorem dX0_spread_46 : decode cX0_spread 46 = .ok (.ior, 1) := by decide +kernel
theorem dX0_spread_47 : decode cX0_spread 47 = .ok (.istore 4, 2) := by decide +kernel
theorem dX0_spread_49 : decode cX0_spread 49 = .ok (.iinc 5 1, 3) := by decide +kernel
theorem dX0_spread_52 : decode cX0_spread 52 = .ok (.goto (-46), 3) := by decide +kernel
theorem dX0_spread_55 : decode cX0_spread 55 = .ok (.iload 4, 2) := by decide +kernel
theorem dX0_spread_57 : decode cX0_spread 57 = .ok (.ireturn, 1) := by decide +kernel
theorem dX0_onBorder_0 : decode cX0_onBorder 0 = .ok (.aload_n 0, 1) := by decide +kernel
theorem dX0_onBorder_1 : decode cX0_onBorder 1 = .ok (.getfield 20, 3) := by decide +kernel
theorem dX0_onBorder_4 : decode cX0_onBorder 4 = .ok (.iload_n 1, 1) := by decide +kernel
theorem dX0_onBorder_5 : decode cX0_onBorder 5 = .ok (.baload, 1) := by decide +kernel
theorem dX0_onBorder_6 : decode cX0_onBorder 6 = .ok (.ifCond .eq 7, 3) := by decide +kernel
theorem dX0_onBorder_9 : decode cX0_onBorder 9 = .ok (.iconst 1, 1) := by decide +kernel
theorem dX0_onBorder_10 : decode cX0_onBorder 10 = .ok (.goto 22, 3) := by decide +kernel
theorem dX0_onBorder_13 : decode cX0_onBorder 13 = .ok (.iload_n 2, 1) := by decide +kernel
theorem dX0_onBorder_14 : decode cX0_onBorder 14 = .ok (.aload_n 0, 1) := by decide +kernel
theorem dX0_onBorder_15 : decode cX0_onBorder 15 = .ok (.getfield 29, 3) := by decide +kernel
theorem dX0_onBorder_18 : decode cX0_onBorder 18 = .ok (.iload_n 1, 1) := by decide +kernel
theorem dX0_onBorder_19 : decode cX0_onBorder 19 = .ok (.iaload, 1) := by decide +kernel
theorem dX0_onBorder_20 : decode cX0_onBorder 20 = .ok (.iand, 1) := by decide +kernel
theorem dX0_onBorder_21 : decode cX0_onBorder 21 = .ok (.iconst 1, 1) := by decide +kernel
theorem dX0_onBorder_22 : decode cX0_onBorder 22 = .ok (.ishl, 1) := by decide +kernel
theorem dX0_onBorder_23 : decode cX0_onBorder 23 = .ok (.iload_n 2, 1) := by decide +kernel
theorem dX0_onBorder_24 : decode cX0_onBorder 24 = .ok (.aload_n 0, 1) := by decide +kernel
theorem dX0_onBorder_25 : decode cX0_onBorder 25 = .ok (.getfield 35, 3) := by decide +kernel
theorem dX0_onBorder_28 : decode cX0_onBorder 28 = .ok (.iload_n 1, 1) := by decide +kernel
theorem dX0_onBorder_29 : decode cX0_onBorder 29 = .ok (.iaload, 1) := by decide +kernel
theorem dX0_onBorder_30 : decode cX0_onBorder 30 = .ok (.iand, 1) := by decide +kernel
theorem dX0_onBorder_31 : decode cX0_onBorder 31 = .ok (.ior, 1) := by decide +kernel
theorem dX0_onBorder_32 : decode cX0_onBorder 32 = .ok (.istore_n 3, 1) := by decide +kernel
theorem dX0_onBorder_33 : decode cX0_onBorder 33 = .ok (.aload_n 0, 1) := by decide +kernel
theorem dX0_onBorder_34 : decode cX0_onBorder 34 = .ok (.iload_n 1, 1) := by decide +kernel
theorem dX0_onBorder_35 : decode cX0_onBorder 35 = .ok (.iload_n 3, 1) := by decide +kernel
theorem dX0_onBorder_36 : decode cX0_onBorder 36 = .ok (.iconst 1, 1) := by decide +kernel
theorem dX0_onBorder_37 : decode cX0_onBorder 37 = .ok (.invokevirtual 81, 3) := by decide +kernel
theorem dX0_onBorder_40 : decode cX0_onBorder 40 = .ok (.ireturn, 1) := by decide +kernel
theorem dX0_onLetter_0 : decode cX0_onLetter 0 = .ok (.aload_n 0, 1) := by decide +kernel
theorem dX0_onLetter_1 : decode cX0_onLetter 1 = .ok (.getfield 23, 3) := by decide +kernel
theorem dX0_onLetter_4 : decode cX0_onLetter 4 = .ok (.iload_n 1, 1) := by decide +kernel
theorem dX0_onLetter_5 : decode cX0_onLetter 5 = .ok (.bipush 7, 2) := by decide +kernel
theorem dX0_onLetter_7 : decode cX0_onLetter 7 = .ok (.imul, 1) := by decide +kernel
theorem dX0_onLetter_8 : decode cX0_onLetter 8 = .ok (.iaload, 1) := by decide +kernel
theorem dX0_onLetter_9 : decode cX0_onLetter 9 = .ok (.aload_n 0, 1) := by decide +kernel
theorem dX0_onLetter_10 : decode cX0_onLetter 10 = .ok (.getfield 23, 3) := by decide +kernel
theorem dX0_onLetter_13 : decode cX0_onLetter 13 = .ok (.iload_n 1, 1) := by decide +kernel
theorem dX0_onLetter_14 : decode cX0_onLetter 14 = .ok (.bipush 7, 2) := by decide +kernel
theorem dX0_onLetter_16 : decode cX0_onLetter 16 = .ok (.imul, 1) := by decide +kernel
theorem dX0_onLetter_17 : decode cX0_onLetter 17 = .ok (.iload_n 3, 1) := by decide +kernel
theorem dX0_onLetter_18 : decode cX0_onLetter 18 = .ok (.iadd, 1) := by decide +kernel
theorem dX0_onLetter_19 : decode cX0_onLetter 19 = .ok (.iaload, 1) := by decide +kernel
theorem dX0_onLetter_20 : decode cX0_onLetter 20 = .ok (.ior, 1) := by decide +kernel
theorem dX0_onLetter_21 : decode cX0_onLetter 21 = .ok (.istore 4, 2) := by decide +kernel
theorem dX0_onLetter_23 : decode cX0_onLetter 23 = .ok (.iload_n 2, 1) := by decide +kernel
theorem dX0_onLetter_24 : decode cX0_onLetter 24 = .ok (.iload 4, 2) := by decide +kernel
theorem dX0_onLetter_26 : decode cX0_onLetter 26 = .ok (.iand, 1) := by decide +kernel
theorem dX0_onLetter_27 : decode cX0_onLetter 27 = .ok (.iconst 1, 1) := by decide +kernel
theorem dX0_onLetter_28 : decode cX0_onLetter 28 = .ok (.ishl, 1) := by decide +kernel
theorem dX0_onLetter_29 : decode cX0_onLetter 29 = .ok (.iload_n 2, 1) := by decide +kernel
theorem dX0_onLetter_30 : decode cX0_onLetter 30 = .ok (.aload_n 0, 1) := by decide +kernel
theorem dX0_onLetter_31 : decode cX0_onLetter 31 = .ok (.getfield 26, 3) := by decide +kernel
theorem dX0_onLetter_34 : decode cX0_onLetter 34 = .ok (.iload_n 1, 1) := by decide +kernel
theorem dX0_onLetter_35 : decode cX0_onLetter 35 = .ok (.iaload, 1) := by decide +kernel
theorem dX0_onLetter_36 : decode cX0_onLetter 36 = .ok (.aload_n 0, 1) := by decide +kernel
theorem dX0_onLetter_37 : decode cX0_onLetter 37 = .ok (.getfield 35, 3) := by decide +kernel
theorem dX0_onLetter_40 : decode cX0_onLetter 40 = .ok (.iload_n 1, 1) := by decide +kernel
theorem dX0_onLetter_41 : decode cX0_onLetter 41 = .ok (.iaload, 1) := by decide +kernel
theorem dX0_onLetter_42 : decode cX0_onLetter 42 = .ok (.ior, 1) := by decide +kernel
theorem dX0_onLetter_43 : decode cX0_onLetter 43 = .ok (.iand, 1) := by decide +kernel
theorem dX0_onLetter_44 : decode cX0_onLetter 44 = .ok (.ior, 1) := by decide +kernel
theorem dX0_onLetter_45 : decode cX0_onLetter 45 = .ok (.istore 5, 2) := by decide +kernel
theorem dX0_onLetter_47 : decode cX0_onLetter 47 = .ok (.aload_n 0, 1) := by decide +kernel
theorem dX0_onLetter_48 : decode cX0_onLetter 48 = .ok (.iload_n 1, 1) := by decide +kernel
theorem dX0_onLetter_49 : decode cX0_onLetter 49 = .ok (.iload 5, 2) := by decide +kernel
theorem dX0_onLetter_51 : decode cX0_onLetter 51 = .ok (.iconst 0, 1) := by decide +kernel
theorem dX0_onLetter_52 : decode cX0_onLetter 52 = .ok (.invokevirtual 81, 3) := by decide +kernel
theorem dX0_onLetter_55 : decode cX0_onLetter 55 = .ok (.ireturn, 1) := by decide +kernel
theorem dX0_firstIgnored_0 : decode cX0_firstIgnored 0 = .ok (.iconst 0, 1) := by decide +kernel
theorem dX0_firstIgnored_1 : decode cX0_firstIgnored 1 = .ok (.istore_n 1, 1) := by decide +kernel
theorem dX0_firstIgnored_2 : decode cX0_firstIgnored 2 = .ok (.iload_n 1, 1) := by decide +kernel
theorem dX0_firstIgnored_3 : decode cX0_firstIgnored 3 = .ok (.aload_n 0, 1) := by decide +kernel
theorem dX0_firstIgnored_4 : decode cX0_firstIgnored 4 = .ok (.getfield 56, 3) := by decide +kernel
theorem dX0_firstIgnored_7 : decode cX0_firstIgnored 7 = .ok (.if_icmp .ge 36, 3) := by decide +kernel
theorem dX0_firstIgnored_10 : decode cX0_firstIgnored 10 = .ok (.aload_n 0, 1) := by decide +kernel
theorem dX0_firstIgnored_11 : decode cX0_firstIgnored 11 = .ok (.getfield 50, 3) := by decide +kernel
theorem dX0_firstIgnored_14 : decode cX0_firstIgnored 14 = .ok (.iload_n 1, 1) := by decide +kernel
theorem dX0_firstIgnored_15 : decode cX0_firstIgnored 15 = .ok (.iaload, 1) := by decide +kernel
theorem dX0_firstIgnored_16 : decode cX0_firstIgnored 16 = .ok (.ifCond .lt 21, 3) := by decide +kernel
theorem dX0_firstIgnored_19 : decode cX0_firstIgnored 19 = .ok (.aload_n 0, 1) := by decide +kernel
theorem dX0_firstIgnored_20 : decode cX0_firstIgnored 20 = .ok (.getfield 13, 3) := by decide +kernel
theorem dX0_firstIgnored_23 : decode cX0_firstIgnored 23 = .ok (.aload_n 0, 1) := by decide +kernel
theorem dX0_firstIgnored_24 : decode cX0_firstIgnored 24 = .ok (.getfield 50, 3) := by decide +kernel
theorem dX0_firstIgnored_27 : decode cX0_firstIgnored 27 = .ok (.iload_n 1, 1) := by decide +kernel
theorem dX0_firstIgnored_28 : decode cX0_firstIgnored 28 = .ok (.iaload, 1) := by decide +kernel
theorem dX0_firstIgnored_29 : decode cX0_firstIgnored 29 = .ok (.baload, 1) := by decide +kernel
theorem dX0_firstIgnored_30 : decode cX0_firstIgnored 30 = .ok (.ifCond .ne 7, 3) := by decide +kernel
theorem dX0_firstIgnored_33 : decode cX0_firstIgnored 33 = .ok (.iload_n 1, 1) := by decide +kernel
theorem dX0_firstIgnored_34 : decode cX0_firstIgnored 34 = .ok (.iconst 1, 1) := by decide +kernel
theorem dX0_firstIgnored_35 : decode cX0_firstIgnored 35 = .ok (.iadd, 1) := by decide +kernel
theorem dX0_firstIgnored_36 : decode cX0_firstIgnored 36 = .ok (.ireturn, 1) := by decide +kernel
theorem dX0_firstIgnored_37 : decode cX0_firstIgnored 37 = .ok (.iinc 1 1, 3) := by decide +kernel
theorem dX0_firstIgnored_40 : decode cX0_firstIgnored 40 = .ok (.goto (-38), 3) := by decide +kernel
theorem dX0_firstIgnored_43 : decode cX0_firstIgnored 43 = .ok (.bipush (-5), 2) := by decide +kernel
theorem dX0_firstIgnored_45 : decode cX0_firstIgnored 45 = .ok (.ireturn, 1) := by decide +kernel
theorem dX0_lastMatch_0 : decode cX0_lastMatch 0 = .ok (.aload_n 0, 1) := by decide +kernel
theorem dX0_lastMatch_1 : decode cX0_lastMatch 1 = .ok (.iload_n 1, 1) := by decide +kernel
theorem dX0_lastMatch_2 : decode cX0_lastMatch 2 = .ok (.invokevirtual 97, 3) := by decide +kernel
theorem dX0_lastMatch_5 : decode cX0_lastMatch 5 = .ok (.istore_n 2, 1) := by decide +kernel
theorem dX0_lastMatch_6 : decode cX0_lastMatch 6 = .ok (.iload_n 2, 1) := by decide +kernel
theorem dX0_lastMatch_7 : decode cX0_lastMatch 7 = .ok (.ifCond .eq 17, 3) := by decide +kernel
theorem dX0_lastMatch_10 : decode cX0_lastMatch 10 = .ok (.aload_n 0, 1) := by decide +kernel
theorem dX0_lastMatch_11 : decode cX0_lastMatch 11 = .ok (.getfield 50, 3) := by decide +kernel
theorem dX0_lastMatch_14 : decode cX0_lastMatch 14 = .ok (.aload_n 0, 1) := by decide +kernel
theorem dX0_lastMatch_15 : decode cX0_lastMatch 15 = .ok (.getfield 56, 3) := by decide +kernel
theorem dX0_lastMatch_18 : decode cX0_lastMatch 18 = .ok (.iconst 1, 1) := by decide +kernel
theorem dX0_lastMatch_19 : decode cX0_lastMatch 19 = .ok (.isub, 1) := by decide +kernel
theorem dX0_lastMatch_20 : decode cX0_lastMatch 20 = .ok (.iaload, 1) := by decide +kernel
theorem dX0_lastMatch_21 : decode cX0_lastMatch 21 = .ok (.goto 5, 3) := by decide +kernel
theorem dX0_lastMatch_24 : decode cX0_lastMatch 24 = .ok (.bipush (-5), 2) := by decide +kernel
theorem dX0_lastMatch_26 : decode cX0_lastMatch 26 = .ok (.ireturn, 1) := by decide +kernel
theorem dX0_matches_0 : decode cX0_matches 0 = .ok (.aload_n 0, 1) := by decide +kernel
theorem dX0_matches_1 : decode cX0_matches 1 = .ok (.iload_n 1, 1) := by decide +kernel
theorem dX0_matches_2 : decode cX0_matches 2 = .ok (.invokevirtual 97, 3) := by decide +kernel
theorem dX0_matches_5 : decode cX0_matches 5 = .ok (.istore_n 2, 1) := by decide +kernel
theorem dX0_matches_6 : decode cX0_matches 6 = .ok (.iload_n 2, 1) := by decide +kernel
theorem dX0_matches_7 : decode cX0_matches 7 = .ok (.ifCond .eq 17, 3) := by decide +kernel
theorem dX0_matches_10 : decode cX0_matches 10 = .ok (.aload_n 0, 1) := by decide +kernel
theorem dX0_matches_11 : decode cX0_matches 11 = .ok (.getfield 53, 3) := by decide +kernel
theorem dX0_matches_14 : decode cX0_matches 14 = .ok (.aload_n 0, 1) := by decide +kernel
theorem dX0_matches_15 : decode cX0_matches 15 = .ok (.getfield 56, 3) := by decide +kernel
theorem dX0_matches_18 : decode cX0_matches 18 = .ok (.iconst 1, 1) := by decide +kernel
theorem dX0_matches_19 : decode cX0_matches 19 = .ok (.isub, 1) := by decide +kernel
theorem dX0_matches_20 : decode cX0_matches 20 = .ok (.iaload, 1) := by decide +kernel
theorem dX0_matches_21 : decode cX0_matches 21 = .ok (.goto 4, 3) := by decide +kernel
theorem dX0_matches_24 : decode cX0_matches 24 = .ok (.iconst 0, 1) := by decide +kernel
theorem dX0_matches_25 : decode cX0_matches 25 = .ok (.ireturn, 1) := by decide +kernel
theorem dX0_cutAt_0 : decode cX0_cutAt 0 = .ok (.aload_n 0, 1) := by decide +kernel
theorem dX0_cutAt_1 : decode cX0_cutAt 1 = .ok (.iload_n 1, 1) := by decide +kernel
theorem dX0_cutAt_2 : decode cX0_cutAt 2 = .ok (.invokevirtual 97, 3) := by decide +kernel
theorem dX0_cutAt_5 : decode cX0_cutAt 5 = .ok (.istore_n 2, 1) := by decide +kernel
theorem dX0_cutAt_6 : decode cX0_cutAt 6 = .ok (.iload_n 2, 1) := by decide +kernel
theorem dX0_cutAt_7 : decode cX0_cutAt 7 = .ok (.ifCond .eq 10, 3) := by decide +kernel
theorem dX0_cutAt_10 : decode cX0_cutAt 10 = .ok (.aload_n 0, 1) := by decide +kernel
theorem dX0_cutAt_11 : decode cX0_cutAt 11 = .ok (.invokevirtual 101, 3) := by decide +kernel
theorem dX0_cutAt_14 : decode cX0_cutAt 14 = .ok (.goto 5, 3) := by decide +kernel
theorem dX0_cutAt_17 : decode cX0_cutAt 17 = .ok (.bipush (-5), 2) := by decide +kernel
theorem dX0_cutAt_19 : decode cX0_cutAt 19 = .ok (.ireturn, 1) := by decide +kernel
theorem dX0_rules_0 : decode cX0_rules 0 = .ok (.aload_n 0, 1) := by decide +kernel
theorem dX0_rules_1 : decode cX0_rules 1 = .ok (.getfield 71, 3) := by decide +kernel
theorem dX0_rules_4 : decode cX0_rules 4 = .ok (.ireturn, 1) := by decide +kernel
end
section
set_option maxRecDepth 100000
theorem dX1_init_0 : decode cX1_init 0 = .ok (.aload_n 0, 1) := by decide +kernel
theorem dX1_init_1 : decode cX1_init 1 = .ok (.invokespecial 1, 3) := by decide +kernel
theorem dX1_init_4 : decode cX1_init 4 = .ok (.aload_n 0, 1) := by decide +kernel
theorem dX1_init_5 : decode cX1_init 5 = .ok (.bipush 10, 2) := by decide +kernel
theorem dX1_init_7 : decode cX1_init 7 = .ok (.newarray .int, 2) := by decide +kernel
theorem dX1_init_9 : decode cX1_init 9 = .ok (.putfield 7, 3) := by decide +kernel
theorem dX1_init_12 : decode cX1_init 12 = .ok (.aload_n 0, 1) := by decide +kernel
theorem dX1_init_13 : decode cX1_init 13 = .ok (.bipush 120, 2) := by decide +kernel
theorem dX1_init_15 : decode cX1_init 15 = .ok (.newarray .int, 2) := by decide +kernel
theorem dX1_init_17 : decode cX1_init 17 = .ok (.putfield 13, 3) := by decide +kernel
theorem dX1_init_20 : decode cX1_init 20 = .ok (.aload_n 0, 1) := by decide +kernel
theorem dX1_init_21 : decode cX1_init 21 = .ok (.bipush 12, 2) := by decide +kernel
theorem dX1_init_23 : decode cX1_init 23 = .ok (.newarray .int, 2) := by decide +kernel
theorem dX1_init_25 : decode cX1_init 25 = .ok (.putfield 16, 3) := by decide +kernel
theorem dX1_init_28 : decode cX1_init 28 = .ok (.aload_n 0, 1) := by decide +kernel
theorem dX1_init_29 : decode cX1_init 29 = .ok (.bipush 12, 2) := by decide +kernel
theorem dX1_init_31 : decode cX1_init 31 = .ok (.newarray .int, 2) := by decide +kernel
theorem dX1_init_33 : decode cX1_init 33 = .ok (.putfield 19, 3) := by decide +kernel
theorem dX1_init_36 : decode cX1_init 36 = .ok (.aload_n 0, 1) := by decide +kernel
theorem dX1_init_37 : decode cX1_init 37 = .ok (.bipush 48, 2) := by decide +kernel
theorem dX1_init_39 : decode cX1_init 39 = .ok (.newarray .int, 2) := by decide +kernel
theorem dX1_init_41 : decode cX1_init 41 = .ok (.putfield 22, 3) := by decide +kernel
theorem dX1_init_44 : decode cX1_init 44 = .ok (.aload_n 0, 1) := by decide +kernel
theorem dX1_init_45 : decode cX1_init 45 = .ok (.bipush 6, 2) := by decide +kernel
theorem dX1_init_47 : decode cX1_init 47 = .ok (.newarray .int, 2) := by decide +kernel
theorem dX1_init_49 : decode cX1_init 49 = .ok (.putfield 25, 3) := by decide +kernel
theorem dX1_init_52 : decode cX1_init 52 = .ok (.aload_n 0, 1) := by decide +kernel
theorem dX1_init_53 : decode cX1_init 53 = .ok (.iconst 1, 1) := by decide +kernel
theorem dX1_init_54 : decode cX1_init 54 = .ok (.putfield 28, 3) := by decide +kernel
theorem dX1_init_57 : decode cX1_init 57 = .ok (.aload_n 0, 1) := by decide +kernel
theorem dX1_init_58 : decode cX1_init 58 = .ok (.bipush 11, 2) := by decide +kernel
theorem dX1_init_60 : decode cX1_init 60 = .ok (.newarray .int, 2) := by decide +kernel
theorem dX1_init_62 : decode cX1_init 62 = .ok (.putfield 32, 3) := by decide +kernel
theorem dX1_init_65 : decode cX1_init 65 = .ok (.aload_n 0, 1) := by decide +kernel
theorem dX1_init_66 : decode cX1_init 66 = .ok (.bipush 11, 2) := by decide +kernel
theorem dX1_init_68 : decode cX1_init 68 = .ok (.newarray .int, 2) := by decide +kernel
theorem dX1_init_70 : decode cX1_init 70 = .ok (.putfield 35, 3) := by decide +kernel
theorem dX1_init_73 : decode cX1_init 73 = .ok (.aload_n 0, 1) := by decide +kernel
theorem dX1_init_74 : decode cX1_init 74 = .ok (.bipush 121, 2) := by decide +kernel
theorem dX1_init_76 : decode cX1_init 76 = .ok (.newarray .boolean, 2) := by decide +kernel
theorem dX1_init_78 : decode cX1_init 78 = .ok (.putfield 38, 3) := by decide +kernel
theorem dX1_init_81 : decode cX1_init 81 = .ok (.aload_n 0, 1) := by decide +kernel
theorem dX1_init_82 : decode cX1_init 82 = .ok (.bipush 121, 2) := by decide +kernel
theorem dX1_init_84 : decode cX1_init 84 = .ok (.newarray .boolean, 2) := by decide +kernel
theorem dX1_init_86 : decode cX1_init 86 = .ok (.putfield 42, 3) := by decide +kernel
theorem dX1_init_89 : decode cX1_init 89 = .ok (.return_, 1) := by decide +kernel
theorem dX1_pattern_0 : decode cX1_pattern 0 = .ok (.iload_n 1, 1) := by decide +kernel
theorem dX1_pattern_1 : decode cX1_pattern 1 = .ok (.iconst 1, 1) := by decide +kernel
theorem dX1_pattern_2 : decode cX1_pattern 2 = .ok (.if_icmp .lt 9, 3) := by decide +kernel
theorem dX1_pattern_5 : decode cX1_pattern 5 = .ok (.iload_n 1, 1) := by decide +kernel
theorem dX1_pattern_6 : decode cX1_pattern 6 = .ok (.bipush 10, 2) := by decide +kernel
theorem dX1_pattern_8 : decode cX1_pattern 8 = .ok (.if_icmp .le 5, 3) := by decide +kernel
theorem dX1_pattern_11 : decode cX1_pattern 11 = .ok (.iconst (-1), 1) := by decide +kernel
theorem dX1_pattern_12 : decode cX1_pattern 12 = .ok (.ireturn, 1) := by decide +kernel
theorem dX1_pattern_13 : decode cX1_pattern 13 = .ok (.aload_n 0, 1) := by decide +kernel
theorem dX1_pattern_14 : decode cX1_pattern 14 = .ok (.getfield 45, 3) := by decide +kernel
theorem dX1_pattern_17 : decode cX1_pattern 17 = .ok (.bipush 10, 2) := by decide +kernel
theorem dX1_pattern_19 : decode cX1_pattern 19 = .ok (.if_icmp .ne 6, 3) := by decide +kernel
theorem dX1_pattern_22 : decode cX1_pattern 22 = .ok (.bipush (-2), 2) := by decide +kernel
theorem dX1_pattern_24 : decode cX1_pattern 24 = .ok (.ireturn, 1) := by decide +kernel
theorem dX1_pattern_25 : decode cX1_pattern 25 = .ok (.aload_n 0, 1) := by decide +kernel
theorem dX1_pattern_26 : decode cX1_pattern 26 = .ok (.getfield 7, 3) := by decide +kernel
theorem dX1_pattern_29 : decode cX1_pattern 29 = .ok (.aload_n 0, 1) := by decide +kernel
theorem dX1_pattern_30 : decode cX1_pattern 30 = .ok (.getfield 45, 3) := by decide +kernel
theorem dX1_pattern_33 : decode cX1_pattern 33 = .ok (.iload_n 1, 1) := by decide +kernel
theorem dX1_pattern_34 : decode cX1_pattern 34 = .ok (.iastore, 1) := by decide +kernel
theorem dX1_pattern_35 : decode cX1_pattern 35 = .ok (.aload_n 0, 1) := by decide +kernel
theorem dX1_pattern_36 : decode cX1_pattern 36 = .ok (.dup, 1) := by decide +kernel
theorem dX1_pattern_37 : decode cX1_pattern 37 = .ok (.getfield 45, 3) := by decide +kernel
theorem dX1_pattern_40 : decode cX1_pattern 40 = .ok (.iconst 1, 1) := by decide +kernel
theorem dX1_pattern_41 : decode cX1_pattern 41 = .ok (.iadd, 1) := by decide +kernel
theorem dX1_pattern_42 : decode cX1_pattern 42 = .ok (.putfield 45, 3) := by decide +kernel
theorem dX1_pattern_45 : decode cX1_pattern 45 = .ok (.aload_n 0, 1) := by decide +kernel
theorem dX1_pattern_46 : decode cX1_pattern 46 = .ok (.getfield 45, 3) := by decide +kernel
theorem dX1_pattern_49 : decode cX1_pattern 49 = .ok (.ireturn, 1) := by decide +kernel
theorem dX1_rule_0 : decode cX1_rule 0 = .ok (.aload_n 0, 1) := by decide +kernel
theorem dX1_rule_1 : decode cX1_rule 1 = .ok (.invokevirtual 48, 3) := by decide +kernel
theorem dX1_rule_4 : decode cX1_rule 4 = .ok (.istore_n 2, 1) := by decide +kernel
theorem dX1_rule_5 : decode cX1_rule 5 = .ok (.aload_n 0, 1) := by decide +kernel
theorem dX1_rule_6 : decode cX1_rule 6 = .ok (.getfield 45, 3) := by decide +kernel
theorem dX1_rule_9 : decode cX1_rule 9 = .ok (.istore_n 3, 1) := by decide +kernel
theorem dX1_rule_10 : decode cX1_rule 10 = .ok (.aload_n 0, 1) := by decide +kernel
theorem dX1_rule_11 : decode cX1_rule 11 = .ok (.iconst 0, 1) := by decide +kernel
theorem dX1_rule_12 : decode cX1_rule 12 = .ok (.putfield 45, 3) := by decide +kernel
theorem dX1_rule_15 : decode cX1_rule 15 = .ok (.iload_n 2, 1) := by decide +kernel
theorem dX1_rule_16 : decode cX1_rule 16 = .ok (.ifCond .ne 6, 3) := by decide +kernel
theorem dX1_rule_19 : decode cX1_rule 19 = .ok (.bipush (-3), 2) := by decide +kernel
theorem dX1_rule_21 : decode cX1_rule 21 = .ok (.ireturn, 1) := by decide +kernel
theorem dX1_rule_22 : decode cX1_rule 22 = .ok (.aload_n 0, 1) := by decide +kernel
theorem dX1_rule_23 : decode cX1_rule 23 = .ok (.getfield 52, 3) := by decide +kernel
theorem dX1_rule_26 : decode cX1_rule 26 = .ok (.bipush 12, 2) := by decide +kernel
theorem dX1_rule_28 : decode cX1_rule 28 = .ok (.if_icmp .ne 6, 3) := by decide +kernel
theorem dX1_rule_31 : decode cX1_rule 31 = .ok (.bipush (-2), 2) := by decide +kernel
theorem dX1_rule_33 : decode cX1_rule 33 = .ok (.ireturn, 1) := by decide +kernel
theorem dX1_rule_34 : decode cX1_rule 34 = .ok (.iconst 0, 1) := by decide +kernel
theorem dX1_rule_35 : decode cX1_rule 35 = .ok (.istore 4, 2) := by decide +kernel
theorem dX1_rule_37 : decode cX1_rule 37 = .ok (.iload 4, 2) := by decide +kernel
theorem dX1_rule_39 : decode cX1_rule 39 = .ok (.iload_n 3, 1) := by decide +kernel
theorem dX1_rule_40 : decode cX1_rule 40 = .ok (.if_icmp .ge 31, 3) := by decide +kernel
theorem dX1_rule_43 : decode cX1_rule 43 = .ok (.aload_n 0, 1) := by decide +kernel
theorem dX1_rule_44 : decode cX1_rule 44 = .ok (.getfield 13, 3) := by decide +kernel
theorem dX1_rule_47 : decode cX1_rule 47 = .ok (.aload_n 0, 1) := by decide +kernel
theorem dX1_rule_48 : decode cX1_rule 48 = .ok (.getfield 52, 3) := by decide +kernel
theorem dX1_rule_51 : decode cX1_rule 51 = .ok (.bipush 10, 2) := by decide +kernel
theorem dX1_rule_53 : decode cX1_rule 53 = .ok (.imul, 1) := by decide +kernel
theorem dX1_rule_54 : decode cX1_rule 54 = .ok (.iload 4, 2) := by decide +kernel
theorem dX1_rule_56 : decode cX1_rule 56 = .ok (.iadd, 1) := by decide +kernel
theorem dX1_rule_57 : decode cX1_rule 57 = .ok (.aload_n 0, 1) := by decide +kernel
theorem dX1_rule_58 : decode cX1_rule 58 = .ok (.getfield 7, 3) := by decide +kernel
theorem dX1_rule_61 : decode cX1_rule 61 = .ok (.iload 4, 2) := by decide +kernel
theorem dX1_rule_63 : decode cX1_rule 63 = .ok (.iaload, 1) := by decide +kernel
theorem dX1_rule_64 : decode cX1_rule 64 = .ok (.iastore, 1) := by decide +kernel
theorem dX1_rule_65 : decode cX1_rule 65 = .ok (.iinc 4 1, 3) := by decide +kernel
theorem dX1_rule_68 : decode cX1_rule 68 = .ok (.goto (-31), 3) := by decide +kernel
theorem dX1_rule_71 : decode cX1_rule 71 = .ok (.aload_n 0, 1) := by decide +kernel
theorem dX1_rule_72 : decode cX1_rule 72 = .ok (.getfield 16, 3) := by decide +kernel
theorem dX1_rule_75 : decode cX1_rule 75 = .ok (.aload_n 0, 1) := by decide +kernel
theorem dX1_rule_76 : decode cX1_rule 76 = .ok (.getfield 52, 3) := by decide +kernel
theorem dX1_rule_79 : decode cX1_rule 79 = .ok (.iload_n 3, 1) := by decide +kernel
theorem dX1_rule_80 : decode cX1_rule 80 = .ok (.iastore, 1) := by decide +kernel
theorem dX1_rule_81 : decode cX1_rule 81 = .ok (.aload_n 0, 1) := by decide +kernel
theorem dX1_rule_82 : decode cX1_rule 82 = .ok (.getfield 19, 3) := by decide +kernel
theorem dX1_rule_85 : decode cX1_rule 85 = .ok (.aload_n 0, 1) := by decide +kernel
theorem dX1_rule_86 : decode cX1_rule 86 = .ok (.getfield 52, 3) := by decide +kernel
theorem dX1_rule_89 : decode cX1_rule 89 = .ok (.iload_n 1, 1) := by decide +kernel
theorem dX1_rule_90 : decode cX1_rule 90 = .ok (.bipush 7, 2) := by decide +kernel
theorem dX1_rule_92 : decode cX1_rule 92 = .ok (.iand, 1) := by decide +kernel
theorem dX1_rule_93 : decode cX1_rule 93 = .ok (.iastore, 1) := by decide +kernel
theorem dX1_rule_94 : decode cX1_rule 94 = .ok (.aload_n 0, 1) := by decide +kernel
theorem dX1_rule_95 : decode cX1_rule 95 = .ok (.dup, 1) := by decide +kernel
theorem dX1_rule_96 : decode cX1_rule 96 = .ok (.getfield 52, 3) := by decide +kernel
theorem dX1_rule_99 : decode cX1_rule 99 = .ok (.iconst 1, 1) := by decide +kernel
theorem dX1_rule_100 : decode cX1_rule 100 = .ok (.iadd, 1) := by decide +kernel
theorem dX1_rule_101 : decode cX1_rule 101 = .ok (.putfield 52, 3) := by decide +kernel
theorem dX1_rule_104 : decode cX1_rule 104 = .ok (.aload_n 0, 1) := by decide +kernel
theorem dX1_rule_105 : decode cX1_rule 105 = .ok (.getfield 52, 3) := by decide +kernel
theorem dX1_rule_108 : decode cX1_rule 108 = .ok (.iconst 1, 1) := by decide +kernel
theorem dX1_rule_109 : decode cX1_rule 109 = .ok (.isub, 1) := by decide +kernel
theorem dX1_rule_110 : decode cX1_rule 110 = .ok (.ireturn, 1) := by decide +kernel
theorem dX1_good_0 : decode cX1_good 0 = .ok (.aload_n 0, 1) := by decide +kernel
theorem dX1_good_1 : decode cX1_good 1 = .ok (.getfield 45, 3) := by decide +kernel
theorem dX1_good_4 : decode cX1_good 4 = .ok (.ifCond .eq 30, 3) := by decide +kernel
theorem dX1_good_7 : decode cX1_good 7 = .ok (.aload_n 0, 1) := by decide +kernel
theorem dX1_good_8 : decode cX1_good 8 = .ok (.getfield 7, 3) := by decide +kernel
theorem dX1_good_11 : decode cX1_good 11 = .ok (.iconst 0, 1) := by decide +kernel
theorem dX1_good_12 : decode cX1_good 12 = .ok (.iaload, 1) := by decide +kernel
theorem dX1_good_13 : decode cX1_good 13 = .ok (.bipush 9, 2) := by decide +kernel
theorem dX1_good_15 : decode cX1_good 15 = .ok (.if_icmp .eq 19, 3) := by decide +kernel
theorem dX1_good_18 : decode cX1_good 18 = .ok (.aload_n 0, 1) := by decide +kernel
theorem dX1_good_19 : decode cX1_good 19 = .ok (.getfield 7, 3) := by decide +kernel
theorem dX1_good_22 : decode cX1_good 22 = .ok (.aload_n 0, 1) := by decide +kernel
theorem dX1_good_23 : decode cX1_good 23 = .ok (.getfield 45, 3) := by decide +kernel
theorem dX1_good_26 : decode cX1_good 26 = .ok (.iconst 1, 1) := by decide +kernel
theorem dX1_good_27 : decode cX1_good 27 = .ok (.isub, 1) := by decide +kernel
theorem dX1_good_28 : decode cX1_good 28 = .ok (.iaload, 1) := by decide +kernel
theorem dX1_good_29 : decode cX1_good 29 = .ok (.bipush 9, 2) := by decide +kernel
theorem dX1_good_31 : decode cX1_good 31 = .ok (.if_icmp .ne 5, 3) := by decide +kernel
theorem dX1_good_34 : decode cX1_good 34 = .ok (.iconst 0, 1) := by decide +kernel
theorem dX1_good_35 : decode cX1_good 35 = .ok (.ireturn, 1) := by decide +kernel
theorem dX1_good_36 : decode cX1_good 36 = .ok (.iconst 0, 1) := by decide +kernel
theorem dX1_good_37 : decode cX1_good 37 = .ok (.istore_n 1, 1) := by decide +kernel
theorem dX1_good_38 : decode cX1_good 38 = .ok (.iload_n 1, 1) := by decide +kernel
theorem dX1_good_39 : decode cX1_good 39 = .ok (.aload_n 0, 1) := by decide +kernel
theorem dX1_good_40 : decode cX1_good 40 = .ok (.getfield 45, 3) := by decide +kernel
theorem dX1_good_43 : decode cX1_good 43 = .ok (.if_icmp .ge 99, 3) := by decide +kernel
theorem dX1_good_46 : decode cX1_good 46 = .ok (.iload_n 1, 1) := by decide +kernel
theorem dX1_good_47 : decode cX1_good 47 = .ok (.ifCond .eq 16, 3) := by decide +kernel
theorem dX1_good_50 : decode cX1_good 50 = .ok (.aload_n 0, 1) := by decide +kernel
theorem dX1_good_51 : decode cX1_good 51 = .ok (.getfield 7, 3) := by decide +kernel
theorem dX1_good_54 : decode cX1_good 54 = .ok (.iload_n 1, 1) := by decide +kernel
theorem dX1_good_55 : decode cX1_good 55 = .ok (.iconst 1, 1) := by decide +kernel
theorem dX1_good_56 : decode cX1_good 56 = .ok (.isub, 1) := by decide +kernel
theorem dX1_good_57 : decode cX1_good 57 = .ok (.iaload, 1) := by decide +kernel
theorem dX1_good_58 : decode cX1_good 58 = .ok (.bipush 9, 2) := by decide +kernel
theorem dX1_good_60 : decode cX1_good 60 = .ok (.if_icmp .ne 7, 3) := by decide +kernel
theorem dX1_good_63 : decode cX1_good 63 = .ok (.iconst 1, 1) := by decide +kernel
theorem dX1_good_64 : decode cX1_good 64 = .ok (.goto 4, 3) := by decide +kernel
theorem dX1_good_67 : decode cX1_good 67 = .ok (.iconst 0, 1) := by decide +kernel
theorem dX1_good_68 : decode cX1_good 68 = .ok (.istore_n 2, 1) := by decide +kernel
theorem dX1_good_69 : decode cX1_good 69 = .ok (.iload_n 1, 1) := by decide +kernel
theorem dX1_good_70 : decode cX1_good 70 = .ok (.aload_n 0, 1) := by decide +kernel
theorem dX1_good_71 : decode cX1_good 71 = .ok (.getfield 45, 3) := by decide +kernel
theorem dX1_good_74 : decode cX1_good 74 = .ok (.iconst 1, 1) := by decide +kernel
theorem dX1_good_75 : decode cX1_good 75 = .ok (.isub, 1) := by decide +kernel
theorem dX1_good_76 : decode cX1_good 76 = .ok (.if_icmp .eq 16, 3) := by decide +kernel
theorem dX1_good_79 : decode cX1_good 79 = .ok (.aload_n 0, 1) := by decide +kernel
theorem dX1_good_80 : decode cX1_good 80 = .ok (.getfield 7, 3) := by decide +kernel
theorem dX1_good_83 : decode cX1_good 83 = .ok (.iload_n 1, 1) := by decide +kernel
theorem dX1_good_84 : decode cX1_good 84 = .ok (.iconst 1, 1) := by decide +kernel
theorem dX1_good_85 : decode cX1_good 85 = .ok (.iadd, 1) := by decide +kernel
theorem dX1_good_86 : decode cX1_good 86 = .ok (.iaload, 1) := by decide +kernel
theorem dX1_good_87 : decode cX1_good 87 = .ok (.bipush 9, 2) := by decide +kernel
theorem dX1_good_89 : decode cX1_good 89 = .ok (.if_icmp .ne 7, 3) := by decide +kernel
theorem dX1_good_92 : decode cX1_good 92 = .ok (.iconst 1, 1) := by decide +kernel
theorem dX1_good_93 : decode cX1_good 93 = .ok (.goto 4, 3) := by decide +kernel
theorem dX1_good_96 : decode cX1_good 96 = .ok (.iconst 0, 1) := by decide +kernel
theorem dX1_good_97 : decode cX1_good 97 = .ok (.istore_n 3, 1) := by decide +kernel
theorem dX1_good_98 : decode cX1_good 98 = .ok (.aload_n 0, 1) := by decide +kernel
theorem dX1_good_99 : decode cX1_good 99 = .ok (.getfield 7, 3) := by decide +kernel
theorem dX1_good_102 : decode cX1_good 102 = .ok (.iload_n 1, 1) := by decide +kernel
theorem dX1_good_103 : decode cX1_good 103 = .ok (.iaload, 1) := by decide +kernel
theorem dX1_good_104 : decode cX1_good 104 = .ok (.bipush 9, 2) := by decide +kernel
theorem dX1_good_106 : decode cX1_good 106 = .ok (.if_icmp .ne 9, 3) := by decide +kernel
theorem dX1_good_109 : decode cX1_good 109 = .ok (.iload_n 2, 1) := by decide +kernel
theorem dX1_good_110 : decode cX1_good 110 = .ok (.ifCond .eq 5, 3) := by decide +kernel
theorem dX1_good_113 : decode cX1_good 113 = .ok (.iconst 0, 1) := by decide +kernel
theorem dX1_good_114 : decode cX1_good 114 = .ok (.ireturn, 1) := by decide +kernel
theorem dX1_good_115 : decode cX1_good 115 = .ok (.aload_n 0, 1) := by decide +kernel
theorem dX1_good_116 : decode cX1_good 116 = .ok (.getfield 7, 3) := by decide +kernel
theorem dX1_good_119 : decode cX1_good 119 = .ok (.iload_n 1, 1) := by decide +kernel
theorem dX1_good_120 : decode cX1_good 120 = .ok (.iaload, 1) := by decide +kernel
theorem dX1_good_121 : decode cX1_good 121 = .ok (.bipush 10, 2) := by decide +kernel
theorem dX1_good_123 : decode cX1_good 123 = .ok (.if_icmp .ne 13, 3) := by decide +kernel
theorem dX1_good_126 : decode cX1_good 126 = .ok (.iload_n 2, 1) := by decide +kernel
theorem dX1_good_127 : decode cX1_good 127 = .ok (.ifCond .eq 7, 3) := by decide +kernel
theorem dX1_good_130 : decode cX1_good 130 = .ok (.iload_n 3, 1) := by decide +kernel
theorem dX1_good_131 : decode cX1_good 131 = .ok (.ifCond .ne 5, 3) := by decide +kernel
theorem dX1_good_134 : decode cX1_good 134 = .ok (.iconst 0, 1) := by decide +kernel
theorem dX1_good_135 : decode cX1_good 135 = .ok (.ireturn, 1) := by decide +kernel
theorem dX1_good_136 : decode cX1_good 136 = .ok (.iinc 1 1, 3) := by decide +kernel
theorem dX1_good_139 : decode cX1_good 139 = .ok (.goto (-101), 3) := by decide +kernel
theorem dX1_good_142 : decode cX1_good 142 = .ok (.iconst 1, 1) := by decide +kernel
theorem dX1_good_143 : decode cX1_good 143 = .ok (.ireturn, 1) := by decide +kernel
theorem dX1_dropRule_0 : decode cX1_dropRule 0 = .ok (.aload_n 0, 1) := by decide +kernel
theorem dX1_dropRule_1 : decode cX1_dropRule 1 = .ok (.getfield 52, 3) := by decide +kernel
theorem dX1_dropRule_4 : decode cX1_dropRule 4 = .ok (.ifCond .ne 6, 3) := by decide +kernel
theorem dX1_dropRule_7 : decode cX1_dropRule 7 = .ok (.bipush (-5), 2) := by decide +kernel
theorem dX1_dropRule_9 : decode cX1_dropRule 9 = .ok (.ireturn, 1) := by decide +kernel
theorem dX1_dropRule_10 : decode cX1_dropRule 10 = .ok (.aload_n 0, 1) := by decide +kernel
theorem dX1_dropRule_11 : decode cX1_dropRule 11 = .ok (.dup, 1) := by decide +kernel
theorem dX1_dropRule_12 : decode cX1_dropRule 12 = .ok (.getfield 52, 3) := by decide +kernel
theorem dX1_dropRule_15 : decode cX1_dropRule 15 = .ok (.iconst 1, 1) := by decide +kernel
theorem dX1_dropRule_16 : decode cX1_dropRule 16 = .ok (.isub, 1) := by decide +kernel
theorem dX1_dropRule_17 : decode cX1_dropRule 17 = .ok (.putfield 52, 3) := by decide +kernel
theorem dX1_dropRule_20 : decode cX1_dropRule 20 = .ok (.aload_n 0, 1) := by decide +kernel
theorem dX1_dropRule_21 : decode cX1_dropRule 21 = .ok (.getfield 52, 3) := by decide +kernel
theorem dX1_dropRule_24 : decode cX1_dropRule 24 = .ok (.ireturn, 1) := by decide +kernel
theorem dX1_path_0 : decode cX1_path 0 = .ok (.iload_n 1, 1) := by decide +kernel
theorem dX1_path_1 : decode cX1_path 1 = .ok (.iconst 1, 1) := by decide +kernel
theorem dX1_path_2 : decode cX1_path 2 = .ok (.if_icmp .lt 9, 3) := by decide +kernel
theorem dX1_path_5 : decode cX1_path 5 = .ok (.iload_n 1, 1) := by decide +kernel
theorem dX1_path_6 : decode cX1_path 6 = .ok (.bipush 6, 2) := by decide +kernel
theorem dX1_path_8 : decode cX1_path 8 = .ok (.if_icmp .le 11, 3) := by decide +kernel
theorem dX1_path_11 : decode cX1_path 11 = .ok (.iload_n 1, 1) := by decide +kernel
theorem dX1_path_12 : decode cX1_path 12 = .ok (.bipush 9, 2) := by decide +kernel
theorem dX1_path_14 : decode cX1_path 14 = .ok (.if_icmp .eq 5, 3) := by decide +kernel
theorem dX1_path_17 : decode cX1_path 17 = .ok (.iconst (-1), 1) := by decide +kernel
theorem dX1_path_18 : decode cX1_path 18 = .ok (.ireturn, 1) := by decide +kernel
theorem dX1_path_19 : decode cX1_path 19 = .ok (.aload_n 0, 1) := by decide +kernel
theorem dX1_path_20 : decode cX1_path 20 = .ok (.getfield 28, 3) := by decide +kernel
theorem dX1_path_23 : decode cX1_path 23 = .ok (.iconst 1, 1) := by decide +kernel
theorem dX1_path_24 : decode cX1_path 24 = .ok (.isub, 1) := by decide +kernel
theorem dX1_path_25 : decode cX1_path 25 = .ok (.istore_n 2, 1) := by decide +kernel
theorem dX1_path_26 : decode cX1_path 26 = .ok (.iload_n 1, 1) := by decide +kernel
theorem dX1_path_27 : decode cX1_path 27 = .ok (.bipush 9, 2) := by decide +kernel
theorem dX1_path_29 : decode cX1_path 29 = .ok (.if_icmp .ne 49, 3) := by decide +kernel
theorem dX1_path_32 : decode cX1_path 32 = .ok (.aload_n 0, 1) := by decide +kernel
theorem dX1_path_33 : decode cX1_path 33 = .ok (.getfield 25, 3) := by decide +kernel
theorem dX1_path_36 : decode cX1_path 36 = .ok (.iload_n 2, 1) := by decide +kernel
theorem dX1_path_37 : decode cX1_path 37 = .ok (.iaload, 1) := by decide +kernel
theorem dX1_path_38 : decode cX1_path 38 = .ok (.ifCond .eq 12, 3) := by decide +kernel
theorem dX1_path_41 : decode cX1_path 41 = .ok (.aload_n 0, 1) := by decide +kernel
theorem dX1_path_42 : decode cX1_path 42 = .ok (.getfield 28, 3) := by decide +kernel
theorem dX1_path_45 : decode cX1_path 45 = .ok (.bipush 6, 2) := by decide +kernel
theorem dX1_path_47 : decode cX1_path 47 = .ok (.if_icmp .ne 6, 3) := by decide +kernel
theorem dX1_path_50 : decode cX1_path 50 = .ok (.bipush (-4), 2) := by decide +kernel
theorem dX1_path_52 : decode cX1_path 52 = .ok (.ireturn, 1) := by decide +kernel
theorem dX1_path_53 : decode cX1_path 53 = .ok (.aload_n 0, 1) := by decide +kernel
theorem dX1_path_54 : decode cX1_path 54 = .ok (.getfield 25, 3) := by decide +kernel
theorem dX1_path_57 : decode cX1_path 57 = .ok (.aload_n 0, 1) := by decide +kernel
theorem dX1_path_58 : decode cX1_path 58 = .ok (.getfield 28, 3) := by decide +kernel
theorem dX1_path_61 : decode cX1_path 61 = .ok (.iconst 0, 1) := by decide +kernel
theorem dX1_path_62 : decode cX1_path 62 = .ok (.iastore, 1) := by decide +kernel
theorem dX1_path_63 : decode cX1_path 63 = .ok (.aload_n 0, 1) := by decide +kernel
theorem dX1_path_64 : decode cX1_path 64 = .ok (.dup, 1) := by decide +kernel
theorem dX1_path_65 : decode cX1_path 65 = .ok (.getfield 28, 3) := by decide +kernel
theorem dX1_path_68 : decode cX1_path 68 = .ok (.iconst 1, 1) := by decide +kernel
theorem dX1_path_69 : decode cX1_path 69 = .ok (.iadd, 1) := by decide +kernel
theorem dX1_path_70 : decode cX1_path 70 = .ok (.putfield 28, 3) := by decide +kernel
theorem dX1_path_73 : decode cX1_path 73 = .ok (.aload_n 0, 1) := by decide +kernel
theorem dX1_path_74 : decode cX1_path 74 = .ok (.getfield 28, 3) := by decide +kernel
theorem dX1_path_77 : decode cX1_path 77 = .ok (.ireturn, 1) := by decide +kernel
theorem dX1_path_78 : decode cX1_path 78 = .ok (.aload_n 0, 1) := by decide +kernel
theorem dX1_path_79 : decode cX1_path 79 = .ok (.getfield 25, 3) := by decide +kernel
theorem dX1_path_82 : decode cX1_path 82 = .ok (.iload_n 2, 1) := by decide +kernel
theorem dX1_path_83 : decode cX1_path 83 = .ok (.iaload, 1) := by decide +kernel
theorem dX1_path_84 : decode cX1_path 84 = .ok (.bipush 8, 2) := by decide +kernel
theorem dX1_path_86 : decode cX1_path 86 = .ok (.if_icmp .ne 6, 3) := by decide +kernel
theorem dX1_path_89 : decode cX1_path 89 = .ok (.bipush (-2), 2) := by decide +kernel
theorem dX1_path_91 : decode cX1_path 91 = .ok (.ireturn, 1) := by decide +kernel
theorem dX1_path_92 : decode cX1_path 92 = .ok (.aload_n 0, 1) := by decide +kernel
theorem dX1_path_93 : decode cX1_path 93 = .ok (.getfield 22, 3) := by decide +kernel
theorem dX1_path_96 : decode cX1_path 96 = .ok (.iload_n 2, 1) := by decide +kernel
theorem dX1_path_97 : decode cX1_path 97 = .ok (.bipush 8, 2) := by decide +kernel
theorem dX1_path_99 : decode cX1_path 99 = .ok (.imul, 1) := by decide +kernel
theorem dX1_path_100 : decode cX1_path 100 = .ok (.aload_n 0, 1) := by decide +kernel
theorem dX1_path_101 : decode cX1_path 101 = .ok (.getfield 25, 3) := by decide +kernel
theorem dX1_path_104 : decode cX1_path 104 = .ok (.iload_n 2, 1) := by decide +kernel
theorem dX1_path_105 : decode cX1_path 105 = .ok (.iaload, 1) := by decide +kernel
theorem dX1_path_106 : decode cX1_path 106 = .ok (.iadd, 1) := by decide +kernel
end
section
set_option maxRecDepth 100000
theorem dX1_path_107 : decode cX1_path 107 = .ok (.iload_n 1, 1) := by decide +kernel
theorem dX1_path_108 : decode cX1_path 108 = .ok (.iastore, 1) := by decide +kernel
theorem dX1_path_109 : decode cX1_path 109 = .ok (.aload_n 0, 1) := by decide +kernel
theorem dX1_path_110 : decode cX1_path 110 = .ok (.getfield 25, 3) := by decide +kernel
theorem dX1_path_113 : decode cX1_path 113 = .ok (.iload_n 2, 1) := by decide +kernel
theorem dX1_path_114 : decode cX1_path 114 = .ok (.dup2, 1) := by decide +kernel
theorem dX1_path_115 : decode cX1_path 115 = .ok (.iaload, 1) := by decide +kernel
theorem dX1_path_116 : decode cX1_path 116 = .ok (.iconst 1, 1) := by decide +kernel
theorem dX1_path_117 : decode cX1_path 117 = .ok (.iadd, 1) := by decide +kernel
theorem dX1_path_118 : decode cX1_path 118 = .ok (.iastore, 1) := by decide +kernel
theorem dX1_path_119 : decode cX1_path 119 = .ok (.aload_n 0, 1) := by decide +kernel
theorem dX1_path_120 : decode cX1_path 120 = .ok (.getfield 28, 3) := by decide +kernel
theorem dX1_path_123 : decode cX1_path 123 = .ok (.ireturn, 1) := by decide +kernel
theorem dX1_clearPath_0 : decode cX1_clearPath 0 = .ok (.aload_n 0, 1) := by decide +kernel
theorem dX1_clearPath_1 : decode cX1_clearPath 1 = .ok (.iconst 1, 1) := by decide +kernel
theorem dX1_clearPath_2 : decode cX1_clearPath 2 = .ok (.putfield 28, 3) := by decide +kernel
theorem dX1_clearPath_5 : decode cX1_clearPath 5 = .ok (.aload_n 0, 1) := by decide +kernel
theorem dX1_clearPath_6 : decode cX1_clearPath 6 = .ok (.getfield 25, 3) := by decide +kernel
theorem dX1_clearPath_9 : decode cX1_clearPath 9 = .ok (.iconst 0, 1) := by decide +kernel
theorem dX1_clearPath_10 : decode cX1_clearPath 10 = .ok (.iconst 0, 1) := by decide +kernel
theorem dX1_clearPath_11 : decode cX1_clearPath 11 = .ok (.iastore, 1) := by decide +kernel
theorem dX1_clearPath_12 : decode cX1_clearPath 12 = .ok (.return_, 1) := by decide +kernel
theorem dX1_ignored_0 : decode cX1_ignored 0 = .ok (.aload_n 0, 1) := by decide +kernel
theorem dX1_ignored_1 : decode cX1_ignored 1 = .ok (.iload_n 1, 1) := by decide +kernel
theorem dX1_ignored_2 : decode cX1_ignored 2 = .ok (.invokevirtual 55, 3) := by decide +kernel
theorem dX1_ignored_5 : decode cX1_ignored 5 = .ok (.bipush (-5), 2) := by decide +kernel
theorem dX1_ignored_7 : decode cX1_ignored 7 = .ok (.if_icmp .eq 7, 3) := by decide +kernel
theorem dX1_ignored_10 : decode cX1_ignored 10 = .ok (.iconst 1, 1) := by decide +kernel
theorem dX1_ignored_11 : decode cX1_ignored 11 = .ok (.goto 4, 3) := by decide +kernel
theorem dX1_ignored_14 : decode cX1_ignored 14 = .ok (.iconst 0, 1) := by decide +kernel
theorem dX1_ignored_15 : decode cX1_ignored 15 = .ok (.ireturn, 1) := by decide +kernel
theorem dX1_cutAt_0 : decode cX1_cutAt 0 = .ok (.aload_n 0, 1) := by decide +kernel
theorem dX1_cutAt_1 : decode cX1_cutAt 1 = .ok (.invokevirtual 59, 3) := by decide +kernel
theorem dX1_cutAt_4 : decode cX1_cutAt 4 = .ok (.ifCond .ne 6, 3) := by decide +kernel
theorem dX1_cutAt_7 : decode cX1_cutAt 7 = .ok (.bipush (-5), 2) := by decide +kernel
theorem dX1_cutAt_9 : decode cX1_cutAt 9 = .ok (.ireturn, 1) := by decide +kernel
theorem dX1_cutAt_10 : decode cX1_cutAt 10 = .ok (.iconst 1, 1) := by decide +kernel
theorem dX1_cutAt_11 : decode cX1_cutAt 11 = .ok (.istore_n 2, 1) := by decide +kernel
theorem dX1_cutAt_12 : decode cX1_cutAt 12 = .ok (.iload_n 2, 1) := by decide +kernel
theorem dX1_cutAt_13 : decode cX1_cutAt 13 = .ok (.aload_n 0, 1) := by decide +kernel
theorem dX1_cutAt_14 : decode cX1_cutAt 14 = .ok (.getfield 28, 3) := by decide +kernel
theorem dX1_cutAt_17 : decode cX1_cutAt 17 = .ok (.if_icmp .gt 49, 3) := by decide +kernel
theorem dX1_cutAt_20 : decode cX1_cutAt 20 = .ok (.aload_n 0, 1) := by decide +kernel
theorem dX1_cutAt_21 : decode cX1_cutAt 21 = .ok (.iload_n 2, 1) := by decide +kernel
theorem dX1_cutAt_22 : decode cX1_cutAt 22 = .ok (.iload_n 1, 1) := by decide +kernel
theorem dX1_cutAt_23 : decode cX1_cutAt 23 = .ok (.ifCond .ne 11, 3) := by decide +kernel
theorem dX1_cutAt_26 : decode cX1_cutAt 26 = .ok (.iload_n 2, 1) := by decide +kernel
theorem dX1_cutAt_27 : decode cX1_cutAt 27 = .ok (.aload_n 0, 1) := by decide +kernel
theorem dX1_cutAt_28 : decode cX1_cutAt 28 = .ok (.getfield 28, 3) := by decide +kernel
theorem dX1_cutAt_31 : decode cX1_cutAt 31 = .ok (.if_icmp .ge 7, 3) := by decide +kernel
theorem dX1_cutAt_34 : decode cX1_cutAt 34 = .ok (.iconst 1, 1) := by decide +kernel
theorem dX1_cutAt_35 : decode cX1_cutAt 35 = .ok (.goto 4, 3) := by decide +kernel
theorem dX1_cutAt_38 : decode cX1_cutAt 38 = .ok (.iconst 0, 1) := by decide +kernel
theorem dX1_cutAt_39 : decode cX1_cutAt 39 = .ok (.invokevirtual 62, 3) := by decide +kernel
theorem dX1_cutAt_42 : decode cX1_cutAt 42 = .ok (.istore_n 3, 1) := by decide +kernel
theorem dX1_cutAt_43 : decode cX1_cutAt 43 = .ok (.iload_n 3, 1) := by decide +kernel
theorem dX1_cutAt_44 : decode cX1_cutAt 44 = .ok (.ifCond .lt 16, 3) := by decide +kernel
theorem dX1_cutAt_47 : decode cX1_cutAt 47 = .ok (.aload_n 0, 1) := by decide +kernel
theorem dX1_cutAt_48 : decode cX1_cutAt 48 = .ok (.getfield 19, 3) := by decide +kernel
theorem dX1_cutAt_51 : decode cX1_cutAt 51 = .ok (.iload_n 3, 1) := by decide +kernel
theorem dX1_cutAt_52 : decode cX1_cutAt 52 = .ok (.iaload, 1) := by decide +kernel
theorem dX1_cutAt_53 : decode cX1_cutAt 53 = .ok (.iconst 1, 1) := by decide +kernel
theorem dX1_cutAt_54 : decode cX1_cutAt 54 = .ok (.iand, 1) := by decide +kernel
theorem dX1_cutAt_55 : decode cX1_cutAt 55 = .ok (.ifCond .ne 5, 3) := by decide +kernel
theorem dX1_cutAt_58 : decode cX1_cutAt 58 = .ok (.iload_n 2, 1) := by decide +kernel
theorem dX1_cutAt_59 : decode cX1_cutAt 59 = .ok (.ireturn, 1) := by decide +kernel
theorem dX1_cutAt_60 : decode cX1_cutAt 60 = .ok (.iinc 2 1, 3) := by decide +kernel
theorem dX1_cutAt_63 : decode cX1_cutAt 63 = .ok (.goto (-51), 3) := by decide +kernel
theorem dX1_cutAt_66 : decode cX1_cutAt 66 = .ok (.bipush (-5), 2) := by decide +kernel
theorem dX1_cutAt_68 : decode cX1_cutAt 68 = .ok (.ireturn, 1) := by decide +kernel
theorem dX1_isPath_0 : decode cX1_isPath 0 = .ok (.aload_n 0, 1) := by decide +kernel
theorem dX1_isPath_1 : decode cX1_isPath 1 = .ok (.getfield 25, 3) := by decide +kernel
theorem dX1_isPath_4 : decode cX1_isPath 4 = .ok (.aload_n 0, 1) := by decide +kernel
theorem dX1_isPath_5 : decode cX1_isPath 5 = .ok (.getfield 28, 3) := by decide +kernel
theorem dX1_isPath_8 : decode cX1_isPath 8 = .ok (.iconst 1, 1) := by decide +kernel
theorem dX1_isPath_9 : decode cX1_isPath 9 = .ok (.isub, 1) := by decide +kernel
theorem dX1_isPath_10 : decode cX1_isPath 10 = .ok (.iaload, 1) := by decide +kernel
theorem dX1_isPath_11 : decode cX1_isPath 11 = .ok (.ifCond .le 7, 3) := by decide +kernel
theorem dX1_isPath_14 : decode cX1_isPath 14 = .ok (.iconst 1, 1) := by decide +kernel
theorem dX1_isPath_15 : decode cX1_isPath 15 = .ok (.goto 4, 3) := by decide +kernel
theorem dX1_isPath_18 : decode cX1_isPath 18 = .ok (.iconst 0, 1) := by decide +kernel
theorem dX1_isPath_19 : decode cX1_isPath 19 = .ok (.ireturn, 1) := by decide +kernel
theorem dX1_lastFor_0 : decode cX1_lastFor 0 = .ok (.bipush (-5), 2) := by decide +kernel
theorem dX1_lastFor_2 : decode cX1_lastFor 2 = .ok (.istore_n 3, 1) := by decide +kernel
theorem dX1_lastFor_3 : decode cX1_lastFor 3 = .ok (.iconst 0, 1) := by decide +kernel
theorem dX1_lastFor_4 : decode cX1_lastFor 4 = .ok (.istore 4, 2) := by decide +kernel
theorem dX1_lastFor_6 : decode cX1_lastFor 6 = .ok (.iload 4, 2) := by decide +kernel
theorem dX1_lastFor_8 : decode cX1_lastFor 8 = .ok (.aload_n 0, 1) := by decide +kernel
theorem dX1_lastFor_9 : decode cX1_lastFor 9 = .ok (.getfield 52, 3) := by decide +kernel
theorem dX1_lastFor_12 : decode cX1_lastFor 12 = .ok (.if_icmp .ge 23, 3) := by decide +kernel
theorem dX1_lastFor_15 : decode cX1_lastFor 15 = .ok (.aload_n 0, 1) := by decide +kernel
theorem dX1_lastFor_16 : decode cX1_lastFor 16 = .ok (.iload 4, 2) := by decide +kernel
theorem dX1_lastFor_18 : decode cX1_lastFor 18 = .ok (.iload_n 1, 1) := by decide +kernel
theorem dX1_lastFor_19 : decode cX1_lastFor 19 = .ok (.iload_n 2, 1) := by decide +kernel
theorem dX1_lastFor_20 : decode cX1_lastFor 20 = .ok (.invokevirtual 66, 3) := by decide +kernel
theorem dX1_lastFor_23 : decode cX1_lastFor 23 = .ok (.ifCond .eq 6, 3) := by decide +kernel
theorem dX1_lastFor_26 : decode cX1_lastFor 26 = .ok (.iload 4, 2) := by decide +kernel
theorem dX1_lastFor_28 : decode cX1_lastFor 28 = .ok (.istore_n 3, 1) := by decide +kernel
theorem dX1_lastFor_29 : decode cX1_lastFor 29 = .ok (.iinc 4 1, 3) := by decide +kernel
theorem dX1_lastFor_32 : decode cX1_lastFor 32 = .ok (.goto (-26), 3) := by decide +kernel
theorem dX1_lastFor_35 : decode cX1_lastFor 35 = .ok (.iload_n 3, 1) := by decide +kernel
theorem dX1_lastFor_36 : decode cX1_lastFor 36 = .ok (.ireturn, 1) := by decide +kernel
theorem dX1_matchesRule_0 : decode cX1_matchesRule 0 = .ok (.aload_n 0, 1) := by decide +kernel
theorem dX1_matchesRule_1 : decode cX1_matchesRule 1 = .ok (.getfield 19, 3) := by decide +kernel
theorem dX1_matchesRule_4 : decode cX1_matchesRule 4 = .ok (.iload_n 1, 1) := by decide +kernel
theorem dX1_matchesRule_5 : decode cX1_matchesRule 5 = .ok (.iaload, 1) := by decide +kernel
theorem dX1_matchesRule_6 : decode cX1_matchesRule 6 = .ok (.iconst 4, 1) := by decide +kernel
theorem dX1_matchesRule_7 : decode cX1_matchesRule 7 = .ok (.iand, 1) := by decide +kernel
theorem dX1_matchesRule_8 : decode cX1_matchesRule 8 = .ok (.ifCond .eq 9, 3) := by decide +kernel
theorem dX1_matchesRule_11 : decode cX1_matchesRule 11 = .ok (.iload_n 3, 1) := by decide +kernel
theorem dX1_matchesRule_12 : decode cX1_matchesRule 12 = .ok (.ifCond .ne 5, 3) := by decide +kernel
theorem dX1_matchesRule_15 : decode cX1_matchesRule 15 = .ok (.iconst 0, 1) := by decide +kernel
theorem dX1_matchesRule_16 : decode cX1_matchesRule 16 = .ok (.ireturn, 1) := by decide +kernel
theorem dX1_matchesRule_17 : decode cX1_matchesRule 17 = .ok (.aload_n 0, 1) := by decide +kernel
theorem dX1_matchesRule_18 : decode cX1_matchesRule 18 = .ok (.iload_n 1, 1) := by decide +kernel
theorem dX1_matchesRule_19 : decode cX1_matchesRule 19 = .ok (.invokevirtual 70, 3) := by decide +kernel
theorem dX1_matchesRule_22 : decode cX1_matchesRule 22 = .ok (.aload_n 0, 1) := by decide +kernel
theorem dX1_matchesRule_23 : decode cX1_matchesRule 23 = .ok (.getfield 74, 3) := by decide +kernel
theorem dX1_matchesRule_26 : decode cX1_matchesRule 26 = .ok (.iconst 1, 1) := by decide +kernel
theorem dX1_matchesRule_27 : decode cX1_matchesRule 27 = .ok (.if_icmp .ne 45, 3) := by decide +kernel
theorem dX1_matchesRule_30 : decode cX1_matchesRule 30 = .ok (.aload_n 0, 1) := by decide +kernel
theorem dX1_matchesRule_31 : decode cX1_matchesRule 31 = .ok (.getfield 19, 3) := by decide +kernel
theorem dX1_matchesRule_34 : decode cX1_matchesRule 34 = .ok (.iload_n 1, 1) := by decide +kernel
theorem dX1_matchesRule_35 : decode cX1_matchesRule 35 = .ok (.iaload, 1) := by decide +kernel
theorem dX1_matchesRule_36 : decode cX1_matchesRule 36 = .ok (.iconst 2, 1) := by decide +kernel
theorem dX1_matchesRule_37 : decode cX1_matchesRule 37 = .ok (.iand, 1) := by decide +kernel
theorem dX1_matchesRule_38 : decode cX1_matchesRule 38 = .ok (.ifCond .ne 34, 3) := by decide +kernel
theorem dX1_matchesRule_41 : decode cX1_matchesRule 41 = .ok (.aload_n 0, 1) := by decide +kernel
theorem dX1_matchesRule_42 : decode cX1_matchesRule 42 = .ok (.getfield 13, 3) := by decide +kernel
theorem dX1_matchesRule_45 : decode cX1_matchesRule 45 = .ok (.iload_n 1, 1) := by decide +kernel
theorem dX1_matchesRule_46 : decode cX1_matchesRule 46 = .ok (.bipush 10, 2) := by decide +kernel
theorem dX1_matchesRule_48 : decode cX1_matchesRule 48 = .ok (.imul, 1) := by decide +kernel
theorem dX1_matchesRule_49 : decode cX1_matchesRule 49 = .ok (.iaload, 1) := by decide +kernel
theorem dX1_matchesRule_50 : decode cX1_matchesRule 50 = .ok (.bipush 10, 2) := by decide +kernel
theorem dX1_matchesRule_52 : decode cX1_matchesRule 52 = .ok (.if_icmp .eq 14, 3) := by decide +kernel
theorem dX1_matchesRule_55 : decode cX1_matchesRule 55 = .ok (.aload_n 0, 1) := by decide +kernel
theorem dX1_matchesRule_56 : decode cX1_matchesRule 56 = .ok (.iconst 0, 1) := by decide +kernel
theorem dX1_matchesRule_57 : decode cX1_matchesRule 57 = .ok (.iload_n 2, 1) := by decide +kernel
theorem dX1_matchesRule_58 : decode cX1_matchesRule 58 = .ok (.iconst 1, 1) := by decide +kernel
theorem dX1_matchesRule_59 : decode cX1_matchesRule 59 = .ok (.isub, 1) := by decide +kernel
theorem dX1_matchesRule_60 : decode cX1_matchesRule 60 = .ok (.invokevirtual 77, 3) := by decide +kernel
theorem dX1_matchesRule_63 : decode cX1_matchesRule 63 = .ok (.ifCond .eq 7, 3) := by decide +kernel
theorem dX1_matchesRule_66 : decode cX1_matchesRule 66 = .ok (.iconst 1, 1) := by decide +kernel
theorem dX1_matchesRule_67 : decode cX1_matchesRule 67 = .ok (.goto 4, 3) := by decide +kernel
theorem dX1_matchesRule_70 : decode cX1_matchesRule 70 = .ok (.iconst 0, 1) := by decide +kernel
theorem dX1_matchesRule_71 : decode cX1_matchesRule 71 = .ok (.ireturn, 1) := by decide +kernel
theorem dX1_matchesRule_72 : decode cX1_matchesRule 72 = .ok (.aload_n 0, 1) := by decide +kernel
theorem dX1_matchesRule_73 : decode cX1_matchesRule 73 = .ok (.iload_n 2, 1) := by decide +kernel
theorem dX1_matchesRule_74 : decode cX1_matchesRule 74 = .ok (.invokevirtual 81, 3) := by decide +kernel
theorem dX1_matchesRule_77 : decode cX1_matchesRule 77 = .ok (.ireturn, 1) := by decide +kernel
theorem dX1_cut_0 : decode cX1_cut 0 = .ok (.aload_n 0, 1) := by decide +kernel
theorem dX1_cut_1 : decode cX1_cut 1 = .ok (.iconst 0, 1) := by decide +kernel
theorem dX1_cut_2 : decode cX1_cut 2 = .ok (.putfield 74, 3) := by decide +kernel
theorem dX1_cut_5 : decode cX1_cut 5 = .ok (.iload_n 1, 1) := by decide +kernel
theorem dX1_cut_6 : decode cX1_cut 6 = .ok (.bipush 10, 2) := by decide +kernel
theorem dX1_cut_8 : decode cX1_cut 8 = .ok (.imul, 1) := by decide +kernel
theorem dX1_cut_9 : decode cX1_cut 9 = .ok (.istore_n 2, 1) := by decide +kernel
theorem dX1_cut_10 : decode cX1_cut 10 = .ok (.iload_n 1, 1) := by decide +kernel
theorem dX1_cut_11 : decode cX1_cut 11 = .ok (.bipush 10, 2) := by decide +kernel
theorem dX1_cut_13 : decode cX1_cut 13 = .ok (.imul, 1) := by decide +kernel
theorem dX1_cut_14 : decode cX1_cut 14 = .ok (.aload_n 0, 1) := by decide +kernel
theorem dX1_cut_15 : decode cX1_cut 15 = .ok (.getfield 16, 3) := by decide +kernel
theorem dX1_cut_18 : decode cX1_cut 18 = .ok (.iload_n 1, 1) := by decide +kernel
theorem dX1_cut_19 : decode cX1_cut 19 = .ok (.iaload, 1) := by decide +kernel
theorem dX1_cut_20 : decode cX1_cut 20 = .ok (.iadd, 1) := by decide +kernel
theorem dX1_cut_21 : decode cX1_cut 21 = .ok (.istore_n 3, 1) := by decide +kernel
theorem dX1_cut_22 : decode cX1_cut 22 = .ok (.iload_n 1, 1) := by decide +kernel
theorem dX1_cut_23 : decode cX1_cut 23 = .ok (.bipush 10, 2) := by decide +kernel
theorem dX1_cut_25 : decode cX1_cut 25 = .ok (.imul, 1) := by decide +kernel
theorem dX1_cut_26 : decode cX1_cut 26 = .ok (.istore 4, 2) := by decide +kernel
theorem dX1_cut_28 : decode cX1_cut 28 = .ok (.iload 4, 2) := by decide +kernel
theorem dX1_cut_30 : decode cX1_cut 30 = .ok (.iload_n 3, 1) := by decide +kernel
theorem dX1_cut_31 : decode cX1_cut 31 = .ok (.if_icmp .gt 63, 3) := by decide +kernel
theorem dX1_cut_34 : decode cX1_cut 34 = .ok (.iload 4, 2) := by decide +kernel
theorem dX1_cut_36 : decode cX1_cut 36 = .ok (.iload_n 3, 1) := by decide +kernel
theorem dX1_cut_37 : decode cX1_cut 37 = .ok (.if_icmp .eq 15, 3) := by decide +kernel
theorem dX1_cut_40 : decode cX1_cut 40 = .ok (.aload_n 0, 1) := by decide +kernel
theorem dX1_cut_41 : decode cX1_cut 41 = .ok (.getfield 13, 3) := by decide +kernel
theorem dX1_cut_44 : decode cX1_cut 44 = .ok (.iload 4, 2) := by decide +kernel
theorem dX1_cut_46 : decode cX1_cut 46 = .ok (.iaload, 1) := by decide +kernel
theorem dX1_cut_47 : decode cX1_cut 47 = .ok (.bipush 9, 2) := by decide +kernel
theorem dX1_cut_49 : decode cX1_cut 49 = .ok (.if_icmp .ne 39, 3) := by decide +kernel
theorem dX1_cut_52 : decode cX1_cut 52 = .ok (.aload_n 0, 1) := by decide +kernel
theorem dX1_cut_53 : decode cX1_cut 53 = .ok (.getfield 32, 3) := by decide +kernel
theorem dX1_cut_56 : decode cX1_cut 56 = .ok (.aload_n 0, 1) := by decide +kernel
theorem dX1_cut_57 : decode cX1_cut 57 = .ok (.getfield 74, 3) := by decide +kernel
theorem dX1_cut_60 : decode cX1_cut 60 = .ok (.iload_n 2, 1) := by decide +kernel
theorem dX1_cut_61 : decode cX1_cut 61 = .ok (.iastore, 1) := by decide +kernel
theorem dX1_cut_62 : decode cX1_cut 62 = .ok (.aload_n 0, 1) := by decide +kernel
theorem dX1_cut_63 : decode cX1_cut 63 = .ok (.getfield 35, 3) := by decide +kernel
theorem dX1_cut_66 : decode cX1_cut 66 = .ok (.aload_n 0, 1) := by decide +kernel
theorem dX1_cut_67 : decode cX1_cut 67 = .ok (.getfield 74, 3) := by decide +kernel
theorem dX1_cut_70 : decode cX1_cut 70 = .ok (.iload 4, 2) := by decide +kernel
theorem dX1_cut_72 : decode cX1_cut 72 = .ok (.iastore, 1) := by decide +kernel
theorem dX1_cut_73 : decode cX1_cut 73 = .ok (.aload_n 0, 1) := by decide +kernel
theorem dX1_cut_74 : decode cX1_cut 74 = .ok (.dup, 1) := by decide +kernel
theorem dX1_cut_75 : decode cX1_cut 75 = .ok (.getfield 74, 3) := by decide +kernel
theorem dX1_cut_78 : decode cX1_cut 78 = .ok (.iconst 1, 1) := by decide +kernel
theorem dX1_cut_79 : decode cX1_cut 79 = .ok (.iadd, 1) := by decide +kernel
theorem dX1_cut_80 : decode cX1_cut 80 = .ok (.putfield 74, 3) := by decide +kernel
theorem dX1_cut_83 : decode cX1_cut 83 = .ok (.iload 4, 2) := by decide +kernel
theorem dX1_cut_85 : decode cX1_cut 85 = .ok (.iconst 1, 1) := by decide +kernel
theorem dX1_cut_86 : decode cX1_cut 86 = .ok (.iadd, 1) := by decide +kernel
theorem dX1_cut_87 : decode cX1_cut 87 = .ok (.istore_n 2, 1) := by decide +kernel
theorem dX1_cut_88 : decode cX1_cut 88 = .ok (.iinc 4 1, 3) := by decide +kernel
theorem dX1_cut_91 : decode cX1_cut 91 = .ok (.goto (-63), 3) := by decide +kernel
theorem dX1_cut_94 : decode cX1_cut 94 = .ok (.return_, 1) := by decide +kernel
theorem dX1_partFits_0 : decode cX1_partFits 0 = .ok (.aload_n 0, 1) := by decide +kernel
theorem dX1_partFits_1 : decode cX1_partFits 1 = .ok (.getfield 35, 3) := by decide +kernel
theorem dX1_partFits_4 : decode cX1_partFits 4 = .ok (.iload_n 1, 1) := by decide +kernel
theorem dX1_partFits_5 : decode cX1_partFits 5 = .ok (.iaload, 1) := by decide +kernel
theorem dX1_partFits_6 : decode cX1_partFits 6 = .ok (.aload_n 0, 1) := by decide +kernel
theorem dX1_partFits_7 : decode cX1_partFits 7 = .ok (.getfield 32, 3) := by decide +kernel
theorem dX1_partFits_10 : decode cX1_partFits 10 = .ok (.iload_n 1, 1) := by decide +kernel
theorem dX1_partFits_11 : decode cX1_partFits 11 = .ok (.iaload, 1) := by decide +kernel
theorem dX1_partFits_12 : decode cX1_partFits 12 = .ok (.isub, 1) := by decide +kernel
theorem dX1_partFits_13 : decode cX1_partFits 13 = .ok (.istore_n 3, 1) := by decide +kernel
theorem dX1_partFits_14 : decode cX1_partFits 14 = .ok (.aload_n 0, 1) := by decide +kernel
theorem dX1_partFits_15 : decode cX1_partFits 15 = .ok (.getfield 25, 3) := by decide +kernel
theorem dX1_partFits_18 : decode cX1_partFits 18 = .ok (.iload_n 2, 1) := by decide +kernel
theorem dX1_partFits_19 : decode cX1_partFits 19 = .ok (.iaload, 1) := by decide +kernel
theorem dX1_partFits_20 : decode cX1_partFits 20 = .ok (.istore 4, 2) := by decide +kernel
theorem dX1_partFits_22 : decode cX1_partFits 22 = .ok (.iload_n 3, 1) := by decide +kernel
theorem dX1_partFits_23 : decode cX1_partFits 23 = .ok (.istore 5, 2) := by decide +kernel
theorem dX1_partFits_25 : decode cX1_partFits 25 = .ok (.iload 5, 2) := by decide +kernel
theorem dX1_partFits_27 : decode cX1_partFits 27 = .ok (.ifCond .lt 217, 3) := by decide +kernel
theorem dX1_partFits_30 : decode cX1_partFits 30 = .ok (.iload 4, 2) := by decide +kernel
theorem dX1_partFits_32 : decode cX1_partFits 32 = .ok (.istore 6, 2) := by decide +kernel
theorem dX1_partFits_34 : decode cX1_partFits 34 = .ok (.iload 6, 2) := by decide +kernel
theorem dX1_partFits_36 : decode cX1_partFits 36 = .ok (.ifCond .lt 202, 3) := by decide +kernel
theorem dX1_partFits_39 : decode cX1_partFits 39 = .ok (.iload 5, 2) := by decide +kernel
theorem dX1_partFits_41 : decode cX1_partFits 41 = .ok (.iload_n 3, 1) := by decide +kernel
theorem dX1_partFits_42 : decode cX1_partFits 42 = .ok (.if_icmp .ge 20, 3) := by decide +kernel
theorem dX1_partFits_45 : decode cX1_partFits 45 = .ok (.aload_n 0, 1) := by decide +kernel
theorem dX1_partFits_46 : decode cX1_partFits 46 = .ok (.getfield 13, 3) := by decide +kernel
theorem dX1_partFits_49 : decode cX1_partFits 49 = .ok (.aload_n 0, 1) := by decide +kernel
theorem dX1_partFits_50 : decode cX1_partFits 50 = .ok (.getfield 32, 3) := by decide +kernel
theorem dX1_partFits_53 : decode cX1_partFits 53 = .ok (.iload_n 1, 1) := by decide +kernel
theorem dX1_partFits_54 : decode cX1_partFits 54 = .ok (.iaload, 1) := by decide +kernel
theorem dX1_partFits_55 : decode cX1_partFits 55 = .ok (.iload 5, 2) := by decide +kernel
theorem dX1_partFits_57 : decode cX1_partFits 57 = .ok (.iadd, 1) := by decide +kernel
theorem dX1_partFits_58 : decode cX1_partFits 58 = .ok (.iaload, 1) := by decide +kernel
theorem dX1_partFits_59 : decode cX1_partFits 59 = .ok (.goto 4, 3) := by decide +kernel
theorem dX1_partFits_62 : decode cX1_partFits 62 = .ok (.iconst 0, 1) := by decide +kernel
theorem dX1_partFits_63 : decode cX1_partFits 63 = .ok (.istore 7, 2) := by decide +kernel
theorem dX1_partFits_65 : decode cX1_partFits 65 = .ok (.iload 6, 2) := by decide +kernel
theorem dX1_partFits_67 : decode cX1_partFits 67 = .ok (.iload 4, 2) := by decide +kernel
theorem dX1_partFits_69 : decode cX1_partFits 69 = .ok (.if_icmp .ge 7, 3) := by decide +kernel
theorem dX1_partFits_72 : decode cX1_partFits 72 = .ok (.iconst 1, 1) := by decide +kernel
theorem dX1_partFits_73 : decode cX1_partFits 73 = .ok (.goto 4, 3) := by decide +kernel
theorem dX1_partFits_76 : decode cX1_partFits 76 = .ok (.iconst 0, 1) := by decide +kernel
theorem dX1_partFits_77 : decode cX1_partFits 77 = .ok (.istore 8, 2) := by decide +kernel
theorem dX1_partFits_79 : decode cX1_partFits 79 = .ok (.iconst 0, 1) := by decide +kernel
theorem dX1_partFits_80 : decode cX1_partFits 80 = .ok (.istore 9, 2) := by decide +kernel
theorem dX1_partFits_82 : decode cX1_partFits 82 = .ok (.iload 5, 2) := by decide +kernel
theorem dX1_partFits_84 : decode cX1_partFits 84 = .ok (.iload_n 3, 1) := by decide +kernel
theorem dX1_partFits_85 : decode cX1_partFits 85 = .ok (.if_icmp .ne 18, 3) := by decide +kernel
theorem dX1_partFits_88 : decode cX1_partFits 88 = .ok (.iload 8, 2) := by decide +kernel
theorem dX1_partFits_90 : decode cX1_partFits 90 = .ok (.ifCond .ne 7, 3) := by decide +kernel
theorem dX1_partFits_93 : decode cX1_partFits 93 = .ok (.iconst 1, 1) := by decide +kernel
theorem dX1_partFits_94 : decode cX1_partFits 94 = .ok (.goto 4, 3) := by decide +kernel
theorem dX1_partFits_97 : decode cX1_partFits 97 = .ok (.iconst 0, 1) := by decide +kernel
theorem dX1_partFits_98 : decode cX1_partFits 98 = .ok (.istore 9, 2) := by decide +kernel
theorem dX1_partFits_100 : decode cX1_partFits 100 = .ok (.goto 117, 3) := by decide +kernel
theorem dX1_partFits_103 : decode cX1_partFits 103 = .ok (.iload 7, 2) := by decide +kernel
theorem dX1_partFits_105 : decode cX1_partFits 105 = .ok (.bipush 7, 2) := by decide +kernel
theorem dX1_partFits_107 : decode cX1_partFits 107 = .ok (.if_icmp .ne 54, 3) := by decide +kernel
theorem dX1_partFits_110 : decode cX1_partFits 110 = .ok (.aload_n 0, 1) := by decide +kernel
theorem dX1_partFits_111 : decode cX1_partFits 111 = .ok (.getfield 38, 3) := by decide +kernel
theorem dX1_partFits_114 : decode cX1_partFits 114 = .ok (.iload 5, 2) := by decide +kernel
theorem dX1_partFits_116 : decode cX1_partFits 116 = .ok (.iconst 1, 1) := by decide +kernel
theorem dX1_partFits_117 : decode cX1_partFits 117 = .ok (.iadd, 1) := by decide +kernel
theorem dX1_partFits_118 : decode cX1_partFits 118 = .ok (.bipush 11, 2) := by decide +kernel
theorem dX1_partFits_120 : decode cX1_partFits 120 = .ok (.imul, 1) := by decide +kernel
theorem dX1_partFits_121 : decode cX1_partFits 121 = .ok (.iload 6, 2) := by decide +kernel
theorem dX1_partFits_123 : decode cX1_partFits 123 = .ok (.iadd, 1) := by decide +kernel
theorem dX1_partFits_124 : decode cX1_partFits 124 = .ok (.baload, 1) := by decide +kernel
theorem dX1_partFits_125 : decode cX1_partFits 125 = .ok (.ifCond .ne 26, 3) := by decide +kernel
theorem dX1_partFits_128 : decode cX1_partFits 128 = .ok (.iload 8, 2) := by decide +kernel
theorem dX1_partFits_130 : decode cX1_partFits 130 = .ok (.ifCond .eq 25, 3) := by decide +kernel
theorem dX1_partFits_133 : decode cX1_partFits 133 = .ok (.aload_n 0, 1) := by decide +kernel
theorem dX1_partFits_134 : decode cX1_partFits 134 = .ok (.getfield 38, 3) := by decide +kernel
theorem dX1_partFits_137 : decode cX1_partFits 137 = .ok (.iload 5, 2) := by decide +kernel
theorem dX1_partFits_139 : decode cX1_partFits 139 = .ok (.bipush 11, 2) := by decide +kernel
theorem dX1_partFits_141 : decode cX1_partFits 141 = .ok (.imul, 1) := by decide +kernel
theorem dX1_partFits_142 : decode cX1_partFits 142 = .ok (.iload 6, 2) := by decide +kernel
theorem dX1_partFits_144 : decode cX1_partFits 144 = .ok (.iadd, 1) := by decide +kernel
theorem dX1_partFits_145 : decode cX1_partFits 145 = .ok (.iconst 1, 1) := by decide +kernel
theorem dX1_partFits_146 : decode cX1_partFits 146 = .ok (.iadd, 1) := by decide +kernel
theorem dX1_partFits_147 : decode cX1_partFits 147 = .ok (.baload, 1) := by decide +kernel
theorem dX1_partFits_148 : decode cX1_partFits 148 = .ok (.ifCond .eq 7, 3) := by decide +kernel
theorem dX1_partFits_151 : decode cX1_partFits 151 = .ok (.iconst 1, 1) := by decide +kernel
theorem dX1_partFits_152 : decode cX1_partFits 152 = .ok (.goto 4, 3) := by decide +kernel
theorem dX1_partFits_155 : decode cX1_partFits 155 = .ok (.iconst 0, 1) := by decide +kernel
theorem dX1_partFits_156 : decode cX1_partFits 156 = .ok (.istore 9, 2) := by decide +kernel
theorem dX1_partFits_158 : decode cX1_partFits 158 = .ok (.goto 59, 3) := by decide +kernel
theorem dX1_partFits_161 : decode cX1_partFits 161 = .ok (.iload 8, 2) := by decide +kernel
theorem dX1_partFits_163 : decode cX1_partFits 163 = .ok (.ifCond .eq 54, 3) := by decide +kernel
theorem dX1_partFits_166 : decode cX1_partFits 166 = .ok (.iload 7, 2) := by decide +kernel
theorem dX1_partFits_168 : decode cX1_partFits 168 = .ok (.bipush 8, 2) := by decide +kernel
end
section
set_option maxRecDepth 100000
theorem dX1_partFits_170 : decode cX1_partFits 170 = .ok (.if_icmp .eq 20, 3) := by decide +kernel
theorem dX1_partFits_173 : decode cX1_partFits 173 = .ok (.iload 7, 2) := by decide +kernel
theorem dX1_partFits_175 : decode cX1_partFits 175 = .ok (.aload_n 0, 1) := by decide +kernel
theorem dX1_partFits_176 : decode cX1_partFits 176 = .ok (.getfield 22, 3) := by decide +kernel
theorem dX1_partFits_179 : decode cX1_partFits 179 = .ok (.iload_n 2, 1) := by decide +kernel
theorem dX1_partFits_180 : decode cX1_partFits 180 = .ok (.bipush 8, 2) := by decide +kernel
theorem dX1_partFits_182 : decode cX1_partFits 182 = .ok (.imul, 1) := by decide +kernel
theorem dX1_partFits_183 : decode cX1_partFits 183 = .ok (.iload 6, 2) := by decide +kernel
theorem dX1_partFits_185 : decode cX1_partFits 185 = .ok (.iadd, 1) := by decide +kernel
theorem dX1_partFits_186 : decode cX1_partFits 186 = .ok (.iaload, 1) := by decide +kernel
theorem dX1_partFits_187 : decode cX1_partFits 187 = .ok (.if_icmp .ne 27, 3) := by decide +kernel
theorem dX1_partFits_190 : decode cX1_partFits 190 = .ok (.aload_n 0, 1) := by decide +kernel
theorem dX1_partFits_191 : decode cX1_partFits 191 = .ok (.getfield 38, 3) := by decide +kernel
theorem dX1_partFits_194 : decode cX1_partFits 194 = .ok (.iload 5, 2) := by decide +kernel
theorem dX1_partFits_196 : decode cX1_partFits 196 = .ok (.iconst 1, 1) := by decide +kernel
theorem dX1_partFits_197 : decode cX1_partFits 197 = .ok (.iadd, 1) := by decide +kernel
theorem dX1_partFits_198 : decode cX1_partFits 198 = .ok (.bipush 11, 2) := by decide +kernel
theorem dX1_partFits_200 : decode cX1_partFits 200 = .ok (.imul, 1) := by decide +kernel
theorem dX1_partFits_201 : decode cX1_partFits 201 = .ok (.iload 6, 2) := by decide +kernel
theorem dX1_partFits_203 : decode cX1_partFits 203 = .ok (.iadd, 1) := by decide +kernel
theorem dX1_partFits_204 : decode cX1_partFits 204 = .ok (.iconst 1, 1) := by decide +kernel
theorem dX1_partFits_205 : decode cX1_partFits 205 = .ok (.iadd, 1) := by decide +kernel
theorem dX1_partFits_206 : decode cX1_partFits 206 = .ok (.baload, 1) := by decide +kernel
theorem dX1_partFits_207 : decode cX1_partFits 207 = .ok (.ifCond .eq 7, 3) := by decide +kernel
theorem dX1_partFits_210 : decode cX1_partFits 210 = .ok (.iconst 1, 1) := by decide +kernel
theorem dX1_partFits_211 : decode cX1_partFits 211 = .ok (.goto 4, 3) := by decide +kernel
theorem dX1_partFits_214 : decode cX1_partFits 214 = .ok (.iconst 0, 1) := by decide +kernel
theorem dX1_partFits_215 : decode cX1_partFits 215 = .ok (.istore 9, 2) := by decide +kernel
theorem dX1_partFits_217 : decode cX1_partFits 217 = .ok (.aload_n 0, 1) := by decide +kernel
theorem dX1_partFits_218 : decode cX1_partFits 218 = .ok (.getfield 38, 3) := by decide +kernel
theorem dX1_partFits_221 : decode cX1_partFits 221 = .ok (.iload 5, 2) := by decide +kernel
theorem dX1_partFits_223 : decode cX1_partFits 223 = .ok (.bipush 11, 2) := by decide +kernel
theorem dX1_partFits_225 : decode cX1_partFits 225 = .ok (.imul, 1) := by decide +kernel
theorem dX1_partFits_226 : decode cX1_partFits 226 = .ok (.iload 6, 2) := by decide +kernel
theorem dX1_partFits_228 : decode cX1_partFits 228 = .ok (.iadd, 1) := by decide +kernel
theorem dX1_partFits_229 : decode cX1_partFits 229 = .ok (.iload 9, 2) := by decide +kernel
theorem dX1_partFits_231 : decode cX1_partFits 231 = .ok (.bastore, 1) := by decide +kernel
theorem dX1_partFits_232 : decode cX1_partFits 232 = .ok (.iinc 6 (-1), 3) := by decide +kernel
theorem dX1_partFits_235 : decode cX1_partFits 235 = .ok (.goto (-201), 3) := by decide +kernel
theorem dX1_partFits_238 : decode cX1_partFits 238 = .ok (.iinc 5 (-1), 3) := by decide +kernel
theorem dX1_partFits_241 : decode cX1_partFits 241 = .ok (.goto (-216), 3) := by decide +kernel
theorem dX1_partFits_244 : decode cX1_partFits 244 = .ok (.aload_n 0, 1) := by decide +kernel
theorem dX1_partFits_245 : decode cX1_partFits 245 = .ok (.getfield 38, 3) := by decide +kernel
theorem dX1_partFits_248 : decode cX1_partFits 248 = .ok (.iconst 0, 1) := by decide +kernel
theorem dX1_partFits_249 : decode cX1_partFits 249 = .ok (.baload, 1) := by decide +kernel
theorem dX1_partFits_250 : decode cX1_partFits 250 = .ok (.ireturn, 1) := by decide +kernel
theorem dX1_allFit_0 : decode cX1_allFit 0 = .ok (.aload_n 0, 1) := by decide +kernel
theorem dX1_allFit_1 : decode cX1_allFit 1 = .ok (.getfield 74, 3) := by decide +kernel
theorem dX1_allFit_4 : decode cX1_allFit 4 = .ok (.istore_n 2, 1) := by decide +kernel
theorem dX1_allFit_5 : decode cX1_allFit 5 = .ok (.iload_n 2, 1) := by decide +kernel
theorem dX1_allFit_6 : decode cX1_allFit 6 = .ok (.ifCond .lt 166, 3) := by decide +kernel
theorem dX1_allFit_9 : decode cX1_allFit 9 = .ok (.iload_n 1, 1) := by decide +kernel
theorem dX1_allFit_10 : decode cX1_allFit 10 = .ok (.istore_n 3, 1) := by decide +kernel
theorem dX1_allFit_11 : decode cX1_allFit 11 = .ok (.iload_n 3, 1) := by decide +kernel
theorem dX1_allFit_12 : decode cX1_allFit 12 = .ok (.ifCond .lt 154, 3) := by decide +kernel
theorem dX1_allFit_15 : decode cX1_allFit 15 = .ok (.iload_n 3, 1) := by decide +kernel
theorem dX1_allFit_16 : decode cX1_allFit 16 = .ok (.iload_n 1, 1) := by decide +kernel
theorem dX1_allFit_17 : decode cX1_allFit 17 = .ok (.if_icmp .ge 7, 3) := by decide +kernel
theorem dX1_allFit_20 : decode cX1_allFit 20 = .ok (.iconst 1, 1) := by decide +kernel
theorem dX1_allFit_21 : decode cX1_allFit 21 = .ok (.goto 4, 3) := by decide +kernel
theorem dX1_allFit_24 : decode cX1_allFit 24 = .ok (.iconst 0, 1) := by decide +kernel
theorem dX1_allFit_25 : decode cX1_allFit 25 = .ok (.istore 4, 2) := by decide +kernel
theorem dX1_allFit_27 : decode cX1_allFit 27 = .ok (.iconst 0, 1) := by decide +kernel
theorem dX1_allFit_28 : decode cX1_allFit 28 = .ok (.istore 5, 2) := by decide +kernel
theorem dX1_allFit_30 : decode cX1_allFit 30 = .ok (.iload_n 2, 1) := by decide +kernel
theorem dX1_allFit_31 : decode cX1_allFit 31 = .ok (.aload_n 0, 1) := by decide +kernel
theorem dX1_allFit_32 : decode cX1_allFit 32 = .ok (.getfield 74, 3) := by decide +kernel
theorem dX1_allFit_35 : decode cX1_allFit 35 = .ok (.if_icmp .ne 18, 3) := by decide +kernel
theorem dX1_allFit_38 : decode cX1_allFit 38 = .ok (.iload 4, 2) := by decide +kernel
theorem dX1_allFit_40 : decode cX1_allFit 40 = .ok (.ifCond .ne 7, 3) := by decide +kernel
theorem dX1_allFit_43 : decode cX1_allFit 43 = .ok (.iconst 1, 1) := by decide +kernel
theorem dX1_allFit_44 : decode cX1_allFit 44 = .ok (.goto 4, 3) := by decide +kernel
theorem dX1_allFit_47 : decode cX1_allFit 47 = .ok (.iconst 0, 1) := by decide +kernel
theorem dX1_allFit_48 : decode cX1_allFit 48 = .ok (.istore 5, 2) := by decide +kernel
theorem dX1_allFit_50 : decode cX1_allFit 50 = .ok (.goto 97, 3) := by decide +kernel
theorem dX1_allFit_53 : decode cX1_allFit 53 = .ok (.aload_n 0, 1) := by decide +kernel
theorem dX1_allFit_54 : decode cX1_allFit 54 = .ok (.getfield 13, 3) := by decide +kernel
theorem dX1_allFit_57 : decode cX1_allFit 57 = .ok (.aload_n 0, 1) := by decide +kernel
theorem dX1_allFit_58 : decode cX1_allFit 58 = .ok (.getfield 32, 3) := by decide +kernel
theorem dX1_allFit_61 : decode cX1_allFit 61 = .ok (.iload_n 2, 1) := by decide +kernel
theorem dX1_allFit_62 : decode cX1_allFit 62 = .ok (.iaload, 1) := by decide +kernel
theorem dX1_allFit_63 : decode cX1_allFit 63 = .ok (.iaload, 1) := by decide +kernel
theorem dX1_allFit_64 : decode cX1_allFit 64 = .ok (.bipush 10, 2) := by decide +kernel
theorem dX1_allFit_66 : decode cX1_allFit 66 = .ok (.if_icmp .ne 50, 3) := by decide +kernel
theorem dX1_allFit_69 : decode cX1_allFit 69 = .ok (.aload_n 0, 1) := by decide +kernel
theorem dX1_allFit_70 : decode cX1_allFit 70 = .ok (.getfield 42, 3) := by decide +kernel
theorem dX1_allFit_73 : decode cX1_allFit 73 = .ok (.iload_n 2, 1) := by decide +kernel
theorem dX1_allFit_74 : decode cX1_allFit 74 = .ok (.iconst 1, 1) := by decide +kernel
theorem dX1_allFit_75 : decode cX1_allFit 75 = .ok (.iadd, 1) := by decide +kernel
theorem dX1_allFit_76 : decode cX1_allFit 76 = .ok (.bipush 11, 2) := by decide +kernel
theorem dX1_allFit_78 : decode cX1_allFit 78 = .ok (.imul, 1) := by decide +kernel
theorem dX1_allFit_79 : decode cX1_allFit 79 = .ok (.iload_n 3, 1) := by decide +kernel
theorem dX1_allFit_80 : decode cX1_allFit 80 = .ok (.iadd, 1) := by decide +kernel
theorem dX1_allFit_81 : decode cX1_allFit 81 = .ok (.baload, 1) := by decide +kernel
theorem dX1_allFit_82 : decode cX1_allFit 82 = .ok (.ifCond .ne 24, 3) := by decide +kernel
theorem dX1_allFit_85 : decode cX1_allFit 85 = .ok (.iload 4, 2) := by decide +kernel
theorem dX1_allFit_87 : decode cX1_allFit 87 = .ok (.ifCond .eq 23, 3) := by decide +kernel
theorem dX1_allFit_90 : decode cX1_allFit 90 = .ok (.aload_n 0, 1) := by decide +kernel
theorem dX1_allFit_91 : decode cX1_allFit 91 = .ok (.getfield 42, 3) := by decide +kernel
theorem dX1_allFit_94 : decode cX1_allFit 94 = .ok (.iload_n 2, 1) := by decide +kernel
theorem dX1_allFit_95 : decode cX1_allFit 95 = .ok (.bipush 11, 2) := by decide +kernel
theorem dX1_allFit_97 : decode cX1_allFit 97 = .ok (.imul, 1) := by decide +kernel
theorem dX1_allFit_98 : decode cX1_allFit 98 = .ok (.iload_n 3, 1) := by decide +kernel
theorem dX1_allFit_99 : decode cX1_allFit 99 = .ok (.iadd, 1) := by decide +kernel
theorem dX1_allFit_100 : decode cX1_allFit 100 = .ok (.iconst 1, 1) := by decide +kernel
theorem dX1_allFit_101 : decode cX1_allFit 101 = .ok (.iadd, 1) := by decide +kernel
theorem dX1_allFit_102 : decode cX1_allFit 102 = .ok (.baload, 1) := by decide +kernel
theorem dX1_allFit_103 : decode cX1_allFit 103 = .ok (.ifCond .eq 7, 3) := by decide +kernel
theorem dX1_allFit_106 : decode cX1_allFit 106 = .ok (.iconst 1, 1) := by decide +kernel
theorem dX1_allFit_107 : decode cX1_allFit 107 = .ok (.goto 4, 3) := by decide +kernel
theorem dX1_allFit_110 : decode cX1_allFit 110 = .ok (.iconst 0, 1) := by decide +kernel
theorem dX1_allFit_111 : decode cX1_allFit 111 = .ok (.istore 5, 2) := by decide +kernel
theorem dX1_allFit_113 : decode cX1_allFit 113 = .ok (.goto 34, 3) := by decide +kernel
theorem dX1_allFit_116 : decode cX1_allFit 116 = .ok (.iload 4, 2) := by decide +kernel
theorem dX1_allFit_118 : decode cX1_allFit 118 = .ok (.ifCond .eq 29, 3) := by decide +kernel
theorem dX1_allFit_121 : decode cX1_allFit 121 = .ok (.aload_n 0, 1) := by decide +kernel
theorem dX1_allFit_122 : decode cX1_allFit 122 = .ok (.getfield 42, 3) := by decide +kernel
theorem dX1_allFit_125 : decode cX1_allFit 125 = .ok (.iload_n 2, 1) := by decide +kernel
theorem dX1_allFit_126 : decode cX1_allFit 126 = .ok (.iconst 1, 1) := by decide +kernel
theorem dX1_allFit_127 : decode cX1_allFit 127 = .ok (.iadd, 1) := by decide +kernel
theorem dX1_allFit_128 : decode cX1_allFit 128 = .ok (.bipush 11, 2) := by decide +kernel
theorem dX1_allFit_130 : decode cX1_allFit 130 = .ok (.imul, 1) := by decide +kernel
theorem dX1_allFit_131 : decode cX1_allFit 131 = .ok (.iload_n 3, 1) := by decide +kernel
theorem dX1_allFit_132 : decode cX1_allFit 132 = .ok (.iadd, 1) := by decide +kernel
theorem dX1_allFit_133 : decode cX1_allFit 133 = .ok (.iconst 1, 1) := by decide +kernel
theorem dX1_allFit_134 : decode cX1_allFit 134 = .ok (.iadd, 1) := by decide +kernel
theorem dX1_allFit_135 : decode cX1_allFit 135 = .ok (.baload, 1) := by decide +kernel
theorem dX1_allFit_136 : decode cX1_allFit 136 = .ok (.ifCond .eq 11, 3) := by decide +kernel
theorem dX1_allFit_139 : decode cX1_allFit 139 = .ok (.aload_n 0, 1) := by decide +kernel
theorem dX1_allFit_140 : decode cX1_allFit 140 = .ok (.iload_n 2, 1) := by decide +kernel
theorem dX1_allFit_141 : decode cX1_allFit 141 = .ok (.iload_n 3, 1) := by decide +kernel
theorem dX1_allFit_142 : decode cX1_allFit 142 = .ok (.invokevirtual 77, 3) := by decide +kernel
theorem dX1_allFit_145 : decode cX1_allFit 145 = .ok (.istore 5, 2) := by decide +kernel
theorem dX1_allFit_147 : decode cX1_allFit 147 = .ok (.aload_n 0, 1) := by decide +kernel
theorem dX1_allFit_148 : decode cX1_allFit 148 = .ok (.getfield 42, 3) := by decide +kernel
theorem dX1_allFit_151 : decode cX1_allFit 151 = .ok (.iload_n 2, 1) := by decide +kernel
theorem dX1_allFit_152 : decode cX1_allFit 152 = .ok (.bipush 11, 2) := by decide +kernel
theorem dX1_allFit_154 : decode cX1_allFit 154 = .ok (.imul, 1) := by decide +kernel
theorem dX1_allFit_155 : decode cX1_allFit 155 = .ok (.iload_n 3, 1) := by decide +kernel
theorem dX1_allFit_156 : decode cX1_allFit 156 = .ok (.iadd, 1) := by decide +kernel
theorem dX1_allFit_157 : decode cX1_allFit 157 = .ok (.iload 5, 2) := by decide +kernel
theorem dX1_allFit_159 : decode cX1_allFit 159 = .ok (.bastore, 1) := by decide +kernel
theorem dX1_allFit_160 : decode cX1_allFit 160 = .ok (.iinc 3 (-1), 3) := by decide +kernel
theorem dX1_allFit_163 : decode cX1_allFit 163 = .ok (.goto (-152), 3) := by decide +kernel
theorem dX1_allFit_166 : decode cX1_allFit 166 = .ok (.iinc 2 (-1), 3) := by decide +kernel
theorem dX1_allFit_169 : decode cX1_allFit 169 = .ok (.goto (-164), 3) := by decide +kernel
theorem dX1_allFit_172 : decode cX1_allFit 172 = .ok (.aload_n 0, 1) := by decide +kernel
theorem dX1_allFit_173 : decode cX1_allFit 173 = .ok (.getfield 42, 3) := by decide +kernel
theorem dX1_allFit_176 : decode cX1_allFit 176 = .ok (.iconst 0, 1) := by decide +kernel
theorem dX1_allFit_177 : decode cX1_allFit 177 = .ok (.baload, 1) := by decide +kernel
theorem dX1_allFit_178 : decode cX1_allFit 178 = .ok (.ireturn, 1) := by decide +kernel
theorem dX1_lastMatch_0 : decode cX1_lastMatch 0 = .ok (.aload_n 0, 1) := by decide +kernel
theorem dX1_lastMatch_1 : decode cX1_lastMatch 1 = .ok (.invokevirtual 59, 3) := by decide +kernel
theorem dX1_lastMatch_4 : decode cX1_lastMatch 4 = .ok (.ifCond .eq 15, 3) := by decide +kernel
theorem dX1_lastMatch_7 : decode cX1_lastMatch 7 = .ok (.aload_n 0, 1) := by decide +kernel
theorem dX1_lastMatch_8 : decode cX1_lastMatch 8 = .ok (.aload_n 0, 1) := by decide +kernel
theorem dX1_lastMatch_9 : decode cX1_lastMatch 9 = .ok (.getfield 28, 3) := by decide +kernel
theorem dX1_lastMatch_12 : decode cX1_lastMatch 12 = .ok (.iload_n 1, 1) := by decide +kernel
theorem dX1_lastMatch_13 : decode cX1_lastMatch 13 = .ok (.invokevirtual 62, 3) := by decide +kernel
theorem dX1_lastMatch_16 : decode cX1_lastMatch 16 = .ok (.goto 5, 3) := by decide +kernel
theorem dX1_lastMatch_19 : decode cX1_lastMatch 19 = .ok (.bipush (-5), 2) := by decide +kernel
theorem dX1_lastMatch_21 : decode cX1_lastMatch 21 = .ok (.ireturn, 1) := by decide +kernel
theorem dX1_matches_0 : decode cX1_matches 0 = .ok (.iconst 0, 1) := by decide +kernel
theorem dX1_matches_1 : decode cX1_matches 1 = .ok (.istore_n 2, 1) := by decide +kernel
theorem dX1_matches_2 : decode cX1_matches 2 = .ok (.iconst 0, 1) := by decide +kernel
theorem dX1_matches_3 : decode cX1_matches 3 = .ok (.istore_n 3, 1) := by decide +kernel
theorem dX1_matches_4 : decode cX1_matches 4 = .ok (.iload_n 3, 1) := by decide +kernel
theorem dX1_matches_5 : decode cX1_matches 5 = .ok (.aload_n 0, 1) := by decide +kernel
theorem dX1_matches_6 : decode cX1_matches 6 = .ok (.getfield 52, 3) := by decide +kernel
theorem dX1_matches_9 : decode cX1_matches 9 = .ok (.if_icmp .ge 32, 3) := by decide +kernel
theorem dX1_matches_12 : decode cX1_matches 12 = .ok (.aload_n 0, 1) := by decide +kernel
theorem dX1_matches_13 : decode cX1_matches 13 = .ok (.invokevirtual 59, 3) := by decide +kernel
theorem dX1_matches_16 : decode cX1_matches 16 = .ok (.ifCond .eq 19, 3) := by decide +kernel
theorem dX1_matches_19 : decode cX1_matches 19 = .ok (.aload_n 0, 1) := by decide +kernel
theorem dX1_matches_20 : decode cX1_matches 20 = .ok (.iload_n 3, 1) := by decide +kernel
theorem dX1_matches_21 : decode cX1_matches 21 = .ok (.aload_n 0, 1) := by decide +kernel
theorem dX1_matches_22 : decode cX1_matches 22 = .ok (.getfield 28, 3) := by decide +kernel
theorem dX1_matches_25 : decode cX1_matches 25 = .ok (.iload_n 1, 1) := by decide +kernel
theorem dX1_matches_26 : decode cX1_matches 26 = .ok (.invokevirtual 66, 3) := by decide +kernel
theorem dX1_matches_29 : decode cX1_matches 29 = .ok (.ifCond .eq 6, 3) := by decide +kernel
theorem dX1_matches_32 : decode cX1_matches 32 = .ok (.iinc 2 1, 3) := by decide +kernel
theorem dX1_matches_35 : decode cX1_matches 35 = .ok (.iinc 3 1, 3) := by decide +kernel
theorem dX1_matches_38 : decode cX1_matches 38 = .ok (.goto (-34), 3) := by decide +kernel
theorem dX1_matches_41 : decode cX1_matches 41 = .ok (.iload_n 2, 1) := by decide +kernel
theorem dX1_matches_42 : decode cX1_matches 42 = .ok (.ireturn, 1) := by decide +kernel
theorem dX1_rules_0 : decode cX1_rules 0 = .ok (.aload_n 0, 1) := by decide +kernel
theorem dX1_rules_1 : decode cX1_rules 1 = .ok (.getfield 52, 3) := by decide +kernel
theorem dX1_rules_4 : decode cX1_rules 4 = .ok (.ireturn, 1) := by decide +kernel
end
section
set_option maxRecDepth 100000
theorem dL_law_0 : decode cL_law 0 = .ok (.new 7, 3) := by decide +kernel
theorem dL_law_3 : decode cL_law 3 = .ok (.dup, 1) := by decide +kernel
theorem dL_law_4 : decode cL_law 4 = .ok (.invokespecial 9, 3) := by decide +kernel
theorem dL_law_7 : decode cL_law 7 = .ok (.astore_n 1, 1) := by decide +kernel
theorem dL_law_8 : decode cL_law 8 = .ok (.new 10, 3) := by decide +kernel
theorem dL_law_11 : decode cL_law 11 = .ok (.dup, 1) := by decide +kernel
theorem dL_law_12 : decode cL_law 12 = .ok (.invokespecial 12, 3) := by decide +kernel
theorem dL_law_15 : decode cL_law 15 = .ok (.astore_n 2, 1) := by decide +kernel
theorem dL_law_16 : decode cL_law 16 = .ok (.iconst 0, 1) := by decide +kernel
theorem dL_law_17 : decode cL_law 17 = .ok (.istore_n 3, 1) := by decide +kernel
theorem dL_law_18 : decode cL_law 18 = .ok (.iload_n 3, 1) := by decide +kernel
theorem dL_law_19 : decode cL_law 19 = .ok (.aload_n 0, 1) := by decide +kernel
theorem dL_law_20 : decode cL_law 20 = .ok (.arraylength, 1) := by decide +kernel
theorem dL_law_21 : decode cL_law 21 = .ok (.iconst 2, 1) := by decide +kernel
theorem dL_law_22 : decode cL_law 22 = .ok (.isub, 1) := by decide +kernel
theorem dL_law_23 : decode cL_law 23 = .ok (.if_icmp .gt 333, 3) := by decide +kernel
theorem dL_law_26 : decode cL_law 26 = .ok (.aload_n 0, 1) := by decide +kernel
theorem dL_law_27 : decode cL_law 27 = .ok (.iload_n 3, 1) := by decide +kernel
theorem dL_law_28 : decode cL_law 28 = .ok (.iaload, 1) := by decide +kernel
theorem dL_law_29 : decode cL_law 29 = .ok (.bipush 15, 2) := by decide +kernel
theorem dL_law_31 : decode cL_law 31 = .ok (.iand, 1) := by decide +kernel
theorem dL_law_32 : decode cL_law 32 = .ok (.tableswitch 318 0 9 #[56, 79, 102, 115, 138, 149, 188, 227, 266, 305], 56) := by decide +kernel
theorem dL_law_88 : decode cL_law 88 = .ok (.aload_n 1, 1) := by decide +kernel
theorem dL_law_89 : decode cL_law 89 = .ok (.aload_n 0, 1) := by decide +kernel
theorem dL_law_90 : decode cL_law 90 = .ok (.iload_n 3, 1) := by decide +kernel
theorem dL_law_91 : decode cL_law 91 = .ok (.iconst 1, 1) := by decide +kernel
theorem dL_law_92 : decode cL_law 92 = .ok (.iadd, 1) := by decide +kernel
theorem dL_law_93 : decode cL_law 93 = .ok (.iaload, 1) := by decide +kernel
theorem dL_law_94 : decode cL_law 94 = .ok (.invokevirtual 13, 3) := by decide +kernel
theorem dL_law_97 : decode cL_law 97 = .ok (.aload_n 2, 1) := by decide +kernel
theorem dL_law_98 : decode cL_law 98 = .ok (.aload_n 0, 1) := by decide +kernel
theorem dL_law_99 : decode cL_law 99 = .ok (.iload_n 3, 1) := by decide +kernel
theorem dL_law_100 : decode cL_law 100 = .ok (.iconst 1, 1) := by decide +kernel
theorem dL_law_101 : decode cL_law 101 = .ok (.iadd, 1) := by decide +kernel
theorem dL_law_102 : decode cL_law 102 = .ok (.iaload, 1) := by decide +kernel
theorem dL_law_103 : decode cL_law 103 = .ok (.invokevirtual 17, 3) := by decide +kernel
theorem dL_law_106 : decode cL_law 106 = .ok (.if_icmp .eq 244, 3) := by decide +kernel
theorem dL_law_109 : decode cL_law 109 = .ok (.iconst 0, 1) := by decide +kernel
theorem dL_law_110 : decode cL_law 110 = .ok (.ireturn, 1) := by decide +kernel
theorem dL_law_111 : decode cL_law 111 = .ok (.aload_n 1, 1) := by decide +kernel
theorem dL_law_112 : decode cL_law 112 = .ok (.aload_n 0, 1) := by decide +kernel
theorem dL_law_113 : decode cL_law 113 = .ok (.iload_n 3, 1) := by decide +kernel
theorem dL_law_114 : decode cL_law 114 = .ok (.iconst 1, 1) := by decide +kernel
theorem dL_law_115 : decode cL_law 115 = .ok (.iadd, 1) := by decide +kernel
theorem dL_law_116 : decode cL_law 116 = .ok (.iaload, 1) := by decide +kernel
theorem dL_law_117 : decode cL_law 117 = .ok (.invokevirtual 18, 3) := by decide +kernel
theorem dL_law_120 : decode cL_law 120 = .ok (.aload_n 2, 1) := by decide +kernel
theorem dL_law_121 : decode cL_law 121 = .ok (.aload_n 0, 1) := by decide +kernel
theorem dL_law_122 : decode cL_law 122 = .ok (.iload_n 3, 1) := by decide +kernel
theorem dL_law_123 : decode cL_law 123 = .ok (.iconst 1, 1) := by decide +kernel
theorem dL_law_124 : decode cL_law 124 = .ok (.iadd, 1) := by decide +kernel
theorem dL_law_125 : decode cL_law 125 = .ok (.iaload, 1) := by decide +kernel
theorem dL_law_126 : decode cL_law 126 = .ok (.invokevirtual 21, 3) := by decide +kernel
theorem dL_law_129 : decode cL_law 129 = .ok (.if_icmp .eq 221, 3) := by decide +kernel
theorem dL_law_132 : decode cL_law 132 = .ok (.iconst 0, 1) := by decide +kernel
theorem dL_law_133 : decode cL_law 133 = .ok (.ireturn, 1) := by decide +kernel
theorem dL_law_134 : decode cL_law 134 = .ok (.aload_n 1, 1) := by decide +kernel
theorem dL_law_135 : decode cL_law 135 = .ok (.invokevirtual 22, 3) := by decide +kernel
theorem dL_law_138 : decode cL_law 138 = .ok (.aload_n 2, 1) := by decide +kernel
theorem dL_law_139 : decode cL_law 139 = .ok (.invokevirtual 26, 3) := by decide +kernel
theorem dL_law_142 : decode cL_law 142 = .ok (.if_icmp .eq 208, 3) := by decide +kernel
theorem dL_law_145 : decode cL_law 145 = .ok (.iconst 0, 1) := by decide +kernel
theorem dL_law_146 : decode cL_law 146 = .ok (.ireturn, 1) := by decide +kernel
theorem dL_law_147 : decode cL_law 147 = .ok (.aload_n 1, 1) := by decide +kernel
theorem dL_law_148 : decode cL_law 148 = .ok (.aload_n 0, 1) := by decide +kernel
theorem dL_law_149 : decode cL_law 149 = .ok (.iload_n 3, 1) := by decide +kernel
theorem dL_law_150 : decode cL_law 150 = .ok (.iconst 1, 1) := by decide +kernel
theorem dL_law_151 : decode cL_law 151 = .ok (.iadd, 1) := by decide +kernel
theorem dL_law_152 : decode cL_law 152 = .ok (.iaload, 1) := by decide +kernel
theorem dL_law_153 : decode cL_law 153 = .ok (.invokevirtual 27, 3) := by decide +kernel
theorem dL_law_156 : decode cL_law 156 = .ok (.aload_n 2, 1) := by decide +kernel
theorem dL_law_157 : decode cL_law 157 = .ok (.aload_n 0, 1) := by decide +kernel
theorem dL_law_158 : decode cL_law 158 = .ok (.iload_n 3, 1) := by decide +kernel
theorem dL_law_159 : decode cL_law 159 = .ok (.iconst 1, 1) := by decide +kernel
theorem dL_law_160 : decode cL_law 160 = .ok (.iadd, 1) := by decide +kernel
theorem dL_law_161 : decode cL_law 161 = .ok (.iaload, 1) := by decide +kernel
theorem dL_law_162 : decode cL_law 162 = .ok (.invokevirtual 30, 3) := by decide +kernel
theorem dL_law_165 : decode cL_law 165 = .ok (.if_icmp .eq 185, 3) := by decide +kernel
theorem dL_law_168 : decode cL_law 168 = .ok (.iconst 0, 1) := by decide +kernel
theorem dL_law_169 : decode cL_law 169 = .ok (.ireturn, 1) := by decide +kernel
theorem dL_law_170 : decode cL_law 170 = .ok (.aload_n 1, 1) := by decide +kernel
theorem dL_law_171 : decode cL_law 171 = .ok (.invokevirtual 31, 3) := by decide +kernel
theorem dL_law_174 : decode cL_law 174 = .ok (.aload_n 2, 1) := by decide +kernel
theorem dL_law_175 : decode cL_law 175 = .ok (.invokevirtual 34, 3) := by decide +kernel
theorem dL_law_178 : decode cL_law 178 = .ok (.goto 172, 3) := by decide +kernel
theorem dL_law_181 : decode cL_law 181 = .ok (.aload_n 1, 1) := by decide +kernel
theorem dL_law_182 : decode cL_law 182 = .ok (.aload_n 0, 1) := by decide +kernel
theorem dL_law_183 : decode cL_law 183 = .ok (.iload_n 3, 1) := by decide +kernel
theorem dL_law_184 : decode cL_law 184 = .ok (.iconst 1, 1) := by decide +kernel
theorem dL_law_185 : decode cL_law 185 = .ok (.iadd, 1) := by decide +kernel
theorem dL_law_186 : decode cL_law 186 = .ok (.iaload, 1) := by decide +kernel
theorem dL_law_187 : decode cL_law 187 = .ok (.ifCond .eq 7, 3) := by decide +kernel
theorem dL_law_190 : decode cL_law 190 = .ok (.iconst 1, 1) := by decide +kernel
theorem dL_law_191 : decode cL_law 191 = .ok (.goto 4, 3) := by decide +kernel
theorem dL_law_194 : decode cL_law 194 = .ok (.iconst 0, 1) := by decide +kernel
theorem dL_law_195 : decode cL_law 195 = .ok (.invokevirtual 35, 3) := by decide +kernel
theorem dL_law_198 : decode cL_law 198 = .ok (.aload_n 2, 1) := by decide +kernel
theorem dL_law_199 : decode cL_law 199 = .ok (.aload_n 0, 1) := by decide +kernel
theorem dL_law_200 : decode cL_law 200 = .ok (.iload_n 3, 1) := by decide +kernel
theorem dL_law_201 : decode cL_law 201 = .ok (.iconst 1, 1) := by decide +kernel
end
section
set_option maxRecDepth 100000
theorem dL_law_202 : decode cL_law 202 = .ok (.iadd, 1) := by decide +kernel
theorem dL_law_203 : decode cL_law 203 = .ok (.iaload, 1) := by decide +kernel
theorem dL_law_204 : decode cL_law 204 = .ok (.ifCond .eq 7, 3) := by decide +kernel
theorem dL_law_207 : decode cL_law 207 = .ok (.iconst 1, 1) := by decide +kernel
theorem dL_law_208 : decode cL_law 208 = .ok (.goto 4, 3) := by decide +kernel
theorem dL_law_211 : decode cL_law 211 = .ok (.iconst 0, 1) := by decide +kernel
theorem dL_law_212 : decode cL_law 212 = .ok (.invokevirtual 39, 3) := by decide +kernel
theorem dL_law_215 : decode cL_law 215 = .ok (.if_icmp .eq 135, 3) := by decide +kernel
theorem dL_law_218 : decode cL_law 218 = .ok (.iconst 0, 1) := by decide +kernel
theorem dL_law_219 : decode cL_law 219 = .ok (.ireturn, 1) := by decide +kernel
theorem dL_law_220 : decode cL_law 220 = .ok (.aload_n 1, 1) := by decide +kernel
theorem dL_law_221 : decode cL_law 221 = .ok (.aload_n 0, 1) := by decide +kernel
theorem dL_law_222 : decode cL_law 222 = .ok (.iload_n 3, 1) := by decide +kernel
theorem dL_law_223 : decode cL_law 223 = .ok (.iconst 1, 1) := by decide +kernel
theorem dL_law_224 : decode cL_law 224 = .ok (.iadd, 1) := by decide +kernel
theorem dL_law_225 : decode cL_law 225 = .ok (.iaload, 1) := by decide +kernel
theorem dL_law_226 : decode cL_law 226 = .ok (.ifCond .eq 7, 3) := by decide +kernel
theorem dL_law_229 : decode cL_law 229 = .ok (.iconst 1, 1) := by decide +kernel
theorem dL_law_230 : decode cL_law 230 = .ok (.goto 4, 3) := by decide +kernel
theorem dL_law_233 : decode cL_law 233 = .ok (.iconst 0, 1) := by decide +kernel
theorem dL_law_234 : decode cL_law 234 = .ok (.invokevirtual 40, 3) := by decide +kernel
theorem dL_law_237 : decode cL_law 237 = .ok (.aload_n 2, 1) := by decide +kernel
theorem dL_law_238 : decode cL_law 238 = .ok (.aload_n 0, 1) := by decide +kernel
theorem dL_law_239 : decode cL_law 239 = .ok (.iload_n 3, 1) := by decide +kernel
theorem dL_law_240 : decode cL_law 240 = .ok (.iconst 1, 1) := by decide +kernel
theorem dL_law_241 : decode cL_law 241 = .ok (.iadd, 1) := by decide +kernel
theorem dL_law_242 : decode cL_law 242 = .ok (.iaload, 1) := by decide +kernel
theorem dL_law_243 : decode cL_law 243 = .ok (.ifCond .eq 7, 3) := by decide +kernel
theorem dL_law_246 : decode cL_law 246 = .ok (.iconst 1, 1) := by decide +kernel
theorem dL_law_247 : decode cL_law 247 = .ok (.goto 4, 3) := by decide +kernel
theorem dL_law_250 : decode cL_law 250 = .ok (.iconst 0, 1) := by decide +kernel
theorem dL_law_251 : decode cL_law 251 = .ok (.invokevirtual 44, 3) := by decide +kernel
theorem dL_law_254 : decode cL_law 254 = .ok (.if_icmp .eq 96, 3) := by decide +kernel
theorem dL_law_257 : decode cL_law 257 = .ok (.iconst 0, 1) := by decide +kernel
theorem dL_law_258 : decode cL_law 258 = .ok (.ireturn, 1) := by decide +kernel
theorem dL_law_259 : decode cL_law 259 = .ok (.aload_n 1, 1) := by decide +kernel
theorem dL_law_260 : decode cL_law 260 = .ok (.aload_n 0, 1) := by decide +kernel
theorem dL_law_261 : decode cL_law 261 = .ok (.iload_n 3, 1) := by decide +kernel
theorem dL_law_262 : decode cL_law 262 = .ok (.iconst 1, 1) := by decide +kernel
theorem dL_law_263 : decode cL_law 263 = .ok (.iadd, 1) := by decide +kernel
theorem dL_law_264 : decode cL_law 264 = .ok (.iaload, 1) := by decide +kernel
theorem dL_law_265 : decode cL_law 265 = .ok (.ifCond .eq 7, 3) := by decide +kernel
theorem dL_law_268 : decode cL_law 268 = .ok (.iconst 1, 1) := by decide +kernel
theorem dL_law_269 : decode cL_law 269 = .ok (.goto 4, 3) := by decide +kernel
theorem dL_law_272 : decode cL_law 272 = .ok (.iconst 0, 1) := by decide +kernel
theorem dL_law_273 : decode cL_law 273 = .ok (.invokevirtual 45, 3) := by decide +kernel
theorem dL_law_276 : decode cL_law 276 = .ok (.aload_n 2, 1) := by decide +kernel
theorem dL_law_277 : decode cL_law 277 = .ok (.aload_n 0, 1) := by decide +kernel
theorem dL_law_278 : decode cL_law 278 = .ok (.iload_n 3, 1) := by decide +kernel
theorem dL_law_279 : decode cL_law 279 = .ok (.iconst 1, 1) := by decide +kernel
theorem dL_law_280 : decode cL_law 280 = .ok (.iadd, 1) := by decide +kernel
theorem dL_law_281 : decode cL_law 281 = .ok (.iaload, 1) := by decide +kernel
theorem dL_law_282 : decode cL_law 282 = .ok (.ifCond .eq 7, 3) := by decide +kernel
theorem dL_law_285 : decode cL_law 285 = .ok (.iconst 1, 1) := by decide +kernel
theorem dL_law_286 : decode cL_law 286 = .ok (.goto 4, 3) := by decide +kernel
theorem dL_law_289 : decode cL_law 289 = .ok (.iconst 0, 1) := by decide +kernel
theorem dL_law_290 : decode cL_law 290 = .ok (.invokevirtual 48, 3) := by decide +kernel
theorem dL_law_293 : decode cL_law 293 = .ok (.if_icmp .eq 57, 3) := by decide +kernel
theorem dL_law_296 : decode cL_law 296 = .ok (.iconst 0, 1) := by decide +kernel
theorem dL_law_297 : decode cL_law 297 = .ok (.ireturn, 1) := by decide +kernel
theorem dL_law_298 : decode cL_law 298 = .ok (.aload_n 1, 1) := by decide +kernel
theorem dL_law_299 : decode cL_law 299 = .ok (.aload_n 0, 1) := by decide +kernel
theorem dL_law_300 : decode cL_law 300 = .ok (.iload_n 3, 1) := by decide +kernel
theorem dL_law_301 : decode cL_law 301 = .ok (.iconst 1, 1) := by decide +kernel
theorem dL_law_302 : decode cL_law 302 = .ok (.iadd, 1) := by decide +kernel
theorem dL_law_303 : decode cL_law 303 = .ok (.iaload, 1) := by decide +kernel
theorem dL_law_304 : decode cL_law 304 = .ok (.ifCond .eq 7, 3) := by decide +kernel
theorem dL_law_307 : decode cL_law 307 = .ok (.iconst 1, 1) := by decide +kernel
theorem dL_law_308 : decode cL_law 308 = .ok (.goto 4, 3) := by decide +kernel
theorem dL_law_311 : decode cL_law 311 = .ok (.iconst 0, 1) := by decide +kernel
theorem dL_law_312 : decode cL_law 312 = .ok (.invokevirtual 49, 3) := by decide +kernel
theorem dL_law_315 : decode cL_law 315 = .ok (.aload_n 2, 1) := by decide +kernel
theorem dL_law_316 : decode cL_law 316 = .ok (.aload_n 0, 1) := by decide +kernel
theorem dL_law_317 : decode cL_law 317 = .ok (.iload_n 3, 1) := by decide +kernel
theorem dL_law_318 : decode cL_law 318 = .ok (.iconst 1, 1) := by decide +kernel
theorem dL_law_319 : decode cL_law 319 = .ok (.iadd, 1) := by decide +kernel
theorem dL_law_320 : decode cL_law 320 = .ok (.iaload, 1) := by decide +kernel
theorem dL_law_321 : decode cL_law 321 = .ok (.ifCond .eq 7, 3) := by decide +kernel
theorem dL_law_324 : decode cL_law 324 = .ok (.iconst 1, 1) := by decide +kernel
theorem dL_law_325 : decode cL_law 325 = .ok (.goto 4, 3) := by decide +kernel
theorem dL_law_328 : decode cL_law 328 = .ok (.iconst 0, 1) := by decide +kernel
theorem dL_law_329 : decode cL_law 329 = .ok (.invokevirtual 52, 3) := by decide +kernel
theorem dL_law_332 : decode cL_law 332 = .ok (.if_icmp .eq 18, 3) := by decide +kernel
theorem dL_law_335 : decode cL_law 335 = .ok (.iconst 0, 1) := by decide +kernel
theorem dL_law_336 : decode cL_law 336 = .ok (.ireturn, 1) := by decide +kernel
theorem dL_law_337 : decode cL_law 337 = .ok (.aload_n 1, 1) := by decide +kernel
theorem dL_law_338 : decode cL_law 338 = .ok (.invokevirtual 53, 3) := by decide +kernel
theorem dL_law_341 : decode cL_law 341 = .ok (.aload_n 2, 1) := by decide +kernel
theorem dL_law_342 : decode cL_law 342 = .ok (.invokevirtual 56, 3) := by decide +kernel
theorem dL_law_345 : decode cL_law 345 = .ok (.if_icmp .eq 5, 3) := by decide +kernel
theorem dL_law_348 : decode cL_law 348 = .ok (.iconst 0, 1) := by decide +kernel
theorem dL_law_349 : decode cL_law 349 = .ok (.ireturn, 1) := by decide +kernel
theorem dL_law_350 : decode cL_law 350 = .ok (.iinc 3 2, 3) := by decide +kernel
theorem dL_law_353 : decode cL_law 353 = .ok (.goto (-335), 3) := by decide +kernel
theorem dL_law_356 : decode cL_law 356 = .ok (.iconst 1, 1) := by decide +kernel
theorem dL_law_357 : decode cL_law 357 = .ok (.ireturn, 1) := by decide +kernel
end
section
set_option maxRecDepth 100000
/-! THE JUDGEMENT jJ: in the context X the machine, at pc with the known locals L, the stack st and the cells w, comes to its end Q -/
abbrev jC : Type := Program × Launch × Env × Room × State × MethodId × Array Value × List Frame × Method × Code × (State → Prop) × (Nat → Prop) × va_G
def jR (X : jC) : Room := X.2.2.2.1
def jL (ls : Array Slot) (n : Nat) (L : List (Option Value)) : Prop := ∃ l, lv_has ls n l ∧ ∀ (i : Nat) (v : Value), L[i]? = some (some v) → (i, v) ∈ l ∧ v.category = 1
theorem jL_at {ls : Array Slot} {n : Nat} {L : List (Option Value)} (h : jL ls n L) {i : Nat} {v : Value} (hi : L[i]? = some (some v)) : ls[i]? = some (.val v) := by
  obtain ⟨l, h1, h2⟩ := h
  exact h1.2.2 (i, v) (h2 i v hi).1
theorem jL_set {ls' : Array Slot} {n : Nat} {L : List (Option Value)} {l : List (Nat × Value)} {i : Nat} {w : Value} (hw : w.category = 1) (h2 : ∀ (i : Nat) (v : Value), L[i]? = some (some v) → (i, v) ∈ l ∧ v.category = 1) (h : lv_has ls' n ((i, w) :: l.filter (fun q => !(q.1 == i) && !(q.1 + 1 == i && q.2.category == 2)))) : jL ls' n (L.set i (some w)) := by
  refine ⟨_, h, fun j v hj => ?_⟩
  by_cases e : j = i
  · subst e
    rw [List.getElem?_set] at hj
    simp only [if_true] at hj
    split at hj
    · have hj := Option.some.inj (Option.some.inj hj)
      subst hj
      exact ⟨List.mem_cons_self, hw⟩
    · cases hj
  · rw [List.getElem?_set, if_neg (fun q => e q.symm)] at hj
    obtain ⟨a, b⟩ := h2 j v hj
    exact ⟨List.mem_cons_of_mem _ (List.mem_filter.mpr ⟨a, by simp [e, b]⟩), b⟩
theorem jL_size {ls : Array Slot} {n : Nat} {L : List (Option Value)} (h : jL ls n L) : ls.size = n := by
  obtain ⟨l, h1, -⟩ := h
  exact h1.1
def jE (X : jC) (own : String) (cc : ByteArray) (n : Nat) : Prop := match X with
  | (p, l, e, R, s, m, args, below, meth, c, Q, A, D) => p.tables.exec = Jvm.exec ∧ c.code = cc ∧ c.maxLocals = n ∧ s.vm.findClass own = some m.cls ∧ (∀ w ∈ lw_all, w.before args s = true) ∧ meth.locks = false ∧ (∀ q, s.heap.size ≤ q → A q)
def jJ (X : jC) (cI cZ : ClassId) (own : String) (cc : ByteArray) (n k1 k2 : Nat) (w : va_W) (pc : Nat) (L : List (Option Value)) (st : List Value) : Prop := match X with
  | (p, l, e, R, s, m, args, below, meth, c, Q, A, D) => jE (p, l, e, R, s, m, args, below, meth, c, Q, A, D) own cc n → ∀ (H : Heap) (locs : List Loc) (ls : Array Slot), va_K D vwCl [(cI, .int), (cZ, .boolean)] s → va_P D vwCl w H → va_D A w → va_S A s.heap H locs → jL ls n L → W p l e R s m args below meth c H locs k1 k2 Q (F0 m pc ls st)
/-- a truth value as the machine has it -/
def jb (b : Bool) : Int32 := if b then 1 else 0
theorem jb_0 {b : Bool} : jb b = 0 ↔ b = false := by cases b <;> decide
theorem jb_n0 {b : Bool} : ¬ jb b = 0 ↔ b = true := by cases b <;> decide
theorem jb_t : jb true = nI 1 := by decide
theorem jb_f : jb false = nI 0 := by decide
theorem jb_nar (b : Bool) : narrow .boolean (.int (jb b)) = .int (jb b) := by cases b <;> decide
section JR
variable {X : jC} {cI cZ : ClassId} {own : String} {cc : ByteArray} {n k1 k2 : Nat} {w : va_W} {pc : Nat} {L : List (Option Value)} {st : List Value}
theorem j_iconst (v : Int32) {z : Int} (d : decode cc pc = .ok (.iconst z, 1)) (hv : Int32.ofInt z = v) (k : jJ X cI cZ own cc n k1 k2 w (pc + 1) L (.int v :: st)) : jJ X cI cZ own cc n k1 k2 w pc L st := by
  obtain ⟨p, l, e, R, s, m, args, below, meth, c, Q, A, D⟩ := X
  intro E H locs ls hK hP hD hS hl
  exact lv_iconst E.1 E.2.1 d hv (k E H locs ls hK hP hD hS hl)
theorem j_bipush (v : Int32) {z : Int} (d : decode cc pc = .ok (.bipush z, 2)) (hv : (Int8.ofInt z).toInt32 = v) (k : jJ X cI cZ own cc n k1 k2 w (pc + 2) L (.int v :: st)) : jJ X cI cZ own cc n k1 k2 w pc L st := by
  obtain ⟨p, l, e, R, s, m, args, below, meth, c, Q, A, D⟩ := X
  intro E H locs ls hK hP hD hS hl
  exact lv_bipush E.1 E.2.1 d hv (k E H locs ls hK hP hD hS hl)
theorem j_iadd {x y : Int32} (d : decode cc pc = .ok (.iadd, 1)) (k : jJ X cI cZ own cc n k1 k2 w (pc + 1) L (.int (x + y) :: st)) : jJ X cI cZ own cc n k1 k2 w pc L (.int y :: .int x :: st) := by
  obtain ⟨p, l, e, R, s, m, args, below, meth, c, Q, A, D⟩ := X
  intro E H locs ls hK hP hD hS hl
  exact lv_iadd E.1 E.2.1 d (k E H locs ls hK hP hD hS hl)
theorem j_isub {x y : Int32} (d : decode cc pc = .ok (.isub, 1)) (k : jJ X cI cZ own cc n k1 k2 w (pc + 1) L (.int (x - y) :: st)) : jJ X cI cZ own cc n k1 k2 w pc L (.int y :: .int x :: st) := by
  obtain ⟨p, l, e, R, s, m, args, below, meth, c, Q, A, D⟩ := X
  intro E H locs ls hK hP hD hS hl
  exact lv_isub E.1 E.2.1 d (k E H locs ls hK hP hD hS hl)
theorem j_imul {x y : Int32} (d : decode cc pc = .ok (.imul, 1)) (k : jJ X cI cZ own cc n k1 k2 w (pc + 1) L (.int (x * y) :: st)) : jJ X cI cZ own cc n k1 k2 w pc L (.int y :: .int x :: st) := by
  obtain ⟨p, l, e, R, s, m, args, below, meth, c, Q, A, D⟩ := X
  intro E H locs ls hK hP hD hS hl
  exact lv_imul E.1 E.2.1 d (k E H locs ls hK hP hD hS hl)
theorem j_iand {x y : Int32} (d : decode cc pc = .ok (.iand, 1)) (k : jJ X cI cZ own cc n k1 k2 w (pc + 1) L (.int (x &&& y) :: st)) : jJ X cI cZ own cc n k1 k2 w pc L (.int y :: .int x :: st) := by
  obtain ⟨p, l, e, R, s, m, args, below, meth, c, Q, A, D⟩ := X
  intro E H locs ls hK hP hD hS hl
  exact lv_iand E.1 E.2.1 d (k E H locs ls hK hP hD hS hl)
theorem j_ior {x y : Int32} (d : decode cc pc = .ok (.ior, 1)) (k : jJ X cI cZ own cc n k1 k2 w (pc + 1) L (.int (x ||| y) :: st)) : jJ X cI cZ own cc n k1 k2 w pc L (.int y :: .int x :: st) := by
  obtain ⟨p, l, e, R, s, m, args, below, meth, c, Q, A, D⟩ := X
  intro E H locs ls hK hP hD hS hl
  exact lv_ior E.1 E.2.1 d (k E H locs ls hK hP hD hS hl)
theorem j_ishl {x y : Int32} (d : decode cc pc = .ok (.ishl, 1)) (k : jJ X cI cZ own cc n k1 k2 w (pc + 1) L (.int (x <<< (y &&& 31)) :: st)) : jJ X cI cZ own cc n k1 k2 w pc L (.int y :: .int x :: st) := by
  obtain ⟨p, l, e, R, s, m, args, below, meth, c, Q, A, D⟩ := X
  intro E H locs ls hK hP hD hS hl
  exact lv_ishl E.1 E.2.1 d (k E H locs ls hK hP hD hS hl)
theorem j_iaddN {a b : Nat} (d : decode cc pc = .ok (.iadd, 1)) (k : jJ X cI cZ own cc n k1 k2 w (pc + 1) L (.int (nI (a + b)) :: st)) : jJ X cI cZ own cc n k1 k2 w pc L (.int (nI b) :: .int (nI a) :: st) := j_iadd d (by rw [nI_add]; exact k)
theorem j_imulN {a b : Nat} (d : decode cc pc = .ok (.imul, 1)) (k : jJ X cI cZ own cc n k1 k2 w (pc + 1) L (.int (nI (a * b)) :: st)) : jJ X cI cZ own cc n k1 k2 w pc L (.int (nI b) :: .int (nI a) :: st) := j_imul d (by rw [pk_mul]; exact k)
theorem j_isubN {a b : Nat} (h : b ≤ a) (d : decode cc pc = .ok (.isub, 1)) (k : jJ X cI cZ own cc n k1 k2 w (pc + 1) L (.int (nI (a - b)) :: st)) : jJ X cI cZ own cc n k1 k2 w pc L (.int (nI b) :: .int (nI a) :: st) := j_isub d (by rw [pk_sub h]; exact k)
theorem j_dup {va : Value} (hv : va.category = 1) (d : decode cc pc = .ok (.dup, 1)) (k : jJ X cI cZ own cc n k1 k2 w (pc + 1) L (va :: va :: st)) : jJ X cI cZ own cc n k1 k2 w pc L (va :: st) := by
  obtain ⟨p, l, e, R, s, m, args, below, meth, c, Q, A, D⟩ := X
  intro E H locs ls hK hP hD hS hl
  exact lv_dup E.1 E.2.1 d hv (k E H locs ls hK hP hD hS hl)
theorem j_dup2 {va vb : Value} (hv : va.category = 1) (hw : vb.category = 1) (d : decode cc pc = .ok (.dup2, 1)) (k : jJ X cI cZ own cc n k1 k2 w (pc + 1) L (va :: vb :: va :: vb :: st)) : jJ X cI cZ own cc n k1 k2 w pc L (va :: vb :: st) := by
  obtain ⟨p, l, e, R, s, m, args, below, meth, c, Q, A, D⟩ := X
  intro E H locs ls hK hP hD hS hl
  exact lv_dup2_11 E.1 E.2.1 d hv hw (k E H locs ls hK hP hD hS hl)
theorem j_top {x : Int32} (y : Int32) (h : x = y) (k : jJ X cI cZ own cc n k1 k2 w pc L (.int y :: st)) : jJ X cI cZ own cc n k1 k2 w pc L (.int x :: st) := by subst h; exact k
theorem j_nm {x : Int32} (k : ∀ y : Int32, y = x → jJ X cI cZ own cc n k1 k2 w pc L (.int y :: st)) : jJ X cI cZ own cc n k1 k2 w pc L (.int x :: st) := k x rfl
theorem j_goto {off : Int} (tgt : Nat) (d : decode cc pc = .ok (.goto off, 3)) (ht : (pc : Int) + off = (tgt : Int)) (k : jJ X cI cZ own cc n k1 k2 w tgt L st) : jJ X cI cZ own cc n k1 k2 w pc L st := by
  obtain ⟨p, l, e, R, s, m, args, below, meth, c, Q, A, D⟩ := X
  intro E H locs ls hK hP hD hS hl
  exact lv_goto E.1 E.2.1 d ht (k E H locs ls hK hP hD hS hl)
theorem j_ifeq {x : Int32} {off : Int} (tgt : Nat) (d : decode cc pc = .ok (.ifCond .eq off, 3)) (ht : (pc : Int) + off = (tgt : Int)) (kt : x = 0 → jJ X cI cZ own cc n k1 k2 w tgt L st) (kf : ¬ x = 0 → jJ X cI cZ own cc n k1 k2 w (pc + 3) L st) : jJ X cI cZ own cc n k1 k2 w pc L (.int x :: st) := by
  obtain ⟨p, l, e, R, s, m, args, below, meth, c, Q, A, D⟩ := X
  intro E H locs ls hK hP hD hS hl
  exact lv_if_eq E.1 E.2.1 d ht (fun q => kt q E H locs ls hK hP hD hS hl) (fun q => kf q E H locs ls hK hP hD hS hl)
theorem j_iceq {x y : Int32} {off : Int} (tgt : Nat) (d : decode cc pc = .ok (.if_icmp .eq off, 3)) (ht : (pc : Int) + off = (tgt : Int)) (kt : x = y → jJ X cI cZ own cc n k1 k2 w tgt L st) (kf : ¬ x = y → jJ X cI cZ own cc n k1 k2 w (pc + 3) L st) : jJ X cI cZ own cc n k1 k2 w pc L (.int y :: .int x :: st) := by
  obtain ⟨p, l, e, R, s, m, args, below, meth, c, Q, A, D⟩ := X
  intro E H locs ls hK hP hD hS hl
  exact lv_icmp_eq E.1 E.2.1 d ht (fun q => kt q E H locs ls hK hP hD hS hl) (fun q => kf q E H locs ls hK hP hD hS hl)
theorem j_ifne {x : Int32} {off : Int} (tgt : Nat) (d : decode cc pc = .ok (.ifCond .ne off, 3)) (ht : (pc : Int) + off = (tgt : Int)) (kt : ¬ x = 0 → jJ X cI cZ own cc n k1 k2 w tgt L st) (kf : x = 0 → jJ X cI cZ own cc n k1 k2 w (pc + 3) L st) : jJ X cI cZ own cc n k1 k2 w pc L (.int x :: st) := by
  obtain ⟨p, l, e, R, s, m, args, below, meth, c, Q, A, D⟩ := X
  intro E H locs ls hK hP hD hS hl
  exact lv_if_ne E.1 E.2.1 d ht (fun q => kt q E H locs ls hK hP hD hS hl) (fun q => kf q E H locs ls hK hP hD hS hl)
theorem j_icne {x y : Int32} {off : Int} (tgt : Nat) (d : decode cc pc = .ok (.if_icmp .ne off, 3)) (ht : (pc : Int) + off = (tgt : Int)) (kt : ¬ x = y → jJ X cI cZ own cc n k1 k2 w tgt L st) (kf : x = y → jJ X cI cZ own cc n k1 k2 w (pc + 3) L st) : jJ X cI cZ own cc n k1 k2 w pc L (.int y :: .int x :: st) := by
  obtain ⟨p, l, e, R, s, m, args, below, meth, c, Q, A, D⟩ := X
  intro E H locs ls hK hP hD hS hl
  exact lv_icmp_ne E.1 E.2.1 d ht (fun q => kt q E H locs ls hK hP hD hS hl) (fun q => kf q E H locs ls hK hP hD hS hl)
theorem j_iflt {x : Int32} {off : Int} (tgt : Nat) (d : decode cc pc = .ok (.ifCond .lt off, 3)) (ht : (pc : Int) + off = (tgt : Int)) (kt : x < 0 → jJ X cI cZ own cc n k1 k2 w tgt L st) (kf : ¬ x < 0 → jJ X cI cZ own cc n k1 k2 w (pc + 3) L st) : jJ X cI cZ own cc n k1 k2 w pc L (.int x :: st) := by
  obtain ⟨p, l, e, R, s, m, args, below, meth, c, Q, A, D⟩ := X
  intro E H locs ls hK hP hD hS hl
  exact lv_if_lt E.1 E.2.1 d ht (fun q => kt q E H locs ls hK hP hD hS hl) (fun q => kf q E H locs ls hK hP hD hS hl)
theorem j_iclt {x y : Int32} {off : Int} (tgt : Nat) (d : decode cc pc = .ok (.if_icmp .lt off, 3)) (ht : (pc : Int) + off = (tgt : Int)) (kt : x < y → jJ X cI cZ own cc n k1 k2 w tgt L st) (kf : ¬ x < y → jJ X cI cZ own cc n k1 k2 w (pc + 3) L st) : jJ X cI cZ own cc n k1 k2 w pc L (.int y :: .int x :: st) := by
  obtain ⟨p, l, e, R, s, m, args, below, meth, c, Q, A, D⟩ := X
  intro E H locs ls hK hP hD hS hl
  exact lv_icmp_lt E.1 E.2.1 d ht (fun q => kt q E H locs ls hK hP hD hS hl) (fun q => kf q E H locs ls hK hP hD hS hl)
theorem j_ifge {x : Int32} {off : Int} (tgt : Nat) (d : decode cc pc = .ok (.ifCond .ge off, 3)) (ht : (pc : Int) + off = (tgt : Int)) (kt : 0 ≤ x → jJ X cI cZ own cc n k1 k2 w tgt L st) (kf : ¬ 0 ≤ x → jJ X cI cZ own cc n k1 k2 w (pc + 3) L st) : jJ X cI cZ own cc n k1 k2 w pc L (.int x :: st) := by
  obtain ⟨p, l, e, R, s, m, args, below, meth, c, Q, A, D⟩ := X
  intro E H locs ls hK hP hD hS hl
  exact lv_if_ge E.1 E.2.1 d ht (fun q => kt q E H locs ls hK hP hD hS hl) (fun q => kf q E H locs ls hK hP hD hS hl)
theorem j_icge {x y : Int32} {off : Int} (tgt : Nat) (d : decode cc pc = .ok (.if_icmp .ge off, 3)) (ht : (pc : Int) + off = (tgt : Int)) (kt : y ≤ x → jJ X cI cZ own cc n k1 k2 w tgt L st) (kf : ¬ y ≤ x → jJ X cI cZ own cc n k1 k2 w (pc + 3) L st) : jJ X cI cZ own cc n k1 k2 w pc L (.int y :: .int x :: st) := by
  obtain ⟨p, l, e, R, s, m, args, below, meth, c, Q, A, D⟩ := X
  intro E H locs ls hK hP hD hS hl
  exact lv_icmp_ge E.1 E.2.1 d ht (fun q => kt q E H locs ls hK hP hD hS hl) (fun q => kf q E H locs ls hK hP hD hS hl)
theorem j_ifgt {x : Int32} {off : Int} (tgt : Nat) (d : decode cc pc = .ok (.ifCond .gt off, 3)) (ht : (pc : Int) + off = (tgt : Int)) (kt : 0 < x → jJ X cI cZ own cc n k1 k2 w tgt L st) (kf : ¬ 0 < x → jJ X cI cZ own cc n k1 k2 w (pc + 3) L st) : jJ X cI cZ own cc n k1 k2 w pc L (.int x :: st) := by
  obtain ⟨p, l, e, R, s, m, args, below, meth, c, Q, A, D⟩ := X
  intro E H locs ls hK hP hD hS hl
  exact lv_if_gt E.1 E.2.1 d ht (fun q => kt q E H locs ls hK hP hD hS hl) (fun q => kf q E H locs ls hK hP hD hS hl)
theorem j_icgt {x y : Int32} {off : Int} (tgt : Nat) (d : decode cc pc = .ok (.if_icmp .gt off, 3)) (ht : (pc : Int) + off = (tgt : Int)) (kt : y < x → jJ X cI cZ own cc n k1 k2 w tgt L st) (kf : ¬ y < x → jJ X cI cZ own cc n k1 k2 w (pc + 3) L st) : jJ X cI cZ own cc n k1 k2 w pc L (.int y :: .int x :: st) := by
  obtain ⟨p, l, e, R, s, m, args, below, meth, c, Q, A, D⟩ := X
  intro E H locs ls hK hP hD hS hl
  exact lv_icmp_gt E.1 E.2.1 d ht (fun q => kt q E H locs ls hK hP hD hS hl) (fun q => kf q E H locs ls hK hP hD hS hl)
theorem j_ifle {x : Int32} {off : Int} (tgt : Nat) (d : decode cc pc = .ok (.ifCond .le off, 3)) (ht : (pc : Int) + off = (tgt : Int)) (kt : x ≤ 0 → jJ X cI cZ own cc n k1 k2 w tgt L st) (kf : ¬ x ≤ 0 → jJ X cI cZ own cc n k1 k2 w (pc + 3) L st) : jJ X cI cZ own cc n k1 k2 w pc L (.int x :: st) := by
  obtain ⟨p, l, e, R, s, m, args, below, meth, c, Q, A, D⟩ := X
  intro E H locs ls hK hP hD hS hl
  exact lv_if_le E.1 E.2.1 d ht (fun q => kt q E H locs ls hK hP hD hS hl) (fun q => kf q E H locs ls hK hP hD hS hl)
theorem j_icle {x y : Int32} {off : Int} (tgt : Nat) (d : decode cc pc = .ok (.if_icmp .le off, 3)) (ht : (pc : Int) + off = (tgt : Int)) (kt : x ≤ y → jJ X cI cZ own cc n k1 k2 w tgt L st) (kf : ¬ x ≤ y → jJ X cI cZ own cc n k1 k2 w (pc + 3) L st) : jJ X cI cZ own cc n k1 k2 w pc L (.int y :: .int x :: st) := by
  obtain ⟨p, l, e, R, s, m, args, below, meth, c, Q, A, D⟩ := X
  intro E H locs ls hK hP hD hS hl
  exact lv_icmp_le E.1 E.2.1 d ht (fun q => kt q E H locs ls hK hP hD hS hl) (fun q => kf q E H locs ls hK hP hD hS hl)
theorem j_iceqN {a b : Nat} {off : Int} (tgt : Nat) (d : decode cc pc = .ok (.if_icmp .eq off, 3)) (ht : (pc : Int) + off = (tgt : Int)) (ha : a < 2 ^ 31) (hb : b < 2 ^ 31) (kt : a = b → jJ X cI cZ own cc n k1 k2 w tgt L st) (kf : a ≠ b → jJ X cI cZ own cc n k1 k2 w (pc + 3) L st) : jJ X cI cZ own cc n k1 k2 w pc L (.int (nI b) :: .int (nI a) :: st) :=
  j_iceq tgt d ht (fun q => kt ((nI_eq ha hb).mp q)) (fun q => kf (fun r => q ((nI_eq ha hb).mpr r)))
theorem j_icneN {a b : Nat} {off : Int} (tgt : Nat) (d : decode cc pc = .ok (.if_icmp .ne off, 3)) (ht : (pc : Int) + off = (tgt : Int)) (ha : a < 2 ^ 31) (hb : b < 2 ^ 31) (kt : a ≠ b → jJ X cI cZ own cc n k1 k2 w tgt L st) (kf : a = b → jJ X cI cZ own cc n k1 k2 w (pc + 3) L st) : jJ X cI cZ own cc n k1 k2 w pc L (.int (nI b) :: .int (nI a) :: st) :=
  j_icne tgt d ht (fun q => kt (fun r => q ((nI_eq ha hb).mpr r))) (fun q => kf ((nI_eq ha hb).mp q))
theorem j_icltN {a b : Nat} {off : Int} (tgt : Nat) (d : decode cc pc = .ok (.if_icmp .lt off, 3)) (ht : (pc : Int) + off = (tgt : Int)) (ha : a < 2 ^ 31) (hb : b < 2 ^ 31) (kt : a < b → jJ X cI cZ own cc n k1 k2 w tgt L st) (kf : b ≤ a → jJ X cI cZ own cc n k1 k2 w (pc + 3) L st) : jJ X cI cZ own cc n k1 k2 w pc L (.int (nI b) :: .int (nI a) :: st) :=
  j_iclt tgt d ht (fun q => kt ((nI_ltI ha hb).mp q)) (fun q => kf (Nat.not_lt.mp (fun r => q ((nI_ltI ha hb).mpr r))))
theorem j_icgeN {a b : Nat} {off : Int} (tgt : Nat) (d : decode cc pc = .ok (.if_icmp .ge off, 3)) (ht : (pc : Int) + off = (tgt : Int)) (ha : a < 2 ^ 31) (hb : b < 2 ^ 31) (kt : b ≤ a → jJ X cI cZ own cc n k1 k2 w tgt L st) (kf : a < b → jJ X cI cZ own cc n k1 k2 w (pc + 3) L st) : jJ X cI cZ own cc n k1 k2 w pc L (.int (nI b) :: .int (nI a) :: st) :=
  j_icge tgt d ht (fun q => kt ((nI_leI hb ha).mp q)) (fun q => kf (Nat.not_le.mp (fun r => q ((nI_leI hb ha).mpr r))))
theorem j_icgtN {a b : Nat} {off : Int} (tgt : Nat) (d : decode cc pc = .ok (.if_icmp .gt off, 3)) (ht : (pc : Int) + off = (tgt : Int)) (ha : a < 2 ^ 31) (hb : b < 2 ^ 31) (kt : b < a → jJ X cI cZ own cc n k1 k2 w tgt L st) (kf : a ≤ b → jJ X cI cZ own cc n k1 k2 w (pc + 3) L st) : jJ X cI cZ own cc n k1 k2 w pc L (.int (nI b) :: .int (nI a) :: st) :=
  j_icgt tgt d ht (fun q => kt ((nI_ltI hb ha).mp q)) (fun q => kf (Nat.not_lt.mp (fun r => q ((nI_ltI hb ha).mpr r))))
theorem j_icleN {a b : Nat} {off : Int} (tgt : Nat) (d : decode cc pc = .ok (.if_icmp .le off, 3)) (ht : (pc : Int) + off = (tgt : Int)) (ha : a < 2 ^ 31) (hb : b < 2 ^ 31) (kt : a ≤ b → jJ X cI cZ own cc n k1 k2 w tgt L st) (kf : b < a → jJ X cI cZ own cc n k1 k2 w (pc + 3) L st) : jJ X cI cZ own cc n k1 k2 w pc L (.int (nI b) :: .int (nI a) :: st) :=
  j_icle tgt d ht (fun q => kt ((nI_leI ha hb).mp q)) (fun q => kf (Nat.not_le.mp (fun r => q ((nI_leI ha hb).mpr r))))
theorem j_ifeqN {a : Nat} {off : Int} (tgt : Nat) (d : decode cc pc = .ok (.ifCond .eq off, 3)) (ht : (pc : Int) + off = (tgt : Int)) (ha : a < 2 ^ 31) (kt : a = 0 → jJ X cI cZ own cc n k1 k2 w tgt L st) (kf : 0 < a → jJ X cI cZ own cc n k1 k2 w (pc + 3) L st) : jJ X cI cZ own cc n k1 k2 w pc L (.int (nI a) :: st) :=
  j_ifeq tgt d ht (fun q => kt (Nat.eq_zero_of_not_pos (fun r => nI_ne0 r ha q))) (fun q => kf (Nat.pos_of_ne_zero (fun r => q (by rw [r]; exact nI_0))))
theorem j_ifneN {a : Nat} {off : Int} (tgt : Nat) (d : decode cc pc = .ok (.ifCond .ne off, 3)) (ht : (pc : Int) + off = (tgt : Int)) (ha : a < 2 ^ 31) (kt : 0 < a → jJ X cI cZ own cc n k1 k2 w tgt L st) (kf : a = 0 → jJ X cI cZ own cc n k1 k2 w (pc + 3) L st) : jJ X cI cZ own cc n k1 k2 w pc L (.int (nI a) :: st) :=
  j_ifne tgt d ht (fun q => kt (Nat.pos_of_ne_zero (fun r => q (by rw [r]; exact nI_0)))) (fun q => kf (Nat.eq_zero_of_not_pos (fun r => nI_ne0 r ha q)))
theorem j_ifleN {a : Nat} {off : Int} (tgt : Nat) (d : decode cc pc = .ok (.ifCond .le off, 3)) (ht : (pc : Int) + off = (tgt : Int)) (ha : a < 2 ^ 31) (kt : a = 0 → jJ X cI cZ own cc n k1 k2 w tgt L st) (kf : 0 < a → jJ X cI cZ own cc n k1 k2 w (pc + 3) L st) : jJ X cI cZ own cc n k1 k2 w pc L (.int (nI a) :: st) :=
  j_ifle tgt d ht (fun q => kt (Nat.eq_zero_of_not_pos (fun r => nI_nle r ha q))) (fun q => kf (Nat.pos_of_ne_zero (fun r => q (by rw [r]; decide))))
theorem j_ifltN {a : Nat} {off : Int} (tgt : Nat) (d : decode cc pc = .ok (.ifCond .lt off, 3)) (ha : a < 2 ^ 31) (ht : (pc : Int) + off = (tgt : Int)) (k : jJ X cI cZ own cc n k1 k2 w (pc + 3) L st) : jJ X cI cZ own cc n k1 k2 w pc L (.int (nI a) :: st) :=
  j_iflt tgt d ht (fun q => absurd q (nI_pos ha)) (fun _ => k)
theorem j_ifltM {off : Int} (tgt : Nat) (d : decode cc pc = .ok (.ifCond .lt off, 3)) (ht : (pc : Int) + off = (tgt : Int)) (k : jJ X cI cZ own cc n k1 k2 w tgt L st) : jJ X cI cZ own cc n k1 k2 w pc L (.int (-1) :: st) :=
  j_iflt tgt d ht (fun _ => k) (fun q => absurd (by decide) q)
theorem j_ifeqB {b : Bool} {off : Int} (tgt : Nat) (d : decode cc pc = .ok (.ifCond .eq off, 3)) (ht : (pc : Int) + off = (tgt : Int)) (kt : b = false → jJ X cI cZ own cc n k1 k2 w tgt L st) (kf : b = true → jJ X cI cZ own cc n k1 k2 w (pc + 3) L st) : jJ X cI cZ own cc n k1 k2 w pc L (.int (jb b) :: st) :=
  j_ifeq tgt d ht (fun q => kt (jb_0.mp q)) (fun q => kf (jb_n0.mp q))
theorem j_ifneB {b : Bool} {off : Int} (tgt : Nat) (d : decode cc pc = .ok (.ifCond .ne off, 3)) (ht : (pc : Int) + off = (tgt : Int)) (kt : b = true → jJ X cI cZ own cc n k1 k2 w tgt L st) (kf : b = false → jJ X cI cZ own cc n k1 k2 w (pc + 3) L st) : jJ X cI cZ own cc n k1 k2 w pc L (.int (jb b) :: st) :=
  j_ifne tgt d ht (fun q => kt (jb_n0.mp q)) (fun q => kf (jb_0.mp q))
theorem j_ild0 {x : Int32} (d : decode cc pc = .ok (.iload_n 0, 1)) (k : jJ X cI cZ own cc n k1 k2 w (pc + 1) (some (.int x) :: L) (.int x :: st)) : jJ X cI cZ own cc n k1 k2 w pc (some (.int x) :: L) st := by
  obtain ⟨p, l, e, R, s, m, args, below, meth, c, Q, A, D⟩ := X
  intro E H locs ls hK hP hD hS hl
  exact lv_iload_n E.1 E.2.1 d rfl (jL_at hl (i := 0) rfl) (k E H locs ls hK hP hD hS hl)
theorem j_ald0 {x : Nat} (d : decode cc pc = .ok (.aload_n 0, 1)) (k : jJ X cI cZ own cc n k1 k2 w (pc + 1) (some (.ref x) :: L) (.ref x :: st)) : jJ X cI cZ own cc n k1 k2 w pc (some (.ref x) :: L) st := by
  obtain ⟨p, l, e, R, s, m, args, below, meth, c, Q, A, D⟩ := X
  intro E H locs ls hK hP hD hS hl
  exact lv_aload_n E.1 E.2.1 d rfl (jL_at hl (i := 0) rfl) (k E H locs ls hK hP hD hS hl)
theorem j_ist0 {x : Int32} {o : Option Value} (hn : 0 < n) (d : decode cc pc = .ok (.istore_n 0, 1)) (k : jJ X cI cZ own cc n k1 k2 w (pc + 1) (some (.int x) :: L) st) : jJ X cI cZ own cc n k1 k2 w pc (o :: L) (.int x :: st) := by
  obtain ⟨p, l, e, R, s, m, args, below, meth, c, Q, A, D⟩ := X
  intro E H locs ls hK hP hD hS hl
  obtain ⟨l0, h1, h2⟩ := hl
  exact lv_istore_n E.1 E.2.1 d rfl h1 hn rfl (fun ls' h' => k E H locs ls' hK hP hD hS (jL_set (L := (o :: L)) rfl h2 h'))
theorem j_ast0 {x : Nat} {o : Option Value} (hn : 0 < n) (d : decode cc pc = .ok (.astore_n 0, 1)) (k : jJ X cI cZ own cc n k1 k2 w (pc + 1) (some (.ref x) :: L) st) : jJ X cI cZ own cc n k1 k2 w pc (o :: L) (.ref x :: st) := by
  obtain ⟨p, l, e, R, s, m, args, below, meth, c, Q, A, D⟩ := X
  intro E H locs ls hK hP hD hS hl
  obtain ⟨l0, h1, h2⟩ := hl
  exact lv_astore_n E.1 E.2.1 d rfl h1 hn rfl (fun ls' h' => k E H locs ls' hK hP hD hS (jL_set (L := (o :: L)) rfl h2 h'))
theorem j_ild1 {x : Int32} {o0 : Option Value} (d : decode cc pc = .ok (.iload_n 1, 1)) (k : jJ X cI cZ own cc n k1 k2 w (pc + 1) (o0 :: some (.int x) :: L) (.int x :: st)) : jJ X cI cZ own cc n k1 k2 w pc (o0 :: some (.int x) :: L) st := by
  obtain ⟨p, l, e, R, s, m, args, below, meth, c, Q, A, D⟩ := X
  intro E H locs ls hK hP hD hS hl
  exact lv_iload_n E.1 E.2.1 d rfl (jL_at hl (i := 1) rfl) (k E H locs ls hK hP hD hS hl)
theorem j_ald1 {x : Nat} {o0 : Option Value} (d : decode cc pc = .ok (.aload_n 1, 1)) (k : jJ X cI cZ own cc n k1 k2 w (pc + 1) (o0 :: some (.ref x) :: L) (.ref x :: st)) : jJ X cI cZ own cc n k1 k2 w pc (o0 :: some (.ref x) :: L) st := by
  obtain ⟨p, l, e, R, s, m, args, below, meth, c, Q, A, D⟩ := X
  intro E H locs ls hK hP hD hS hl
  exact lv_aload_n E.1 E.2.1 d rfl (jL_at hl (i := 1) rfl) (k E H locs ls hK hP hD hS hl)
theorem j_ist1 {x : Int32} {o : Option Value} {o0 : Option Value} (hn : 1 < n) (d : decode cc pc = .ok (.istore_n 1, 1)) (k : jJ X cI cZ own cc n k1 k2 w (pc + 1) (o0 :: some (.int x) :: L) st) : jJ X cI cZ own cc n k1 k2 w pc (o0 :: o :: L) (.int x :: st) := by
  obtain ⟨p, l, e, R, s, m, args, below, meth, c, Q, A, D⟩ := X
  intro E H locs ls hK hP hD hS hl
  obtain ⟨l0, h1, h2⟩ := hl
  exact lv_istore_n E.1 E.2.1 d rfl h1 hn rfl (fun ls' h' => k E H locs ls' hK hP hD hS (jL_set (L := (o0 :: o :: L)) rfl h2 h'))
theorem j_ast1 {x : Nat} {o : Option Value} {o0 : Option Value} (hn : 1 < n) (d : decode cc pc = .ok (.astore_n 1, 1)) (k : jJ X cI cZ own cc n k1 k2 w (pc + 1) (o0 :: some (.ref x) :: L) st) : jJ X cI cZ own cc n k1 k2 w pc (o0 :: o :: L) (.ref x :: st) := by
  obtain ⟨p, l, e, R, s, m, args, below, meth, c, Q, A, D⟩ := X
  intro E H locs ls hK hP hD hS hl
  obtain ⟨l0, h1, h2⟩ := hl
  exact lv_astore_n E.1 E.2.1 d rfl h1 hn rfl (fun ls' h' => k E H locs ls' hK hP hD hS (jL_set (L := (o0 :: o :: L)) rfl h2 h'))
theorem j_ild2 {x : Int32} {o0 o1 : Option Value} (d : decode cc pc = .ok (.iload_n 2, 1)) (k : jJ X cI cZ own cc n k1 k2 w (pc + 1) (o0 :: o1 :: some (.int x) :: L) (.int x :: st)) : jJ X cI cZ own cc n k1 k2 w pc (o0 :: o1 :: some (.int x) :: L) st := by
  obtain ⟨p, l, e, R, s, m, args, below, meth, c, Q, A, D⟩ := X
  intro E H locs ls hK hP hD hS hl
  exact lv_iload_n E.1 E.2.1 d rfl (jL_at hl (i := 2) rfl) (k E H locs ls hK hP hD hS hl)
theorem j_ald2 {x : Nat} {o0 o1 : Option Value} (d : decode cc pc = .ok (.aload_n 2, 1)) (k : jJ X cI cZ own cc n k1 k2 w (pc + 1) (o0 :: o1 :: some (.ref x) :: L) (.ref x :: st)) : jJ X cI cZ own cc n k1 k2 w pc (o0 :: o1 :: some (.ref x) :: L) st := by
  obtain ⟨p, l, e, R, s, m, args, below, meth, c, Q, A, D⟩ := X
  intro E H locs ls hK hP hD hS hl
  exact lv_aload_n E.1 E.2.1 d rfl (jL_at hl (i := 2) rfl) (k E H locs ls hK hP hD hS hl)
theorem j_ist2 {x : Int32} {o : Option Value} {o0 o1 : Option Value} (hn : 2 < n) (d : decode cc pc = .ok (.istore_n 2, 1)) (k : jJ X cI cZ own cc n k1 k2 w (pc + 1) (o0 :: o1 :: some (.int x) :: L) st) : jJ X cI cZ own cc n k1 k2 w pc (o0 :: o1 :: o :: L) (.int x :: st) := by
  obtain ⟨p, l, e, R, s, m, args, below, meth, c, Q, A, D⟩ := X
  intro E H locs ls hK hP hD hS hl
  obtain ⟨l0, h1, h2⟩ := hl
  exact lv_istore_n E.1 E.2.1 d rfl h1 hn rfl (fun ls' h' => k E H locs ls' hK hP hD hS (jL_set (L := (o0 :: o1 :: o :: L)) rfl h2 h'))
theorem j_ast2 {x : Nat} {o : Option Value} {o0 o1 : Option Value} (hn : 2 < n) (d : decode cc pc = .ok (.astore_n 2, 1)) (k : jJ X cI cZ own cc n k1 k2 w (pc + 1) (o0 :: o1 :: some (.ref x) :: L) st) : jJ X cI cZ own cc n k1 k2 w pc (o0 :: o1 :: o :: L) (.ref x :: st) := by
  obtain ⟨p, l, e, R, s, m, args, below, meth, c, Q, A, D⟩ := X
  intro E H locs ls hK hP hD hS hl
  obtain ⟨l0, h1, h2⟩ := hl
  exact lv_astore_n E.1 E.2.1 d rfl h1 hn rfl (fun ls' h' => k E H locs ls' hK hP hD hS (jL_set (L := (o0 :: o1 :: o :: L)) rfl h2 h'))
theorem j_ild3 {x : Int32} {o0 o1 o2 : Option Value} (d : decode cc pc = .ok (.iload_n 3, 1)) (k : jJ X cI cZ own cc n k1 k2 w (pc + 1) (o0 :: o1 :: o2 :: some (.int x) :: L) (.int x :: st)) : jJ X cI cZ own cc n k1 k2 w pc (o0 :: o1 :: o2 :: some (.int x) :: L) st := by
  obtain ⟨p, l, e, R, s, m, args, below, meth, c, Q, A, D⟩ := X
  intro E H locs ls hK hP hD hS hl
  exact lv_iload_n E.1 E.2.1 d rfl (jL_at hl (i := 3) rfl) (k E H locs ls hK hP hD hS hl)
theorem j_ald3 {x : Nat} {o0 o1 o2 : Option Value} (d : decode cc pc = .ok (.aload_n 3, 1)) (k : jJ X cI cZ own cc n k1 k2 w (pc + 1) (o0 :: o1 :: o2 :: some (.ref x) :: L) (.ref x :: st)) : jJ X cI cZ own cc n k1 k2 w pc (o0 :: o1 :: o2 :: some (.ref x) :: L) st := by
  obtain ⟨p, l, e, R, s, m, args, below, meth, c, Q, A, D⟩ := X
  intro E H locs ls hK hP hD hS hl
  exact lv_aload_n E.1 E.2.1 d rfl (jL_at hl (i := 3) rfl) (k E H locs ls hK hP hD hS hl)
theorem j_ist3 {x : Int32} {o : Option Value} {o0 o1 o2 : Option Value} (hn : 3 < n) (d : decode cc pc = .ok (.istore_n 3, 1)) (k : jJ X cI cZ own cc n k1 k2 w (pc + 1) (o0 :: o1 :: o2 :: some (.int x) :: L) st) : jJ X cI cZ own cc n k1 k2 w pc (o0 :: o1 :: o2 :: o :: L) (.int x :: st) := by
  obtain ⟨p, l, e, R, s, m, args, below, meth, c, Q, A, D⟩ := X
  intro E H locs ls hK hP hD hS hl
  obtain ⟨l0, h1, h2⟩ := hl
  exact lv_istore_n E.1 E.2.1 d rfl h1 hn rfl (fun ls' h' => k E H locs ls' hK hP hD hS (jL_set (L := (o0 :: o1 :: o2 :: o :: L)) rfl h2 h'))
theorem j_ast3 {x : Nat} {o : Option Value} {o0 o1 o2 : Option Value} (hn : 3 < n) (d : decode cc pc = .ok (.astore_n 3, 1)) (k : jJ X cI cZ own cc n k1 k2 w (pc + 1) (o0 :: o1 :: o2 :: some (.ref x) :: L) st) : jJ X cI cZ own cc n k1 k2 w pc (o0 :: o1 :: o2 :: o :: L) (.ref x :: st) := by
  obtain ⟨p, l, e, R, s, m, args, below, meth, c, Q, A, D⟩ := X
  intro E H locs ls hK hP hD hS hl
  obtain ⟨l0, h1, h2⟩ := hl
  exact lv_astore_n E.1 E.2.1 d rfl h1 hn rfl (fun ls' h' => k E H locs ls' hK hP hD hS (jL_set (L := (o0 :: o1 :: o2 :: o :: L)) rfl h2 h'))
theorem j_ild4 {x : Int32} {o0 o1 o2 o3 : Option Value} (d : decode cc pc = .ok (.iload 4, 2)) (k : jJ X cI cZ own cc n k1 k2 w (pc + 2) (o0 :: o1 :: o2 :: o3 :: some (.int x) :: L) (.int x :: st)) : jJ X cI cZ own cc n k1 k2 w pc (o0 :: o1 :: o2 :: o3 :: some (.int x) :: L) st := by
  obtain ⟨p, l, e, R, s, m, args, below, meth, c, Q, A, D⟩ := X
  intro E H locs ls hK hP hD hS hl
  exact lv_iload E.1 E.2.1 d (jL_at hl (i := 4) rfl) (k E H locs ls hK hP hD hS hl)
theorem j_ist4 {x : Int32} {o : Option Value} {o0 o1 o2 o3 : Option Value} (hn : 4 < n) (d : decode cc pc = .ok (.istore 4, 2)) (k : jJ X cI cZ own cc n k1 k2 w (pc + 2) (o0 :: o1 :: o2 :: o3 :: some (.int x) :: L) st) : jJ X cI cZ own cc n k1 k2 w pc (o0 :: o1 :: o2 :: o3 :: o :: L) (.int x :: st) := by
  obtain ⟨p, l, e, R, s, m, args, below, meth, c, Q, A, D⟩ := X
  intro E H locs ls hK hP hD hS hl
  obtain ⟨l0, h1, h2⟩ := hl
  exact lv_istore E.1 E.2.1 d h1 hn rfl (fun ls' h' => k E H locs ls' hK hP hD hS (jL_set (L := (o0 :: o1 :: o2 :: o3 :: o :: L)) rfl h2 h'))
theorem j_ild5 {x : Int32} {o0 o1 o2 o3 o4 : Option Value} (d : decode cc pc = .ok (.iload 5, 2)) (k : jJ X cI cZ own cc n k1 k2 w (pc + 2) (o0 :: o1 :: o2 :: o3 :: o4 :: some (.int x) :: L) (.int x :: st)) : jJ X cI cZ own cc n k1 k2 w pc (o0 :: o1 :: o2 :: o3 :: o4 :: some (.int x) :: L) st := by
  obtain ⟨p, l, e, R, s, m, args, below, meth, c, Q, A, D⟩ := X
  intro E H locs ls hK hP hD hS hl
  exact lv_iload E.1 E.2.1 d (jL_at hl (i := 5) rfl) (k E H locs ls hK hP hD hS hl)
theorem j_ist5 {x : Int32} {o : Option Value} {o0 o1 o2 o3 o4 : Option Value} (hn : 5 < n) (d : decode cc pc = .ok (.istore 5, 2)) (k : jJ X cI cZ own cc n k1 k2 w (pc + 2) (o0 :: o1 :: o2 :: o3 :: o4 :: some (.int x) :: L) st) : jJ X cI cZ own cc n k1 k2 w pc (o0 :: o1 :: o2 :: o3 :: o4 :: o :: L) (.int x :: st) := by
  obtain ⟨p, l, e, R, s, m, args, below, meth, c, Q, A, D⟩ := X
  intro E H locs ls hK hP hD hS hl
  obtain ⟨l0, h1, h2⟩ := hl
  exact lv_istore E.1 E.2.1 d h1 hn rfl (fun ls' h' => k E H locs ls' hK hP hD hS (jL_set (L := (o0 :: o1 :: o2 :: o3 :: o4 :: o :: L)) rfl h2 h'))
theorem j_ild6 {x : Int32} {o0 o1 o2 o3 o4 o5 : Option Value} (d : decode cc pc = .ok (.iload 6, 2)) (k : jJ X cI cZ own cc n k1 k2 w (pc + 2) (o0 :: o1 :: o2 :: o3 :: o4 :: o5 :: some (.int x) :: L) (.int x :: st)) : jJ X cI cZ own cc n k1 k2 w pc (o0 :: o1 :: o2 :: o3 :: o4 :: o5 :: some (.int x) :: L) st := by
  obtain ⟨p, l, e, R, s, m, args, below, meth, c, Q, A, D⟩ := X
  intro E H locs ls hK hP hD hS hl
  exact lv_iload E.1 E.2.1 d (jL_at hl (i := 6) rfl) (k E H locs ls hK hP hD hS hl)
theorem j_ist6 {x : Int32} {o : Option Value} {o0 o1 o2 o3 o4 o5 : Option Value} (hn : 6 < n) (d : decode cc pc = .ok (.istore 6, 2)) (k : jJ X cI cZ own cc n k1 k2 w (pc + 2) (o0 :: o1 :: o2 :: o3 :: o4 :: o5 :: some (.int x) :: L) st) : jJ X cI cZ own cc n k1 k2 w pc (o0 :: o1 :: o2 :: o3 :: o4 :: o5 :: o :: L) (.int x :: st) := by
  obtain ⟨p, l, e, R, s, m, args, below, meth, c, Q, A, D⟩ := X
  intro E H locs ls hK hP hD hS hl
  obtain ⟨l0, h1, h2⟩ := hl
  exact lv_istore E.1 E.2.1 d h1 hn rfl (fun ls' h' => k E H locs ls' hK hP hD hS (jL_set (L := (o0 :: o1 :: o2 :: o3 :: o4 :: o5 :: o :: L)) rfl h2 h'))
theorem j_ild7 {x : Int32} {o0 o1 o2 o3 o4 o5 o6 : Option Value} (d : decode cc pc = .ok (.iload 7, 2)) (k : jJ X cI cZ own cc n k1 k2 w (pc + 2) (o0 :: o1 :: o2 :: o3 :: o4 :: o5 :: o6 :: some (.int x) :: L) (.int x :: st)) : jJ X cI cZ own cc n k1 k2 w pc (o0 :: o1 :: o2 :: o3 :: o4 :: o5 :: o6 :: some (.int x) :: L) st := by
  obtain ⟨p, l, e, R, s, m, args, below, meth, c, Q, A, D⟩ := X
  intro E H locs ls hK hP hD hS hl
  exact lv_iload E.1 E.2.1 d (jL_at hl (i := 7) rfl) (k E H locs ls hK hP hD hS hl)
theorem j_ist7 {x : Int32} {o : Option Value} {o0 o1 o2 o3 o4 o5 o6 : Option Value} (hn : 7 < n) (d : decode cc pc = .ok (.istore 7, 2)) (k : jJ X cI cZ own cc n k1 k2 w (pc + 2) (o0 :: o1 :: o2 :: o3 :: o4 :: o5 :: o6 :: some (.int x) :: L) st) : jJ X cI cZ own cc n k1 k2 w pc (o0 :: o1 :: o2 :: o3 :: o4 :: o5 :: o6 :: o :: L) (.int x :: st) := by
  obtain ⟨p, l, e, R, s, m, args, below, meth, c, Q, A, D⟩ := X
  intro E H locs ls hK hP hD hS hl
  obtain ⟨l0, h1, h2⟩ := hl
  exact lv_istore E.1 E.2.1 d h1 hn rfl (fun ls' h' => k E H locs ls' hK hP hD hS (jL_set (L := (o0 :: o1 :: o2 :: o3 :: o4 :: o5 :: o6 :: o :: L)) rfl h2 h'))
theorem j_ild8 {x : Int32} {o0 o1 o2 o3 o4 o5 o6 o7 : Option Value} (d : decode cc pc = .ok (.iload 8, 2)) (k : jJ X cI cZ own cc n k1 k2 w (pc + 2) (o0 :: o1 :: o2 :: o3 :: o4 :: o5 :: o6 :: o7 :: some (.int x) :: L) (.int x :: st)) : jJ X cI cZ own cc n k1 k2 w pc (o0 :: o1 :: o2 :: o3 :: o4 :: o5 :: o6 :: o7 :: some (.int x) :: L) st := by
  obtain ⟨p, l, e, R, s, m, args, below, meth, c, Q, A, D⟩ := X
  intro E H locs ls hK hP hD hS hl
  exact lv_iload E.1 E.2.1 d (jL_at hl (i := 8) rfl) (k E H locs ls hK hP hD hS hl)
theorem j_ist8 {x : Int32} {o : Option Value} {o0 o1 o2 o3 o4 o5 o6 o7 : Option Value} (hn : 8 < n) (d : decode cc pc = .ok (.istore 8, 2)) (k : jJ X cI cZ own cc n k1 k2 w (pc + 2) (o0 :: o1 :: o2 :: o3 :: o4 :: o5 :: o6 :: o7 :: some (.int x) :: L) st) : jJ X cI cZ own cc n k1 k2 w pc (o0 :: o1 :: o2 :: o3 :: o4 :: o5 :: o6 :: o7 :: o :: L) (.int x :: st) := by
  obtain ⟨p, l, e, R, s, m, args, below, meth, c, Q, A, D⟩ := X
  intro E H locs ls hK hP hD hS hl
  obtain ⟨l0, h1, h2⟩ := hl
  exact lv_istore E.1 E.2.1 d h1 hn rfl (fun ls' h' => k E H locs ls' hK hP hD hS (jL_set (L := (o0 :: o1 :: o2 :: o3 :: o4 :: o5 :: o6 :: o7 :: o :: L)) rfl h2 h'))
theorem j_ild9 {x : Int32} {o0 o1 o2 o3 o4 o5 o6 o7 o8 : Option Value} (d : decode cc pc = .ok (.iload 9, 2)) (k : jJ X cI cZ own cc n k1 k2 w (pc + 2) (o0 :: o1 :: o2 :: o3 :: o4 :: o5 :: o6 :: o7 :: o8 :: some (.int x) :: L) (.int x :: st)) : jJ X cI cZ own cc n k1 k2 w pc (o0 :: o1 :: o2 :: o3 :: o4 :: o5 :: o6 :: o7 :: o8 :: some (.int x) :: L) st := by
  obtain ⟨p, l, e, R, s, m, args, below, meth, c, Q, A, D⟩ := X
  intro E H locs ls hK hP hD hS hl
  exact lv_iload E.1 E.2.1 d (jL_at hl (i := 9) rfl) (k E H locs ls hK hP hD hS hl)
theorem j_ist9 {x : Int32} {o : Option Value} {o0 o1 o2 o3 o4 o5 o6 o7 o8 : Option Value} (hn : 9 < n) (d : decode cc pc = .ok (.istore 9, 2)) (k : jJ X cI cZ own cc n k1 k2 w (pc + 2) (o0 :: o1 :: o2 :: o3 :: o4 :: o5 :: o6 :: o7 :: o8 :: some (.int x) :: L) st) : jJ X cI cZ own cc n k1 k2 w pc (o0 :: o1 :: o2 :: o3 :: o4 :: o5 :: o6 :: o7 :: o8 :: o :: L) (.int x :: st) := by
  obtain ⟨p, l, e, R, s, m, args, below, meth, c, Q, A, D⟩ := X
  intro E H locs ls hK hP hD hS hl
  obtain ⟨l0, h1, h2⟩ := hl
  exact lv_istore E.1 E.2.1 d h1 hn rfl (fun ls' h' => k E H locs ls' hK hP hD hS (jL_set (L := (o0 :: o1 :: o2 :: o3 :: o4 :: o5 :: o6 :: o7 :: o8 :: o :: L)) rfl h2 h'))
theorem j_ild10 {x : Int32} {o0 o1 o2 o3 o4 o5 o6 o7 o8 o9 : Option Value} (d : decode cc pc = .ok (.iload 10, 2)) (k : jJ X cI cZ own cc n k1 k2 w (pc + 2) (o0 :: o1 :: o2 :: o3 :: o4 :: o5 :: o6 :: o7 :: o8 :: o9 :: some (.int x) :: L) (.int x :: st)) : jJ X cI cZ own cc n k1 k2 w pc (o0 :: o1 :: o2 :: o3 :: o4 :: o5 :: o6 :: o7 :: o8 :: o9 :: some (.int x) :: L) st := by
  obtain ⟨p, l, e, R, s, m, args, below, meth, c, Q, A, D⟩ := X
  intro E H locs ls hK hP hD hS hl
  exact lv_iload E.1 E.2.1 d (jL_at hl (i := 10) rfl) (k E H locs ls hK hP hD hS hl)
theorem j_ist10 {x : Int32} {o : Option Value} {o0 o1 o2 o3 o4 o5 o6 o7 o8 o9 : Option Value} (hn : 10 < n) (d : decode cc pc = .ok (.istore 10, 2)) (k : jJ X cI cZ own cc n k1 k2 w (pc + 2) (o0 :: o1 :: o2 :: o3 :: o4 :: o5 :: o6 :: o7 :: o8 :: o9 :: some (.int x) :: L) st) : jJ X cI cZ own cc n k1 k2 w pc (o0 :: o1 :: o2 :: o3 :: o4 :: o5 :: o6 :: o7 :: o8 :: o9 :: o :: L) (.int x :: st) := by
  obtain ⟨p, l, e, R, s, m, args, below, meth, c, Q, A, D⟩ := X
  intro E H locs ls hK hP hD hS hl
  obtain ⟨l0, h1, h2⟩ := hl
  exact lv_istore E.1 E.2.1 d h1 hn rfl (fun ls' h' => k E H locs ls' hK hP hD hS (jL_set (L := (o0 :: o1 :: o2 :: o3 :: o4 :: o5 :: o6 :: o7 :: o8 :: o9 :: o :: L)) rfl h2 h'))
theorem j_inc1 {x : Int32} {z : Int} {o0 : Option Value} (hn : 1 < n) (d : decode cc pc = .ok (.iinc 1 z, 3)) (k : jJ X cI cZ own cc n k1 k2 w (pc + 3) (o0 :: some (.int (x + Int32.ofInt z)) :: L) st) : jJ X cI cZ own cc n k1 k2 w pc (o0 :: some (.int x) :: L) st := by
  obtain ⟨p, l, e, R, s, m, args, below, meth, c, Q, A, D⟩ := X
  intro E H locs ls hK hP hD hS hl
  obtain ⟨l0, h1, h2⟩ := hl
  obtain ⟨k0, hk0⟩ := List.mem_iff_getElem?.mp (h2 1 (.int x) rfl).1
  exact lv_iinc E.1 E.2.1 d h1 hk0 rfl hn rfl (fun ls' h' => k E H locs ls' hK hP hD hS (jL_set (L := (o0 :: some (.int x) :: L)) rfl h2 h'))
theorem j_inc1N {a : Nat} {o0 : Option Value} (hn : 1 < n) (d : decode cc pc = .ok (.iinc 1 1, 3)) (k : jJ X cI cZ own cc n k1 k2 w (pc + 3) (o0 :: some (.int (nI (a + 1))) :: L) st) : jJ X cI cZ own cc n k1 k2 w pc (o0 :: some (.int (nI a)) :: L) st := by
  refine j_inc1 hn d ?_
  rw [show nI a + Int32.ofInt 1 = nI (a + 1) from nI_1 a]
  exact k
theorem j_inc1M {a : Nat} {o0 : Option Value} (hn : 1 < n) (d : decode cc pc = .ok (.iinc 1 (-1), 3)) (k : jJ X cI cZ own cc n k1 k2 w (pc + 3) (o0 :: some (.int (nI a + (-1))) :: L) st) : jJ X cI cZ own cc n k1 k2 w pc (o0 :: some (.int (nI a)) :: L) st := by
  refine j_inc1 hn d ?_
  exact k
theorem j_inc2 {x : Int32} {z : Int} {o0 o1 : Option Value} (hn : 2 < n) (d : decode cc pc = .ok (.iinc 2 z, 3)) (k : jJ X cI cZ own cc n k1 k2 w (pc + 3) (o0 :: o1 :: some (.int (x + Int32.ofInt z)) :: L) st) : jJ X cI cZ own cc n k1 k2 w pc (o0 :: o1 :: some (.int x) :: L) st := by
  obtain ⟨p, l, e, R, s, m, args, below, meth, c, Q, A, D⟩ := X
  intro E H locs ls hK hP hD hS hl
  obtain ⟨l0, h1, h2⟩ := hl
  obtain ⟨k0, hk0⟩ := List.mem_iff_getElem?.mp (h2 2 (.int x) rfl).1
  exact lv_iinc E.1 E.2.1 d h1 hk0 rfl hn rfl (fun ls' h' => k E H locs ls' hK hP hD hS (jL_set (L := (o0 :: o1 :: some (.int x) :: L)) rfl h2 h'))
theorem j_inc2N {a : Nat} {o0 o1 : Option Value} (hn : 2 < n) (d : decode cc pc = .ok (.iinc 2 1, 3)) (k : jJ X cI cZ own cc n k1 k2 w (pc + 3) (o0 :: o1 :: some (.int (nI (a + 1))) :: L) st) : jJ X cI cZ own cc n k1 k2 w pc (o0 :: o1 :: some (.int (nI a)) :: L) st := by
  refine j_inc2 hn d ?_
  rw [show nI a + Int32.ofInt 1 = nI (a + 1) from nI_1 a]
  exact k
theorem j_inc2M {a : Nat} {o0 o1 : Option Value} (hn : 2 < n) (d : decode cc pc = .ok (.iinc 2 (-1), 3)) (k : jJ X cI cZ own cc n k1 k2 w (pc + 3) (o0 :: o1 :: some (.int (nI a + (-1))) :: L) st) : jJ X cI cZ own cc n k1 k2 w pc (o0 :: o1 :: some (.int (nI a)) :: L) st := by
  refine j_inc2 hn d ?_
  exact k
theorem j_inc3 {x : Int32} {z : Int} {o0 o1 o2 : Option Value} (hn : 3 < n) (d : decode cc pc = .ok (.iinc 3 z, 3)) (k : jJ X cI cZ own cc n k1 k2 w (pc + 3) (o0 :: o1 :: o2 :: some (.int (x + Int32.ofInt z)) :: L) st) : jJ X cI cZ own cc n k1 k2 w pc (o0 :: o1 :: o2 :: some (.int x) :: L) st := by
  obtain ⟨p, l, e, R, s, m, args, below, meth, c, Q, A, D⟩ := X
  intro E H locs ls hK hP hD hS hl
  obtain ⟨l0, h1, h2⟩ := hl
  obtain ⟨k0, hk0⟩ := List.mem_iff_getElem?.mp (h2 3 (.int x) rfl).1
  exact lv_iinc E.1 E.2.1 d h1 hk0 rfl hn rfl (fun ls' h' => k E H locs ls' hK hP hD hS (jL_set (L := (o0 :: o1 :: o2 :: some (.int x) :: L)) rfl h2 h'))
theorem j_inc3N {a : Nat} {o0 o1 o2 : Option Value} (hn : 3 < n) (d : decode cc pc = .ok (.iinc 3 1, 3)) (k : jJ X cI cZ own cc n k1 k2 w (pc + 3) (o0 :: o1 :: o2 :: some (.int (nI (a + 1))) :: L) st) : jJ X cI cZ own cc n k1 k2 w pc (o0 :: o1 :: o2 :: some (.int (nI a)) :: L) st := by
  refine j_inc3 hn d ?_
  rw [show nI a + Int32.ofInt 1 = nI (a + 1) from nI_1 a]
  exact k
theorem j_inc3M {a : Nat} {o0 o1 o2 : Option Value} (hn : 3 < n) (d : decode cc pc = .ok (.iinc 3 (-1), 3)) (k : jJ X cI cZ own cc n k1 k2 w (pc + 3) (o0 :: o1 :: o2 :: some (.int (nI a + (-1))) :: L) st) : jJ X cI cZ own cc n k1 k2 w pc (o0 :: o1 :: o2 :: some (.int (nI a)) :: L) st := by
  refine j_inc3 hn d ?_
  exact k
theorem j_inc4 {x : Int32} {z : Int} {o0 o1 o2 o3 : Option Value} (hn : 4 < n) (d : decode cc pc = .ok (.iinc 4 z, 3)) (k : jJ X cI cZ own cc n k1 k2 w (pc + 3) (o0 :: o1 :: o2 :: o3 :: some (.int (x + Int32.ofInt z)) :: L) st) : jJ X cI cZ own cc n k1 k2 w pc (o0 :: o1 :: o2 :: o3 :: some (.int x) :: L) st := by
  obtain ⟨p, l, e, R, s, m, args, below, meth, c, Q, A, D⟩ := X
  intro E H locs ls hK hP hD hS hl
  obtain ⟨l0, h1, h2⟩ := hl
  obtain ⟨k0, hk0⟩ := List.mem_iff_getElem?.mp (h2 4 (.int x) rfl).1
  exact lv_iinc E.1 E.2.1 d h1 hk0 rfl hn rfl (fun ls' h' => k E H locs ls' hK hP hD hS (jL_set (L := (o0 :: o1 :: o2 :: o3 :: some (.int x) :: L)) rfl h2 h'))
theorem j_inc4N {a : Nat} {o0 o1 o2 o3 : Option Value} (hn : 4 < n) (d : decode cc pc = .ok (.iinc 4 1, 3)) (k : jJ X cI cZ own cc n k1 k2 w (pc + 3) (o0 :: o1 :: o2 :: o3 :: some (.int (nI (a + 1))) :: L) st) : jJ X cI cZ own cc n k1 k2 w pc (o0 :: o1 :: o2 :: o3 :: some (.int (nI a)) :: L) st := by
  refine j_inc4 hn d ?_
  rw [show nI a + Int32.ofInt 1 = nI (a + 1) from nI_1 a]
  exact k
theorem j_inc4M {a : Nat} {o0 o1 o2 o3 : Option Value} (hn : 4 < n) (d : decode cc pc = .ok (.iinc 4 (-1), 3)) (k : jJ X cI cZ own cc n k1 k2 w (pc + 3) (o0 :: o1 :: o2 :: o3 :: some (.int (nI a + (-1))) :: L) st) : jJ X cI cZ own cc n k1 k2 w pc (o0 :: o1 :: o2 :: o3 :: some (.int (nI a)) :: L) st := by
  refine j_inc4 hn d ?_
  exact k
theorem j_inc5 {x : Int32} {z : Int} {o0 o1 o2 o3 o4 : Option Value} (hn : 5 < n) (d : decode cc pc = .ok (.iinc 5 z, 3)) (k : jJ X cI cZ own cc n k1 k2 w (pc + 3) (o0 :: o1 :: o2 :: o3 :: o4 :: some (.int (x + Int32.ofInt z)) :: L) st) : jJ X cI cZ own cc n k1 k2 w pc (o0 :: o1 :: o2 :: o3 :: o4 :: some (.int x) :: L) st := by
  obtain ⟨p, l, e, R, s, m, args, below, meth, c, Q, A, D⟩ := X
  intro E H locs ls hK hP hD hS hl
  obtain ⟨l0, h1, h2⟩ := hl
  obtain ⟨k0, hk0⟩ := List.mem_iff_getElem?.mp (h2 5 (.int x) rfl).1
  exact lv_iinc E.1 E.2.1 d h1 hk0 rfl hn rfl (fun ls' h' => k E H locs ls' hK hP hD hS (jL_set (L := (o0 :: o1 :: o2 :: o3 :: o4 :: some (.int x) :: L)) rfl h2 h'))
theorem j_inc5N {a : Nat} {o0 o1 o2 o3 o4 : Option Value} (hn : 5 < n) (d : decode cc pc = .ok (.iinc 5 1, 3)) (k : jJ X cI cZ own cc n k1 k2 w (pc + 3) (o0 :: o1 :: o2 :: o3 :: o4 :: some (.int (nI (a + 1))) :: L) st) : jJ X cI cZ own cc n k1 k2 w pc (o0 :: o1 :: o2 :: o3 :: o4 :: some (.int (nI a)) :: L) st := by
  refine j_inc5 hn d ?_
  rw [show nI a + Int32.ofInt 1 = nI (a + 1) from nI_1 a]
  exact k
theorem j_inc5M {a : Nat} {o0 o1 o2 o3 o4 : Option Value} (hn : 5 < n) (d : decode cc pc = .ok (.iinc 5 (-1), 3)) (k : jJ X cI cZ own cc n k1 k2 w (pc + 3) (o0 :: o1 :: o2 :: o3 :: o4 :: some (.int (nI a + (-1))) :: L) st) : jJ X cI cZ own cc n k1 k2 w pc (o0 :: o1 :: o2 :: o3 :: o4 :: some (.int (nI a)) :: L) st := by
  refine j_inc5 hn d ?_
  exact k
theorem j_inc6 {x : Int32} {z : Int} {o0 o1 o2 o3 o4 o5 : Option Value} (hn : 6 < n) (d : decode cc pc = .ok (.iinc 6 z, 3)) (k : jJ X cI cZ own cc n k1 k2 w (pc + 3) (o0 :: o1 :: o2 :: o3 :: o4 :: o5 :: some (.int (x + Int32.ofInt z)) :: L) st) : jJ X cI cZ own cc n k1 k2 w pc (o0 :: o1 :: o2 :: o3 :: o4 :: o5 :: some (.int x) :: L) st := by
  obtain ⟨p, l, e, R, s, m, args, below, meth, c, Q, A, D⟩ := X
  intro E H locs ls hK hP hD hS hl
  obtain ⟨l0, h1, h2⟩ := hl
  obtain ⟨k0, hk0⟩ := List.mem_iff_getElem?.mp (h2 6 (.int x) rfl).1
  exact lv_iinc E.1 E.2.1 d h1 hk0 rfl hn rfl (fun ls' h' => k E H locs ls' hK hP hD hS (jL_set (L := (o0 :: o1 :: o2 :: o3 :: o4 :: o5 :: some (.int x) :: L)) rfl h2 h'))
theorem j_inc6N {a : Nat} {o0 o1 o2 o3 o4 o5 : Option Value} (hn : 6 < n) (d : decode cc pc = .ok (.iinc 6 1, 3)) (k : jJ X cI cZ own cc n k1 k2 w (pc + 3) (o0 :: o1 :: o2 :: o3 :: o4 :: o5 :: some (.int (nI (a + 1))) :: L) st) : jJ X cI cZ own cc n k1 k2 w pc (o0 :: o1 :: o2 :: o3 :: o4 :: o5 :: some (.int (nI a)) :: L) st := by
  refine j_inc6 hn d ?_
  rw [show nI a + Int32.ofInt 1 = nI (a + 1) from nI_1 a]
  exact k
theorem j_inc6M {a : Nat} {o0 o1 o2 o3 o4 o5 : Option Value} (hn : 6 < n) (d : decode cc pc = .ok (.iinc 6 (-1), 3)) (k : jJ X cI cZ own cc n k1 k2 w (pc + 3) (o0 :: o1 :: o2 :: o3 :: o4 :: o5 :: some (.int (nI a + (-1))) :: L) st) : jJ X cI cZ own cc n k1 k2 w pc (o0 :: o1 :: o2 :: o3 :: o4 :: o5 :: some (.int (nI a)) :: L) st := by
  refine j_inc6 hn d ?_
  exact k
theorem j_inc7 {x : Int32} {z : Int} {o0 o1 o2 o3 o4 o5 o6 : Option Value} (hn : 7 < n) (d : decode cc pc = .ok (.iinc 7 z, 3)) (k : jJ X cI cZ own cc n k1 k2 w (pc + 3) (o0 :: o1 :: o2 :: o3 :: o4 :: o5 :: o6 :: some (.int (x + Int32.ofInt z)) :: L) st) : jJ X cI cZ own cc n k1 k2 w pc (o0 :: o1 :: o2 :: o3 :: o4 :: o5 :: o6 :: some (.int x) :: L) st := by
  obtain ⟨p, l, e, R, s, m, args, below, meth, c, Q, A, D⟩ := X
  intro E H locs ls hK hP hD hS hl
  obtain ⟨l0, h1, h2⟩ := hl
  obtain ⟨k0, hk0⟩ := List.mem_iff_getElem?.mp (h2 7 (.int x) rfl).1
  exact lv_iinc E.1 E.2.1 d h1 hk0 rfl hn rfl (fun ls' h' => k E H locs ls' hK hP hD hS (jL_set (L := (o0 :: o1 :: o2 :: o3 :: o4 :: o5 :: o6 :: some (.int x) :: L)) rfl h2 h'))
theorem j_inc7N {a : Nat} {o0 o1 o2 o3 o4 o5 o6 : Option Value} (hn : 7 < n) (d : decode cc pc = .ok (.iinc 7 1, 3)) (k : jJ X cI cZ own cc n k1 k2 w (pc + 3) (o0 :: o1 :: o2 :: o3 :: o4 :: o5 :: o6 :: some (.int (nI (a + 1))) :: L) st) : jJ X cI cZ own cc n k1 k2 w pc (o0 :: o1 :: o2 :: o3 :: o4 :: o5 :: o6 :: some (.int (nI a)) :: L) st := by
  refine j_inc7 hn d ?_
  rw [show nI a + Int32.ofInt 1 = nI (a + 1) from nI_1 a]
  exact k
theorem j_inc7M {a : Nat} {o0 o1 o2 o3 o4 o5 o6 : Option Value} (hn : 7 < n) (d : decode cc pc = .ok (.iinc 7 (-1), 3)) (k : jJ X cI cZ own cc n k1 k2 w (pc + 3) (o0 :: o1 :: o2 :: o3 :: o4 :: o5 :: o6 :: some (.int (nI a + (-1))) :: L) st) : jJ X cI cZ own cc n k1 k2 w pc (o0 :: o1 :: o2 :: o3 :: o4 :: o5 :: o6 :: some (.int (nI a)) :: L) st := by
  refine j_inc7 hn d ?_
  exact k
theorem j_inc8 {x : Int32} {z : Int} {o0 o1 o2 o3 o4 o5 o6 o7 : Option Value} (hn : 8 < n) (d : decode cc pc = .ok (.iinc 8 z, 3)) (k : jJ X cI cZ own cc n k1 k2 w (pc + 3) (o0 :: o1 :: o2 :: o3 :: o4 :: o5 :: o6 :: o7 :: some (.int (x + Int32.ofInt z)) :: L) st) : jJ X cI cZ own cc n k1 k2 w pc (o0 :: o1 :: o2 :: o3 :: o4 :: o5 :: o6 :: o7 :: some (.int x) :: L) st := by
  obtain ⟨p, l, e, R, s, m, args, below, meth, c, Q, A, D⟩ := X
  intro E H locs ls hK hP hD hS hl
  obtain ⟨l0, h1, h2⟩ := hl
  obtain ⟨k0, hk0⟩ := List.mem_iff_getElem?.mp (h2 8 (.int x) rfl).1
  exact lv_iinc E.1 E.2.1 d h1 hk0 rfl hn rfl (fun ls' h' => k E H locs ls' hK hP hD hS (jL_set (L := (o0 :: o1 :: o2 :: o3 :: o4 :: o5 :: o6 :: o7 :: some (.int x) :: L)) rfl h2 h'))
theorem j_inc8N {a : Nat} {o0 o1 o2 o3 o4 o5 o6 o7 : Option Value} (hn : 8 < n) (d : decode cc pc = .ok (.iinc 8 1, 3)) (k : jJ X cI cZ own cc n k1 k2 w (pc + 3) (o0 :: o1 :: o2 :: o3 :: o4 :: o5 :: o6 :: o7 :: some (.int (nI (a + 1))) :: L) st) : jJ X cI cZ own cc n k1 k2 w pc (o0 :: o1 :: o2 :: o3 :: o4 :: o5 :: o6 :: o7 :: some (.int (nI a)) :: L) st := by
  refine j_inc8 hn d ?_
  rw [show nI a + Int32.ofInt 1 = nI (a + 1) from nI_1 a]
  exact k
theorem j_inc8M {a : Nat} {o0 o1 o2 o3 o4 o5 o6 o7 : Option Value} (hn : 8 < n) (d : decode cc pc = .ok (.iinc 8 (-1), 3)) (k : jJ X cI cZ own cc n k1 k2 w (pc + 3) (o0 :: o1 :: o2 :: o3 :: o4 :: o5 :: o6 :: o7 :: some (.int (nI a + (-1))) :: L) st) : jJ X cI cZ own cc n k1 k2 w pc (o0 :: o1 :: o2 :: o3 :: o4 :: o5 :: o6 :: o7 :: some (.int (nI a)) :: L) st := by
  refine j_inc8 hn d ?_
  exact k
theorem j_inc9 {x : Int32} {z : Int} {o0 o1 o2 o3 o4 o5 o6 o7 o8 : Option Value} (hn : 9 < n) (d : decode cc pc = .ok (.iinc 9 z, 3)) (k : jJ X cI cZ own cc n k1 k2 w (pc + 3) (o0 :: o1 :: o2 :: o3 :: o4 :: o5 :: o6 :: o7 :: o8 :: some (.int (x + Int32.ofInt z)) :: L) st) : jJ X cI cZ own cc n k1 k2 w pc (o0 :: o1 :: o2 :: o3 :: o4 :: o5 :: o6 :: o7 :: o8 :: some (.int x) :: L) st := by
  obtain ⟨p, l, e, R, s, m, args, below, meth, c, Q, A, D⟩ := X
  intro E H locs ls hK hP hD hS hl
  obtain ⟨l0, h1, h2⟩ := hl
  obtain ⟨k0, hk0⟩ := List.mem_iff_getElem?.mp (h2 9 (.int x) rfl).1
  exact lv_iinc E.1 E.2.1 d h1 hk0 rfl hn rfl (fun ls' h' => k E H locs ls' hK hP hD hS (jL_set (L := (o0 :: o1 :: o2 :: o3 :: o4 :: o5 :: o6 :: o7 :: o8 :: some (.int x) :: L)) rfl h2 h'))
theorem j_inc9N {a : Nat} {o0 o1 o2 o3 o4 o5 o6 o7 o8 : Option Value} (hn : 9 < n) (d : decode cc pc = .ok (.iinc 9 1, 3)) (k : jJ X cI cZ own cc n k1 k2 w (pc + 3) (o0 :: o1 :: o2 :: o3 :: o4 :: o5 :: o6 :: o7 :: o8 :: some (.int (nI (a + 1))) :: L) st) : jJ X cI cZ own cc n k1 k2 w pc (o0 :: o1 :: o2 :: o3 :: o4 :: o5 :: o6 :: o7 :: o8 :: some (.int (nI a)) :: L) st := by
  refine j_inc9 hn d ?_
  rw [show nI a + Int32.ofInt 1 = nI (a + 1) from nI_1 a]
  exact k
theorem j_inc9M {a : Nat} {o0 o1 o2 o3 o4 o5 o6 o7 o8 : Option Value} (hn : 9 < n) (d : decode cc pc = .ok (.iinc 9 (-1), 3)) (k : jJ X cI cZ own cc n k1 k2 w (pc + 3) (o0 :: o1 :: o2 :: o3 :: o4 :: o5 :: o6 :: o7 :: o8 :: some (.int (nI a + (-1))) :: L) st) : jJ X cI cZ own cc n k1 k2 w pc (o0 :: o1 :: o2 :: o3 :: o4 :: o5 :: o6 :: o7 :: o8 :: some (.int (nI a)) :: L) st := by
  refine j_inc9 hn d ?_
  exact k
theorem j_inc10 {x : Int32} {z : Int} {o0 o1 o2 o3 o4 o5 o6 o7 o8 o9 : Option Value} (hn : 10 < n) (d : decode cc pc = .ok (.iinc 10 z, 3)) (k : jJ X cI cZ own cc n k1 k2 w (pc + 3) (o0 :: o1 :: o2 :: o3 :: o4 :: o5 :: o6 :: o7 :: o8 :: o9 :: some (.int (x + Int32.ofInt z)) :: L) st) : jJ X cI cZ own cc n k1 k2 w pc (o0 :: o1 :: o2 :: o3 :: o4 :: o5 :: o6 :: o7 :: o8 :: o9 :: some (.int x) :: L) st := by
  obtain ⟨p, l, e, R, s, m, args, below, meth, c, Q, A, D⟩ := X
  intro E H locs ls hK hP hD hS hl
  obtain ⟨l0, h1, h2⟩ := hl
  obtain ⟨k0, hk0⟩ := List.mem_iff_getElem?.mp (h2 10 (.int x) rfl).1
  exact lv_iinc E.1 E.2.1 d h1 hk0 rfl hn rfl (fun ls' h' => k E H locs ls' hK hP hD hS (jL_set (L := (o0 :: o1 :: o2 :: o3 :: o4 :: o5 :: o6 :: o7 :: o8 :: o9 :: some (.int x) :: L)) rfl h2 h'))
theorem j_inc10N {a : Nat} {o0 o1 o2 o3 o4 o5 o6 o7 o8 o9 : Option Value} (hn : 10 < n) (d : decode cc pc = .ok (.iinc 10 1, 3)) (k : jJ X cI cZ own cc n k1 k2 w (pc + 3) (o0 :: o1 :: o2 :: o3 :: o4 :: o5 :: o6 :: o7 :: o8 :: o9 :: some (.int (nI (a + 1))) :: L) st) : jJ X cI cZ own cc n k1 k2 w pc (o0 :: o1 :: o2 :: o3 :: o4 :: o5 :: o6 :: o7 :: o8 :: o9 :: some (.int (nI a)) :: L) st := by
  refine j_inc10 hn d ?_
  rw [show nI a + Int32.ofInt 1 = nI (a + 1) from nI_1 a]
  exact k
theorem j_inc10M {a : Nat} {o0 o1 o2 o3 o4 o5 o6 o7 o8 o9 : Option Value} (hn : 10 < n) (d : decode cc pc = .ok (.iinc 10 (-1), 3)) (k : jJ X cI cZ own cc n k1 k2 w (pc + 3) (o0 :: o1 :: o2 :: o3 :: o4 :: o5 :: o6 :: o7 :: o8 :: o9 :: some (.int (nI a + (-1))) :: L) st) : jJ X cI cZ own cc n k1 k2 w pc (o0 :: o1 :: o2 :: o3 :: o4 :: o5 :: o6 :: o7 :: o8 :: o9 :: some (.int (nI a)) :: L) st := by
  refine j_inc10 hn d ?_
  exact k
end JR
end
section
set_option maxRecDepth 100000
/-! CONTRACTS over the judgement: a method's start (jKi_start, jKv_start) and its call (jcall_i, jcall_v) -/
def jKi (l : Launch) (D : va_G) (cI cZ : ClassId) (y : MethodName) (b : ByteArray) (n : Nat) (ty : Option FieldType) (rm : Room) (o : Nat) (As : List Value) {S : Type} (wf : S → va_W) (u0 : S) (post : Int32 → S → Prop) : Prop :=
  ∀ sz : Nat, Met l y (ws_ y b n ty) rm (va_Pc (.ref o :: As) (fun U => U.heap.size = sz ∧ va_P D vwCl (wf u0) U.heap ∧ va_K D vwCl [(cI, .int), (cZ, .boolean)] U ∧ va_D (fun _ => True) (wf u0))) (va_Qi post (fun u t => va_P D vwCl (wf u) t.heap ∧ va_K D vwCl [(cI, .int), (cZ, .boolean)] t ∧ va_D (va_A (wf u0) sz) (wf u)) (va_A (wf u0) sz)) 0 0 (va_A (wf u0) sz)
def jKv (l : Launch) (D : va_G) (cI cZ : ClassId) (y : MethodName) (b : ByteArray) (n : Nat) (rm : Room) (o : Nat) (As : List Value) {S : Type} (wf : S → va_W) (u0 : S) (post : S → Prop) : Prop :=
  ∀ sz : Nat, Met l y (ws_ y b n none) rm (va_Pc (.ref o :: As) (fun U => U.heap.size = sz ∧ va_P D vwCl (wf u0) U.heap ∧ va_K D vwCl [(cI, .int), (cZ, .boolean)] U ∧ va_D (fun _ => True) (wf u0))) (va_Qv post (fun u t => va_P D vwCl (wf u) t.heap ∧ va_K D vwCl [(cI, .int), (cZ, .boolean)] t ∧ va_D (va_A (wf u0) sz) (wf u)) (va_A (wf u0) sz)) 0 0 (va_A (wf u0) sz)
theorem jargs : ∀ (vs : List Value) (k : Nat), (∀ v ∈ vs, v.category = 1) → ∀ (i : Nat) (v : Value), vs[i]? = some v → (k + i, v) ∈ lv_args k vs
  | [], _, _, i, v, h => by simp at h
  | w :: vs, k, hc, 0, v, h => by
    simp at h
    subst h
    exact List.mem_cons_self
  | w :: vs, k, hc, i + 1, v, h => by
    have hw : ¬ w.category = 2 := by
      rw [hc w List.mem_cons_self]
      decide
    have h1 : vs[i]? = some v := by simpa using h
    have := jargs vs (k + 1) (fun v hv => hc v (List.mem_cons_of_mem _ hv)) i v h1
    simp only [lv_args, hw, if_false]
    rw [show k + (i + 1) = k + 1 + i by omega]
    exact List.mem_cons_of_mem _ this
theorem jL_entry {ls : Array Slot} {n k : Nat} {vs : List Value} (hc : ∀ v ∈ vs, v.category = 1) (h : lv_has ls n (lv_args 0 vs)) : jL ls n (vs.map some ++ List.replicate k none) := by
  refine ⟨_, h, fun i v hi => ?_⟩
  by_cases hl : i < (vs.map some).length
  · rw [List.getElem?_append_left hl, List.getElem?_map] at hi
    cases hv : vs[i]? with
    | none => rw [hv] at hi; cases hi
    | some q =>
      rw [hv] at hi
      have e : q = v := Option.some.inj (Option.some.inj hi)
      subst e
      have := jargs vs 0 hc i q hv
      rw [Nat.zero_add] at this
      exact ⟨this, hc q (List.mem_of_getElem? hv)⟩
  · rw [List.getElem?_append_right (by omega), List.getElem?_replicate] at hi
    split at hi
    · cases hi
    · cases hi
theorem jfm {α β : Type} (f : α → Option β) : ∀ (is : List α) (ws : List β), is.map f = ws.map some → is.filterMap f = ws
  | [], [], _ => rfl
  | [], _ :: _, h => by simp at h
  | _ :: _, [], h => by simp at h
  | i :: is, w :: ws, h => by
    simp only [List.map_cons, List.cons.injEq] at h
    rw [List.filterMap_cons, h.1, jfm f is ws h.2]
set_option maxHeartbeats 4000000 in
theorem jKi_start {l : Launch} {D : va_G} {cI cZ : ClassId} {y : MethodName} {b : ByteArray} {n : Nat} {ty : FieldType} {rm : Room} {o : Nat} {As : List Value} {S : Type} {wf : S → va_W} {u0 : S} {post : Int32 → S → Prop} (own : String) (k : Nat) (hy : plainName y.cls = true) (ho : y.cls = own) (hlen : (lg_sl (.ref o :: As)).length ≤ n) (hc : ∀ v ∈ Value.ref o :: As, v.category = 1)
    (body : ∀ X : jC, jR X = rm → (∀ (v : Int32) (u : S) (pc : Nat) (L : List (Option Value)), decode b pc = .ok (.ireturn, 1) → narrow ty (.int v) = .int v → post v u → jJ X cI cZ own b n 0 0 (wf u) pc L [.int v]) → jJ X cI cZ own b n 0 0 (wf u0) 0 ((Value.ref o :: As).map some ++ List.replicate k none) []) : jKi l D cI cZ y b n (some ty) rm o As wf u0 post := by
  intro sz
  refine Met.ofW (cc := b) (maxL := n) (ret := some ty) hy rfl ?_
  intro p e s m args below meth c s₁ B hml hv
  obtain ⟨rfl, hsz, hP, hK, hD0⟩ := hv
  have hx := B.exec
  have hb := B.bytes
  have hr := B.returns
  have hts := atoms_spec (ws := ws_ y b n (some ty)) B.pre
  have hts : ∀ w ∈ lw_all, w.before _ s = true := fun w h => hts w (List.mem_cons_of_mem _ h)
  have hown : s.vm.findClass y.cls = some m.cls := findClass_of_methodNamed B.named
  rw [ho] at hown
  have hlocks := B.notSynchronized
  subst hsz
  have hD := hD0.self (sz := s.heap.size)
  have hl := lv_entry (.ref o :: As) (n := n) hlen
  rw [lg_entry_eq]
  have hA : ∀ q : Nat, s.heap.size ≤ q → va_A (wf u0) s.heap.size q := fun q h => Or.inr h
  have hE : jE (p, l, e, rm, s, m, (Value.ref o :: As).toArray, below, meth, c, MQ below (va_Qi post (fun u t => va_P D vwCl (wf u) t.heap ∧ va_K D vwCl [(cI, .int), (cZ, .boolean)] t ∧ va_D (va_A (wf u0) s.heap.size) (wf u)) (va_A (wf u0) s.heap.size)) (Value.ref o :: As).toArray s 0 0 (va_A (wf u0) s.heap.size), va_A (wf u0) s.heap.size, D) own b n := ⟨hx, hb, hml, hown, hts, hlocks, hA⟩
  have hB := body (p, l, e, rm, s, m, (Value.ref o :: As).toArray, below, meth, c, MQ below (va_Qi post (fun u t => va_P D vwCl (wf u) t.heap ∧ va_K D vwCl [(cI, .int), (cZ, .boolean)] t ∧ va_D (va_A (wf u0) s.heap.size) (wf u)) (va_A (wf u0) s.heap.size)) (Value.ref o :: As).toArray s 0 0 (va_A (wf u0) s.heap.size), va_A (wf u0) s.heap.size, D) rfl ?_
  · exact hB hE s.heap [] _ hK hP hD va_S.rf (jL_entry hc hl)
  · intro v u pc L d hn hp E H locs ls hK hP hD hS hl
    exact W.zret (v := v) hx hb hr hn (fun t ht hW => ⟨⟨v, u, rfl, hp, by rw [ht]; exact hP, va_K.moved hW.alike hK, hD⟩, hS.F ht⟩) hS.2.2 d hlocks
set_option maxHeartbeats 4000000 in
theorem jKv_start {l : Launch} {D : va_G} {cI cZ : ClassId} {y : MethodName} {b : ByteArray} {n : Nat} {rm : Room} {o : Nat} {As : List Value} {S : Type} {wf : S → va_W} {u0 : S} {post : S → Prop} (own : String) (k : Nat) (hy : plainName y.cls = true) (ho : y.cls = own) (hlen : (lg_sl (.ref o :: As)).length ≤ n) (hc : ∀ v ∈ Value.ref o :: As, v.category = 1)
    (body : ∀ X : jC, jR X = rm → (∀ (u : S) (pc : Nat) (L : List (Option Value)), decode b pc = .ok (.return_, 1) → post u → jJ X cI cZ own b n 0 0 (wf u) pc L []) → jJ X cI cZ own b n 0 0 (wf u0) 0 ((Value.ref o :: As).map some ++ List.replicate k none) []) : jKv l D cI cZ y b n rm o As wf u0 post := by
  intro sz
  refine Met.ofW (cc := b) (maxL := n) (ret := none) hy rfl ?_
  intro p e s m args below meth c s₁ B hml hv
  obtain ⟨rfl, hsz, hP, hK, hD0⟩ := hv
  have hx := B.exec
  have hb := B.bytes
  have hr := B.returns
  have hts := atoms_spec (ws := ws_ y b n none) B.pre
  have hts : ∀ w ∈ lw_all, w.before _ s = true := fun w h => hts w (List.mem_cons_of_mem _ h)
  have hown : s.vm.findClass y.cls = some m.cls := findClass_of_methodNamed B.named
  rw [ho] at hown
  have hlocks := B.notSynchronized
  subst hsz
  have hD := hD0.self (sz := s.heap.size)
  have hl := lv_entry (.ref o :: As) (n := n) hlen
  rw [lg_entry_eq]
  have hA : ∀ q : Nat, s.heap.size ≤ q → va_A (wf u0) s.heap.size q := fun q h => Or.inr h
  have hE : jE (p, l, e, rm, s, m, (Value.ref o :: As).toArray, below, meth, c, MQ below (va_Qv post (fun u t => va_P D vwCl (wf u) t.heap ∧ va_K D vwCl [(cI, .int), (cZ, .boolean)] t ∧ va_D (va_A (wf u0) s.heap.size) (wf u)) (va_A (wf u0) s.heap.size)) (Value.ref o :: As).toArray s 0 0 (va_A (wf u0) s.heap.size), va_A (wf u0) s.heap.size, D) own b n := ⟨hx, hb, hml, hown, hts, hlocks, hA⟩
  have hB := body (p, l, e, rm, s, m, (Value.ref o :: As).toArray, below, meth, c, MQ below (va_Qv post (fun u t => va_P D vwCl (wf u) t.heap ∧ va_K D vwCl [(cI, .int), (cZ, .boolean)] t ∧ va_D (va_A (wf u0) s.heap.size) (wf u)) (va_A (wf u0) s.heap.size)) (Value.ref o :: As).toArray s 0 0 (va_A (wf u0) s.heap.size), va_A (wf u0) s.heap.size, D) rfl ?_
  · exact hB hE s.heap [] _ hK hP hD va_S.rf (jL_entry hc hl)
  · intro u pc L d hp E H locs ls hK hP hD hS hl
    exact W.vret hx hb hr (fun t ht hW => ⟨⟨u, rfl, hp, by rw [ht]; exact hP, va_K.moved hW.alike hK, hD⟩, hS.F ht⟩) hS.2.2 d hlocks
set_option maxHeartbeats 4000000 in
theorem jcall_i {X : jC} {cI cZ : ClassId} {own : String} {cc : ByteArray} {n k1 k2 : Nat} {w wr : va_W} {S : Type} {wf : S → va_W} {u0 : S} {post : Int32 → S → Prop} {y : MethodName} {b : ByteArray} {mL : Nat} {ty : Option FieldType} {rm R : Room} {o : Nat} {As : List Value} {pc : Nat} {L : List (Option Value)} {rest stk : List Value} {idx nA ci : Nat} {q : vw_C} {fs : List Value}
    (hM : ∀ (l : Launch) (D : va_G), jKi l D cI cZ y b mL ty rm o As wf u0 post) (hR : jR X = R) (isC isR : List Nat) (hC : isC.map (fun i => w[i]?) = (wf u0).map some) (hndC : va_nd isC = true) (hW : isR.map (fun i => w[i]?) = wr.map some) (hnd : va_nd isR = true) (hdis : ∀ i ∈ isR, i ∉ isC)
    (hcl : vwCl[ci]? = some q) (hobj : (wf u0)[0]? = some (o, .inr (ci, fs))) (hV : GoodIn lw_all (wsV own idx q.1 y (ws_ y b mL ty))) (hrc : rm.cells = 0) (hrs : rm.slots = 0)
    (hd : y.cls = q.1 ∧ y.cls ≠ "java/lang/invoke/MethodHandle" ∧ y.cls ≠ "java/lang/invoke/VarHandle" ∧ (parseMethodDescriptor y.desc).map (fun d => d.parameters.length) = some nA) (hroom : rm.frames + 1 ≤ R.frames ∧ 8 + (mL + 11) + rm.locals ≤ R.locals) (hk : k1 ≤ R.cells ∧ k2 ≤ R.slots)
    (hnA : As.length = nA) (hstk : stk = As.reverse ++ .ref o :: rest) (hsum : (rest.map fun v => v.category).sum ≤ 8) (d : decode cc pc = .ok (.invokevirtual idx, 3))
    (k : ∀ (r : Int32) (u : S), post r u → jJ X cI cZ own cc n k1 k2 (wr ++ wf u) (pc + 3) L (.int r :: rest)) : jJ X cI cZ own cc n k1 k2 w pc L stk := by
  obtain ⟨p, l, e, R0, s, m, args, below, meth, c, Q, A, D⟩ := X
  intro E H locs ls hK hP hD hS hl
  have hR : R0 = R := hR
  subst hR
  obtain ⟨hx, hb, hml, hown, hts, hlk, hA⟩ := id E
  have hPc := hP.sub (ws' := wf u0) isC (jfm _ _ _ hC)
  have hDc := hD.sub (ws' := wf u0) isC hndC hC
  have hFc := va_free (wc := wf u0) hD hS hA isC hC
  have hrun := va_runV (below := below) (meth := meth) (H := H) (locs := locs) (cells := k1) (slots := k2) (g := F0 m pc ls stk) (e := e) (As := As) (rest := rest) (⟨hx, hb, hml, hown, hts⟩ : CallFix p m c cc n s args lw_all own) (hM l D H.size) (cwV nA hts hV rfl hrc hrs hd hroom) ⟨fun a U g mk q => by obtain ⟨q0, q1, qP, qK, qD⟩ := q; exact ⟨q0, q1, qP, va_K.moved (u := U) (U := U.calling g mk a) (Vm.Alike.refl U.vm) qK, qD⟩, va_recv hK hPc (ci := ci) hcl hobj, fun U hU hW => ⟨rfl, by rw [hU], by rw [hU]; exact hPc, va_K.moved hW.alike hK, hDc.weaken (fun _ _ _ _ => trivial)⟩⟩ rfl hnA (jL_size hl) hstk (lv_room hsum) d hk
  refine va_calli hrun hS (fun q _ h => hFc q h) hFc (fun r u t H1 locs1 ht hvm hw hB hz1 hk1 hS1 => ?_)
  obtain ⟨hP1, hK1, hD1⟩ := hB
  rw [ht] at hP1
  obtain ⟨hP2, hD2⟩ := va_join (wr := wr) (w1 := wf u) hP hD isC isR hC hW hnd hdis hk1 hFc hP1 hD1
  exact k r u hw E H1 locs1 ls hK hP2 hD2 hS1 hl
set_option maxHeartbeats 4000000 in
theorem jcall_v {X : jC} {cI cZ : ClassId} {own : String} {cc : ByteArray} {n k1 k2 : Nat} {w wr : va_W} {S : Type} {wf : S → va_W} {u0 : S} {post : S → Prop} {y : MethodName} {b : ByteArray} {mL : Nat} {rm R : Room} {o : Nat} {As : List Value} {pc : Nat} {L : List (Option Value)} {rest stk : List Value} {idx nA ci : Nat} {q : vw_C} {fs : List Value}
    (hM : ∀ (l : Launch) (D : va_G), jKv l D cI cZ y b mL rm o As wf u0 post) (hR : jR X = R) (isC isR : List Nat) (hC : isC.map (fun i => w[i]?) = (wf u0).map some) (hndC : va_nd isC = true) (hW : isR.map (fun i => w[i]?) = wr.map some) (hnd : va_nd isR = true) (hdis : ∀ i ∈ isR, i ∉ isC)
    (hcl : vwCl[ci]? = some q) (hobj : (wf u0)[0]? = some (o, .inr (ci, fs))) (hV : GoodIn lw_all (wsV own idx q.1 y (ws_ y b mL none))) (hrc : rm.cells = 0) (hrs : rm.slots = 0)
    (hd : y.cls = q.1 ∧ y.cls ≠ "java/lang/invoke/MethodHandle" ∧ y.cls ≠ "java/lang/invoke/VarHandle" ∧ (parseMethodDescriptor y.desc).map (fun d => d.parameters.length) = some nA) (hroom : rm.frames + 1 ≤ R.frames ∧ 8 + (mL + 11) + rm.locals ≤ R.locals) (hk : k1 ≤ R.cells ∧ k2 ≤ R.slots)
    (hnA : As.length = nA) (hstk : stk = As.reverse ++ .ref o :: rest) (hsum : (rest.map fun v => v.category).sum ≤ 8) (d : decode cc pc = .ok (.invokevirtual idx, 3))
    (k : ∀ (u : S), post u → jJ X cI cZ own cc n k1 k2 (wr ++ wf u) (pc + 3) L rest) : jJ X cI cZ own cc n k1 k2 w pc L stk := by
  obtain ⟨p, l, e, R0, s, m, args, below, meth, c, Q, A, D⟩ := X
  intro E H locs ls hK hP hD hS hl
  have hR : R0 = R := hR
  subst hR
  obtain ⟨hx, hb, hml, hown, hts, hlk, hA⟩ := id E
  have hPc := hP.sub (ws' := wf u0) isC (jfm _ _ _ hC)
  have hDc := hD.sub (ws' := wf u0) isC hndC hC
  have hFc := va_free (wc := wf u0) hD hS hA isC hC
  have hrun := va_runV (below := below) (meth := meth) (H := H) (locs := locs) (cells := k1) (slots := k2) (g := F0 m pc ls stk) (e := e) (As := As) (rest := rest) (⟨hx, hb, hml, hown, hts⟩ : CallFix p m c cc n s args lw_all own) (hM l D H.size) (cwV nA hts hV rfl hrc hrs hd hroom) ⟨fun a U g mk q => by obtain ⟨q0, q1, qP, qK, qD⟩ := q; exact ⟨q0, q1, qP, va_K.moved (u := U) (U := U.calling g mk a) (Vm.Alike.refl U.vm) qK, qD⟩, va_recv hK hPc (ci := ci) hcl hobj, fun U hU hW => ⟨rfl, by rw [hU], by rw [hU]; exact hPc, va_K.moved hW.alike hK, hDc.weaken (fun _ _ _ _ => trivial)⟩⟩ rfl hnA (jL_size hl) hstk (lv_room hsum) d hk
  refine va_callv hrun hS (fun q _ h => hFc q h) hFc (fun u t H1 locs1 ht hvm hw hB hz1 hk1 hS1 => ?_)
  obtain ⟨hP1, hK1, hD1⟩ := hB
  rw [ht] at hP1
  obtain ⟨hP2, hD2⟩ := va_join (wr := wr) (w1 := wf u) hP hD isC isR hC hW hnd hdis hk1 hFc hP1 hD1
  exact k u hw E H1 locs1 ls hK hP2 hD2 hS1 hl
end
section
set_option maxRecDepth 100000
/-! THE WORLDS: a state u: its numbers u.1 (by field), its arrays u.2 (by field, by place); jZ: the object's address, its arrays' addresses, the classes of int[] and boolean[] -/
abbrev jS : Type := (Nat → Nat) × (Nat → Nat → Int32)
abbrev jZ : Type := Nat × (Nat → Nat) × ClassId × ClassId
def jput (u : jS) (k v : Nat) : jS := (fun j => if j = k then v else u.1 j, u.2)
def jset (u : jS) (k i : Nat) (x : Int32) : jS := (u.1, fun j => if j = k then upd (u.2 k) i x else u.2 j)
theorem jput_s (u : jS) (k v j : Nat) : (jput u k v).1 j = if j = k then v else u.1 j := rfl
theorem jput_a (u : jS) (k v : Nat) : (jput u k v).2 = u.2 := rfl
theorem jset_s (u : jS) (k i : Nat) (x : Int32) : (jset u k i x).1 = u.1 := rfl
theorem jset_f (u : jS) (k i : Nat) (x : Int32) (j : Nat) : (jset u k i x).2 j = if j = k then upd (u.2 k) i x else u.2 j := rfl
theorem jset_a (u : jS) (k i : Nat) (x : Int32) (j i' : Nat) : (jset u k i x).2 j i' = if j = k ∧ i' = i then x else u.2 j i' := by
  rw [jset_f]
  by_cases h : j = k
  · subst h
    by_cases h2 : i' = i
    · subst h2; simp [upd]
    · simp [upd, h2]
  · simp [h]
theorem jset_o (u : jS) {k j : Nat} (i : Nat) (x : Int32) (h : j ≠ k) : (jset u k i x).2 j = u.2 j := by rw [jset_f, if_neg h]
theorem jset_k (u : jS) (k i : Nat) (x : Int32) : (jset u k i x).2 k = upd (u.2 k) i x := by rw [jset_f, if_pos rfl]
def w0 (Z : jZ) (u : jS) : va_W := [(Z.1, .inr (0, [.int (nI (u.1 0)), .ref (Z.2.1 1), .int (nI (u.1 2)), .ref (Z.2.1 3), .ref (Z.2.1 4), .ref (Z.2.1 5), .ref (Z.2.1 6), .ref (Z.2.1 7), .ref (Z.2.1 8), .ref (Z.2.1 9), .ref (Z.2.1 10), .ref (Z.2.1 11), .int (nI (u.1 12)), .ref (Z.2.1 13), .ref (Z.2.1 14), .ref (Z.2.1 15), .ref (Z.2.1 16), .ref (Z.2.1 17)])), (Z.2.1 1, .inl (Z.2.2.1, 10, .inl (u.2 1))), (Z.2.1 3, .inl (Z.2.2.2, 12, .inl (u.2 3))), (Z.2.1 4, .inl (Z.2.2.2, 12, .inl (u.2 4))), (Z.2.1 5, .inl (Z.2.2.2, 12, .inl (u.2 5))), (Z.2.1 6, .inl (Z.2.2.1, 84, .inl (u.2 6))), (Z.2.1 7, .inl (Z.2.2.1, 12, .inl (u.2 7))), (Z.2.1 8, .inl (Z.2.2.1, 12, .inl (u.2 8))), (Z.2.1 9, .inl (Z.2.2.1, 12, .inl (u.2 9))), (Z.2.1 10, .inl (Z.2.2.1, 12, .inl (u.2 10))), (Z.2.1 11, .inl (Z.2.2.1, 12, .inl (u.2 11))), (Z.2.1 13, .inl (Z.2.2.1, 6, .inl (u.2 13))), (Z.2.1 14, .inl (Z.2.2.1, 48, .inl (u.2 14))), (Z.2.1 15, .inl (Z.2.2.1, 12, .inl (u.2 15))), (Z.2.1 16, .inl (Z.2.2.1, 6, .inl (u.2 16))), (Z.2.1 17, .inl (Z.2.2.1, 6, .inl (u.2 17)))]
abbrev j0 (X : jC) (Z : jZ) (cc : ByteArray) (n : Nat) (u : jS) (pc : Nat) (L : List (Option Value)) (st : List Value) : Prop := jJ X Z.2.2.1 Z.2.2.2 RX0 cc n 0 0 (w0 Z u) pc L st
section JR0
variable {X : jC} {Z : jZ} {cc : ByteArray} {n : Nat} {u : jS} {pc : Nat} {L : List (Option Value)} {st : List Value}
theorem g0_0 (d : decode cc pc = .ok (.getfield 60, 3)) (k : j0 X Z cc n u (pc + 3) L (.int (nI (u.1 0)) :: st)) : j0 X Z cc n u pc L (.ref Z.1 :: st) := by
  obtain ⟨p, l, e, R, s, m, args, below, meth, c, Q, A, D⟩ := X
  intro E H locs ls hK hP hD hS hl
  exact va_get (D := D) (ci := 0) (v := .int (nI (u.1 0))) (C := RX0) (T := TX0) (N := 18) E.1 E.2.1 E.2.2.2.2.1 in_X0 E.2.2.2.1 hK hP 0 rfl rfl 0 (by decide) (E.2.2.2.2.1 _ q28) (fun _ h9 => h9) rfl d (k E H locs ls hK hP hD hS hl)
theorem p0_0 {v : Nat} (d : decode cc pc = .ok (.putfield 60, 3)) (k : j0 X Z cc n (jput u 0 v) (pc + 3) L st) : j0 X Z cc n u pc L (.int (nI v) :: .ref Z.1 :: st) := by
  obtain ⟨p, l, e, R, s, m, args, below, meth, c, Q, A, D⟩ := X
  intro E H locs ls hK hP hD hS hl
  exact va_put (D := D) (ci := 0) (v := .int (nI v)) (ty := .int) (C := RX0) (T := TX0) (N := 18) E.1 E.2.1 E.2.2.2.2.1 in_X0 tyX0 tyX0_ok nmX0 E.2.2.2.1 hK hP hD hS 0 rfl rfl 0 (by decide) (E.2.2.2.2.1 _ q28) (fun _ h9 => h9) rfl (by decide +kernel) rfl rfl (Nat.le_of_ble_eq_true rfl) d (fun H1 locs1 hP1 hD1 hS1 => k E H1 locs1 ls hK hP1 hD1 hS1 hl)
theorem g0_1 (d : decode cc pc = .ok (.getfield 7, 3)) (k : j0 X Z cc n u (pc + 3) L (.ref (Z.2.1 1) :: st)) : j0 X Z cc n u pc L (.ref Z.1 :: st) := by
  obtain ⟨p, l, e, R, s, m, args, below, meth, c, Q, A, D⟩ := X
  intro E H locs ls hK hP hD hS hl
  exact va_get (D := D) (ci := 0) (v := .ref (Z.2.1 1)) (C := RX0) (T := TX0) (N := 18) E.1 E.2.1 E.2.2.2.2.1 in_X0 E.2.2.2.1 hK hP 0 rfl rfl 1 (by decide) (E.2.2.2.2.1 _ q29) (fun _ h9 => h9) rfl d (k E H locs ls hK hP hD hS hl)
theorem l0_1 {i : Nat} (d : decode cc pc = .ok (.iaload, 1)) (hi : i < 10) (k : j0 X Z cc n u (pc + 1) L (.int (u.2 1 i) :: st)) : j0 X Z cc n u pc L (.int (nI i) :: .ref (Z.2.1 1) :: st) := by
  obtain ⟨p, l, e, R, s, m, args, below, meth, c, Q, A, D⟩ := X
  intro E H locs ls hK hP hD hS hl
  refine va_iald E.1 E.2.1 hK hP 1 0 rfl rfl (vp_in_nI hi (by decide)) d ?_
  rw [nI_clamp (by omega)]
  exact k E H locs ls hK hP hD hS hl
theorem s0_1 {i : Nat} {x : Int32} (d : decode cc pc = .ok (.iastore, 1)) (hi : i < 10) (k : j0 X Z cc n (jset u 1 i x) (pc + 1) L st) : j0 X Z cc n u pc L (.int x :: .int (nI i) :: .ref (Z.2.1 1) :: st) := by
  obtain ⟨p, l, e, R, s, m, args, below, meth, c, Q, A, D⟩ := X
  intro E H locs ls hK hP hD hS hl
  refine va_iast E.1 E.2.1 hK hP hD hS 1 0 rfl rfl (vp_in_nI hi (by decide)) d (fun H1 locs1 hP1 hD1 hS1 => ?_)
  rw [nI_clamp (by omega)] at hP1 hD1
  exact k E H1 locs1 ls hK hP1 hD1 hS1 hl
theorem g0_2 (d : decode cc pc = .ok (.getfield 71, 3)) (k : j0 X Z cc n u (pc + 3) L (.int (nI (u.1 2)) :: st)) : j0 X Z cc n u pc L (.ref Z.1 :: st) := by
  obtain ⟨p, l, e, R, s, m, args, below, meth, c, Q, A, D⟩ := X
  intro E H locs ls hK hP hD hS hl
  exact va_get (D := D) (ci := 0) (v := .int (nI (u.1 2))) (C := RX0) (T := TX0) (N := 18) E.1 E.2.1 E.2.2.2.2.1 in_X0 E.2.2.2.1 hK hP 0 rfl rfl 2 (by decide) (E.2.2.2.2.1 _ q30) (fun _ h9 => h9) rfl d (k E H locs ls hK hP hD hS hl)
theorem p0_2 {v : Nat} (d : decode cc pc = .ok (.putfield 71, 3)) (k : j0 X Z cc n (jput u 2 v) (pc + 3) L st) : j0 X Z cc n u pc L (.int (nI v) :: .ref Z.1 :: st) := by
  obtain ⟨p, l, e, R, s, m, args, below, meth, c, Q, A, D⟩ := X
  intro E H locs ls hK hP hD hS hl
  exact va_put (D := D) (ci := 0) (v := .int (nI v)) (ty := .int) (C := RX0) (T := TX0) (N := 18) E.1 E.2.1 E.2.2.2.2.1 in_X0 tyX0 tyX0_ok nmX0 E.2.2.2.1 hK hP hD hS 0 rfl rfl 2 (by decide) (E.2.2.2.2.1 _ q30) (fun _ h9 => h9) rfl (by decide +kernel) rfl rfl (Nat.le_of_ble_eq_true rfl) d (fun H1 locs1 hP1 hD1 hS1 => k E H1 locs1 ls hK hP1 hD1 hS1 hl)
theorem g0_3 (d : decode cc pc = .ok (.getfield 13, 3)) (k : j0 X Z cc n u (pc + 3) L (.ref (Z.2.1 3) :: st)) : j0 X Z cc n u pc L (.ref Z.1 :: st) := by
  obtain ⟨p, l, e, R, s, m, args, below, meth, c, Q, A, D⟩ := X
  intro E H locs ls hK hP hD hS hl
  exact va_get (D := D) (ci := 0) (v := .ref (Z.2.1 3)) (C := RX0) (T := TX0) (N := 18) E.1 E.2.1 E.2.2.2.2.1 in_X0 E.2.2.2.1 hK hP 0 rfl rfl 3 (by decide) (E.2.2.2.2.1 _ q31) (fun _ h9 => h9) rfl d (k E H locs ls hK hP hD hS hl)
theorem l0_3 {i : Nat} (d : decode cc pc = .ok (.baload, 1)) (hi : i < 12) (k : j0 X Z cc n u (pc + 1) L (.int (u.2 3 i) :: st)) : j0 X Z cc n u pc L (.int (nI i) :: .ref (Z.2.1 3) :: st) := by
  obtain ⟨p, l, e, R, s, m, args, below, meth, c, Q, A, D⟩ := X
  intro E H locs ls hK hP hD hS hl
  refine va_zald E.1 E.2.1 hK hP 2 1 rfl rfl (vp_in_nI hi (by decide)) d ?_
  rw [nI_clamp (by omega)]
  exact k E H locs ls hK hP hD hS hl
theorem s0_3 {i : Nat} {x : Int32} (d : decode cc pc = .ok (.bastore, 1)) (hi : i < 12) (hx : vp_nar .boolean x = x) (k : j0 X Z cc n (jset u 3 i x) (pc + 1) L st) : j0 X Z cc n u pc L (.int x :: .int (nI i) :: .ref (Z.2.1 3) :: st) := by
  obtain ⟨p, l, e, R, s, m, args, below, meth, c, Q, A, D⟩ := X
  intro E H locs ls hK hP hD hS hl
  refine va_zast E.1 E.2.1 hK hP hD hS 2 1 rfl rfl (vp_in_nI hi (by decide)) d (fun H1 locs1 hP1 hD1 hS1 => ?_)
  rw [nI_clamp (by omega), hx] at hP1 hD1
  exact k E H1 locs1 ls hK hP1 hD1 hS1 hl
theorem g0_4 (d : decode cc pc = .ok (.getfield 17, 3)) (k : j0 X Z cc n u (pc + 3) L (.ref (Z.2.1 4) :: st)) : j0 X Z cc n u pc L (.ref Z.1 :: st) := by
  obtain ⟨p, l, e, R, s, m, args, below, meth, c, Q, A, D⟩ := X
  intro E H locs ls hK hP hD hS hl
  exact va_get (D := D) (ci := 0) (v := .ref (Z.2.1 4)) (C := RX0) (T := TX0) (N := 18) E.1 E.2.1 E.2.2.2.2.1 in_X0 E.2.2.2.1 hK hP 0 rfl rfl 4 (by decide) (E.2.2.2.2.1 _ q32) (fun _ h9 => h9) rfl d (k E H locs ls hK hP hD hS hl)
theorem l0_4 {i : Nat} (d : decode cc pc = .ok (.baload, 1)) (hi : i < 12) (k : j0 X Z cc n u (pc + 1) L (.int (u.2 4 i) :: st)) : j0 X Z cc n u pc L (.int (nI i) :: .ref (Z.2.1 4) :: st) := by
  obtain ⟨p, l, e, R, s, m, args, below, meth, c, Q, A, D⟩ := X
  intro E H locs ls hK hP hD hS hl
  refine va_zald E.1 E.2.1 hK hP 3 1 rfl rfl (vp_in_nI hi (by decide)) d ?_
  rw [nI_clamp (by omega)]
  exact k E H locs ls hK hP hD hS hl
theorem s0_4 {i : Nat} {x : Int32} (d : decode cc pc = .ok (.bastore, 1)) (hi : i < 12) (hx : vp_nar .boolean x = x) (k : j0 X Z cc n (jset u 4 i x) (pc + 1) L st) : j0 X Z cc n u pc L (.int x :: .int (nI i) :: .ref (Z.2.1 4) :: st) := by
  obtain ⟨p, l, e, R, s, m, args, below, meth, c, Q, A, D⟩ := X
  intro E H locs ls hK hP hD hS hl
  refine va_zast E.1 E.2.1 hK hP hD hS 3 1 rfl rfl (vp_in_nI hi (by decide)) d (fun H1 locs1 hP1 hD1 hS1 => ?_)
  rw [nI_clamp (by omega), hx] at hP1 hD1
  exact k E H1 locs1 ls hK hP1 hD1 hS1 hl
theorem g0_5 (d : decode cc pc = .ok (.getfield 20, 3)) (k : j0 X Z cc n u (pc + 3) L (.ref (Z.2.1 5) :: st)) : j0 X Z cc n u pc L (.ref Z.1 :: st) := by
  obtain ⟨p, l, e, R, s, m, args, below, meth, c, Q, A, D⟩ := X
  intro E H locs ls hK hP hD hS hl
  exact va_get (D := D) (ci := 0) (v := .ref (Z.2.1 5)) (C := RX0) (T := TX0) (N := 18) E.1 E.2.1 E.2.2.2.2.1 in_X0 E.2.2.2.1 hK hP 0 rfl rfl 5 (by decide) (E.2.2.2.2.1 _ q33) (fun _ h9 => h9) rfl d (k E H locs ls hK hP hD hS hl)
theorem l0_5 {i : Nat} (d : decode cc pc = .ok (.baload, 1)) (hi : i < 12) (k : j0 X Z cc n u (pc + 1) L (.int (u.2 5 i) :: st)) : j0 X Z cc n u pc L (.int (nI i) :: .ref (Z.2.1 5) :: st) := by
  obtain ⟨p, l, e, R, s, m, args, below, meth, c, Q, A, D⟩ := X
  intro E H locs ls hK hP hD hS hl
  refine va_zald E.1 E.2.1 hK hP 4 1 rfl rfl (vp_in_nI hi (by decide)) d ?_
  rw [nI_clamp (by omega)]
  exact k E H locs ls hK hP hD hS hl
theorem s0_5 {i : Nat} {x : Int32} (d : decode cc pc = .ok (.bastore, 1)) (hi : i < 12) (hx : vp_nar .boolean x = x) (k : j0 X Z cc n (jset u 5 i x) (pc + 1) L st) : j0 X Z cc n u pc L (.int x :: .int (nI i) :: .ref (Z.2.1 5) :: st) := by
  obtain ⟨p, l, e, R, s, m, args, below, meth, c, Q, A, D⟩ := X
  intro E H locs ls hK hP hD hS hl
  refine va_zast E.1 E.2.1 hK hP hD hS 4 1 rfl rfl (vp_in_nI hi (by decide)) d (fun H1 locs1 hP1 hD1 hS1 => ?_)
  rw [nI_clamp (by omega), hx] at hP1 hD1
  exact k E H1 locs1 ls hK hP1 hD1 hS1 hl
theorem g0_6 (d : decode cc pc = .ok (.getfield 23, 3)) (k : j0 X Z cc n u (pc + 3) L (.ref (Z.2.1 6) :: st)) : j0 X Z cc n u pc L (.ref Z.1 :: st) := by
  obtain ⟨p, l, e, R, s, m, args, below, meth, c, Q, A, D⟩ := X
  intro E H locs ls hK hP hD hS hl
  exact va_get (D := D) (ci := 0) (v := .ref (Z.2.1 6)) (C := RX0) (T := TX0) (N := 18) E.1 E.2.1 E.2.2.2.2.1 in_X0 E.2.2.2.1 hK hP 0 rfl rfl 6 (by decide) (E.2.2.2.2.1 _ q34) (fun _ h9 => h9) rfl d (k E H locs ls hK hP hD hS hl)
theorem l0_6 {i : Nat} (d : decode cc pc = .ok (.iaload, 1)) (hi : i < 84) (k : j0 X Z cc n u (pc + 1) L (.int (u.2 6 i) :: st)) : j0 X Z cc n u pc L (.int (nI i) :: .ref (Z.2.1 6) :: st) := by
  obtain ⟨p, l, e, R, s, m, args, below, meth, c, Q, A, D⟩ := X
  intro E H locs ls hK hP hD hS hl
  refine va_iald E.1 E.2.1 hK hP 5 0 rfl rfl (vp_in_nI hi (by decide)) d ?_
  rw [nI_clamp (by omega)]
  exact k E H locs ls hK hP hD hS hl
theorem s0_6 {i : Nat} {x : Int32} (d : decode cc pc = .ok (.iastore, 1)) (hi : i < 84) (k : j0 X Z cc n (jset u 6 i x) (pc + 1) L st) : j0 X Z cc n u pc L (.int x :: .int (nI i) :: .ref (Z.2.1 6) :: st) := by
  obtain ⟨p, l, e, R, s, m, args, below, meth, c, Q, A, D⟩ := X
  intro E H locs ls hK hP hD hS hl
  refine va_iast E.1 E.2.1 hK hP hD hS 5 0 rfl rfl (vp_in_nI hi (by decide)) d (fun H1 locs1 hP1 hD1 hS1 => ?_)
  rw [nI_clamp (by omega)] at hP1 hD1
  exact k E H1 locs1 ls hK hP1 hD1 hS1 hl
theorem g0_7 (d : decode cc pc = .ok (.getfield 26, 3)) (k : j0 X Z cc n u (pc + 3) L (.ref (Z.2.1 7) :: st)) : j0 X Z cc n u pc L (.ref Z.1 :: st) := by
  obtain ⟨p, l, e, R, s, m, args, below, meth, c, Q, A, D⟩ := X
  intro E H locs ls hK hP hD hS hl
  exact va_get (D := D) (ci := 0) (v := .ref (Z.2.1 7)) (C := RX0) (T := TX0) (N := 18) E.1 E.2.1 E.2.2.2.2.1 in_X0 E.2.2.2.1 hK hP 0 rfl rfl 7 (by decide) (E.2.2.2.2.1 _ q35) (fun _ h9 => h9) rfl d (k E H locs ls hK hP hD hS hl)
theorem l0_7 {i : Nat} (d : decode cc pc = .ok (.iaload, 1)) (hi : i < 12) (k : j0 X Z cc n u (pc + 1) L (.int (u.2 7 i) :: st)) : j0 X Z cc n u pc L (.int (nI i) :: .ref (Z.2.1 7) :: st) := by
  obtain ⟨p, l, e, R, s, m, args, below, meth, c, Q, A, D⟩ := X
  intro E H locs ls hK hP hD hS hl
  refine va_iald E.1 E.2.1 hK hP 6 0 rfl rfl (vp_in_nI hi (by decide)) d ?_
  rw [nI_clamp (by omega)]
  exact k E H locs ls hK hP hD hS hl
theorem s0_7 {i : Nat} {x : Int32} (d : decode cc pc = .ok (.iastore, 1)) (hi : i < 12) (k : j0 X Z cc n (jset u 7 i x) (pc + 1) L st) : j0 X Z cc n u pc L (.int x :: .int (nI i) :: .ref (Z.2.1 7) :: st) := by
  obtain ⟨p, l, e, R, s, m, args, below, meth, c, Q, A, D⟩ := X
  intro E H locs ls hK hP hD hS hl
  refine va_iast E.1 E.2.1 hK hP hD hS 6 0 rfl rfl (vp_in_nI hi (by decide)) d (fun H1 locs1 hP1 hD1 hS1 => ?_)
  rw [nI_clamp (by omega)] at hP1 hD1
  exact k E H1 locs1 ls hK hP1 hD1 hS1 hl
theorem g0_8 (d : decode cc pc = .ok (.getfield 29, 3)) (k : j0 X Z cc n u (pc + 3) L (.ref (Z.2.1 8) :: st)) : j0 X Z cc n u pc L (.ref Z.1 :: st) := by
  obtain ⟨p, l, e, R, s, m, args, below, meth, c, Q, A, D⟩ := X
  intro E H locs ls hK hP hD hS hl
  exact va_get (D := D) (ci := 0) (v := .ref (Z.2.1 8)) (C := RX0) (T := TX0) (N := 18) E.1 E.2.1 E.2.2.2.2.1 in_X0 E.2.2.2.1 hK hP 0 rfl rfl 8 (by decide) (E.2.2.2.2.1 _ q36) (fun _ h9 => h9) rfl d (k E H locs ls hK hP hD hS hl)
theorem l0_8 {i : Nat} (d : decode cc pc = .ok (.iaload, 1)) (hi : i < 12) (k : j0 X Z cc n u (pc + 1) L (.int (u.2 8 i) :: st)) : j0 X Z cc n u pc L (.int (nI i) :: .ref (Z.2.1 8) :: st) := by
  obtain ⟨p, l, e, R, s, m, args, below, meth, c, Q, A, D⟩ := X
  intro E H locs ls hK hP hD hS hl
  refine va_iald E.1 E.2.1 hK hP 7 0 rfl rfl (vp_in_nI hi (by decide)) d ?_
  rw [nI_clamp (by omega)]
  exact k E H locs ls hK hP hD hS hl
theorem s0_8 {i : Nat} {x : Int32} (d : decode cc pc = .ok (.iastore, 1)) (hi : i < 12) (k : j0 X Z cc n (jset u 8 i x) (pc + 1) L st) : j0 X Z cc n u pc L (.int x :: .int (nI i) :: .ref (Z.2.1 8) :: st) := by
  obtain ⟨p, l, e, R, s, m, args, below, meth, c, Q, A, D⟩ := X
  intro E H locs ls hK hP hD hS hl
  refine va_iast E.1 E.2.1 hK hP hD hS 7 0 rfl rfl (vp_in_nI hi (by decide)) d (fun H1 locs1 hP1 hD1 hS1 => ?_)
  rw [nI_clamp (by omega)] at hP1 hD1
  exact k E H1 locs1 ls hK hP1 hD1 hS1 hl
theorem g0_9 (d : decode cc pc = .ok (.getfield 32, 3)) (k : j0 X Z cc n u (pc + 3) L (.ref (Z.2.1 9) :: st)) : j0 X Z cc n u pc L (.ref Z.1 :: st) := by
  obtain ⟨p, l, e, R, s, m, args, below, meth, c, Q, A, D⟩ := X
  intro E H locs ls hK hP hD hS hl
  exact va_get (D := D) (ci := 0) (v := .ref (Z.2.1 9)) (C := RX0) (T := TX0) (N := 18) E.1 E.2.1 E.2.2.2.2.1 in_X0 E.2.2.2.1 hK hP 0 rfl rfl 9 (by decide) (E.2.2.2.2.1 _ q37) (fun _ h9 => h9) rfl d (k E H locs ls hK hP hD hS hl)
theorem l0_9 {i : Nat} (d : decode cc pc = .ok (.iaload, 1)) (hi : i < 12) (k : j0 X Z cc n u (pc + 1) L (.int (u.2 9 i) :: st)) : j0 X Z cc n u pc L (.int (nI i) :: .ref (Z.2.1 9) :: st) := by
  obtain ⟨p, l, e, R, s, m, args, below, meth, c, Q, A, D⟩ := X
  intro E H locs ls hK hP hD hS hl
  refine va_iald E.1 E.2.1 hK hP 8 0 rfl rfl (vp_in_nI hi (by decide)) d ?_
  rw [nI_clamp (by omega)]
  exact k E H locs ls hK hP hD hS hl
theorem s0_9 {i : Nat} {x : Int32} (d : decode cc pc = .ok (.iastore, 1)) (hi : i < 12) (k : j0 X Z cc n (jset u 9 i x) (pc + 1) L st) : j0 X Z cc n u pc L (.int x :: .int (nI i) :: .ref (Z.2.1 9) :: st) := by
  obtain ⟨p, l, e, R, s, m, args, below, meth, c, Q, A, D⟩ := X
  intro E H locs ls hK hP hD hS hl
  refine va_iast E.1 E.2.1 hK hP hD hS 8 0 rfl rfl (vp_in_nI hi (by decide)) d (fun H1 locs1 hP1 hD1 hS1 => ?_)
  rw [nI_clamp (by omega)] at hP1 hD1
  exact k E H1 locs1 ls hK hP1 hD1 hS1 hl
theorem g0_10 (d : decode cc pc = .ok (.getfield 35, 3)) (k : j0 X Z cc n u (pc + 3) L (.ref (Z.2.1 10) :: st)) : j0 X Z cc n u pc L (.ref Z.1 :: st) := by
  obtain ⟨p, l, e, R, s, m, args, below, meth, c, Q, A, D⟩ := X
  intro E H locs ls hK hP hD hS hl
  exact va_get (D := D) (ci := 0) (v := .ref (Z.2.1 10)) (C := RX0) (T := TX0) (N := 18) E.1 E.2.1 E.2.2.2.2.1 in_X0 E.2.2.2.1 hK hP 0 rfl rfl 10 (by decide) (E.2.2.2.2.1 _ q38) (fun _ h9 => h9) rfl d (k E H locs ls hK hP hD hS hl)
theorem l0_10 {i : Nat} (d : decode cc pc = .ok (.iaload, 1)) (hi : i < 12) (k : j0 X Z cc n u (pc + 1) L (.int (u.2 10 i) :: st)) : j0 X Z cc n u pc L (.int (nI i) :: .ref (Z.2.1 10) :: st) := by
  obtain ⟨p, l, e, R, s, m, args, below, meth, c, Q, A, D⟩ := X
  intro E H locs ls hK hP hD hS hl
  refine va_iald E.1 E.2.1 hK hP 9 0 rfl rfl (vp_in_nI hi (by decide)) d ?_
  rw [nI_clamp (by omega)]
  exact k E H locs ls hK hP hD hS hl
theorem s0_10 {i : Nat} {x : Int32} (d : decode cc pc = .ok (.iastore, 1)) (hi : i < 12) (k : j0 X Z cc n (jset u 10 i x) (pc + 1) L st) : j0 X Z cc n u pc L (.int x :: .int (nI i) :: .ref (Z.2.1 10) :: st) := by
  obtain ⟨p, l, e, R, s, m, args, below, meth, c, Q, A, D⟩ := X
  intro E H locs ls hK hP hD hS hl
  refine va_iast E.1 E.2.1 hK hP hD hS 9 0 rfl rfl (vp_in_nI hi (by decide)) d (fun H1 locs1 hP1 hD1 hS1 => ?_)
  rw [nI_clamp (by omega)] at hP1 hD1
  exact k E H1 locs1 ls hK hP1 hD1 hS1 hl
theorem g0_11 (d : decode cc pc = .ok (.getfield 38, 3)) (k : j0 X Z cc n u (pc + 3) L (.ref (Z.2.1 11) :: st)) : j0 X Z cc n u pc L (.ref Z.1 :: st) := by
  obtain ⟨p, l, e, R, s, m, args, below, meth, c, Q, A, D⟩ := X
  intro E H locs ls hK hP hD hS hl
  exact va_get (D := D) (ci := 0) (v := .ref (Z.2.1 11)) (C := RX0) (T := TX0) (N := 18) E.1 E.2.1 E.2.2.2.2.1 in_X0 E.2.2.2.1 hK hP 0 rfl rfl 11 (by decide) (E.2.2.2.2.1 _ q39) (fun _ h9 => h9) rfl d (k E H locs ls hK hP hD hS hl)
theorem l0_11 {i : Nat} (d : decode cc pc = .ok (.iaload, 1)) (hi : i < 12) (k : j0 X Z cc n u (pc + 1) L (.int (u.2 11 i) :: st)) : j0 X Z cc n u pc L (.int (nI i) :: .ref (Z.2.1 11) :: st) := by
  obtain ⟨p, l, e, R, s, m, args, below, meth, c, Q, A, D⟩ := X
  intro E H locs ls hK hP hD hS hl
  refine va_iald E.1 E.2.1 hK hP 10 0 rfl rfl (vp_in_nI hi (by decide)) d ?_
  rw [nI_clamp (by omega)]
  exact k E H locs ls hK hP hD hS hl
theorem s0_11 {i : Nat} {x : Int32} (d : decode cc pc = .ok (.iastore, 1)) (hi : i < 12) (k : j0 X Z cc n (jset u 11 i x) (pc + 1) L st) : j0 X Z cc n u pc L (.int x :: .int (nI i) :: .ref (Z.2.1 11) :: st) := by
  obtain ⟨p, l, e, R, s, m, args, below, meth, c, Q, A, D⟩ := X
  intro E H locs ls hK hP hD hS hl
  refine va_iast E.1 E.2.1 hK hP hD hS 10 0 rfl rfl (vp_in_nI hi (by decide)) d (fun H1 locs1 hP1 hD1 hS1 => ?_)
  rw [nI_clamp (by omega)] at hP1 hD1
  exact k E H1 locs1 ls hK hP1 hD1 hS1 hl
theorem g0_12 (d : decode cc pc = .ok (.getfield 56, 3)) (k : j0 X Z cc n u (pc + 3) L (.int (nI (u.1 12)) :: st)) : j0 X Z cc n u pc L (.ref Z.1 :: st) := by
  obtain ⟨p, l, e, R, s, m, args, below, meth, c, Q, A, D⟩ := X
  intro E H locs ls hK hP hD hS hl
  exact va_get (D := D) (ci := 0) (v := .int (nI (u.1 12))) (C := RX0) (T := TX0) (N := 18) E.1 E.2.1 E.2.2.2.2.1 in_X0 E.2.2.2.1 hK hP 0 rfl rfl 12 (by decide) (E.2.2.2.2.1 _ q40) (fun _ h9 => h9) rfl d (k E H locs ls hK hP hD hS hl)
theorem p0_12 {v : Nat} (d : decode cc pc = .ok (.putfield 56, 3)) (k : j0 X Z cc n (jput u 12 v) (pc + 3) L st) : j0 X Z cc n u pc L (.int (nI v) :: .ref Z.1 :: st) := by
  obtain ⟨p, l, e, R, s, m, args, below, meth, c, Q, A, D⟩ := X
  intro E H locs ls hK hP hD hS hl
  exact va_put (D := D) (ci := 0) (v := .int (nI v)) (ty := .int) (C := RX0) (T := TX0) (N := 18) E.1 E.2.1 E.2.2.2.2.1 in_X0 tyX0 tyX0_ok nmX0 E.2.2.2.1 hK hP hD hS 0 rfl rfl 12 (by decide) (E.2.2.2.2.1 _ q40) (fun _ h9 => h9) rfl (by decide +kernel) rfl rfl (Nat.le_of_ble_eq_true rfl) d (fun H1 locs1 hP1 hD1 hS1 => k E H1 locs1 ls hK hP1 hD1 hS1 hl)
theorem g0_13 (d : decode cc pc = .ok (.getfield 41, 3)) (k : j0 X Z cc n u (pc + 3) L (.ref (Z.2.1 13) :: st)) : j0 X Z cc n u pc L (.ref Z.1 :: st) := by
  obtain ⟨p, l, e, R, s, m, args, below, meth, c, Q, A, D⟩ := X
  intro E H locs ls hK hP hD hS hl
  exact va_get (D := D) (ci := 0) (v := .ref (Z.2.1 13)) (C := RX0) (T := TX0) (N := 18) E.1 E.2.1 E.2.2.2.2.1 in_X0 E.2.2.2.1 hK hP 0 rfl rfl 13 (by decide) (E.2.2.2.2.1 _ q41) (fun _ h9 => h9) rfl d (k E H locs ls hK hP hD hS hl)
theorem l0_13 {i : Nat} (d : decode cc pc = .ok (.iaload, 1)) (hi : i < 6) (k : j0 X Z cc n u (pc + 1) L (.int (u.2 13 i) :: st)) : j0 X Z cc n u pc L (.int (nI i) :: .ref (Z.2.1 13) :: st) := by
  obtain ⟨p, l, e, R, s, m, args, below, meth, c, Q, A, D⟩ := X
  intro E H locs ls hK hP hD hS hl
  refine va_iald E.1 E.2.1 hK hP 11 0 rfl rfl (vp_in_nI hi (by decide)) d ?_
  rw [nI_clamp (by omega)]
  exact k E H locs ls hK hP hD hS hl
theorem s0_13 {i : Nat} {x : Int32} (d : decode cc pc = .ok (.iastore, 1)) (hi : i < 6) (k : j0 X Z cc n (jset u 13 i x) (pc + 1) L st) : j0 X Z cc n u pc L (.int x :: .int (nI i) :: .ref (Z.2.1 13) :: st) := by
  obtain ⟨p, l, e, R, s, m, args, below, meth, c, Q, A, D⟩ := X
  intro E H locs ls hK hP hD hS hl
  refine va_iast E.1 E.2.1 hK hP hD hS 11 0 rfl rfl (vp_in_nI hi (by decide)) d (fun H1 locs1 hP1 hD1 hS1 => ?_)
  rw [nI_clamp (by omega)] at hP1 hD1
  exact k E H1 locs1 ls hK hP1 hD1 hS1 hl
theorem g0_14 (d : decode cc pc = .ok (.getfield 44, 3)) (k : j0 X Z cc n u (pc + 3) L (.ref (Z.2.1 14) :: st)) : j0 X Z cc n u pc L (.ref Z.1 :: st) := by
  obtain ⟨p, l, e, R, s, m, args, below, meth, c, Q, A, D⟩ := X
  intro E H locs ls hK hP hD hS hl
  exact va_get (D := D) (ci := 0) (v := .ref (Z.2.1 14)) (C := RX0) (T := TX0) (N := 18) E.1 E.2.1 E.2.2.2.2.1 in_X0 E.2.2.2.1 hK hP 0 rfl rfl 14 (by decide) (E.2.2.2.2.1 _ q42) (fun _ h9 => h9) rfl d (k E H locs ls hK hP hD hS hl)
theorem l0_14 {i : Nat} (d : decode cc pc = .ok (.iaload, 1)) (hi : i < 48) (k : j0 X Z cc n u (pc + 1) L (.int (u.2 14 i) :: st)) : j0 X Z cc n u pc L (.int (nI i) :: .ref (Z.2.1 14) :: st) := by
  obtain ⟨p, l, e, R, s, m, args, below, meth, c, Q, A, D⟩ := X
  intro E H locs ls hK hP hD hS hl
  refine va_iald E.1 E.2.1 hK hP 12 0 rfl rfl (vp_in_nI hi (by decide)) d ?_
  rw [nI_clamp (by omega)]
  exact k E H locs ls hK hP hD hS hl
theorem s0_14 {i : Nat} {x : Int32} (d : decode cc pc = .ok (.iastore, 1)) (hi : i < 48) (k : j0 X Z cc n (jset u 14 i x) (pc + 1) L st) : j0 X Z cc n u pc L (.int x :: .int (nI i) :: .ref (Z.2.1 14) :: st) := by
  obtain ⟨p, l, e, R, s, m, args, below, meth, c, Q, A, D⟩ := X
  intro E H locs ls hK hP hD hS hl
  refine va_iast E.1 E.2.1 hK hP hD hS 12 0 rfl rfl (vp_in_nI hi (by decide)) d (fun H1 locs1 hP1 hD1 hS1 => ?_)
  rw [nI_clamp (by omega)] at hP1 hD1
  exact k E H1 locs1 ls hK hP1 hD1 hS1 hl
theorem g0_15 (d : decode cc pc = .ok (.getfield 47, 3)) (k : j0 X Z cc n u (pc + 3) L (.ref (Z.2.1 15) :: st)) : j0 X Z cc n u pc L (.ref Z.1 :: st) := by
  obtain ⟨p, l, e, R, s, m, args, below, meth, c, Q, A, D⟩ := X
  intro E H locs ls hK hP hD hS hl
  exact va_get (D := D) (ci := 0) (v := .ref (Z.2.1 15)) (C := RX0) (T := TX0) (N := 18) E.1 E.2.1 E.2.2.2.2.1 in_X0 E.2.2.2.1 hK hP 0 rfl rfl 15 (by decide) (E.2.2.2.2.1 _ q43) (fun _ h9 => h9) rfl d (k E H locs ls hK hP hD hS hl)
theorem l0_15 {i : Nat} (d : decode cc pc = .ok (.iaload, 1)) (hi : i < 12) (k : j0 X Z cc n u (pc + 1) L (.int (u.2 15 i) :: st)) : j0 X Z cc n u pc L (.int (nI i) :: .ref (Z.2.1 15) :: st) := by
  obtain ⟨p, l, e, R, s, m, args, below, meth, c, Q, A, D⟩ := X
  intro E H locs ls hK hP hD hS hl
  refine va_iald E.1 E.2.1 hK hP 13 0 rfl rfl (vp_in_nI hi (by decide)) d ?_
  rw [nI_clamp (by omega)]
  exact k E H locs ls hK hP hD hS hl
theorem s0_15 {i : Nat} {x : Int32} (d : decode cc pc = .ok (.iastore, 1)) (hi : i < 12) (k : j0 X Z cc n (jset u 15 i x) (pc + 1) L st) : j0 X Z cc n u pc L (.int x :: .int (nI i) :: .ref (Z.2.1 15) :: st) := by
  obtain ⟨p, l, e, R, s, m, args, below, meth, c, Q, A, D⟩ := X
  intro E H locs ls hK hP hD hS hl
  refine va_iast E.1 E.2.1 hK hP hD hS 13 0 rfl rfl (vp_in_nI hi (by decide)) d (fun H1 locs1 hP1 hD1 hS1 => ?_)
  rw [nI_clamp (by omega)] at hP1 hD1
  exact k E H1 locs1 ls hK hP1 hD1 hS1 hl
theorem g0_16 (d : decode cc pc = .ok (.getfield 50, 3)) (k : j0 X Z cc n u (pc + 3) L (.ref (Z.2.1 16) :: st)) : j0 X Z cc n u pc L (.ref Z.1 :: st) := by
  obtain ⟨p, l, e, R, s, m, args, below, meth, c, Q, A, D⟩ := X
  intro E H locs ls hK hP hD hS hl
  exact va_get (D := D) (ci := 0) (v := .ref (Z.2.1 16)) (C := RX0) (T := TX0) (N := 18) E.1 E.2.1 E.2.2.2.2.1 in_X0 E.2.2.2.1 hK hP 0 rfl rfl 16 (by decide) (E.2.2.2.2.1 _ q44) (fun _ h9 => h9) rfl d (k E H locs ls hK hP hD hS hl)
theorem l0_16 {i : Nat} (d : decode cc pc = .ok (.iaload, 1)) (hi : i < 6) (k : j0 X Z cc n u (pc + 1) L (.int (u.2 16 i) :: st)) : j0 X Z cc n u pc L (.int (nI i) :: .ref (Z.2.1 16) :: st) := by
  obtain ⟨p, l, e, R, s, m, args, below, meth, c, Q, A, D⟩ := X
  intro E H locs ls hK hP hD hS hl
  refine va_iald E.1 E.2.1 hK hP 14 0 rfl rfl (vp_in_nI hi (by decide)) d ?_
  rw [nI_clamp (by omega)]
  exact k E H locs ls hK hP hD hS hl
theorem s0_16 {i : Nat} {x : Int32} (d : decode cc pc = .ok (.iastore, 1)) (hi : i < 6) (k : j0 X Z cc n (jset u 16 i x) (pc + 1) L st) : j0 X Z cc n u pc L (.int x :: .int (nI i) :: .ref (Z.2.1 16) :: st) := by
  obtain ⟨p, l, e, R, s, m, args, below, meth, c, Q, A, D⟩ := X
  intro E H locs ls hK hP hD hS hl
  refine va_iast E.1 E.2.1 hK hP hD hS 14 0 rfl rfl (vp_in_nI hi (by decide)) d (fun H1 locs1 hP1 hD1 hS1 => ?_)
  rw [nI_clamp (by omega)] at hP1 hD1
  exact k E H1 locs1 ls hK hP1 hD1 hS1 hl
theorem g0_17 (d : decode cc pc = .ok (.getfield 53, 3)) (k : j0 X Z cc n u (pc + 3) L (.ref (Z.2.1 17) :: st)) : j0 X Z cc n u pc L (.ref Z.1 :: st) := by
  obtain ⟨p, l, e, R, s, m, args, below, meth, c, Q, A, D⟩ := X
  intro E H locs ls hK hP hD hS hl
  exact va_get (D := D) (ci := 0) (v := .ref (Z.2.1 17)) (C := RX0) (T := TX0) (N := 18) E.1 E.2.1 E.2.2.2.2.1 in_X0 E.2.2.2.1 hK hP 0 rfl rfl 17 (by decide) (E.2.2.2.2.1 _ q45) (fun _ h9 => h9) rfl d (k E H locs ls hK hP hD hS hl)
theorem l0_17 {i : Nat} (d : decode cc pc = .ok (.iaload, 1)) (hi : i < 6) (k : j0 X Z cc n u (pc + 1) L (.int (u.2 17 i) :: st)) : j0 X Z cc n u pc L (.int (nI i) :: .ref (Z.2.1 17) :: st) := by
  obtain ⟨p, l, e, R, s, m, args, below, meth, c, Q, A, D⟩ := X
  intro E H locs ls hK hP hD hS hl
  refine va_iald E.1 E.2.1 hK hP 15 0 rfl rfl (vp_in_nI hi (by decide)) d ?_
  rw [nI_clamp (by omega)]
  exact k E H locs ls hK hP hD hS hl
theorem s0_17 {i : Nat} {x : Int32} (d : decode cc pc = .ok (.iastore, 1)) (hi : i < 6) (k : j0 X Z cc n (jset u 17 i x) (pc + 1) L st) : j0 X Z cc n u pc L (.int x :: .int (nI i) :: .ref (Z.2.1 17) :: st) := by
  obtain ⟨p, l, e, R, s, m, args, below, meth, c, Q, A, D⟩ := X
  intro E H locs ls hK hP hD hS hl
  refine va_iast E.1 E.2.1 hK hP hD hS 15 0 rfl rfl (vp_in_nI hi (by decide)) d (fun H1 locs1 hP1 hD1 hS1 => ?_)
  rw [nI_clamp (by omega)] at hP1 hD1
  exact k E H1 locs1 ls hK hP1 hD1 hS1 hl
end JR0
theorem w0_len (Z : jZ) (u : jS) : (w0 Z u).length = 16 := rfl
end
section
set_option maxRecDepth 100000
def w1 (Z : jZ) (u : jS) : va_W := [(Z.1, .inr (1, [.ref (Z.2.1 0), .int (nI (u.1 1)), .ref (Z.2.1 2), .ref (Z.2.1 3), .ref (Z.2.1 4), .int (nI (u.1 5)), .ref (Z.2.1 6), .ref (Z.2.1 7), .int (nI (u.1 8)), .ref (Z.2.1 9), .ref (Z.2.1 10), .int (nI (u.1 11)), .ref (Z.2.1 12), .ref (Z.2.1 13)])), (Z.2.1 0, .inl (Z.2.2.1, 10, .inl (u.2 0))), (Z.2.1 2, .inl (Z.2.2.1, 120, .inl (u.2 2))), (Z.2.1 3, .inl (Z.2.2.1, 12, .inl (u.2 3))), (Z.2.1 4, .inl (Z.2.2.1, 12, .inl (u.2 4))), (Z.2.1 6, .inl (Z.2.2.1, 48, .inl (u.2 6))), (Z.2.1 7, .inl (Z.2.2.1, 6, .inl (u.2 7))), (Z.2.1 9, .inl (Z.2.2.1, 11, .inl (u.2 9))), (Z.2.1 10, .inl (Z.2.2.1, 11, .inl (u.2 10))), (Z.2.1 12, .inl (Z.2.2.2, 121, .inl (u.2 12))), (Z.2.1 13, .inl (Z.2.2.2, 121, .inl (u.2 13)))]
abbrev j1 (X : jC) (Z : jZ) (cc : ByteArray) (n : Nat) (u : jS) (pc : Nat) (L : List (Option Value)) (st : List Value) : Prop := jJ X Z.2.2.1 Z.2.2.2 RX1 cc n 0 0 (w1 Z u) pc L st
section JR1
variable {X : jC} {Z : jZ} {cc : ByteArray} {n : Nat} {u : jS} {pc : Nat} {L : List (Option Value)} {st : List Value}
theorem g1_0 (d : decode cc pc = .ok (.getfield 7, 3)) (k : j1 X Z cc n u (pc + 3) L (.ref (Z.2.1 0) :: st)) : j1 X Z cc n u pc L (.ref Z.1 :: st) := by
  obtain ⟨p, l, e, R, s, m, args, below, meth, c, Q, A, D⟩ := X
  intro E H locs ls hK hP hD hS hl
  exact va_get (D := D) (ci := 1) (v := .ref (Z.2.1 0)) (C := RX1) (T := TX1) (N := 14) E.1 E.2.1 E.2.2.2.2.1 in_X1 E.2.2.2.1 hK hP 0 rfl rfl 0 (by decide) (E.2.2.2.2.1 _ q171) (fun _ h9 => h9) rfl d (k E H locs ls hK hP hD hS hl)
theorem l1_0 {i : Nat} (d : decode cc pc = .ok (.iaload, 1)) (hi : i < 10) (k : j1 X Z cc n u (pc + 1) L (.int (u.2 0 i) :: st)) : j1 X Z cc n u pc L (.int (nI i) :: .ref (Z.2.1 0) :: st) := by
  obtain ⟨p, l, e, R, s, m, args, below, meth, c, Q, A, D⟩ := X
  intro E H locs ls hK hP hD hS hl
  refine va_iald E.1 E.2.1 hK hP 1 0 rfl rfl (vp_in_nI hi (by decide)) d ?_
  rw [nI_clamp (by omega)]
  exact k E H locs ls hK hP hD hS hl
theorem s1_0 {i : Nat} {x : Int32} (d : decode cc pc = .ok (.iastore, 1)) (hi : i < 10) (k : j1 X Z cc n (jset u 0 i x) (pc + 1) L st) : j1 X Z cc n u pc L (.int x :: .int (nI i) :: .ref (Z.2.1 0) :: st) := by
  obtain ⟨p, l, e, R, s, m, args, below, meth, c, Q, A, D⟩ := X
  intro E H locs ls hK hP hD hS hl
  refine va_iast E.1 E.2.1 hK hP hD hS 1 0 rfl rfl (vp_in_nI hi (by decide)) d (fun H1 locs1 hP1 hD1 hS1 => ?_)
  rw [nI_clamp (by omega)] at hP1 hD1
  exact k E H1 locs1 ls hK hP1 hD1 hS1 hl
theorem g1_1 (d : decode cc pc = .ok (.getfield 45, 3)) (k : j1 X Z cc n u (pc + 3) L (.int (nI (u.1 1)) :: st)) : j1 X Z cc n u pc L (.ref Z.1 :: st) := by
  obtain ⟨p, l, e, R, s, m, args, below, meth, c, Q, A, D⟩ := X
  intro E H locs ls hK hP hD hS hl
  exact va_get (D := D) (ci := 1) (v := .int (nI (u.1 1))) (C := RX1) (T := TX1) (N := 14) E.1 E.2.1 E.2.2.2.2.1 in_X1 E.2.2.2.1 hK hP 0 rfl rfl 1 (by decide) (E.2.2.2.2.1 _ q172) (fun _ h9 => h9) rfl d (k E H locs ls hK hP hD hS hl)
theorem p1_1 {v : Nat} (d : decode cc pc = .ok (.putfield 45, 3)) (k : j1 X Z cc n (jput u 1 v) (pc + 3) L st) : j1 X Z cc n u pc L (.int (nI v) :: .ref Z.1 :: st) := by
  obtain ⟨p, l, e, R, s, m, args, below, meth, c, Q, A, D⟩ := X
  intro E H locs ls hK hP hD hS hl
  exact va_put (D := D) (ci := 1) (v := .int (nI v)) (ty := .int) (C := RX1) (T := TX1) (N := 14) E.1 E.2.1 E.2.2.2.2.1 in_X1 tyX1 tyX1_ok nmX1 E.2.2.2.1 hK hP hD hS 0 rfl rfl 1 (by decide) (E.2.2.2.2.1 _ q172) (fun _ h9 => h9) rfl (by decide +kernel) rfl rfl (Nat.le_of_ble_eq_true rfl) d (fun H1 locs1 hP1 hD1 hS1 => k E H1 locs1 ls hK hP1 hD1 hS1 hl)
theorem g1_2 (d : decode cc pc = .ok (.getfield 13, 3)) (k : j1 X Z cc n u (pc + 3) L (.ref (Z.2.1 2) :: st)) : j1 X Z cc n u pc L (.ref Z.1 :: st) := by
  obtain ⟨p, l, e, R, s, m, args, below, meth, c, Q, A, D⟩ := X
  intro E H locs ls hK hP hD hS hl
  exact va_get (D := D) (ci := 1) (v := .ref (Z.2.1 2)) (C := RX1) (T := TX1) (N := 14) E.1 E.2.1 E.2.2.2.2.1 in_X1 E.2.2.2.1 hK hP 0 rfl rfl 2 (by decide) (E.2.2.2.2.1 _ q173) (fun _ h9 => h9) rfl d (k E H locs ls hK hP hD hS hl)
theorem l1_2 {i : Nat} (d : decode cc pc = .ok (.iaload, 1)) (hi : i < 120) (k : j1 X Z cc n u (pc + 1) L (.int (u.2 2 i) :: st)) : j1 X Z cc n u pc L (.int (nI i) :: .ref (Z.2.1 2) :: st) := by
  obtain ⟨p, l, e, R, s, m, args, below, meth, c, Q, A, D⟩ := X
  intro E H locs ls hK hP hD hS hl
  refine va_iald E.1 E.2.1 hK hP 2 0 rfl rfl (vp_in_nI hi (by decide)) d ?_
  rw [nI_clamp (by omega)]
  exact k E H locs ls hK hP hD hS hl
theorem s1_2 {i : Nat} {x : Int32} (d : decode cc pc = .ok (.iastore, 1)) (hi : i < 120) (k : j1 X Z cc n (jset u 2 i x) (pc + 1) L st) : j1 X Z cc n u pc L (.int x :: .int (nI i) :: .ref (Z.2.1 2) :: st) := by
  obtain ⟨p, l, e, R, s, m, args, below, meth, c, Q, A, D⟩ := X
  intro E H locs ls hK hP hD hS hl
  refine va_iast E.1 E.2.1 hK hP hD hS 2 0 rfl rfl (vp_in_nI hi (by decide)) d (fun H1 locs1 hP1 hD1 hS1 => ?_)
  rw [nI_clamp (by omega)] at hP1 hD1
  exact k E H1 locs1 ls hK hP1 hD1 hS1 hl
theorem g1_3 (d : decode cc pc = .ok (.getfield 16, 3)) (k : j1 X Z cc n u (pc + 3) L (.ref (Z.2.1 3) :: st)) : j1 X Z cc n u pc L (.ref Z.1 :: st) := by
  obtain ⟨p, l, e, R, s, m, args, below, meth, c, Q, A, D⟩ := X
  intro E H locs ls hK hP hD hS hl
  exact va_get (D := D) (ci := 1) (v := .ref (Z.2.1 3)) (C := RX1) (T := TX1) (N := 14) E.1 E.2.1 E.2.2.2.2.1 in_X1 E.2.2.2.1 hK hP 0 rfl rfl 3 (by decide) (E.2.2.2.2.1 _ q174) (fun _ h9 => h9) rfl d (k E H locs ls hK hP hD hS hl)
theorem l1_3 {i : Nat} (d : decode cc pc = .ok (.iaload, 1)) (hi : i < 12) (k : j1 X Z cc n u (pc + 1) L (.int (u.2 3 i) :: st)) : j1 X Z cc n u pc L (.int (nI i) :: .ref (Z.2.1 3) :: st) := by
  obtain ⟨p, l, e, R, s, m, args, below, meth, c, Q, A, D⟩ := X
  intro E H locs ls hK hP hD hS hl
  refine va_iald E.1 E.2.1 hK hP 3 0 rfl rfl (vp_in_nI hi (by decide)) d ?_
  rw [nI_clamp (by omega)]
  exact k E H locs ls hK hP hD hS hl
theorem s1_3 {i : Nat} {x : Int32} (d : decode cc pc = .ok (.iastore, 1)) (hi : i < 12) (k : j1 X Z cc n (jset u 3 i x) (pc + 1) L st) : j1 X Z cc n u pc L (.int x :: .int (nI i) :: .ref (Z.2.1 3) :: st) := by
  obtain ⟨p, l, e, R, s, m, args, below, meth, c, Q, A, D⟩ := X
  intro E H locs ls hK hP hD hS hl
  refine va_iast E.1 E.2.1 hK hP hD hS 3 0 rfl rfl (vp_in_nI hi (by decide)) d (fun H1 locs1 hP1 hD1 hS1 => ?_)
  rw [nI_clamp (by omega)] at hP1 hD1
  exact k E H1 locs1 ls hK hP1 hD1 hS1 hl
theorem g1_4 (d : decode cc pc = .ok (.getfield 19, 3)) (k : j1 X Z cc n u (pc + 3) L (.ref (Z.2.1 4) :: st)) : j1 X Z cc n u pc L (.ref Z.1 :: st) := by
  obtain ⟨p, l, e, R, s, m, args, below, meth, c, Q, A, D⟩ := X
  intro E H locs ls hK hP hD hS hl
  exact va_get (D := D) (ci := 1) (v := .ref (Z.2.1 4)) (C := RX1) (T := TX1) (N := 14) E.1 E.2.1 E.2.2.2.2.1 in_X1 E.2.2.2.1 hK hP 0 rfl rfl 4 (by decide) (E.2.2.2.2.1 _ q175) (fun _ h9 => h9) rfl d (k E H locs ls hK hP hD hS hl)
theorem l1_4 {i : Nat} (d : decode cc pc = .ok (.iaload, 1)) (hi : i < 12) (k : j1 X Z cc n u (pc + 1) L (.int (u.2 4 i) :: st)) : j1 X Z cc n u pc L (.int (nI i) :: .ref (Z.2.1 4) :: st) := by
  obtain ⟨p, l, e, R, s, m, args, below, meth, c, Q, A, D⟩ := X
  intro E H locs ls hK hP hD hS hl
  refine va_iald E.1 E.2.1 hK hP 4 0 rfl rfl (vp_in_nI hi (by decide)) d ?_
  rw [nI_clamp (by omega)]
  exact k E H locs ls hK hP hD hS hl
theorem s1_4 {i : Nat} {x : Int32} (d : decode cc pc = .ok (.iastore, 1)) (hi : i < 12) (k : j1 X Z cc n (jset u 4 i x) (pc + 1) L st) : j1 X Z cc n u pc L (.int x :: .int (nI i) :: .ref (Z.2.1 4) :: st) := by
  obtain ⟨p, l, e, R, s, m, args, below, meth, c, Q, A, D⟩ := X
  intro E H locs ls hK hP hD hS hl
  refine va_iast E.1 E.2.1 hK hP hD hS 4 0 rfl rfl (vp_in_nI hi (by decide)) d (fun H1 locs1 hP1 hD1 hS1 => ?_)
  rw [nI_clamp (by omega)] at hP1 hD1
  exact k E H1 locs1 ls hK hP1 hD1 hS1 hl
theorem g1_5 (d : decode cc pc = .ok (.getfield 52, 3)) (k : j1 X Z cc n u (pc + 3) L (.int (nI (u.1 5)) :: st)) : j1 X Z cc n u pc L (.ref Z.1 :: st) := by
  obtain ⟨p, l, e, R, s, m, args, below, meth, c, Q, A, D⟩ := X
  intro E H locs ls hK hP hD hS hl
  exact va_get (D := D) (ci := 1) (v := .int (nI (u.1 5))) (C := RX1) (T := TX1) (N := 14) E.1 E.2.1 E.2.2.2.2.1 in_X1 E.2.2.2.1 hK hP 0 rfl rfl 5 (by decide) (E.2.2.2.2.1 _ q176) (fun _ h9 => h9) rfl d (k E H locs ls hK hP hD hS hl)
theorem p1_5 {v : Nat} (d : decode cc pc = .ok (.putfield 52, 3)) (k : j1 X Z cc n (jput u 5 v) (pc + 3) L st) : j1 X Z cc n u pc L (.int (nI v) :: .ref Z.1 :: st) := by
  obtain ⟨p, l, e, R, s, m, args, below, meth, c, Q, A, D⟩ := X
  intro E H locs ls hK hP hD hS hl
  exact va_put (D := D) (ci := 1) (v := .int (nI v)) (ty := .int) (C := RX1) (T := TX1) (N := 14) E.1 E.2.1 E.2.2.2.2.1 in_X1 tyX1 tyX1_ok nmX1 E.2.2.2.1 hK hP hD hS 0 rfl rfl 5 (by decide) (E.2.2.2.2.1 _ q176) (fun _ h9 => h9) rfl (by decide +kernel) rfl rfl (Nat.le_of_ble_eq_true rfl) d (fun H1 locs1 hP1 hD1 hS1 => k E H1 locs1 ls hK hP1 hD1 hS1 hl)
theorem g1_6 (d : decode cc pc = .ok (.getfield 22, 3)) (k : j1 X Z cc n u (pc + 3) L (.ref (Z.2.1 6) :: st)) : j1 X Z cc n u pc L (.ref Z.1 :: st) := by
  obtain ⟨p, l, e, R, s, m, args, below, meth, c, Q, A, D⟩ := X
  intro E H locs ls hK hP hD hS hl
  exact va_get (D := D) (ci := 1) (v := .ref (Z.2.1 6)) (C := RX1) (T := TX1) (N := 14) E.1 E.2.1 E.2.2.2.2.1 in_X1 E.2.2.2.1 hK hP 0 rfl rfl 6 (by decide) (E.2.2.2.2.1 _ q177) (fun _ h9 => h9) rfl d (k E H locs ls hK hP hD hS hl)
theorem l1_6 {i : Nat} (d : decode cc pc = .ok (.iaload, 1)) (hi : i < 48) (k : j1 X Z cc n u (pc + 1) L (.int (u.2 6 i) :: st)) : j1 X Z cc n u pc L (.int (nI i) :: .ref (Z.2.1 6) :: st) := by
  obtain ⟨p, l, e, R, s, m, args, below, meth, c, Q, A, D⟩ := X
  intro E H locs ls hK hP hD hS hl
  refine va_iald E.1 E.2.1 hK hP 5 0 rfl rfl (vp_in_nI hi (by decide)) d ?_
  rw [nI_clamp (by omega)]
  exact k E H locs ls hK hP hD hS hl
theorem s1_6 {i : Nat} {x : Int32} (d : decode cc pc = .ok (.iastore, 1)) (hi : i < 48) (k : j1 X Z cc n (jset u 6 i x) (pc + 1) L st) : j1 X Z cc n u pc L (.int x :: .int (nI i) :: .ref (Z.2.1 6) :: st) := by
  obtain ⟨p, l, e, R, s, m, args, below, meth, c, Q, A, D⟩ := X
  intro E H locs ls hK hP hD hS hl
  refine va_iast E.1 E.2.1 hK hP hD hS 5 0 rfl rfl (vp_in_nI hi (by decide)) d (fun H1 locs1 hP1 hD1 hS1 => ?_)
  rw [nI_clamp (by omega)] at hP1 hD1
  exact k E H1 locs1 ls hK hP1 hD1 hS1 hl
theorem g1_7 (d : decode cc pc = .ok (.getfield 25, 3)) (k : j1 X Z cc n u (pc + 3) L (.ref (Z.2.1 7) :: st)) : j1 X Z cc n u pc L (.ref Z.1 :: st) := by
  obtain ⟨p, l, e, R, s, m, args, below, meth, c, Q, A, D⟩ := X
  intro E H locs ls hK hP hD hS hl
  exact va_get (D := D) (ci := 1) (v := .ref (Z.2.1 7)) (C := RX1) (T := TX1) (N := 14) E.1 E.2.1 E.2.2.2.2.1 in_X1 E.2.2.2.1 hK hP 0 rfl rfl 7 (by decide) (E.2.2.2.2.1 _ q178) (fun _ h9 => h9) rfl d (k E H locs ls hK hP hD hS hl)
theorem l1_7 {i : Nat} (d : decode cc pc = .ok (.iaload, 1)) (hi : i < 6) (k : j1 X Z cc n u (pc + 1) L (.int (u.2 7 i) :: st)) : j1 X Z cc n u pc L (.int (nI i) :: .ref (Z.2.1 7) :: st) := by
  obtain ⟨p, l, e, R, s, m, args, below, meth, c, Q, A, D⟩ := X
  intro E H locs ls hK hP hD hS hl
  refine va_iald E.1 E.2.1 hK hP 6 0 rfl rfl (vp_in_nI hi (by decide)) d ?_
  rw [nI_clamp (by omega)]
  exact k E H locs ls hK hP hD hS hl
theorem s1_7 {i : Nat} {x : Int32} (d : decode cc pc = .ok (.iastore, 1)) (hi : i < 6) (k : j1 X Z cc n (jset u 7 i x) (pc + 1) L st) : j1 X Z cc n u pc L (.int x :: .int (nI i) :: .ref (Z.2.1 7) :: st) := by
  obtain ⟨p, l, e, R, s, m, args, below, meth, c, Q, A, D⟩ := X
  intro E H locs ls hK hP hD hS hl
  refine va_iast E.1 E.2.1 hK hP hD hS 6 0 rfl rfl (vp_in_nI hi (by decide)) d (fun H1 locs1 hP1 hD1 hS1 => ?_)
  rw [nI_clamp (by omega)] at hP1 hD1
  exact k E H1 locs1 ls hK hP1 hD1 hS1 hl
theorem g1_8 (d : decode cc pc = .ok (.getfield 28, 3)) (k : j1 X Z cc n u (pc + 3) L (.int (nI (u.1 8)) :: st)) : j1 X Z cc n u pc L (.ref Z.1 :: st) := by
  obtain ⟨p, l, e, R, s, m, args, below, meth, c, Q, A, D⟩ := X
  intro E H locs ls hK hP hD hS hl
  exact va_get (D := D) (ci := 1) (v := .int (nI (u.1 8))) (C := RX1) (T := TX1) (N := 14) E.1 E.2.1 E.2.2.2.2.1 in_X1 E.2.2.2.1 hK hP 0 rfl rfl 8 (by decide) (E.2.2.2.2.1 _ q179) (fun _ h9 => h9) rfl d (k E H locs ls hK hP hD hS hl)
theorem p1_8 {v : Nat} (d : decode cc pc = .ok (.putfield 28, 3)) (k : j1 X Z cc n (jput u 8 v) (pc + 3) L st) : j1 X Z cc n u pc L (.int (nI v) :: .ref Z.1 :: st) := by
  obtain ⟨p, l, e, R, s, m, args, below, meth, c, Q, A, D⟩ := X
  intro E H locs ls hK hP hD hS hl
  exact va_put (D := D) (ci := 1) (v := .int (nI v)) (ty := .int) (C := RX1) (T := TX1) (N := 14) E.1 E.2.1 E.2.2.2.2.1 in_X1 tyX1 tyX1_ok nmX1 E.2.2.2.1 hK hP hD hS 0 rfl rfl 8 (by decide) (E.2.2.2.2.1 _ q179) (fun _ h9 => h9) rfl (by decide +kernel) rfl rfl (Nat.le_of_ble_eq_true rfl) d (fun H1 locs1 hP1 hD1 hS1 => k E H1 locs1 ls hK hP1 hD1 hS1 hl)
theorem g1_9 (d : decode cc pc = .ok (.getfield 32, 3)) (k : j1 X Z cc n u (pc + 3) L (.ref (Z.2.1 9) :: st)) : j1 X Z cc n u pc L (.ref Z.1 :: st) := by
  obtain ⟨p, l, e, R, s, m, args, below, meth, c, Q, A, D⟩ := X
  intro E H locs ls hK hP hD hS hl
  exact va_get (D := D) (ci := 1) (v := .ref (Z.2.1 9)) (C := RX1) (T := TX1) (N := 14) E.1 E.2.1 E.2.2.2.2.1 in_X1 E.2.2.2.1 hK hP 0 rfl rfl 9 (by decide) (E.2.2.2.2.1 _ q180) (fun _ h9 => h9) rfl d (k E H locs ls hK hP hD hS hl)
theorem l1_9 {i : Nat} (d : decode cc pc = .ok (.iaload, 1)) (hi : i < 11) (k : j1 X Z cc n u (pc + 1) L (.int (u.2 9 i) :: st)) : j1 X Z cc n u pc L (.int (nI i) :: .ref (Z.2.1 9) :: st) := by
  obtain ⟨p, l, e, R, s, m, args, below, meth, c, Q, A, D⟩ := X
  intro E H locs ls hK hP hD hS hl
  refine va_iald E.1 E.2.1 hK hP 7 0 rfl rfl (vp_in_nI hi (by decide)) d ?_
  rw [nI_clamp (by omega)]
  exact k E H locs ls hK hP hD hS hl
theorem s1_9 {i : Nat} {x : Int32} (d : decode cc pc = .ok (.iastore, 1)) (hi : i < 11) (k : j1 X Z cc n (jset u 9 i x) (pc + 1) L st) : j1 X Z cc n u pc L (.int x :: .int (nI i) :: .ref (Z.2.1 9) :: st) := by
  obtain ⟨p, l, e, R, s, m, args, below, meth, c, Q, A, D⟩ := X
  intro E H locs ls hK hP hD hS hl
  refine va_iast E.1 E.2.1 hK hP hD hS 7 0 rfl rfl (vp_in_nI hi (by decide)) d (fun H1 locs1 hP1 hD1 hS1 => ?_)
  rw [nI_clamp (by omega)] at hP1 hD1
  exact k E H1 locs1 ls hK hP1 hD1 hS1 hl
theorem g1_10 (d : decode cc pc = .ok (.getfield 35, 3)) (k : j1 X Z cc n u (pc + 3) L (.ref (Z.2.1 10) :: st)) : j1 X Z cc n u pc L (.ref Z.1 :: st) := by
  obtain ⟨p, l, e, R, s, m, args, below, meth, c, Q, A, D⟩ := X
  intro E H locs ls hK hP hD hS hl
  exact va_get (D := D) (ci := 1) (v := .ref (Z.2.1 10)) (C := RX1) (T := TX1) (N := 14) E.1 E.2.1 E.2.2.2.2.1 in_X1 E.2.2.2.1 hK hP 0 rfl rfl 10 (by decide) (E.2.2.2.2.1 _ q181) (fun _ h9 => h9) rfl d (k E H locs ls hK hP hD hS hl)
theorem l1_10 {i : Nat} (d : decode cc pc = .ok (.iaload, 1)) (hi : i < 11) (k : j1 X Z cc n u (pc + 1) L (.int (u.2 10 i) :: st)) : j1 X Z cc n u pc L (.int (nI i) :: .ref (Z.2.1 10) :: st) := by
  obtain ⟨p, l, e, R, s, m, args, below, meth, c, Q, A, D⟩ := X
  intro E H locs ls hK hP hD hS hl
  refine va_iald E.1 E.2.1 hK hP 8 0 rfl rfl (vp_in_nI hi (by decide)) d ?_
  rw [nI_clamp (by omega)]
  exact k E H locs ls hK hP hD hS hl
theorem s1_10 {i : Nat} {x : Int32} (d : decode cc pc = .ok (.iastore, 1)) (hi : i < 11) (k : j1 X Z cc n (jset u 10 i x) (pc + 1) L st) : j1 X Z cc n u pc L (.int x :: .int (nI i) :: .ref (Z.2.1 10) :: st) := by
  obtain ⟨p, l, e, R, s, m, args, below, meth, c, Q, A, D⟩ := X
  intro E H locs ls hK hP hD hS hl
  refine va_iast E.1 E.2.1 hK hP hD hS 8 0 rfl rfl (vp_in_nI hi (by decide)) d (fun H1 locs1 hP1 hD1 hS1 => ?_)
  rw [nI_clamp (by omega)] at hP1 hD1
  exact k E H1 locs1 ls hK hP1 hD1 hS1 hl
theorem g1_11 (d : decode cc pc = .ok (.getfield 74, 3)) (k : j1 X Z cc n u (pc + 3) L (.int (nI (u.1 11)) :: st)) : j1 X Z cc n u pc L (.ref Z.1 :: st) := by
  obtain ⟨p, l, e, R, s, m, args, below, meth, c, Q, A, D⟩ := X
  intro E H locs ls hK hP hD hS hl
  exact va_get (D := D) (ci := 1) (v := .int (nI (u.1 11))) (C := RX1) (T := TX1) (N := 14) E.1 E.2.1 E.2.2.2.2.1 in_X1 E.2.2.2.1 hK hP 0 rfl rfl 11 (by decide) (E.2.2.2.2.1 _ q182) (fun _ h9 => h9) rfl d (k E H locs ls hK hP hD hS hl)
theorem p1_11 {v : Nat} (d : decode cc pc = .ok (.putfield 74, 3)) (k : j1 X Z cc n (jput u 11 v) (pc + 3) L st) : j1 X Z cc n u pc L (.int (nI v) :: .ref Z.1 :: st) := by
  obtain ⟨p, l, e, R, s, m, args, below, meth, c, Q, A, D⟩ := X
  intro E H locs ls hK hP hD hS hl
  exact va_put (D := D) (ci := 1) (v := .int (nI v)) (ty := .int) (C := RX1) (T := TX1) (N := 14) E.1 E.2.1 E.2.2.2.2.1 in_X1 tyX1 tyX1_ok nmX1 E.2.2.2.1 hK hP hD hS 0 rfl rfl 11 (by decide) (E.2.2.2.2.1 _ q182) (fun _ h9 => h9) rfl (by decide +kernel) rfl rfl (Nat.le_of_ble_eq_true rfl) d (fun H1 locs1 hP1 hD1 hS1 => k E H1 locs1 ls hK hP1 hD1 hS1 hl)
theorem g1_12 (d : decode cc pc = .ok (.getfield 38, 3)) (k : j1 X Z cc n u (pc + 3) L (.ref (Z.2.1 12) :: st)) : j1 X Z cc n u pc L (.ref Z.1 :: st) := by
  obtain ⟨p, l, e, R, s, m, args, below, meth, c, Q, A, D⟩ := X
  intro E H locs ls hK hP hD hS hl
  exact va_get (D := D) (ci := 1) (v := .ref (Z.2.1 12)) (C := RX1) (T := TX1) (N := 14) E.1 E.2.1 E.2.2.2.2.1 in_X1 E.2.2.2.1 hK hP 0 rfl rfl 12 (by decide) (E.2.2.2.2.1 _ q183) (fun _ h9 => h9) rfl d (k E H locs ls hK hP hD hS hl)
theorem l1_12 {i : Nat} (d : decode cc pc = .ok (.baload, 1)) (hi : i < 121) (k : j1 X Z cc n u (pc + 1) L (.int (u.2 12 i) :: st)) : j1 X Z cc n u pc L (.int (nI i) :: .ref (Z.2.1 12) :: st) := by
  obtain ⟨p, l, e, R, s, m, args, below, meth, c, Q, A, D⟩ := X
  intro E H locs ls hK hP hD hS hl
  refine va_zald E.1 E.2.1 hK hP 9 1 rfl rfl (vp_in_nI hi (by decide)) d ?_
  rw [nI_clamp (by omega)]
  exact k E H locs ls hK hP hD hS hl
theorem s1_12 {i : Nat} {x : Int32} (d : decode cc pc = .ok (.bastore, 1)) (hi : i < 121) (hx : vp_nar .boolean x = x) (k : j1 X Z cc n (jset u 12 i x) (pc + 1) L st) : j1 X Z cc n u pc L (.int x :: .int (nI i) :: .ref (Z.2.1 12) :: st) := by
  obtain ⟨p, l, e, R, s, m, args, below, meth, c, Q, A, D⟩ := X
  intro E H locs ls hK hP hD hS hl
  refine va_zast E.1 E.2.1 hK hP hD hS 9 1 rfl rfl (vp_in_nI hi (by decide)) d (fun H1 locs1 hP1 hD1 hS1 => ?_)
  rw [nI_clamp (by omega), hx] at hP1 hD1
  exact k E H1 locs1 ls hK hP1 hD1 hS1 hl
theorem g1_13 (d : decode cc pc = .ok (.getfield 42, 3)) (k : j1 X Z cc n u (pc + 3) L (.ref (Z.2.1 13) :: st)) : j1 X Z cc n u pc L (.ref Z.1 :: st) := by
  obtain ⟨p, l, e, R, s, m, args, below, meth, c, Q, A, D⟩ := X
  intro E H locs ls hK hP hD hS hl
  exact va_get (D := D) (ci := 1) (v := .ref (Z.2.1 13)) (C := RX1) (T := TX1) (N := 14) E.1 E.2.1 E.2.2.2.2.1 in_X1 E.2.2.2.1 hK hP 0 rfl rfl 13 (by decide) (E.2.2.2.2.1 _ q184) (fun _ h9 => h9) rfl d (k E H locs ls hK hP hD hS hl)
theorem l1_13 {i : Nat} (d : decode cc pc = .ok (.baload, 1)) (hi : i < 121) (k : j1 X Z cc n u (pc + 1) L (.int (u.2 13 i) :: st)) : j1 X Z cc n u pc L (.int (nI i) :: .ref (Z.2.1 13) :: st) := by
  obtain ⟨p, l, e, R, s, m, args, below, meth, c, Q, A, D⟩ := X
  intro E H locs ls hK hP hD hS hl
  refine va_zald E.1 E.2.1 hK hP 10 1 rfl rfl (vp_in_nI hi (by decide)) d ?_
  rw [nI_clamp (by omega)]
  exact k E H locs ls hK hP hD hS hl
theorem s1_13 {i : Nat} {x : Int32} (d : decode cc pc = .ok (.bastore, 1)) (hi : i < 121) (hx : vp_nar .boolean x = x) (k : j1 X Z cc n (jset u 13 i x) (pc + 1) L st) : j1 X Z cc n u pc L (.int x :: .int (nI i) :: .ref (Z.2.1 13) :: st) := by
  obtain ⟨p, l, e, R, s, m, args, below, meth, c, Q, A, D⟩ := X
  intro E H locs ls hK hP hD hS hl
  refine va_zast E.1 E.2.1 hK hP hD hS 10 1 rfl rfl (vp_in_nI hi (by decide)) d (fun H1 locs1 hP1 hD1 hS1 => ?_)
  rw [nI_clamp (by omega), hx] at hP1 hD1
  exact k E H1 locs1 ls hK hP1 hD1 hS1 hl
end JR1
theorem w1_len (Z : jZ) (u : jS) : (w1 Z u).length = 11 := rfl
end
section
set_option maxRecDepth 100000
/-! ===== Int32 by its bits (out of kit/laws/BITS.to-paste) ===== -/
def bt (x : Int32) (i : Nat) : Bool := x.toBitVec.getLsbD i
theorem b_ext {x y : Int32} (h : ∀ i, i < 32 → bt x i = bt y i) : x = y := Int32.toBitVec_inj.mp (BitVec.eq_of_getLsbD_eq (fun i hi => h i hi))
theorem b_or (x y : Int32) (i : Nat) : bt (x ||| y) i = (bt x i || bt y i) := by unfold bt; rw [Int32.toBitVec_or, BitVec.getLsbD_or]
theorem b_and (x y : Int32) (i : Nat) : bt (x &&& y) i = (bt x i && bt y i) := by unfold bt; rw [Int32.toBitVec_and, BitVec.getLsbD_and]
theorem b_big {x : Int32} {i : Nat} (h : 32 ≤ i) : bt x i = false := BitVec.getLsbD_of_ge _ _ h
theorem b_0 (i : Nat) : bt 0 i = false := BitVec.getLsbD_zero
theorem s_l : ∀ n, n < 32 → ((nI n &&& 31).toBitVec.smod 32).toNat = n := by decide +kernel
theorem b_shl (n : Nat) (hn : n < 32) (x : Int32) {i : Nat} (hi : i < 32) : bt (x <<< (nI n &&& 31)) i = (decide (n ≤ i) && bt x (i - n)) := by
  unfold bt
  rw [Int32.toBitVec_shiftLeft]
  show (x.toBitVec <<< ((nI n &&& 31).toBitVec.smod 32).toNat).getLsbD i = _
  rw [s_l n hn, BitVec.getLsbD_shiftLeft]
  rcases Nat.lt_or_ge i n with h | h
  · simp [h, Nat.not_le.mpr h]
  · simp [hi, h, Nat.not_lt.mpr h]
/-! ===== bits: my own ===== -/
theorem bt_lt {x : Int32} {i : Nat} (h : bt x i = true) : i < 32 := by
  rcases Nat.lt_or_ge i 32 with q | q
  · exact q
  · rw [b_big q] at h
    cases h
theorem bt_1 (i : Nat) : bt (nI 1) i = decide (i = 0) := by
  rcases Nat.lt_or_ge i 32 with h | h
  · exact (by decide +kernel : ∀ i, i < 32 → bt (nI 1) i = decide (i = 0)) i h
  · rw [b_big h, decide_eq_false (by omega)]
theorem bt_one {n i : Nat} (hn : n < 32) (hi : i < 32) : bt (nI 1 <<< (nI n &&& 31)) i = decide (i = n) := by
  rw [b_shl n hn _ hi, bt_1]
  by_cases h : i = n
  · subst h
    simp
  · by_cases h2 : n ≤ i
    · have h3 : ¬ i - n = 0 := by omega
      simp [h, h3]
    · simp [h, h2]
theorem bt_ne0 {x : Int32} : ¬ x = 0 ↔ ∃ i, i < 32 ∧ bt x i = true := by
  constructor
  · intro h
    apply Classical.byContradiction
    intro q
    apply h
    apply b_ext
    intro i hi
    rw [b_0]
    cases hb : bt x i with
    | false => rfl
    | true => exact absurd ⟨i, hi, hb⟩ q
  · rintro ⟨i, _, hi⟩ rfl
    rw [b_0] at hi
    cases hi
/-! ===== the automaton's steps over sets as bits ===== -/
def sp1 (nb : Bool) (st sk s : Int32) : Int32 := if nb = true then (s ||| ((s &&& st) <<< (nI 1 &&& 31))) ||| (((s ||| ((s &&& st) <<< (nI 1 &&& 31))) &&& sk) <<< (nI 2 &&& 31)) else s ||| ((s &&& st) <<< (nI 1 &&& 31))
def spr (nb : Bool) (st sk : Int32) : Nat → Int32 → Int32
  | 0, s => s
  | t + 1, s => sp1 nb st sk (spr nb st sk t s)
/-- a letter: q the set of '?', c that of the letter, st stars, db double stars, sk skips -/
def onL (q c st db sk s : Int32) : Int32 := spr false st sk 10 (((s &&& (q ||| c)) <<< (nI 1 &&& 31)) ||| (s &&& (st ||| db)))
/-- a border -/
def onB (ln : Bool) (st sl db sk s : Int32) : Int32 := spr true st sk 10 (if ln = true then nI 1 else ((s &&& sl) <<< (nI 1 &&& 31)) ||| (s &&& db))
/-! ===== patterns: sg the signs, len how many ===== -/
/-- how many places up to the next slash, or to the end -/
def pl (sg : Nat → Int32) (len i : Nat) : Nat := if h : i < len then (if sg i = 9 then 0 else pl sg len (i + 1) + 1) else 0
termination_by len - i
/-- the part's signs from i up to e fit the name's letters from k up to z -/
def pf (sg lt : Nat → Int32) (e z i k : Nat) : Bool :=
  if h : i < e then
    (if sg i = 7 then pf sg lt e z (i + 1) k || (if h2 : k < z then pf sg lt e z i (k + 1) else false)
    else if h2 : k < z then (decide (sg i = 8) || decide (sg i = lt k)) && pf sg lt e z (i + 1) (k + 1) else false)
  else decide (z ≤ k)
termination_by (e - i) + (z - k)
/-- the parts from the place i on fit the names from q up to n; ft: a part fits a name -/
def lf (sg : Nat → Int32) (len n : Nat) (ft : Nat → Nat → Bool) (i q : Nat) : Bool :=
  if h : i < len then
    (if sg i = 10 then lf sg len n ft (i + pl sg len i + 1) q || (if h2 : q < n then lf sg len n ft i (q + 1) else false)
    else if h2 : q < n then lf sg len n ft (i + pl sg len i + 1) (q + 1) && ft i q else false)
  else decide (n ≤ q)
termination_by (len - i) + (n - q)
/-- a good pattern -/
def gp (sg : Nat → Int32) (len : Nat) : Prop := 0 < len ∧ ∀ i, i < len → (sg i = 9 → (0 < i ∧ ¬ sg (i - 1) = 9) ∧ (i + 1 < len ∧ ¬ sg (i + 1) = 9)) ∧ (sg i = 10 → (i = 0 ∨ sg (i - 1) = 9) ∧ (i + 1 = len ∨ sg (i + 1) = 9))
/-- where the p-th part begins -/
def pst (sg : Nat → Int32) (len : Nat) : Nat → Nat
  | 0 => 0
  | p + 1 => pst sg len p + pl sg len (pst sg len p) + 1
/-- a part fits a name: lt the letters by name and place, sz the names' lengths -/
def ftn (sg : Nat → Int32) (len : Nat) (lt : Nat → Nat → Int32) (sz : Nat → Nat) (i q : Nat) : Bool := pf sg (lt q) (i + pl sg len i) (sz q) i 0
/-- the sets of a rule, as bits: so the letters' (0: '?'), st stars, sl slashes, sk skips, db double stars, en ends -/
def rs (sg : Nat → Int32) (len : Nat) (so : Nat → Int32) (st sl sk db en : Int32) : Prop :=
  (∀ i, bt st i = true ↔ i < len ∧ sg i = 7) ∧ (∀ i, bt sl i = true ↔ i < len ∧ sg i = 9) ∧ (∀ i, bt sk i = true ↔ i + 1 < len ∧ sg i = 10) ∧ (∀ i, bt db i = true ↔ i < len ∧ sg i = 10) ∧ (∀ i, bt (so 0) i = true ↔ i < len ∧ sg i = 8) ∧ (∀ c, 1 ≤ c → c ≤ 6 → ∀ i, bt (so c) i = true ↔ i < len ∧ sg i = nI c) ∧ (∀ i, bt en i = true ↔ i ≤ len ∧ ∀ a, i ≤ a → a < len → sg a = 9 ∨ sg a = 10)
/-- a set behind k letters of a name -/
def stN (so : Nat → Int32) (st db sk : Int32) (lt : Nat → Int32) : Nat → Int32 → Int32
  | 0, s => s
  | k + 1, s => onL (so 0) (so (lt k).toNatClampNeg) st db sk (stN so st db sk lt k s)
/-- the set with which the name k begins -/
def stB (ln : Bool) (st sl db sk : Int32) (k : Nat) (s : Int32) : Int32 := if k = 0 then spr true st sk 10 (nI 1) else onB ln st sl db sk s
/-- the set behind the names 0 .. k -/
def stA (ln : Bool) (so : Nat → Int32) (st sl db sk : Int32) (lt : Nat → Nat → Int32) (sz : Nat → Nat) : Nat → Int32
  | 0 => stN so st db sk (lt 0) (sz 0) (stB ln st sl db sk 0 0)
  | k + 1 => stN so st db sk (lt (k + 1)) (sz (k + 1)) (stB ln st sl db sk (k + 1) (stA ln so st sl db sk lt sz k))
end
section
set_option maxRecDepth 100000
/-! ===== what the methods answer, both classes alike ===== -/
def pV (n : Nat) (c : Int32) : Int32 := if c < 1 ∨ 10 < c then -1 else if 10 ≤ n then -2 else nI (n + 1)
def pOk (n : Nat) (c : Int32) : Prop := ¬ (c < 1 ∨ 10 < c) ∧ n < 10
def pathK (N l : Nat) (c : Int32) : Nat := if (c < 1 ∨ 6 < c) ∧ ¬ c = 9 then 0 else if c = 9 then (if l = 0 ∨ N = 6 then 1 else 2) else if 8 ≤ l then 3 else 4
def pathV (N k : Nat) : Int32 := if k = 0 then -1 else if k = 1 then -4 else if k = 2 then nI (N + 1) else if k = 3 then -2 else nI N
def pathU (aN aL aT : Nat) (u : jS) (N l : Nat) (c : Int32) (k : Nat) : jS := if k = 2 then jput (jset u aL N (nI 0)) aN (N + 1) else if k = 4 then jset (jset u aT ((N - 1) * 8 + l) c) aL (N - 1) (nI (l + 1)) else u
def lastV (H : Nat → Bool) : Nat → Int32
  | 0 => -5
  | r + 1 => if H r = true then nI r else lastV H r
def cntV (H : Nat → Bool) : Nat → Nat
  | 0 => 0
  | r + 1 => if H r = true then cntV H r + 1 else cntV H r
def fstN (P : Nat → Bool) : Nat → Nat → Int32
  | 0, _ => -5
  | d + 1, i => if P i = true then nI (i + 1) else fstN P d (i + 1)
/-- a rule's row in IgnoreRules -/
def RR0 (u : jS) (r : Nat) (sg : Nat → Int32) (len : Nat) (mk : Int32) : Prop := u.2 3 r = jb (decide (¬ mk &&& 1 = 0)) ∧ u.2 4 r = jb (decide (¬ mk &&& 4 = 0)) ∧ u.2 5 r = jb (decide (pl sg len 0 = len ∧ mk &&& 2 = 0)) ∧ rs sg len (fun c => u.2 6 (r * 7 + c)) (u.2 7 r) (u.2 8 r) (u.2 9 r) (u.2 10 r) (u.2 11 r)
/-! makeSets: the eleven sets of a rule: 0 '?', 1 .. 6 letters, 7 stars, 8 slashes, 9 skips, 10 double stars -/
def msl (r j : Nat) : Nat × Nat := if j < 7 then (6, r * 7 + j) else (j, r)
def msv (j : Nat) : Nat := if j = 0 then 8 else if j ≤ 7 then j else if j = 8 then 9 else 10
def MC (u u' : jS) (r c : Nat) : Prop := u'.1 = u.1 ∧ (∀ k x, (∀ j, j < 11 → msl r j ≠ (k, x)) → u'.2 k x = u.2 k x) ∧ ∀ j, j < c → u'.2 (msl r j).1 (msl r j).2 = 0
def MS (u u' : jS) (r n i i2 : Nat) : Prop := u'.1 = u.1 ∧ (∀ k x, (∀ j, j < 11 → msl r j ≠ (k, x)) → u'.2 k x = u.2 k x) ∧ ∀ j, j < 11 → ∀ b, bt (u'.2 (msl r j).1 (msl r j).2) b = true ↔ b < (if j = 9 then i2 else i) ∧ u.2 1 b = nI (msv j) ∧ (j = 9 → b + 1 < n)
theorem msl_inj {r a b : Nat} (ha : a < 11) (hb : b < 11) (h : msl r a = msl r b) : a = b := by
  unfold msl at h
  split at h <;> split at h <;> simp only [Prod.mk.injEq] at h <;> omega
theorem MC_step {u u' : jS} {r c k x : Nat} (h : MC u u' r c) (hc : c < 11) (hk : msl r c = (k, x)) : MC u (jset u' k x (nI 0)) r (c + 1) := by
  obtain ⟨h1, h2, h3⟩ := h
  refine ⟨h1, fun k1 x1 hn => ?_, fun j hj => ?_⟩
  · rw [jset_a, if_neg (fun q => hn c hc (by rw [hk, q.1, q.2])), h2 k1 x1 hn]
  · rw [jset_a]
    by_cases e : j = c
    · subst e
      rw [hk, if_pos ⟨rfl, rfl⟩]
      decide
    · rw [if_neg (fun q => e (msl_inj (r := r) (by omega) hc (by rw [hk]; exact Prod.ext q.1 q.2))), h3 j (by omega)]
theorem MS_of {u u' : jS} {r n : Nat} (h : MC u u' r 11) : MS u u' r n 0 0 := by
  obtain ⟨h1, h2, h3⟩ := h
  refine ⟨h1, h2, fun j hj b => ?_⟩
  rw [h3 j hj, b_0]
  constructor
  · intro q
    cases q
  · rintro ⟨q, -⟩
    split at q <;> omega
theorem bset {s : Int32} {i : Nat} {P : Nat → Prop} (hi : i < 32) (h : ∀ b, bt s b = true ↔ b < i ∧ P b) (hp : P i) : ∀ b, bt (s ||| (nI 1 <<< (nI i &&& 31))) b = true ↔ b < i + 1 ∧ P b := by
  intro b
  rw [b_or, Bool.or_eq_true, h b]
  constructor
  · rintro (⟨h1, h2⟩ | h1)
    · exact ⟨by omega, h2⟩
    · rw [bt_one hi (bt_lt h1)] at h1
      have := of_decide_eq_true h1
      subst this
      exact ⟨by omega, hp⟩
  · rintro ⟨h1, h2⟩
    by_cases e : b = i
    · right
      rw [bt_one hi (by omega), e]
      exact decide_eq_true rfl
    · exact Or.inl ⟨by omega, h2⟩
theorem bkeep {s : Int32} {i : Nat} {P : Nat → Prop} (h : ∀ b, bt s b = true ↔ b < i ∧ P b) (hp : ¬ P i) : ∀ b, bt s b = true ↔ b < i + 1 ∧ P b := by
  intro b
  rw [h b]
  constructor
  · rintro ⟨h1, h2⟩
    exact ⟨by omega, h2⟩
  · rintro ⟨h1, h2⟩
    refine ⟨?_, h2⟩
    rcases Nat.lt_or_ge b i with q | q
    · exact q
    · exact absurd (by rw [show i = b by omega]; exact h2) hp
/-- the switch on a sign: its own set grows, no other but the skips -/
theorem MS_upd {u u' : jS} {r n i c k x : Nat} (h : MS u u' r n i i) (hi : i < 32) (hc : c < 11) (h9 : c ≠ 9) (hk : msl r c = (k, x)) (hv : u.2 1 i = nI (msv c)) : MS u (jset u' k x (u'.2 k x ||| (nI 1 <<< (nI i &&& 31)))) r n (i + 1) i := by
  obtain ⟨h1, h2, h3⟩ := h
  refine ⟨h1, fun k1 x1 hn => ?_, fun j hj => ?_⟩
  · rw [jset_a, if_neg (fun q => hn c hc (by rw [hk, q.1, q.2])), h2 k1 x1 hn]
  · have hj3 := h3 j hj
    by_cases e : j = c
    · subst e
      rw [hk] at hj3 ⊢
      rw [if_neg h9] at hj3 ⊢
      rw [jset_a, if_pos ⟨rfl, rfl⟩]
      exact bset hi hj3 ⟨hv, fun q => absurd q h9⟩
    · rw [jset_a, if_neg (fun q => e (msl_inj (r := r) hj hc (by rw [hk]; exact Prod.ext q.1 q.2)))]
      by_cases e9 : j = 9
      · rw [if_pos e9] at hj3 ⊢
        exact hj3
      · rw [if_neg e9] at hj3 ⊢
        refine bkeep hj3 (fun q => ?_)
        have q1 := q.1
        rw [hv] at q1
        have hm : ∀ a, a < 11 → msv a < 2 ^ 31 := by decide
        have q2 := (nI_eq (hm c hc) (hm j hj)).mp q1
        have hm2 : ∀ a, a < 11 → ∀ b, b < 11 → a ≠ 9 → b ≠ 9 → msv a = msv b → a = b := by decide
        exact e (hm2 j hj c hc e9 h9 q2.symm)
theorem MS_skip {u u' : jS} {r n i : Nat} (h : MS u u' r n (i + 1) i) (hi : i < 32) (hv : u.2 1 i = nI 10) (hn : i + 1 < n) : MS u (jset u' 9 r (u'.2 9 r ||| (nI 1 <<< (nI i &&& 31)))) r n (i + 1) (i + 1) := by
  obtain ⟨h1, h2, h3⟩ := h
  refine ⟨h1, fun k1 x1 hx => ?_, fun j hj => ?_⟩
  · rw [jset_a, if_neg (fun q => hx 9 (by decide) (by rw [q.1, q.2]; rfl)), h2 k1 x1 hx]
  · have hj3 := h3 j hj
    by_cases e9 : j = 9
    · subst e9
      rw [if_pos rfl] at hj3 ⊢
      rw [jset_a, if_pos ⟨rfl, rfl⟩]
      exact bset hi hj3 ⟨hv, fun _ => hn⟩
    · rw [jset_a, if_neg (fun q => e9 (msl_inj (r := r) hj (by decide) (Prod.ext q.1 q.2)))]
      rw [if_neg e9] at hj3 ⊢
      exact hj3
theorem MS_noskip {u u' : jS} {r n i : Nat} (h : MS u u' r n (i + 1) i) (hn : ¬ (u.2 1 i = nI 10 ∧ i + 1 < n)) : MS u u' r n (i + 1) (i + 1) := by
  obtain ⟨h1, h2, h3⟩ := h
  refine ⟨h1, h2, fun j hj => ?_⟩
  have hj3 := h3 j hj
  by_cases e9 : j = 9
  · subst e9
    rw [if_pos rfl] at hj3 ⊢
    exact bkeep hj3 (fun q => hn ⟨q.1, q.2 rfl⟩)
  · rw [if_neg e9] at hj3 ⊢
    exact hj3
theorem msl_ne1 {r x : Nat} : ∀ j, j < 11 → msl r j ≠ (1, x) := by
  intro j hj h
  unfold msl at h
  split at h <;> simp only [Prod.mk.injEq] at h <;> omega
theorem MS_buf {u u' : jS} {r n i i2 : Nat} (h : MS u u' r n i i2) (x : Nat) : u'.2 1 x = u.2 1 x := h.2.1 1 x msl_ne1
theorem nI_sub1 (n : Nat) : nI n - nI 1 = nI n + (-1) := by
  rw [Int32.sub_eq_add_neg]
  rfl
end
section
set_option maxRecDepth 100000
/-! ===== the closure by stars and skips ===== -/
theorem a1_iff {s st : Int32} {i : Nat} (hi : i < 32) : bt (s ||| ((s &&& st) <<< (nI 1 &&& 31))) i = true ↔ bt s i = true ∨ (1 ≤ i ∧ bt s (i - 1) = true ∧ bt st (i - 1) = true) := by
  rw [b_or, b_shl 1 (by decide) _ hi, b_and]
  simp
theorem a2_iff {s sk : Int32} {i : Nat} (hi : i < 32) : bt (s ||| ((s &&& sk) <<< (nI 2 &&& 31))) i = true ↔ bt s i = true ∨ (2 ≤ i ∧ bt s (i - 2) = true ∧ bt sk (i - 2) = true) := by
  rw [b_or, b_shl 2 (by decide) _ hi, b_and]
  simp
/-- one round of the closure, over sets as predicates -/
def spE (nb : Bool) (st sk : Int32) (S : Nat → Prop) (i : Nat) : Prop := S i ∨ (1 ≤ i ∧ S (i - 1) ∧ bt st (i - 1) = true) ∨ (nb = true ∧ 2 ≤ i ∧ bt sk (i - 2) = true ∧ (S (i - 2) ∨ (1 ≤ i - 2 ∧ S (i - 2 - 1) ∧ bt st (i - 2 - 1) = true)))
theorem sp1_iff {nb : Bool} {st sk s : Int32} {i : Nat} (hi : i < 32) : bt (sp1 nb st sk s) i = true ↔ spE nb st sk (fun j => bt s j = true) i := by
  cases nb with
  | false =>
    rw [sp1, if_neg (by decide), a1_iff hi]
    simp [spE]
  | true =>
    rw [sp1, if_pos rfl, a2_iff hi, a1_iff hi, a1_iff (by omega)]
    simp only [spE, true_and]
    constructor
    · rintro (h | ⟨h1, h2, h3⟩)
      · rcases h with h | h
        · exact Or.inl h
        · exact Or.inr (Or.inl h)
      · exact Or.inr (Or.inr ⟨h1, h3, h2⟩)
    · rintro (h | h | ⟨h1, h3, h2⟩)
      · exact Or.inl (Or.inl h)
      · exact Or.inl (Or.inr h)
      · exact Or.inr ⟨h1, h2, h3⟩
theorem spr_stab {nb : Bool} {st sk s : Int32} : ∀ (t i : Nat), i ≤ t → i < 32 → bt (spr nb st sk (t + 1) s) i = true → bt (spr nb st sk t s) i = true
  | 0, i, h, hi, hb => by
    have hb := (sp1_iff hi).mp hb
    rcases hb with hb | ⟨h1, _⟩ | ⟨_, h1, _⟩
    · exact hb
    · omega
    · omega
  | t + 1, i, h, hi, hb => by
    have hb := (sp1_iff hi).mp hb
    refine (sp1_iff hi).mpr ?_
    rcases hb with hb | ⟨h1, h2, h3⟩ | ⟨h0, h1, h3, h2⟩
    · exact (sp1_iff hi).mp hb
    · exact Or.inr (Or.inl ⟨h1, spr_stab t (i - 1) (by omega) (by omega) h2, h3⟩)
    · rcases h2 with h2 | ⟨h4, h5, h6⟩
      · exact Or.inr (Or.inr ⟨h0, h1, h3, Or.inl (spr_stab t (i - 2) (by omega) (by omega) h2)⟩)
      · exact Or.inr (Or.inr ⟨h0, h1, h3, Or.inr ⟨h4, spr_stab t (i - 2 - 1) (by omega) (by omega) h5, h6⟩⟩)
theorem spr_mono {nb : Bool} {st sk s : Int32} {i : Nat} (h : bt s i = true) : ∀ t, bt (spr nb st sk t s) i = true
  | 0 => h
  | t + 1 => (sp1_iff (bt_lt h)).mpr (Or.inl (spr_mono h t))
theorem spr_abs {nb : Bool} {st sk s : Int32} (P : Nat → Prop) (h1 : ∀ i, bt st i = true → P (i + 1) → P i) (h2 : nb = true → ∀ i, bt sk i = true → P (i + 2) → P i) : ∀ (t i : Nat), bt (spr nb st sk t s) i = true → P i → ∃ j, bt s j = true ∧ P j
  | 0, i, hb, hp => ⟨i, hb, hp⟩
  | t + 1, i, hb, hp => by
    have hi := bt_lt hb
    have hb := (sp1_iff hi).mp hb
    rcases hb with hb | ⟨h3, h4, h5⟩ | ⟨h0, h3, h5, h4⟩
    · exact spr_abs P h1 h2 t i hb hp
    · exact spr_abs P h1 h2 t (i - 1) h4 (h1 (i - 1) h5 (by rw [show i - 1 + 1 = i by omega]; exact hp))
    · have hp2 : P (i - 2) := h2 h0 (i - 2) h5 (by rw [show i - 2 + 2 = i by omega]; exact hp)
      rcases h4 with h4 | ⟨h6, h7, h8⟩
      · exact spr_abs P h1 h2 t (i - 2) h4 hp2
      · exact spr_abs P h1 h2 t (i - 2 - 1) h7 (h1 (i - 2 - 1) h8 (by rw [show i - 2 - 1 + 1 = i - 2 by omega]; exact hp2))
theorem spr_cl1 {nb : Bool} {st sk s : Int32} (hst : ∀ i, bt st i = true → i < 10) {i : Nat} (h : bt (spr nb st sk 10 s) i = true) (hs : bt st i = true) : bt (spr nb st sk 10 s) (i + 1) = true := by
  have := hst i hs
  refine spr_stab 10 (i + 1) (by omega) (by omega) ((sp1_iff (by omega)).mpr (Or.inr (Or.inl ⟨by omega, ?_, ?_⟩)))
  · exact h
  · exact hs
theorem spr_cl2 {st sk s : Int32} (hsk : ∀ i, bt sk i = true → i < 9) {i : Nat} (h : bt (spr true st sk 10 s) i = true) (hs : bt sk i = true) : bt (spr true st sk 10 s) (i + 2) = true := by
  have := hsk i hs
  refine spr_stab 10 (i + 2) (by omega) (by omega) ((sp1_iff (by omega)).mpr (Or.inr (Or.inr ⟨rfl, by omega, ?_, Or.inl ?_⟩)))
  · exact hs
  · exact h
theorem spr_le {nb : Bool} {st sk s : Int32} {len : Nat} (hst : ∀ i, bt st i = true → i < len) (hsk : ∀ i, bt sk i = true → i + 1 < len) (hs : ∀ i, bt s i = true → i ≤ len) : ∀ (t i : Nat), bt (spr nb st sk t s) i = true → i ≤ len
  | 0, i, h => hs i h
  | t + 1, i, hb => by
    have hi := bt_lt hb
    have hb := (sp1_iff hi).mp hb
    rcases hb with hb | ⟨h3, h4, h5⟩ | ⟨h0, h3, h5, h4⟩
    · exact spr_le hst hsk hs t i hb
    · have := hst _ h5
      omega
    · have := hsk _ h5
      omega
/-! ===== parts' lengths ===== -/
theorem pl_ge {sg : Nat → Int32} {len i : Nat} (h : len ≤ i) : pl sg len i = 0 := by
  rw [pl, dif_neg (by omega)]
theorem pl_9 {sg : Nat → Int32} {len i : Nat} (h9 : sg i = 9) : pl sg len i = 0 := by
  rw [pl]
  by_cases h : i < len
  · rw [dif_pos h, if_pos h9]
  · rw [dif_neg h]
theorem pl_s {sg : Nat → Int32} {len i : Nat} (h : i < len) (h9 : ¬ sg i = 9) : pl sg len i = pl sg len (i + 1) + 1 := by
  rw [pl, dif_pos h, if_neg h9]
theorem pl_le {sg : Nat → Int32} {len : Nat} : ∀ (m i : Nat), len - i ≤ m → i ≤ len → i + pl sg len i ≤ len
  | m, i, hm, hi => by
    by_cases h : i < len
    · by_cases h9 : sg i = 9
      · rw [pl_9 h9]
        omega
      · rw [pl_s h h9]
        match m with
        | 0 => omega
        | m + 1 =>
          have := pl_le (sg := sg) (len := len) m (i + 1) (by omega) (by omega)
          omega
    · rw [pl_ge (by omega)]
      omega
theorem pl_le' {sg : Nat → Int32} {len i : Nat} (h : i ≤ len) : i + pl sg len i ≤ len := pl_le (len - i) i (Nat.le_refl _) h
theorem pl_end {sg : Nat → Int32} {len : Nat} : ∀ (m i : Nat), len - i ≤ m → i ≤ len → i + pl sg len i < len → sg (i + pl sg len i) = 9
  | m, i, hm, hi, hlt => by
    by_cases h : i < len
    · by_cases h9 : sg i = 9
      · rw [pl_9 h9]
        exact h9
      · rw [pl_s h h9] at hlt ⊢
        match m with
        | 0 => omega
        | m + 1 =>
          have := pl_end (sg := sg) (len := len) m (i + 1) (by omega) (by omega) (by omega)
          rw [show i + (pl sg len (i + 1) + 1) = i + 1 + pl sg len (i + 1) by omega]
          exact this
    · rw [pl_ge (by omega)] at hlt
      omega
theorem pl_end' {sg : Nat → Int32} {len i : Nat} (hi : i ≤ len) (h : i + pl sg len i < len) : sg (i + pl sg len i) = 9 := pl_end (len - i) i (Nat.le_refl _) hi h
/-! ===== unfolding pf and lf ===== -/
theorem pf_ge {sg lt : Nat → Int32} {e z i k : Nat} (h : e ≤ i) : pf sg lt e z i k = decide (z ≤ k) := by
  rw [pf, dif_neg (by omega)]
theorem pf_7 {sg lt : Nat → Int32} {e z i k : Nat} (h : i < e) (h7 : sg i = 7) : pf sg lt e z i k = (pf sg lt e z (i + 1) k || (decide (k < z) && pf sg lt e z i (k + 1))) := by
  rw [pf, dif_pos h, if_pos h7]
  by_cases h2 : k < z
  · simp [h2]
  · simp [h2]
theorem pf_n {sg lt : Nat → Int32} {e z i k : Nat} (h : i < e) (h7 : ¬ sg i = 7) : pf sg lt e z i k = (decide (k < z) && ((decide (sg i = 8) || decide (sg i = lt k)) && pf sg lt e z (i + 1) (k + 1))) := by
  rw [pf, dif_pos h, if_neg h7]
  by_cases h2 : k < z
  · simp [h2]
  · simp [h2]
theorem lf_ge {sg : Nat → Int32} {len n : Nat} {ft : Nat → Nat → Bool} {i q : Nat} (h : len ≤ i) : lf sg len n ft i q = decide (n ≤ q) := by
  rw [lf, dif_neg (by omega)]
theorem lf_10 {sg : Nat → Int32} {len n : Nat} {ft : Nat → Nat → Bool} {i q : Nat} (h : i < len) (h10 : sg i = 10) : lf sg len n ft i q = (lf sg len n ft (i + pl sg len i + 1) q || (decide (q < n) && lf sg len n ft i (q + 1))) := by
  rw [lf, dif_pos h, if_pos h10]
  by_cases h2 : q < n
  · simp [h2]
  · simp [h2]
theorem lf_n {sg : Nat → Int32} {len n : Nat} {ft : Nat → Nat → Bool} {i q : Nat} (h : i < len) (h10 : ¬ sg i = 10) : lf sg len n ft i q = (decide (q < n) && (lf sg len n ft (i + pl sg len i + 1) (q + 1) && ft i q)) := by
  rw [lf, dif_pos h, if_neg h10]
  by_cases h2 : q < n
  · simp [h2]
  · simp [h2]
/-! ===== good patterns ===== -/
theorem gp_9 {sg : Nat → Int32} {len i : Nat} (g : gp sg len) (h : i < len) (h9 : sg i = 9) : 0 < i ∧ ¬ sg (i - 1) = 9 ∧ i + 1 < len ∧ ¬ sg (i + 1) = 9 := by
  have := ((g.2 i h).1 h9)
  exact ⟨this.1.1, this.1.2, this.2.1, this.2.2⟩
theorem gp_10 {sg : Nat → Int32} {len i : Nat} (g : gp sg len) (h : i < len) (h10 : sg i = 10) : (i = 0 ∨ sg (i - 1) = 9) ∧ (i + 1 = len ∨ sg (i + 1) = 9) := (g.2 i h).2 h10
/-- behind a sign that is no slash there is no double star -/
theorem gp_n10 {sg : Nat → Int32} {len i : Nat} (g : gp sg len) (h : i + 1 < len) (h9 : ¬ sg i = 9) : ¬ sg (i + 1) = 10 := by
  intro h10
  have := (gp_10 g h h10).1
  rcases this with q | q
  · omega
  · exact h9 q
theorem gp_pl10 {sg : Nat → Int32} {len i : Nat} (g : gp sg len) (h : i < len) (h10 : sg i = 10) : pl sg len i = 1 := by
  have h9 : ¬ sg i = 9 := by
    rw [h10]
    decide
  rw [pl_s h h9]
  rcases (gp_10 g h h10).2 with q | q
  · rw [pl_ge (by omega)]
  · rw [pl_9 q]
/-- a part's begin -/
def ps (sg : Nat → Int32) (i : Nat) : Prop := i = 0 ∨ sg (i - 1) = 9
theorem ps_n9 {sg : Nat → Int32} {len i : Nat} (g : gp sg len) (h : i < len) (hp : ps sg i) : ¬ sg i = 9 := by
  intro h9
  obtain ⟨a, b, -⟩ := gp_9 g h h9
  rcases hp with q | q
  · omega
  · exact b q
theorem ps_10 {sg : Nat → Int32} {len i : Nat} (g : gp sg len) (h : i < len) (h10 : sg i = 10) : ps sg i := (gp_10 g h h10).1
theorem ps_s {sg : Nat → Int32} {i : Nat} (h9 : sg i = 9) : ps sg (i + 1) := Or.inr (by simpa using h9)
/-- the parts from a part's begin on are double stars alone -/
theorem lf_end {sg : Nat → Int32} {len n : Nat} {ft : Nat → Nat → Bool} (g : gp sg len) : ∀ (m i : Nat), len - i ≤ m → i < len → ps sg i → (lf sg len n ft i n = true ↔ ∀ j, i ≤ j → j < len → sg j = 9 ∨ sg j = 10)
  | m, i, hm, hi, hp => by
    by_cases h10 : sg i = 10
    · rw [lf_10 hi h10, gp_pl10 g hi h10]
      simp only [Nat.lt_irrefl, decide_false, Bool.false_and, Bool.or_false]
      rcases (gp_10 g hi h10).2 with q | q
      · rw [lf_ge (by omega)]
        simp only [Nat.le_refl, decide_true, true_iff]
        intro j h1 h2
        rw [show j = i by omega]
        exact Or.inr h10
      · by_cases hl : i + 1 < len
        · obtain ⟨-, -, h3, -⟩ := gp_9 g hl q
          match m with
          | 0 => omega
          | m + 1 =>
            have ih := lf_end (n := n) (ft := ft) g m (i + 1 + 1) (by omega) (by omega) (ps_s q)
            rw [ih]
            constructor
            · intro h j h1 h2
              by_cases e1 : j = i
              · rw [e1]
                exact Or.inr h10
              · by_cases e2 : j = i + 1
                · rw [e2]
                  exact Or.inl q
                · exact h j (by omega) h2
            · intro h j h1 h2
              exact h j (by omega) h2
        · rw [lf_ge (by omega)]
          simp only [Nat.le_refl, decide_true, true_iff]
          intro j h1 h2
          rw [show j = i by omega]
          exact Or.inr h10
    · rw [lf_n hi h10]
      simp only [Nat.lt_irrefl, decide_false, Bool.false_and, Bool.false_eq_true, false_iff]
      intro h
      rcases h i (Nat.le_refl _) hi with q | q
      · exact ps_n9 g hi hp q
      · exact h10 q
/-! ===== acceptance at a place: n names in all, in the name q, k letters of it read ===== -/
def acc (sg : Nat → Int32) (len n : Nat) (lt : Nat → Nat → Int32) (sz : Nat → Nat) (i q k : Nat) : Prop :=
  if i < len ∧ sg i = 10 then lf sg len n (ftn sg len lt sz) i (q + 1) = true
  else pf sg (lt q) (i + pl sg len i) (sz q) i k = true ∧ lf sg len n (ftn sg len lt sz) (i + pl sg len i + 1) (q + 1) = true
section ACC
variable {sg : Nat → Int32} {len n : Nat} {lt : Nat → Nat → Int32} {sz : Nat → Nat}
theorem acc_10 {i q k : Nat} (h : i < len) (h10 : sg i = 10) : acc sg len n lt sz i q k ↔ lf sg len n (ftn sg len lt sz) i (q + 1) = true := by
  rw [acc, if_pos ⟨h, h10⟩]
theorem acc_n {i q k : Nat} (h : ¬ (i < len ∧ sg i = 10)) : acc sg len n lt sz i q k ↔ pf sg (lt q) (i + pl sg len i) (sz q) i k = true ∧ lf sg len n (ftn sg len lt sz) (i + pl sg len i + 1) (q + 1) = true := by
  rw [acc, if_neg h]
theorem nx10 {i : Nat} (g : gp sg len) (h : i + 1 ≤ len) (h9 : ¬ sg i = 9) : ¬ (i + 1 < len ∧ sg (i + 1) = 10) := fun q => gp_n10 g q.1 h9 q.2
/-- a star: acceptance behind it is acceptance at it -/
theorem acc_star {i q k : Nat} (g : gp sg len) (h : i < len) (h7 : sg i = 7) (ha : acc sg len n lt sz (i + 1) q k) : acc sg len n lt sz i q k := by
  have h9 : ¬ sg i = 9 := by rw [h7]; decide
  have h10 : ¬ (i < len ∧ sg i = 10) := fun q => by
    have := q.2
    rw [h7] at this
    exact absurd this (by decide)
  rw [acc_n (nx10 g h h9)] at ha
  rw [acc_n h10, pl_s h h9, show i + (pl sg len (i + 1) + 1) = i + 1 + pl sg len (i + 1) by omega, pf_7 (by omega) h7]
  exact ⟨by rw [ha.1]; rfl, ha.2⟩
/-- with no letter left a star is passed -/
theorem acc_star_end {i q : Nat} (g : gp sg len) (h : i < len) (h7 : sg i = 7) (ha : acc sg len n lt sz i q (sz q)) : acc sg len n lt sz (i + 1) q (sz q) := by
  have h9 : ¬ sg i = 9 := by rw [h7]; decide
  have h10 : ¬ (i < len ∧ sg i = 10) := fun q => by
    have := q.2
    rw [h7] at this
    exact absurd this (by decide)
  rw [acc_n (nx10 g h h9)]
  rw [acc_n h10, pl_s h h9, show i + (pl sg len (i + 1) + 1) = i + 1 + pl sg len (i + 1) by omega, pf_7 (by omega) h7] at ha
  simp only [Nat.lt_irrefl, decide_false, Bool.false_and, Bool.or_false] at ha
  exact ha
/-- one letter forward: T closed under stars, U holds what T steps to -/
theorem let_fw (g : gp sg len) {q k : Nat} (hk : k < sz q) {T U : Nat → Prop} (hcl : ∀ i, T i → i < len → sg i = 7 → T (i + 1)) (h1 : ∀ i, T i → i < len → (sg i = 8 ∨ sg i = lt q k) → U (i + 1)) (h2 : ∀ i, T i → i < len → (sg i = 7 ∨ sg i = 10) → U i) :
    ∀ (m i : Nat), len - i ≤ m → i ≤ len → T i → acc sg len n lt sz i q k → ∃ j, U j ∧ acc sg len n lt sz j q (k + 1)
  | m, i, hm, hi, hT, ha => by
    by_cases h10 : i < len ∧ sg i = 10
    · refine ⟨i, h2 i hT h10.1 (Or.inr h10.2), ?_⟩
      rw [acc_10 h10.1 h10.2] at ha ⊢
      exact ha
    · have ha' := (acc_n h10).mp ha
      by_cases hl : i < len
      · by_cases h9 : sg i = 9
        · rw [pl_9 h9, pf_ge (by omega)] at ha'
          have := of_decide_eq_true ha'.1
          omega
        · by_cases h7 : sg i = 7
          · have h7' := ha'.1
            rw [pl_s hl h9, pf_7 (by omega) h7] at h7'
            rw [Bool.or_eq_true] at h7'
            rcases h7' with q1 | q1
            · match m with
              | 0 => omega
              | m + 1 =>
                refine let_fw g hk hcl h1 h2 m (i + 1) (by omega) (by omega) (hcl i hT hl h7) ?_
                rw [acc_n (nx10 g hl h9)]
                rw [pl_s hl h9] at ha'
                refine ⟨?_, ?_⟩
                · rw [show i + 1 + pl sg len (i + 1) = i + (pl sg len (i + 1) + 1) by omega]
                  exact q1
                · rw [show i + 1 + pl sg len (i + 1) + 1 = i + (pl sg len (i + 1) + 1) + 1 by omega]
                  exact ha'.2
            · refine ⟨i, h2 i hT hl (Or.inl h7), ?_⟩
              rw [acc_n h10]
              rw [Bool.and_eq_true] at q1
              refine ⟨?_, ha'.2⟩
              rw [pl_s hl h9]
              exact q1.2
          · have h8 := ha'.1
            rw [pl_s hl h9, pf_n (by omega) h7] at h8
            simp only [Bool.and_eq_true, Bool.or_eq_true, decide_eq_true_eq] at h8
            refine ⟨i + 1, h1 i hT hl h8.2.1, ?_⟩
            rw [acc_n (nx10 g hl h9)]
            rw [pl_s hl h9] at ha'
            refine ⟨?_, ?_⟩
            · rw [show i + 1 + pl sg len (i + 1) = i + (pl sg len (i + 1) + 1) by omega]
              exact h8.2.2
            · rw [show i + 1 + pl sg len (i + 1) + 1 = i + (pl sg len (i + 1) + 1) + 1 by omega]
              exact ha'.2
      · rw [pl_ge (by omega), pf_ge (by omega)] at ha'
        have := of_decide_eq_true ha'.1
        omega
/-- one letter backward -/
theorem let_bw (g : gp sg len) {q k : Nat} (hk : k < sz q) (hlt : ¬ lt q k = 7 ∧ ¬ lt q k = 9 ∧ ¬ lt q k = 10) {i : Nat} (hi : i < len) (hs : sg i = 8 ∨ sg i = lt q k) (ha : acc sg len n lt sz (i + 1) q (k + 1)) : acc sg len n lt sz i q k := by
  have h7 : ¬ sg i = 7 := by
    intro h
    rcases hs with e | e
    · rw [h] at e; exact absurd e (by decide)
    · exact hlt.1 (by rw [← e]; exact h)
  have h9 : ¬ sg i = 9 := by
    intro h
    rcases hs with e | e
    · rw [h] at e; exact absurd e (by decide)
    · exact hlt.2.1 (by rw [← e]; exact h)
  have h10 : ¬ sg i = 10 := by
    intro h
    rcases hs with e | e
    · rw [h] at e; exact absurd e (by decide)
    · exact hlt.2.2 (by rw [← e]; exact h)
  rw [acc_n (nx10 g hi h9)] at ha
  rw [acc_n (fun q => h10 q.2), pl_s hi h9, show i + (pl sg len (i + 1) + 1) = i + 1 + pl sg len (i + 1) by omega, pf_n (by omega) h7]
  refine ⟨?_, ha.2⟩
  rw [ha.1]
  rcases hs with e | e
  · simp [hk, e]
  · simp [hk, e]
theorem star_bw (g : gp sg len) {i q k : Nat} (hk : k < sz q) (hi : i < len) (h7 : sg i = 7) (ha : acc sg len n lt sz i q (k + 1)) : acc sg len n lt sz i q k := by
  have h9 : ¬ sg i = 9 := by rw [h7]; decide
  have h10 : ¬ (i < len ∧ sg i = 10) := fun q => by
    have := q.2
    rw [h7] at this
    exact absurd this (by decide)
  rw [acc_n h10] at ha ⊢
  rw [pl_s hi h9] at ha ⊢
  refine ⟨?_, ha.2⟩
  rw [pf_7 (by omega) h7, ha.1]
  simp [hk]
/-- a part's begin, at a name's begin: forward -/
theorem beg_fw (g : gp sg len) {q : Nat} (hq : q < n) {T : Nat → Prop} (hcl : ∀ i, T i → i + 1 < len → sg i = 10 → T (i + 2)) :
    ∀ (m i : Nat), len - i ≤ m → i < len → T i → lf sg len n (ftn sg len lt sz) i q = true → ∃ j, T j ∧ acc sg len n lt sz j q 0
  | m, i, hm, hi, hT, ha => by
    by_cases h10 : sg i = 10
    · rw [lf_10 hi h10, gp_pl10 g hi h10, Bool.or_eq_true] at ha
      rcases ha with ha | ha
      · by_cases hl : i + 1 < len
        · have h9 : sg (i + 1) = 9 := by
            rcases (gp_10 g hi h10).2 with e | e
            · omega
            · exact e
          obtain ⟨-, -, h3, -⟩ := gp_9 g hl h9
          match m with
          | 0 => omega
          | m + 1 => exact beg_fw g hq hcl m (i + 2) (by omega) (by omega) (hcl i hT hl h10) ha
        · rw [lf_ge (by omega)] at ha
          have := of_decide_eq_true ha
          omega
      · rw [Bool.and_eq_true] at ha
        exact ⟨i, hT, (acc_10 hi h10).mpr ha.2⟩
    · rw [lf_n hi h10] at ha
      simp only [Bool.and_eq_true] at ha
      exact ⟨i, hT, (acc_n (fun q => h10 q.2)).mpr ⟨ha.2.2, ha.2.1⟩⟩
/-- a part's begin, at a name's begin: backward -/
theorem beg_bw (g : gp sg len) {i q : Nat} (hq : q < n) (hi : i < len) (ha : acc sg len n lt sz i q 0) : lf sg len n (ftn sg len lt sz) i q = true := by
  by_cases h10 : sg i = 10
  · rw [acc_10 hi h10] at ha
    rw [lf_10 hi h10, ha]
    simp [hq]
  · rw [acc_n (fun q => h10 q.2)] at ha
    rw [lf_n hi h10, ha.2]
    simp only [hq, decide_true, Bool.true_and]
    exact ha.1
/-- what a set that is closed at a name's begin says of the set that it grew from -/
def begP (sg : Nat → Int32) (len n : Nat) (lt : Nat → Nat → Int32) (sz : Nat → Nat) (q i : Nat) : Prop := acc sg len n lt sz i q 0 ∨ (i < len ∧ sg i = 10 ∧ lf sg len n (ftn sg len lt sz) i q = true)
theorem begP_star (g : gp sg len) {q i : Nat} (hi : i < len) (h7 : sg i = 7) (h : begP sg len n lt sz q (i + 1)) : begP sg len n lt sz q i := by
  rcases h with h | ⟨h1, h2, -⟩
  · exact Or.inl (acc_star g hi h7 h)
  · exact absurd h2 (gp_n10 g h1 (by rw [h7]; decide))
theorem begP_lf (g : gp sg len) {q i : Nat} (hq : q < n) (hi : i < len) (h : begP sg len n lt sz q i) : lf sg len n (ftn sg len lt sz) i q = true := by
  rcases h with h | ⟨-, -, h⟩
  · exact beg_bw g hq hi h
  · exact h
theorem begP_skip (g : gp sg len) {q i : Nat} (hq : q < n) (hi : i + 1 < len) (h10 : sg i = 10) (h : begP sg len n lt sz q (i + 2)) : begP sg len n lt sz q i := by
  refine Or.inr ⟨by omega, h10, ?_⟩
  have h9 : sg (i + 1) = 9 := by
    rcases (gp_10 g (by omega) h10).2 with e | e
    · omega
    · exact e
  obtain ⟨-, -, h3, -⟩ := gp_9 g hi h9
  have h4 := begP_lf g hq h3 h
  rw [lf_10 (by omega) h10, gp_pl10 g (by omega) h10, show i + 1 + 1 = i + 2 by omega]
  rw [h4]
  rfl
/-- a border forward: T closed under stars, U what it steps to, closed under skips -/
theorem bor_fw (g : gp sg len) {q : Nat} (hq : q + 1 < n) {T U : Nat → Prop} (hcl : ∀ i, T i → i < len → sg i = 7 → T (i + 1)) (h1 : ∀ i, T i → i < len → sg i = 9 → U (i + 1)) (h2 : ∀ i, T i → i < len → sg i = 10 → U i) (hcu : ∀ i, U i → i + 1 < len → sg i = 10 → U (i + 2)) :
    ∀ (m i : Nat), len - i ≤ m → i ≤ len → T i → acc sg len n lt sz i q (sz q) → ∃ j, U j ∧ acc sg len n lt sz j (q + 1) 0
  | m, i, hm, hi, hT, ha => by
    by_cases hl : i < len
    · by_cases h10 : sg i = 10
      · rw [acc_10 hl h10] at ha
        exact beg_fw g hq hcu (len - i) i (Nat.le_refl _) hl (h2 i hT hl h10) ha
      · by_cases h7 : sg i = 7
        · match m with
          | 0 => omega
          | m + 1 => exact bor_fw g hq hcl h1 h2 hcu m (i + 1) (by omega) (by omega) (hcl i hT hl h7) (acc_star_end g hl h7 ha)
        · rw [acc_n (fun q => h10 q.2)] at ha
          by_cases h9 : sg i = 9
          · obtain ⟨-, -, h3, -⟩ := gp_9 g hl h9
            rw [pl_9 h9] at ha
            exact beg_fw g hq hcu (len - (i + 1)) (i + 1) (Nat.le_refl _) h3 (h1 i hT hl h9) ha.2
          · have := ha.1
            rw [pl_s hl h9, pf_n (by omega) h7] at this
            simp at this
    · rw [acc_n (fun q => hl q.1), lf_ge (by omega)] at ha
      have := of_decide_eq_true ha.2
      omega
/-- a border backward -/
theorem bor_bw9 (g : gp sg len) {q i : Nat} (hq : q + 1 < n) (hi : i < len) (h9 : sg i = 9) (h : begP sg len n lt sz (q + 1) (i + 1)) : acc sg len n lt sz i q (sz q) := by
  obtain ⟨-, -, h3, -⟩ := gp_9 g hi h9
  have h10 : ¬ sg i = 10 := by rw [h9]; decide
  rw [acc_n (fun q => h10 q.2), pl_9 h9, pf_ge (by omega)]
  exact ⟨by simp, begP_lf g hq h3 h⟩
theorem bor_bw10 (g : gp sg len) {q i : Nat} (hq : q + 1 < n) (hi : i < len) (h10 : sg i = 10) (h : begP sg len n lt sz (q + 1) i) : acc sg len n lt sz i q (sz q) := by
  rw [acc_10 hi h10]
  exact begP_lf g hq hi h
/-- the end: T closed under stars -/
theorem end_fw (g : gp sg len) {q : Nat} (hq : q + 1 = n) {T : Nat → Prop} (hcl : ∀ i, T i → i < len → sg i = 7 → T (i + 1)) :
    ∀ (m i : Nat), len - i ≤ m → i ≤ len → T i → acc sg len n lt sz i q (sz q) → ∃ j, T j ∧ j ≤ len ∧ ∀ a, j ≤ a → a < len → sg a = 9 ∨ sg a = 10
  | m, i, hm, hi, hT, ha => by
    by_cases hl : i < len
    · by_cases h10 : sg i = 10
      · rw [acc_10 hl h10, hq] at ha
        exact ⟨i, hT, hi, (lf_end g (len - i) i (Nat.le_refl _) hl (ps_10 g hl h10)).mp ha⟩
      · by_cases h7 : sg i = 7
        · match m with
          | 0 => omega
          | m + 1 => exact end_fw g hq hcl m (i + 1) (by omega) (by omega) (hcl i hT hl h7) (acc_star_end g hl h7 ha)
        · rw [acc_n (fun q => h10 q.2)] at ha
          by_cases h9 : sg i = 9
          · obtain ⟨-, -, h3, -⟩ := gp_9 g hl h9
            rw [pl_9 h9, hq] at ha
            have := (lf_end g (len - (i + 1)) (i + 1) (Nat.le_refl _) h3 (ps_s h9)).mp ha.2
            refine ⟨i, hT, hi, fun a h1 h2 => ?_⟩
            by_cases e : a = i
            · rw [e]
              exact Or.inl h9
            · exact this a (by omega) h2
          · have := ha.1
            rw [pl_s hl h9, pf_n (by omega) h7] at this
            simp at this
    · exact ⟨i, hT, hi, fun a h1 h2 => by omega⟩
theorem end_bw (g : gp sg len) {q i : Nat} (hq : q + 1 = n) (hi : i ≤ len) (h : ∀ a, i ≤ a → a < len → sg a = 9 ∨ sg a = 10) : acc sg len n lt sz i q (sz q) := by
  subst hq
  by_cases hl : i < len
  · rcases h i (Nat.le_refl _) hl with h9 | h10
    · obtain ⟨-, -, h3, -⟩ := gp_9 g hl h9
      have h10 : ¬ sg i = 10 := by rw [h9]; decide
      rw [acc_n (fun q => h10 q.2), pl_9 h9, pf_ge (by omega)]
      exact ⟨by simp, (lf_end g (len - (i + 1)) (i + 1) (Nat.le_refl _) h3 (ps_s h9)).mpr (fun a h1 h2 => h a (by omega) h2)⟩
    · rw [acc_10 hl h10]
      exact (lf_end g (len - i) i (Nat.le_refl _) hl (ps_10 g hl h10)).mpr h
  · rw [acc_n (fun q => hl q.1), pl_ge (by omega), pf_ge (by omega), lf_ge (by omega)]
    simp
end ACC
end
section
set_option maxRecDepth 100000
/-! ===== the sets as bits against acceptance ===== -/
/-- closed under stars, and within the pattern -/
def clo (sg : Nat → Int32) (len : Nat) (s : Int32) : Prop := (∀ i, bt s i = true → i < len → sg i = 7 → bt s (i + 1) = true) ∧ ∀ i, bt s i = true → i ≤ len
section SETS
variable {sg : Nat → Int32} {len n : Nat} {lt : Nat → Nat → Int32} {sz : Nat → Nat} {so : Nat → Int32} {st sl sk db en : Int32}
theorem rs_st10 (r : rs sg len so st sl sk db en) (hl : len ≤ 10) : ∀ i, bt st i = true → i < 10 := fun i h => by
  have := (r.1 i).mp h
  omega
theorem rs_sk9 (r : rs sg len so st sl sk db en) (hl : len ≤ 10) : ∀ i, bt sk i = true → i < 9 := fun i h => by
  have := (r.2.2.1 i).mp h
  omega
theorem spr_clo (r : rs sg len so st sl sk db en) (hl : len ≤ 10) {nb : Bool} {s : Int32} (hs : ∀ i, bt s i = true → i ≤ len) : clo sg len (spr nb st sk 10 s) :=
  ⟨fun i h1 h2 h3 => spr_cl1 (rs_st10 r hl) h1 ((r.1 i).mpr ⟨h2, h3⟩), spr_le (fun i h => ((r.1 i).mp h).1) (fun i h => ((r.2.2.1 i).mp h).1) hs 10⟩
theorem let_mem {s q c : Int32} {i : Nat} (hi : i < 32) : bt (((s &&& (q ||| c)) <<< (nI 1 &&& 31)) ||| (s &&& (st ||| db))) i = true ↔ (1 ≤ i ∧ bt s (i - 1) = true ∧ (bt q (i - 1) = true ∨ bt c (i - 1) = true)) ∨ (bt s i = true ∧ (bt st i = true ∨ bt db i = true)) := by
  rw [b_or, b_shl 1 (by decide) _ hi, b_and, b_or, b_and, b_or]
  simp
theorem bor_mem {s : Int32} {i : Nat} (hi : i < 32) : bt (((s &&& sl) <<< (nI 1 &&& 31)) ||| (s &&& db)) i = true ↔ (1 ≤ i ∧ bt s (i - 1) = true ∧ bt sl (i - 1) = true) ∨ (bt s i = true ∧ bt db i = true) := by
  rw [b_or, b_shl 1 (by decide) _ hi, b_and, b_and]
  simp
/-- a letter that a path may hold -/
def okl (x : Int32) : Prop := ∃ c, 1 ≤ c ∧ c ≤ 6 ∧ x = nI c
theorem okl_n {x : Int32} (h : okl x) : ¬ x = 7 ∧ ¬ x = 9 ∧ ¬ x = 10 := by
  obtain ⟨c, h1, h2, rfl⟩ := h
  refine ⟨fun e => ?_, fun e => ?_, fun e => ?_⟩
  · have := (nI_eq (b := 7) (by omega) (by omega)).mp e
    omega
  · have := (nI_eq (b := 9) (by omega) (by omega)).mp e
    omega
  · have := (nI_eq (b := 10) (by omega) (by omega)).mp e
    omega
theorem onL_ok (r : rs sg len so st sl sk db en) (g : gp sg len) (hl : len ≤ 10) {s : Int32} (hs : clo sg len s) {q k : Nat} (hk : k < sz q) (ho : okl (lt q k)) :
    clo sg len (onL (so 0) (so (lt q k).toNatClampNeg) st db sk s) ∧ ((∃ i, bt (onL (so 0) (so (lt q k).toNatClampNeg) st db sk s) i = true ∧ acc sg len n lt sz i q (k + 1)) ↔ ∃ i, bt s i = true ∧ acc sg len n lt sz i q k) := by
  obtain ⟨c, hc1, hc6, hc⟩ := id ho
  have hcl : (lt q k).toNatClampNeg = c := by rw [hc, nI_clamp (by omega)]
  rw [hcl]
  have hso : ∀ i, bt (so c) i = true ↔ i < len ∧ sg i = lt q k := by
    rw [hc]
    exact r.2.2.2.2.2.1 c hc1 hc6
  have hq : ∀ i, bt (so 0) i = true ↔ i < len ∧ sg i = 8 := r.2.2.2.2.1
  have hb0 : ∀ i, bt (((s &&& (so 0 ||| so c)) <<< (nI 1 &&& 31)) ||| (s &&& (st ||| db))) i = true → i ≤ len := by
    intro i hi
    rcases (let_mem (bt_lt hi)).mp hi with ⟨h1, h2, h3⟩ | ⟨h1, h2⟩
    · rcases h3 with h3 | h3
      · have := ((hq _).mp h3).1
        omega
      · have := ((hso _).mp h3).1
        omega
    · exact hs.2 i h1
  refine ⟨spr_clo r hl hb0, ?_, ?_⟩
  · rintro ⟨i, hi, ha⟩
    obtain ⟨j, hj, hja⟩ := spr_abs (fun i => acc sg len n lt sz i q (k + 1)) (fun i h1 h2 => acc_star g ((r.1 i).mp h1).1 ((r.1 i).mp h1).2 h2) (fun h => absurd h (by decide)) 10 i hi ha
    rcases (let_mem (bt_lt hj)).mp hj with ⟨h1, h2, h3⟩ | ⟨h1, h2⟩
    · refine ⟨j - 1, h2, ?_⟩
      rcases h3 with h3 | h3
      · obtain ⟨h4, h5⟩ := (hq _).mp h3
        exact let_bw g hk (okl_n ho) h4 (Or.inl h5) (by rw [show j - 1 + 1 = j by omega]; exact hja)
      · obtain ⟨h4, h5⟩ := (hso _).mp h3
        exact let_bw g hk (okl_n ho) h4 (Or.inr h5) (by rw [show j - 1 + 1 = j by omega]; exact hja)
    · refine ⟨j, h1, ?_⟩
      rcases h2 with h2 | h2
      · obtain ⟨h4, h5⟩ := (r.1 j).mp h2
        exact star_bw g hk h4 h5 hja
      · obtain ⟨h4, h5⟩ := (r.2.2.2.1 j).mp h2
        rw [acc_10 h4 h5] at hja ⊢
        exact hja
  · rintro ⟨i, hi, ha⟩
    have hup : ∀ j, bt (((s &&& (so 0 ||| so c)) <<< (nI 1 &&& 31)) ||| (s &&& (st ||| db))) j = true → bt (onL (so 0) (so c) st db sk s) j = true := fun j hj => spr_mono hj 10
    refine let_fw (T := fun i => bt s i = true) (U := fun i => bt (onL (so 0) (so c) st db sk s) i = true) g hk hs.1 ?_ ?_ (len - i) i (Nat.le_refl _) (hs.2 i hi) hi ha
    · intro j h1 h2 h3
      refine hup _ ((let_mem (by omega)).mpr (Or.inl ⟨by omega, ?_, ?_⟩))
      · exact h1
      · rcases h3 with h3 | h3
        · exact Or.inl ((hq _).mpr ⟨h2, h3⟩)
        · exact Or.inr ((hso _).mpr ⟨h2, h3⟩)
    · intro j h1 h2 h3
      refine hup _ ((let_mem (by omega)).mpr (Or.inr ⟨h1, ?_⟩))
      rcases h3 with h3 | h3
      · exact Or.inl ((r.1 j).mpr ⟨h2, h3⟩)
      · exact Or.inr ((r.2.2.2.1 j).mpr ⟨h2, h3⟩)
theorem stN_ok (r : rs sg len so st sl sk db en) (g : gp sg len) (hl : len ≤ 10) {s : Int32} (hs : clo sg len s) {q : Nat} (ho : ∀ k, k < sz q → okl (lt q k)) :
    ∀ k, k ≤ sz q → clo sg len (stN so st db sk (lt q) k s) ∧ ((∃ i, bt (stN so st db sk (lt q) k s) i = true ∧ acc sg len n lt sz i q k) ↔ ∃ i, bt s i = true ∧ acc sg len n lt sz i q 0)
  | 0, _ => ⟨hs, Iff.rfl⟩
  | k + 1, hk => by
    obtain ⟨h1, h2⟩ := stN_ok r g hl hs ho k (by omega)
    obtain ⟨h3, h4⟩ := onL_ok (n := n) (lt := lt) (sz := sz) r g hl h1 (q := q) (k := k) (by omega) (ho k (by omega))
    exact ⟨h3, h4.trans h2⟩
/-- the set with which a name begins out of the place 0 -/
theorem beg_ok (r : rs sg len so st sl sk db en) (g : gp sg len) (hl : len ≤ 10) {q : Nat} (hq : q < n) :
    clo sg len (spr true st sk 10 (nI 1)) ∧ ((∃ i, bt (spr true st sk 10 (nI 1)) i = true ∧ acc sg len n lt sz i q 0) ↔ lf sg len n (ftn sg len lt sz) 0 q = true) := by
  have h1 : ∀ i, bt (nI 1) i = true ↔ i = 0 := fun i => by rw [bt_1]; simp
  have hb : ∀ i, bt (nI 1) i = true → i ≤ len := fun i h => by
    have := (h1 i).mp h
    omega
  refine ⟨spr_clo r hl hb, ?_, ?_⟩
  · rintro ⟨i, hi, ha⟩
    obtain ⟨j, hj, hja⟩ := spr_abs (begP sg len n lt sz q) (fun i h1 h2 => begP_star g ((r.1 i).mp h1).1 ((r.1 i).mp h1).2 h2) (fun _ i h1 h2 => begP_skip g hq ((r.2.2.1 i).mp h1).1 ((r.2.2.1 i).mp h1).2 h2) 10 i hi (Or.inl ha)
    rw [(h1 j).mp hj] at hja
    exact begP_lf g hq g.1 hja
  · intro ha
    exact beg_fw g hq (T := fun i => bt (spr true st sk 10 (nI 1)) i = true) (fun i h1 h2 h3 => spr_cl2 (rs_sk9 r hl) h1 ((r.2.2.1 i).mpr ⟨h2, h3⟩)) (len - 0) 0 (Nat.le_refl _) g.1 (spr_mono ((h1 0).mpr rfl) 10) ha
/-- a border -/
theorem bor_ok (r : rs sg len so st sl sk db en) (g : gp sg len) (hl : len ≤ 10) {s : Int32} (hs : clo sg len s) {q : Nat} (hq : q + 1 < n) :
    clo sg len (onB false st sl db sk s) ∧ ((∃ i, bt (onB false st sl db sk s) i = true ∧ acc sg len n lt sz i (q + 1) 0) ↔ ∃ i, bt s i = true ∧ acc sg len n lt sz i q (sz q)) := by
  have e : onB false st sl db sk s = spr true st sk 10 (((s &&& sl) <<< (nI 1 &&& 31)) ||| (s &&& db)) := by
    rw [onB, if_neg (by decide)]
  rw [e]
  have hb : ∀ i, bt (((s &&& sl) <<< (nI 1 &&& 31)) ||| (s &&& db)) i = true → i ≤ len := by
    intro i hi
    rcases (bor_mem (bt_lt hi)).mp hi with ⟨h1, h2, h3⟩ | ⟨h1, h2⟩
    · have := ((r.2.1 _).mp h3).1
      omega
    · exact hs.2 i h1
  refine ⟨spr_clo r hl hb, ?_, ?_⟩
  · rintro ⟨i, hi, ha⟩
    obtain ⟨j, hj, hja⟩ := spr_abs (begP sg len n lt sz (q + 1)) (fun i h1 h2 => begP_star g ((r.1 i).mp h1).1 ((r.1 i).mp h1).2 h2) (fun _ i h1 h2 => begP_skip g hq ((r.2.2.1 i).mp h1).1 ((r.2.2.1 i).mp h1).2 h2) 10 i hi (Or.inl ha)
    rcases (bor_mem (bt_lt hj)).mp hj with ⟨h1, h2, h3⟩ | ⟨h1, h2⟩
    · obtain ⟨h4, h5⟩ := (r.2.1 _).mp h3
      exact ⟨j - 1, h2, bor_bw9 g hq h4 h5 (by rw [show j - 1 + 1 = j by omega]; exact hja)⟩
    · obtain ⟨h4, h5⟩ := (r.2.2.2.1 _).mp h2
      exact ⟨j, h1, bor_bw10 g hq h4 h5 hja⟩
  · rintro ⟨i, hi, ha⟩
    have hup : ∀ j, bt (((s &&& sl) <<< (nI 1 &&& 31)) ||| (s &&& db)) j = true → bt (spr true st sk 10 (((s &&& sl) <<< (nI 1 &&& 31)) ||| (s &&& db))) j = true := fun j hj => spr_mono hj 10
    refine bor_fw (T := fun i => bt s i = true) (U := fun i => bt (spr true st sk 10 (((s &&& sl) <<< (nI 1 &&& 31)) ||| (s &&& db))) i = true) g hq hs.1 ?_ ?_ ?_ (len - i) i (Nat.le_refl _) (hs.2 i hi) hi ha
    · intro j h1 h2 h3
      exact hup _ ((bor_mem (by omega)).mpr (Or.inl ⟨by omega, h1, (r.2.1 _).mpr ⟨h2, h3⟩⟩))
    · intro j h1 h2 h3
      exact hup _ ((bor_mem (by omega)).mpr (Or.inr ⟨h1, (r.2.2.2.1 _).mpr ⟨h2, h3⟩⟩))
    · intro j h1 h2 h3
      exact spr_cl2 (rs_sk9 r hl) h1 ((r.2.2.1 j).mpr ⟨h2, h3⟩)
/-- behind the names 0 .. k, of n names -/
theorem stA_ok (r : rs sg len so st sl sk db en) (g : gp sg len) (hl : len ≤ 10) (ln : Bool) (ho : ∀ q, q < n → ∀ k, k < sz q → okl (lt q k)) :
    ∀ k, k < n → clo sg len (stA ln so st sl db sk lt sz k) ∧ ((∃ i, bt (stA ln so st sl db sk lt sz k) i = true ∧ acc sg len n lt sz i k (sz k)) ↔ lf sg len n (ftn sg len lt sz) 0 (if ln = true then k else 0) = true)
  | 0, hk => by
    obtain ⟨h1, h2⟩ := beg_ok (lt := lt) (sz := sz) r g hl hk
    obtain ⟨h3, h4⟩ := stN_ok (n := n) (lt := lt) (sz := sz) r g hl h1 (q := 0) (ho 0 hk) (sz 0) (Nat.le_refl _)
    refine ⟨h3, ?_⟩
    have e : (if ln = true then 0 else 0) = 0 := by split <;> rfl
    rw [e]
    exact h4.trans h2
  | k + 1, hk => by
    cases ln with
    | true =>
      obtain ⟨h1, h2⟩ := beg_ok (lt := lt) (sz := sz) r g hl hk
      obtain ⟨h3, h4⟩ := stN_ok (n := n) (lt := lt) (sz := sz) r g hl h1 (q := k + 1) (ho (k + 1) hk) (sz (k + 1)) (Nat.le_refl _)
      have e : stB true st sl db sk (k + 1) (stA true so st sl db sk lt sz k) = spr true st sk 10 (nI 1) := by
        rw [stB, if_neg (by omega), onB, if_pos rfl]
      rw [stA, e]
      exact ⟨h3, h4.trans h2⟩
    | false =>
      obtain ⟨h5, h6⟩ := stA_ok r g hl false ho k (by omega)
      obtain ⟨h1, h2⟩ := bor_ok (lt := lt) (sz := sz) r g hl h5 (q := k) hk
      obtain ⟨h3, h4⟩ := stN_ok (n := n) (lt := lt) (sz := sz) r g hl h1 (q := k + 1) (ho (k + 1) hk) (sz (k + 1)) (Nat.le_refl _)
      have e : stB false st sl db sk (k + 1) (stA false so st sl db sk lt sz k) = onB false st sl db sk (stA false so st sl db sk lt sz k) := by
        rw [stB, if_neg (by omega)]
      rw [stA, e]
      exact ⟨h3, (h4.trans h2).trans h6⟩
/-- THE AUTOMATON's ANSWER for the first k + 1 names -/
theorem hit_ok (r : rs sg len so st sl sk db en) (g : gp sg len) (hl : len ≤ 10) (ln : Bool) {k : Nat} (ho : ∀ q, q < k + 1 → ∀ j, j < sz q → okl (lt q j)) :
    (¬ (stA ln so st sl db sk lt sz k &&& en) = 0) ↔ lf sg len (k + 1) (ftn sg len lt sz) 0 (if ln = true then k else 0) = true := by
  obtain ⟨h1, h2⟩ := stA_ok (n := k + 1) r g hl ln ho k (by omega)
  rw [← h2, bt_ne0]
  constructor
  · rintro ⟨i, hi, hb⟩
    rw [b_and, Bool.and_eq_true] at hb
    obtain ⟨h3, h4⟩ := (r.2.2.2.2.2.2 i).mp hb.2
    exact ⟨i, hb.1, end_bw g rfl h3 h4⟩
  · rintro ⟨i, hb, ha⟩
    obtain ⟨j, hj, h3, h4⟩ := end_fw (T := fun i => bt (stA ln so st sl db sk lt sz k) i = true) g rfl h1.1 (len - i) i (Nat.le_refl _) (h1.2 i hb) hb ha
    exact ⟨j, bt_lt hj, by rw [b_and, hj, (r.2.2.2.2.2.2 j).mpr ⟨h3, h4⟩]; rfl⟩
/-- the reference's answer where the pattern has one part and asks for the last name -/
theorem lf_last (g : gp sg len) {k : Nat} (h1 : pl sg len 0 = len) : lf sg len (k + 1) (ftn sg len lt sz) 0 k = (decide (sg 0 = 10) || ftn sg len lt sz 0 k) := by
  by_cases h10 : sg 0 = 10
  · rw [lf_10 g.1 h10, h1, lf_ge (by omega), lf_10 g.1 h10, h1, lf_ge (by omega)]
    simp [h10]
  · rw [lf_n g.1 h10, h1, lf_ge (by omega)]
    simp [h10]
end SETS
end
section
set_option maxRecDepth 100000
/-! ===== marks, rows of rules ===== -/
theorem pl_in {sg : Nat → Int32} {len : Nat} : ∀ (m i : Nat), len - i ≤ m → ∀ j, i ≤ j → j < i + pl sg len i → ¬ sg j = 9
  | m, i, hm, j, h1, h2 => by
    by_cases h : i < len
    · by_cases h9 : sg i = 9
      · rw [pl_9 h9] at h2
        omega
      · by_cases e : j = i
        · rw [e]
          exact h9
        · rw [pl_s h h9] at h2
          match m with
          | 0 => omega
          | m + 1 => exact pl_in (sg := sg) (len := len) m (i + 1) (by omega) j (by omega) (by omega)
    · rw [pl_ge (by omega)] at h2
      omega
theorem pl_all {sg : Nat → Int32} {len : Nat} : pl sg len 0 = len ↔ ∀ i, i < len → ¬ sg i = 9 := by
  constructor
  · intro h i hi
    exact pl_in (sg := sg) (len := len) (len - 0) 0 (Nat.le_refl _) i (by omega) (by omega)
  · intro h
    have h1 := pl_le' (sg := sg) (len := len) (Nat.zero_le len)
    rcases Nat.lt_or_ge (pl sg len 0) len with q | q
    · have := pl_end' (sg := sg) (Nat.zero_le len) (by omega)
      rw [Nat.zero_add] at this
      exact absurd this (h _ q)
    · omega
theorem one_bit (x p : Int32) (i : Nat) (hp : ∀ j, j < 32 → bt p j = decide (j = i)) : x &&& p = if bt x i = true then p else 0 := by
  apply b_ext
  intro j hj
  rw [b_and, hp j hj]
  by_cases e : j = i
  · subst e
    by_cases h : bt x j = true
    · rw [if_pos h, h, hp j hj]
      simp
    · rw [if_neg h, b_0]
      simp at h
      simp [h]
  · by_cases h : bt x i = true
    · rw [if_pos h, hp j hj]
      simp [e]
    · rw [if_neg h, b_0]
      simp [e]
theorem mk1 (x : Int32) : (x &&& 7) &&& 1 = x &&& 1 := by rw [Int32.and_assoc, show (7 : Int32) &&& 1 = 1 from by decide]
theorem mk2 (x : Int32) : (x &&& 7) &&& 2 = x &&& 2 := by rw [Int32.and_assoc, show (7 : Int32) &&& 2 = 2 from by decide]
theorem mk4 (x : Int32) : (x &&& 7) &&& 4 = x &&& 4 := by rw [Int32.and_assoc, show (7 : Int32) &&& 4 = 4 from by decide]
theorem and1 (x : Int32) : x &&& 1 = 1 ↔ ¬ x &&& 1 = 0 := by
  rw [one_bit x 1 0 (by decide +kernel)]
  by_cases h : bt x 0 = true
  · rw [if_pos h]
    decide
  · rw [if_neg h]
    decide
theorem and4 (x : Int32) : x &&& 4 = 4 ↔ ¬ x &&& 4 = 0 := by
  rw [one_bit x 4 2 (by decide +kernel)]
  by_cases h : bt x 2 = true
  · rw [if_pos h]
    decide
  · rw [if_neg h]
    decide
theorem rs_congr {sg : Nat → Int32} {len : Nat} {so so' : Nat → Int32} {st sl sk db en : Int32} (h : ∀ c, c < 7 → so' c = so c) (r : rs sg len so st sl sk db en) : rs sg len so' st sl sk db en := by
  refine ⟨r.1, r.2.1, r.2.2.1, r.2.2.2.1, ?_, ?_, r.2.2.2.2.2.2⟩
  · rw [h 0 (by decide)]
    exact r.2.2.2.2.1
  · intro c h1 h2
    rw [h c (by omega)]
    exact r.2.2.2.2.2.1 c h1 h2
theorem RR0_congr {u u' : jS} {r : Nat} {sg : Nat → Int32} {len : Nat} {mk : Int32} (h3 : u'.2 3 r = u.2 3 r) (h4 : u'.2 4 r = u.2 4 r) (h5 : u'.2 5 r = u.2 5 r) (h6 : ∀ c, c < 7 → u'.2 6 (r * 7 + c) = u.2 6 (r * 7 + c)) (h7 : u'.2 7 r = u.2 7 r) (h8 : u'.2 8 r = u.2 8 r) (h9 : u'.2 9 r = u.2 9 r) (h10 : u'.2 10 r = u.2 10 r) (h11 : u'.2 11 r = u.2 11 r) (h : RR0 u r sg len mk) : RR0 u' r sg len mk := by
  obtain ⟨a, b, c, d⟩ := h
  refine ⟨by rw [h3]; exact a, by rw [h4]; exact b, by rw [h5]; exact c, ?_⟩
  rw [h7, h8, h9, h10, h11]
  exact rs_congr h6 d
/-- what rule(marks) does in IgnoreRules -/
def RU0 (u : jS) (mk v : Int32) (u' : jS) : Prop :=
  (¬ gp (u.2 1) (u.1 0) ∧ v = -3 ∧ u' = jput u 0 0) ∨ (gp (u.2 1) (u.1 0) ∧ 12 ≤ u.1 2 ∧ v = -2 ∧ u' = jput u 0 0) ∨
  (gp (u.2 1) (u.1 0) ∧ u.1 2 < 12 ∧ v = nI (u.1 2) ∧ u'.1 0 = 0 ∧ u'.1 2 = u.1 2 + 1 ∧ u'.1 12 = u.1 12 ∧ (∀ k, k = 1 ∨ 12 ≤ k → u'.2 k = u.2 k) ∧ (∀ r, r < u.1 2 → ∀ sg len m, RR0 u r sg len m → RR0 u' r sg len m) ∧ RR0 u' (u.1 2) (u.2 1) (u.1 0) mk)
end
section
set_option maxRecDepth 100000
/-! ===== the questions, IgnoreRules' side ===== -/
/-- the rule r matches the first k + 1 names -/
def hit0 (u : jS) (ln fd : Nat → Bool) (sz : Nat → Nat) (fo : Bool) (N k r : Nat) : Bool := decide (¬ (stA (ln r) (fun c => u.2 6 (r * 7 + c)) (u.2 7 r) (u.2 8 r) (u.2 10 r) (u.2 9 r) (fun q i => u.2 14 (q * 8 + i)) sz k &&& u.2 11 r) = 0) && ((fo || decide (k + 1 < N)) || !(fd r))
/-- the last rule that hits is there and isn't negated -/
def cutP (H ng : Nat → Bool) : Nat → Bool
  | 0 => false
  | r + 1 => if H r = true then !(ng r) else cutP H ng r
def cutR (H : Nat → Nat → Bool) (ng : Nat → Bool) (q N z : Nat) : Int32 := if z = 0 then -5 else fstN (fun k => cutP (H k) ng q) N 0
theorem lastV_cases (H ng : Nat → Bool) : ∀ q, (lastV H q = -5 ∧ cutP H ng q = false) ∨ ∃ r, r < q ∧ lastV H q = nI r ∧ cutP H ng q = !(ng r)
  | 0 => Or.inl ⟨rfl, rfl⟩
  | q + 1 => by
    by_cases h : H q = true
    · exact Or.inr ⟨q, by omega, by rw [lastV, if_pos h], by rw [cutP, if_pos h]⟩
    · rcases lastV_cases H ng q with ⟨a, b⟩ | ⟨r, a, b, c⟩
      · exact Or.inl ⟨by rw [lastV, if_neg h, a], by rw [cutP, if_neg h, b]⟩
      · exact Or.inr ⟨r, by omega, by rw [lastV, if_neg h, b], by rw [cutP, if_neg h, c]⟩
theorem cntV_le (H : Nat → Bool) : ∀ q, cntV H q ≤ q
  | 0 => Nat.le_refl _
  | q + 1 => by
    have := cntV_le H q
    rw [cntV]
    split <;> omega
theorem lastV_congr {H H' : Nat → Bool} : ∀ q, (∀ r, r < q → H r = H' r) → lastV H q = lastV H' q
  | 0, _ => rfl
  | q + 1, h => by rw [lastV, lastV, h q (by omega), lastV_congr q (fun r hr => h r (by omega))]
theorem cntV_congr {H H' : Nat → Bool} : ∀ q, (∀ r, r < q → H r = H' r) → cntV H q = cntV H' q
  | 0, _ => rfl
  | q + 1, h => by rw [cntV, cntV, h q (by omega), cntV_congr q (fun r hr => h r (by omega))]
theorem cutP_congr {H H' ng ng' : Nat → Bool} : ∀ q, (∀ r, r < q → H r = H' r) → (∀ r, r < q → ng r = ng' r) → cutP H ng q = cutP H' ng' q
  | 0, _, _ => rfl
  | q + 1, h, g => by rw [cutP, cutP, h q (by omega), g q (by omega), cutP_congr q (fun r hr => h r (by omega)) (fun r hr => g r (by omega))]
theorem fstN_congr {P P' : Nat → Bool} : ∀ (d i : Nat), (∀ k, i ≤ k → k < i + d → P k = P' k) → fstN P d i = fstN P' d i
  | 0, _, _ => rfl
  | d + 1, i, h => by rw [fstN, fstN, h i (by omega) (by omega), fstN_congr d (i + 1) (fun k h1 h2 => h k (by omega) (by omega))]
theorem cutR_congr {H H' : Nat → Nat → Bool} {ng ng' : Nat → Bool} {q N z : Nat} (h : ∀ k, k < N → ∀ r, r < q → H k r = H' k r) (g : ∀ r, r < q → ng r = ng' r) : cutR H ng q N z = cutR H' ng' q N z := by
  unfold cutR
  rw [fstN_congr (P := fun k => cutP (H k) ng q) (P' := fun k => cutP (H' k) ng' q) N 0 (fun k h1 h2 => cutP_congr q (h k (by omega)) g)]
/-- what the questions of IgnoreRules take for granted -/
def WF0 (u : jS) (ln fd ng : Nat → Bool) (sz : Nat → Nat) : Prop := 1 ≤ u.1 12 ∧ u.1 12 ≤ 6 ∧ u.1 2 ≤ 12 ∧ (∀ k, k < u.1 12 → u.2 13 k = nI (sz k) ∧ sz k ≤ 8 ∧ ∀ i, i < sz k → okl (u.2 14 (k * 8 + i))) ∧ ∀ r, r < u.1 2 → u.2 5 r = jb (ln r) ∧ u.2 4 r = jb (fd r) ∧ u.2 3 r = jb (ng r)
/-- nothing changed but the walk's own arrays -/
def sm0 (u u' : jS) : Prop := u'.1 = u.1 ∧ ∀ j, j < 15 → u'.2 j = u.2 j
theorem sm0_rf (u : jS) : sm0 u u := ⟨rfl, fun _ _ => rfl⟩
theorem sm0_set {u u' : jS} (h : sm0 u u') {k : Nat} (hk : 15 ≤ k) (i : Nat) (x : Int32) : sm0 u (jset u' k i x) := ⟨h.1, fun j hj => by rw [jset_o _ _ _ (by omega)]; exact h.2 j hj⟩
theorem WF0_sm {u u' : jS} {ln fd ng : Nat → Bool} {sz : Nat → Nat} (h : WF0 u ln fd ng sz) (s : sm0 u u') : WF0 u' ln fd ng sz := by
  unfold WF0
  rw [s.1, s.2 13 (by decide), s.2 14 (by decide), s.2 5 (by decide), s.2 4 (by decide), s.2 3 (by decide)]
  exact h
theorem stB_0 (ln : Bool) (st sl db sk s s' : Int32) : stB ln st sl db sk 0 s = stB ln st sl db sk 0 s' := by rw [stB, stB, if_pos rfl, if_pos rfl]
end
section
set_option maxRecDepth 100000
/-! ===== the reference's side ===== -/
/-- what rule(marks) does in IgnoreRulesModel -/
def RU1 (t : jS) (mk v : Int32) (t' : jS) : Prop :=
  (¬ gp (t.2 0) (t.1 1) ∧ v = -3 ∧ t' = jput t 1 0) ∨ (gp (t.2 0) (t.1 1) ∧ t.1 5 = 12 ∧ v = -2 ∧ t' = jput t 1 0) ∨
  (gp (t.2 0) (t.1 1) ∧ t.1 5 ≠ 12 ∧ v = nI (t.1 5) ∧ t'.1 1 = 0 ∧ t'.1 5 = t.1 5 + 1 ∧ t'.1 8 = t.1 8 ∧ (∀ k, k = 0 ∨ 5 ≤ k → t'.2 k = t.2 k) ∧ (∀ r, r ≠ t.1 5 → (∀ i, i < 10 → t'.2 2 (r * 10 + i) = t.2 2 (r * 10 + i)) ∧ t'.2 3 r = t.2 3 r ∧ t'.2 4 r = t.2 4 r) ∧ (∀ i, i < t.1 1 → t'.2 2 (t.1 5 * 10 + i) = t.2 0 i) ∧ t'.2 3 (t.1 5) = nI (t.1 1) ∧ t'.2 4 (t.1 5) = mk)
/-- a rule's signs -/
def sgr (t : jS) (r : Nat) : Nat → Int32 := fun i => t.2 2 (r * 10 + i)
/-- the letters by name and place -/
def ltr (t : jS) : Nat → Nat → Int32 := fun q i => t.2 6 (q * 8 + i)
/-- what the questions of the reference take for granted -/
def WF1 (t : jS) (len sz : Nat → Nat) : Prop := 1 ≤ t.1 8 ∧ t.1 8 ≤ 6 ∧ t.1 5 ≤ 12 ∧ (∀ k, k < t.1 8 → t.2 7 k = nI (sz k) ∧ sz k ≤ 8) ∧ ∀ r, r < t.1 5 → t.2 3 r = nI (len r) ∧ len r ≤ 10 ∧ gp (sgr t r) (len r)
/-- nothing changed but the reference's scratch -/
def sm1 (t t' : jS) : Prop := (∀ k, k ≠ 11 → t'.1 k = t.1 k) ∧ ∀ k, k < 9 → t'.2 k = t.2 k
theorem sm1_rf (t : jS) : sm1 t t := ⟨fun _ _ => rfl, fun _ _ => rfl⟩
theorem sm1_tr {a b c : jS} (h : sm1 a b) (g : sm1 b c) : sm1 a c := ⟨fun k hk => by rw [g.1 k hk, h.1 k hk], fun k hk => by rw [g.2 k hk, h.2 k hk]⟩
theorem sm1_sg {t t' : jS} (h : sm1 t t') (r : Nat) : sgr t' r = sgr t r := by
  funext i
  show t'.2 2 _ = t.2 2 _
  rw [h.2 2 (by decide)]
theorem sm1_lt {t t' : jS} (h : sm1 t t') : ltr t' = ltr t := by
  funext q i
  show t'.2 6 _ = t.2 6 _
  rw [h.2 6 (by decide)]
theorem WF1_sm {t t' : jS} {len sz : Nat → Nat} (h : WF1 t len sz) (s : sm1 t t') : WF1 t' len sz := by
  unfold WF1
  rw [s.1 8 (by decide), s.1 5 (by decide), s.2 7 (by decide), s.2 3 (by decide)]
  refine ⟨h.1, h.2.1, h.2.2.1, h.2.2.2.1, fun r hr => ?_⟩
  rw [sm1_sg s]
  exact h.2.2.2.2 r hr
/-- what cut(r) leaves -/
def CUT (t' : jS) (r : Nat) (sg : Nat → Int32) (len np : Nat) : Prop := t'.1 11 = np ∧ 1 ≤ np ∧ np ≤ 5 ∧ (∀ p, p < np → t'.2 9 p = nI (r * 10 + pst sg len p) ∧ t'.2 10 p = nI (r * 10 + (pst sg len p + pl sg len (pst sg len p))) ∧ pst sg len p < len) ∧ pst sg len np = len + 1
/-- the reference's answer for a rule and the first n names -/
def mrV (t : jS) (len sz : Nat → Nat) (fo : Bool) (r n : Nat) : Bool := if ¬ t.2 4 r &&& 4 = 0 ∧ fo = false then false else if pl (sgr t r) (len r) 0 = len r ∧ t.2 4 r &&& 2 = 0 then decide (sgr t r 0 = 10) || ftn (sgr t r) (len r) (ltr t) sz 0 (n - 1) else lf (sgr t r) (len r) n (ftn (sgr t r) (len r) (ltr t) sz) 0 0
theorem mrV_sm {t t' : jS} (s : sm1 t t') (len sz : Nat → Nat) (fo : Bool) (r n : Nat) : mrV t' len sz fo r n = mrV t len sz fo r n := by
  unfold mrV
  rw [sm1_sg s, sm1_lt s, s.2 4 (by decide)]
theorem pst_2 {sg : Nat → Int32} {len : Nat} (g : gp sg len) : ∀ p, pst sg len p < len → ps sg (pst sg len p) → pst sg len p + 2 ≤ pst sg len (p + 1) := by
  intro p h hp
  rw [pst, pl_s h (ps_n9 g h hp)]
  omega
end
section
set_option maxRecDepth 100000
theorem jb_vn (b : Bool) : vp_nar .boolean (jb b) = jb b := by cases b <;> decide
set_option maxHeartbeats 4000000 in
theorem c0_i {X : jC} {Z : jZ} {cc : ByteArray} {n : Nat} {u : jS} {pc : Nat} {L : List (Option Value)} {rest stk : List Value} {y : MethodName} {b : ByteArray} {mL : Nat} {ty : Option FieldType} {rm R : Room} {As : List Value} {post : Int32 → jS → Prop} {idx nA : Nat} (hM : ∀ (l : Launch) (D : va_G), jKi l D Z.2.2.1 Z.2.2.2 y b mL ty rm Z.1 As (w0 Z) u post) (hR : jR X = R) (hV : GoodIn lw_all (wsV RX0 idx RX0 y (ws_ y b mL ty))) (hrc : rm.cells = 0) (hrs : rm.slots = 0) (hd : y.cls = RX0 ∧ y.cls ≠ "java/lang/invoke/MethodHandle" ∧ y.cls ≠ "java/lang/invoke/VarHandle" ∧ (parseMethodDescriptor y.desc).map (fun d => d.parameters.length) = some nA) (hroom : rm.frames + 1 ≤ R.frames ∧ 8 + (mL + 11) + rm.locals ≤ R.locals) (hnA : As.length = nA) (hstk : stk = As.reverse ++ .ref Z.1 :: rest) (hsum : (rest.map fun v => v.category).sum ≤ 8) (d : decode cc pc = .ok (.invokevirtual idx, 3)) (k : ∀ (r : Int32) (u' : jS), post r u' → j0 X Z cc n u' (pc + 3) L (.int r :: rest)) : j0 X Z cc n u pc L stk :=
  jcall_i (wr := []) (ci := 0) (q := (RX0, TX0, 18)) (wf := w0 Z) (u0 := u) hM hR [0, 1, 2, 3, 4, 5, 6, 7, 8, 9, 10, 11, 12, 13, 14, 15] [] rfl (by decide) rfl rfl (fun _ h => absurd h List.not_mem_nil) rfl rfl hV hrc hrs hd hroom ⟨Nat.zero_le _, Nat.zero_le _⟩ hnA hstk hsum d k
set_option maxHeartbeats 4000000 in
theorem c0_v {X : jC} {Z : jZ} {cc : ByteArray} {n : Nat} {u : jS} {pc : Nat} {L : List (Option Value)} {rest stk : List Value} {y : MethodName} {b : ByteArray} {mL : Nat} {rm R : Room} {As : List Value} {post : jS → Prop} {idx nA : Nat} (hM : ∀ (l : Launch) (D : va_G), jKv l D Z.2.2.1 Z.2.2.2 y b mL rm Z.1 As (w0 Z) u post) (hR : jR X = R) (hV : GoodIn lw_all (wsV RX0 idx RX0 y (ws_ y b mL none))) (hrc : rm.cells = 0) (hrs : rm.slots = 0) (hd : y.cls = RX0 ∧ y.cls ≠ "java/lang/invoke/MethodHandle" ∧ y.cls ≠ "java/lang/invoke/VarHandle" ∧ (parseMethodDescriptor y.desc).map (fun d => d.parameters.length) = some nA) (hroom : rm.frames + 1 ≤ R.frames ∧ 8 + (mL + 11) + rm.locals ≤ R.locals) (hnA : As.length = nA) (hstk : stk = As.reverse ++ .ref Z.1 :: rest) (hsum : (rest.map fun v => v.category).sum ≤ 8) (d : decode cc pc = .ok (.invokevirtual idx, 3)) (k : ∀ (u' : jS), post u' → j0 X Z cc n u' (pc + 3) L rest) : j0 X Z cc n u pc L stk :=
  jcall_v (wr := []) (ci := 0) (q := (RX0, TX0, 18)) (wf := w0 Z) (u0 := u) hM hR [0, 1, 2, 3, 4, 5, 6, 7, 8, 9, 10, 11, 12, 13, 14, 15] [] rfl (by decide) rfl rfl (fun _ h => absurd h List.not_mem_nil) rfl rfl hV hrc hrs hd hroom ⟨Nat.zero_le _, Nat.zero_le _⟩ hnA hstk hsum d k
set_option maxHeartbeats 4000000 in
theorem c1_i {X : jC} {Z : jZ} {cc : ByteArray} {n : Nat} {u : jS} {pc : Nat} {L : List (Option Value)} {rest stk : List Value} {y : MethodName} {b : ByteArray} {mL : Nat} {ty : Option FieldType} {rm R : Room} {As : List Value} {post : Int32 → jS → Prop} {idx nA : Nat} (hM : ∀ (l : Launch) (D : va_G), jKi l D Z.2.2.1 Z.2.2.2 y b mL ty rm Z.1 As (w1 Z) u post) (hR : jR X = R) (hV : GoodIn lw_all (wsV RX1 idx RX1 y (ws_ y b mL ty))) (hrc : rm.cells = 0) (hrs : rm.slots = 0) (hd : y.cls = RX1 ∧ y.cls ≠ "java/lang/invoke/MethodHandle" ∧ y.cls ≠ "java/lang/invoke/VarHandle" ∧ (parseMethodDescriptor y.desc).map (fun d => d.parameters.length) = some nA) (hroom : rm.frames + 1 ≤ R.frames ∧ 8 + (mL + 11) + rm.locals ≤ R.locals) (hnA : As.length = nA) (hstk : stk = As.reverse ++ .ref Z.1 :: rest) (hsum : (rest.map fun v => v.category).sum ≤ 8) (d : decode cc pc = .ok (.invokevirtual idx, 3)) (k : ∀ (r : Int32) (u' : jS), post r u' → j1 X Z cc n u' (pc + 3) L (.int r :: rest)) : j1 X Z cc n u pc L stk :=
  jcall_i (wr := []) (ci := 1) (q := (RX1, TX1, 14)) (wf := w1 Z) (u0 := u) hM hR [0, 1, 2, 3, 4, 5, 6, 7, 8, 9, 10] [] rfl (by decide) rfl rfl (fun _ h => absurd h List.not_mem_nil) rfl rfl hV hrc hrs hd hroom ⟨Nat.zero_le _, Nat.zero_le _⟩ hnA hstk hsum d k
set_option maxHeartbeats 4000000 in
theorem c1_v {X : jC} {Z : jZ} {cc : ByteArray} {n : Nat} {u : jS} {pc : Nat} {L : List (Option Value)} {rest stk : List Value} {y : MethodName} {b : ByteArray} {mL : Nat} {rm R : Room} {As : List Value} {post : jS → Prop} {idx nA : Nat} (hM : ∀ (l : Launch) (D : va_G), jKv l D Z.2.2.1 Z.2.2.2 y b mL rm Z.1 As (w1 Z) u post) (hR : jR X = R) (hV : GoodIn lw_all (wsV RX1 idx RX1 y (ws_ y b mL none))) (hrc : rm.cells = 0) (hrs : rm.slots = 0) (hd : y.cls = RX1 ∧ y.cls ≠ "java/lang/invoke/MethodHandle" ∧ y.cls ≠ "java/lang/invoke/VarHandle" ∧ (parseMethodDescriptor y.desc).map (fun d => d.parameters.length) = some nA) (hroom : rm.frames + 1 ≤ R.frames ∧ 8 + (mL + 11) + rm.locals ≤ R.locals) (hnA : As.length = nA) (hstk : stk = As.reverse ++ .ref Z.1 :: rest) (hsum : (rest.map fun v => v.category).sum ≤ 8) (d : decode cc pc = .ok (.invokevirtual idx, 3)) (k : ∀ (u' : jS), post u' → j1 X Z cc n u' (pc + 3) L rest) : j1 X Z cc n u pc L stk :=
  jcall_v (wr := []) (ci := 1) (q := (RX1, TX1, 14)) (wf := w1 Z) (u0 := u) hM hR [0, 1, 2, 3, 4, 5, 6, 7, 8, 9, 10] [] rfl (by decide) rfl rfl (fun _ h => absurd h List.not_mem_nil) rfl rfl hV hrc hrs hd hroom ⟨Nat.zero_le _, Nat.zero_le _⟩ hnA hstk hsum d k
theorem hd_X0_clearPath : yX0_clearPath.cls = RX0 ∧ yX0_clearPath.cls ≠ "java/lang/invoke/MethodHandle" ∧ yX0_clearPath.cls ≠ "java/lang/invoke/VarHandle" ∧ (parseMethodDescriptor yX0_clearPath.desc).map (fun d => d.parameters.length) = some 0 := by decide +kernel
theorem hd_X0_cutAt : yX0_cutAt.cls = RX0 ∧ yX0_cutAt.cls ≠ "java/lang/invoke/MethodHandle" ∧ yX0_cutAt.cls ≠ "java/lang/invoke/VarHandle" ∧ (parseMethodDescriptor yX0_cutAt.desc).map (fun d => d.parameters.length) = some 1 := by decide +kernel
theorem hd_X0_dropRule : yX0_dropRule.cls = RX0 ∧ yX0_dropRule.cls ≠ "java/lang/invoke/MethodHandle" ∧ yX0_dropRule.cls ≠ "java/lang/invoke/VarHandle" ∧ (parseMethodDescriptor yX0_dropRule.desc).map (fun d => d.parameters.length) = some 0 := by decide +kernel
theorem hd_X0_firstIgnored : yX0_firstIgnored.cls = RX0 ∧ yX0_firstIgnored.cls ≠ "java/lang/invoke/MethodHandle" ∧ yX0_firstIgnored.cls ≠ "java/lang/invoke/VarHandle" ∧ (parseMethodDescriptor yX0_firstIgnored.desc).map (fun d => d.parameters.length) = some 0 := by decide +kernel
theorem hd_X0_goodPattern : yX0_goodPattern.cls = RX0 ∧ yX0_goodPattern.cls ≠ "java/lang/invoke/MethodHandle" ∧ yX0_goodPattern.cls ≠ "java/lang/invoke/VarHandle" ∧ (parseMethodDescriptor yX0_goodPattern.desc).map (fun d => d.parameters.length) = some 0 := by decide +kernel
theorem hd_X0_ignored : yX0_ignored.cls = RX0 ∧ yX0_ignored.cls ≠ "java/lang/invoke/MethodHandle" ∧ yX0_ignored.cls ≠ "java/lang/invoke/VarHandle" ∧ (parseMethodDescriptor yX0_ignored.desc).map (fun d => d.parameters.length) = some 1 := by decide +kernel
theorem hd_X0_lastMatch : yX0_lastMatch.cls = RX0 ∧ yX0_lastMatch.cls ≠ "java/lang/invoke/MethodHandle" ∧ yX0_lastMatch.cls ≠ "java/lang/invoke/VarHandle" ∧ (parseMethodDescriptor yX0_lastMatch.desc).map (fun d => d.parameters.length) = some 1 := by decide +kernel
theorem hd_X0_makeEnds : yX0_makeEnds.cls = RX0 ∧ yX0_makeEnds.cls ≠ "java/lang/invoke/MethodHandle" ∧ yX0_makeEnds.cls ≠ "java/lang/invoke/VarHandle" ∧ (parseMethodDescriptor yX0_makeEnds.desc).map (fun d => d.parameters.length) = some 2 := by decide +kernel
theorem hd_X0_makeSets : yX0_makeSets.cls = RX0 ∧ yX0_makeSets.cls ≠ "java/lang/invoke/MethodHandle" ∧ yX0_makeSets.cls ≠ "java/lang/invoke/VarHandle" ∧ (parseMethodDescriptor yX0_makeSets.desc).map (fun d => d.parameters.length) = some 2 := by decide +kernel
theorem hd_X0_matches : yX0_matches.cls = RX0 ∧ yX0_matches.cls ≠ "java/lang/invoke/MethodHandle" ∧ yX0_matches.cls ≠ "java/lang/invoke/VarHandle" ∧ (parseMethodDescriptor yX0_matches.desc).map (fun d => d.parameters.length) = some 1 := by decide +kernel
theorem hd_X0_onBorder : yX0_onBorder.cls = RX0 ∧ yX0_onBorder.cls ≠ "java/lang/invoke/MethodHandle" ∧ yX0_onBorder.cls ≠ "java/lang/invoke/VarHandle" ∧ (parseMethodDescriptor yX0_onBorder.desc).map (fun d => d.parameters.length) = some 2 := by decide +kernel
theorem hd_X0_onLetter : yX0_onLetter.cls = RX0 ∧ yX0_onLetter.cls ≠ "java/lang/invoke/MethodHandle" ∧ yX0_onLetter.cls ≠ "java/lang/invoke/VarHandle" ∧ (parseMethodDescriptor yX0_onLetter.desc).map (fun d => d.parameters.length) = some 3 := by decide +kernel
theorem hd_X0_partBorder : yX0_partBorder.cls = RX0 ∧ yX0_partBorder.cls ≠ "java/lang/invoke/MethodHandle" ∧ yX0_partBorder.cls ≠ "java/lang/invoke/VarHandle" ∧ (parseMethodDescriptor yX0_partBorder.desc).map (fun d => d.parameters.length) = some 1 := by decide +kernel
theorem hd_X0_path : yX0_path.cls = RX0 ∧ yX0_path.cls ≠ "java/lang/invoke/MethodHandle" ∧ yX0_path.cls ≠ "java/lang/invoke/VarHandle" ∧ (parseMethodDescriptor yX0_path.desc).map (fun d => d.parameters.length) = some 1 := by decide +kernel
theorem hd_X0_pattern : yX0_pattern.cls = RX0 ∧ yX0_pattern.cls ≠ "java/lang/invoke/MethodHandle" ∧ yX0_pattern.cls ≠ "java/lang/invoke/VarHandle" ∧ (parseMethodDescriptor yX0_pattern.desc).map (fun d => d.parameters.length) = some 1 := by decide +kernel
theorem hd_X0_rule : yX0_rule.cls = RX0 ∧ yX0_rule.cls ≠ "java/lang/invoke/MethodHandle" ∧ yX0_rule.cls ≠ "java/lang/invoke/VarHandle" ∧ (parseMethodDescriptor yX0_rule.desc).map (fun d => d.parameters.length) = some 1 := by decide +kernel
theorem hd_X0_rules : yX0_rules.cls = RX0 ∧ yX0_rules.cls ≠ "java/lang/invoke/MethodHandle" ∧ yX0_rules.cls ≠ "java/lang/invoke/VarHandle" ∧ (parseMethodDescriptor yX0_rules.desc).map (fun d => d.parameters.length) = some 0 := by decide +kernel
theorem hd_X0_spread : yX0_spread.cls = RX0 ∧ yX0_spread.cls ≠ "java/lang/invoke/MethodHandle" ∧ yX0_spread.cls ≠ "java/lang/invoke/VarHandle" ∧ (parseMethodDescriptor yX0_spread.desc).map (fun d => d.parameters.length) = some 3 := by decide +kernel
theorem hd_X0_walk : yX0_walk.cls = RX0 ∧ yX0_walk.cls ≠ "java/lang/invoke/MethodHandle" ∧ yX0_walk.cls ≠ "java/lang/invoke/VarHandle" ∧ (parseMethodDescriptor yX0_walk.desc).map (fun d => d.parameters.length) = some 1 := by decide +kernel
theorem hd_X0_walkName : yX0_walkName.cls = RX0 ∧ yX0_walkName.cls ≠ "java/lang/invoke/MethodHandle" ∧ yX0_walkName.cls ≠ "java/lang/invoke/VarHandle" ∧ (parseMethodDescriptor yX0_walkName.desc).map (fun d => d.parameters.length) = some 1 := by decide +kernel
theorem hd_X1_allFit : yX1_allFit.cls = RX1 ∧ yX1_allFit.cls ≠ "java/lang/invoke/MethodHandle" ∧ yX1_allFit.cls ≠ "java/lang/invoke/VarHandle" ∧ (parseMethodDescriptor yX1_allFit.desc).map (fun d => d.parameters.length) = some 1 := by decide +kernel
theorem hd_X1_clearPath : yX1_clearPath.cls = RX1 ∧ yX1_clearPath.cls ≠ "java/lang/invoke/MethodHandle" ∧ yX1_clearPath.cls ≠ "java/lang/invoke/VarHandle" ∧ (parseMethodDescriptor yX1_clearPath.desc).map (fun d => d.parameters.length) = some 0 := by decide +kernel
theorem hd_X1_cut : yX1_cut.cls = RX1 ∧ yX1_cut.cls ≠ "java/lang/invoke/MethodHandle" ∧ yX1_cut.cls ≠ "java/lang/invoke/VarHandle" ∧ (parseMethodDescriptor yX1_cut.desc).map (fun d => d.parameters.length) = some 1 := by decide +kernel
theorem hd_X1_cutAt : yX1_cutAt.cls = RX1 ∧ yX1_cutAt.cls ≠ "java/lang/invoke/MethodHandle" ∧ yX1_cutAt.cls ≠ "java/lang/invoke/VarHandle" ∧ (parseMethodDescriptor yX1_cutAt.desc).map (fun d => d.parameters.length) = some 1 := by decide +kernel
theorem hd_X1_dropRule : yX1_dropRule.cls = RX1 ∧ yX1_dropRule.cls ≠ "java/lang/invoke/MethodHandle" ∧ yX1_dropRule.cls ≠ "java/lang/invoke/VarHandle" ∧ (parseMethodDescriptor yX1_dropRule.desc).map (fun d => d.parameters.length) = some 0 := by decide +kernel
theorem hd_X1_good : yX1_good.cls = RX1 ∧ yX1_good.cls ≠ "java/lang/invoke/MethodHandle" ∧ yX1_good.cls ≠ "java/lang/invoke/VarHandle" ∧ (parseMethodDescriptor yX1_good.desc).map (fun d => d.parameters.length) = some 0 := by decide +kernel
theorem hd_X1_ignored : yX1_ignored.cls = RX1 ∧ yX1_ignored.cls ≠ "java/lang/invoke/MethodHandle" ∧ yX1_ignored.cls ≠ "java/lang/invoke/VarHandle" ∧ (parseMethodDescriptor yX1_ignored.desc).map (fun d => d.parameters.length) = some 1 := by decide +kernel
theorem hd_X1_isPath : yX1_isPath.cls = RX1 ∧ yX1_isPath.cls ≠ "java/lang/invoke/MethodHandle" ∧ yX1_isPath.cls ≠ "java/lang/invoke/VarHandle" ∧ (parseMethodDescriptor yX1_isPath.desc).map (fun d => d.parameters.length) = some 0 := by decide +kernel
theorem hd_X1_lastFor : yX1_lastFor.cls = RX1 ∧ yX1_lastFor.cls ≠ "java/lang/invoke/MethodHandle" ∧ yX1_lastFor.cls ≠ "java/lang/invoke/VarHandle" ∧ (parseMethodDescriptor yX1_lastFor.desc).map (fun d => d.parameters.length) = some 2 := by decide +kernel
theorem hd_X1_lastMatch : yX1_lastMatch.cls = RX1 ∧ yX1_lastMatch.cls ≠ "java/lang/invoke/MethodHandle" ∧ yX1_lastMatch.cls ≠ "java/lang/invoke/VarHandle" ∧ (parseMethodDescriptor yX1_lastMatch.desc).map (fun d => d.parameters.length) = some 1 := by decide +kernel
theorem hd_X1_matches : yX1_matches.cls = RX1 ∧ yX1_matches.cls ≠ "java/lang/invoke/MethodHandle" ∧ yX1_matches.cls ≠ "java/lang/invoke/VarHandle" ∧ (parseMethodDescriptor yX1_matches.desc).map (fun d => d.parameters.length) = some 1 := by decide +kernel
theorem hd_X1_matchesRule : yX1_matchesRule.cls = RX1 ∧ yX1_matchesRule.cls ≠ "java/lang/invoke/MethodHandle" ∧ yX1_matchesRule.cls ≠ "java/lang/invoke/VarHandle" ∧ (parseMethodDescriptor yX1_matchesRule.desc).map (fun d => d.parameters.length) = some 3 := by decide +kernel
theorem hd_X1_partFits : yX1_partFits.cls = RX1 ∧ yX1_partFits.cls ≠ "java/lang/invoke/MethodHandle" ∧ yX1_partFits.cls ≠ "java/lang/invoke/VarHandle" ∧ (parseMethodDescriptor yX1_partFits.desc).map (fun d => d.parameters.length) = some 2 := by decide +kernel
theorem hd_X1_path : yX1_path.cls = RX1 ∧ yX1_path.cls ≠ "java/lang/invoke/MethodHandle" ∧ yX1_path.cls ≠ "java/lang/invoke/VarHandle" ∧ (parseMethodDescriptor yX1_path.desc).map (fun d => d.parameters.length) = some 1 := by decide +kernel
theorem hd_X1_pattern : yX1_pattern.cls = RX1 ∧ yX1_pattern.cls ≠ "java/lang/invoke/MethodHandle" ∧ yX1_pattern.cls ≠ "java/lang/invoke/VarHandle" ∧ (parseMethodDescriptor yX1_pattern.desc).map (fun d => d.parameters.length) = some 1 := by decide +kernel
theorem hd_X1_rule : yX1_rule.cls = RX1 ∧ yX1_rule.cls ≠ "java/lang/invoke/MethodHandle" ∧ yX1_rule.cls ≠ "java/lang/invoke/VarHandle" ∧ (parseMethodDescriptor yX1_rule.desc).map (fun d => d.parameters.length) = some 1 := by decide +kernel
theorem hd_X1_rules : yX1_rules.cls = RX1 ∧ yX1_rules.cls ≠ "java/lang/invoke/MethodHandle" ∧ yX1_rules.cls ≠ "java/lang/invoke/VarHandle" ∧ (parseMethodDescriptor yX1_rules.desc).map (fun d => d.parameters.length) = some 0 := by decide +kernel
end
section
set_option maxRecDepth 100000
/-! IgnoreRules: spread, onLetter, onBorder, partBorder -/
set_option maxHeartbeats 4000000 in
/-- spread: ten rounds of the closure -/
theorem k_spread (Z : jZ) (u : jS) (r : Nat) (hr : r < 12) (s0 : Int32) (nb : Bool) : ∀ (l : Launch) (D : va_G), jKi l D Z.2.2.1 Z.2.2.2 yX0_spread cX0_spread 6 (some .int) { frames := 0, cells := 0, slots := 0, locals := 0 } Z.1 [.int (nI r), .int s0, .int (jb nb)] (w0 Z) u (fun v u' => u = u' ∧ v = spr nb (u.2 7 r) (u.2 9 r) 10 s0) := by
  intro l D
  refine jKi_start RX0 2 (by decide) rfl (Nat.le_of_ble_eq_true rfl) (by simp [Value.category]) ?_
  intro X hR ret
  show j0 X Z cX0_spread 6 u 0 [some (.ref Z.1), some (.int (nI r)), some (.int s0), some (.int (jb nb)), none, none] []
  refine j_ild2 dX0_spread_0 ?_
  refine j_ist4 (by decide) dX0_spread_1 ?_
  refine j_iconst (nI 0) dX0_spread_3 (by decide) ?_
  refine j_ist5 (by decide) dX0_spread_4 ?_
  have loop : ∀ (d t : Nat), t + d = 10 → j0 X Z cX0_spread 6 u 6 [some (.ref Z.1), some (.int (nI r)), some (.int s0), some (.int (jb nb)), some (.int (spr nb (u.2 7 r) (u.2 9 r) t s0)), some (.int (nI t))] [] := by
    intro d
    induction d with
    | zero =>
      intro t ht
      refine j_ild5 dX0_spread_6 ?_
      refine j_bipush (nI 10) dX0_spread_8 (by decide) ?_
      refine j_icgeN 55 dX0_spread_10 (by decide) (by omega) (by omega) (fun c1 => ?_) (fun c1 => ?_)
      · refine j_ild4 dX0_spread_55 ?_
        exact ret _ _ _ _ dX0_spread_57 rfl ⟨rfl, by rw [show t = 10 by omega]⟩
      · omega
    | succ d ih =>
      intro t ht
      refine j_ild5 dX0_spread_6 ?_
      refine j_bipush (nI 10) dX0_spread_8 (by decide) ?_
      refine j_icgeN 55 dX0_spread_10 (by decide) (by omega) (by omega) (fun c1 => ?_) (fun c1 => ?_)
      · omega
      · refine j_ild4 dX0_spread_13 ?_
        refine j_ild4 dX0_spread_15 ?_
        refine j_ald0 dX0_spread_17 ?_
        refine g0_7 dX0_spread_18 ?_
        refine j_ild1 dX0_spread_21 ?_
        refine l0_7 dX0_spread_22 (by omega) ?_
        refine j_iand dX0_spread_23 ?_
        refine j_iconst (nI 1) dX0_spread_24 (by decide) ?_
        refine j_ishl dX0_spread_25 ?_
        refine j_ior dX0_spread_26 ?_
        refine j_ist4 (by decide) dX0_spread_27 ?_
        refine j_ild3 dX0_spread_29 ?_
        refine j_ifeqB 49 dX0_spread_30 (by decide) (fun c2 => ?_) (fun c2 => ?_)
        · refine j_inc5N (by decide) dX0_spread_49 ?_
          refine j_goto 6 dX0_spread_52 (by decide) ?_
          have := ih (t + 1) (by omega)
          rw [spr, sp1, if_neg (by rw [c2]; decide)] at this
          exact this
        · refine j_ild4 dX0_spread_33 ?_
          refine j_ild4 dX0_spread_35 ?_
          refine j_ald0 dX0_spread_37 ?_
          refine g0_9 dX0_spread_38 ?_
          refine j_ild1 dX0_spread_41 ?_
          refine l0_9 dX0_spread_42 (by omega) ?_
          refine j_iand dX0_spread_43 ?_
          refine j_iconst (nI 2) dX0_spread_44 (by decide) ?_
          refine j_ishl dX0_spread_45 ?_
          refine j_ior dX0_spread_46 ?_
          refine j_ist4 (by decide) dX0_spread_47 ?_
          refine j_inc5N (by decide) dX0_spread_49 ?_
          refine j_goto 6 dX0_spread_52 (by decide) ?_
          have := ih (t + 1) (by omega)
          rw [spr, sp1, if_pos c2] at this
          exact this
  exact loop 10 0 rfl
set_option maxHeartbeats 4000000 in
/-- onLetter -/
theorem k_onLetter (Z : jZ) (u : jS) (r : Nat) (hr : r < 12) (s0 : Int32) (a : Nat) (ha : a < 7) : ∀ (l : Launch) (D : va_G), jKi l D Z.2.2.1 Z.2.2.2 yX0_onLetter cX0_onLetter 6 (some .int) { frames := 1, cells := 0, slots := 0, locals := 25 } Z.1 [.int (nI r), .int s0, .int (nI a)] (w0 Z) u (fun v u' => u = u' ∧ v = onL (u.2 6 (r * 7)) (u.2 6 (r * 7 + a)) (u.2 7 r) (u.2 10 r) (u.2 9 r) s0) := by
  intro l D
  refine jKi_start RX0 2 (by decide) rfl (Nat.le_of_ble_eq_true rfl) (by simp [Value.category]) ?_
  intro X hR ret
  show j0 X Z cX0_onLetter 6 u 0 [some (.ref Z.1), some (.int (nI r)), some (.int s0), some (.int (nI a)), none, none] []
  refine j_ald0 dX0_onLetter_0 ?_
  refine g0_6 dX0_onLetter_1 ?_
  refine j_ild1 dX0_onLetter_4 ?_
  refine j_bipush (nI 7) dX0_onLetter_5 (by decide) ?_
  first | refine j_imulN dX0_onLetter_7 ?_ | refine j_imul dX0_onLetter_7 ?_
  refine l0_6 dX0_onLetter_8 (by omega) ?_
  refine j_ald0 dX0_onLetter_9 ?_
  refine g0_6 dX0_onLetter_10 ?_
  refine j_ild1 dX0_onLetter_13 ?_
  refine j_bipush (nI 7) dX0_onLetter_14 (by decide) ?_
  first | refine j_imulN dX0_onLetter_16 ?_ | refine j_imul dX0_onLetter_16 ?_
  refine j_ild3 dX0_onLetter_17 ?_
  first | refine j_iaddN dX0_onLetter_18 ?_ | refine j_iadd dX0_onLetter_18 ?_
  refine l0_6 dX0_onLetter_19 (by omega) ?_
  refine j_ior dX0_onLetter_20 ?_
  refine j_ist4 (by decide) dX0_onLetter_21 ?_
  refine j_ild2 dX0_onLetter_23 ?_
  refine j_ild4 dX0_onLetter_24 ?_
  refine j_iand dX0_onLetter_26 ?_
  refine j_iconst (nI 1) dX0_onLetter_27 (by decide) ?_
  refine j_ishl dX0_onLetter_28 ?_
  refine j_ild2 dX0_onLetter_29 ?_
  refine j_ald0 dX0_onLetter_30 ?_
  refine g0_7 dX0_onLetter_31 ?_
  refine j_ild1 dX0_onLetter_34 ?_
  refine l0_7 dX0_onLetter_35 (by omega) ?_
  refine j_ald0 dX0_onLetter_36 ?_
  refine g0_10 dX0_onLetter_37 ?_
  refine j_ild1 dX0_onLetter_40 ?_
  refine l0_10 dX0_onLetter_41 (by omega) ?_
  refine j_ior dX0_onLetter_42 ?_
  refine j_iand dX0_onLetter_43 ?_
  refine j_ior dX0_onLetter_44 ?_
  refine j_ist5 (by decide) dX0_onLetter_45 ?_
  refine j_ald0 dX0_onLetter_47 ?_
  refine j_ild1 dX0_onLetter_48 ?_
  refine j_ild5 dX0_onLetter_49 ?_
  refine j_iconst (nI 0) dX0_onLetter_51 (by decide) ?_
  refine j_top (jb false) jb_f.symm ?_
  refine c0_i (k_spread Z u r hr _ false) hR (lw_V q133 q135 qs6 q18 q136) rfl rfl hd_X0_spread ⟨by decide, by decide⟩ rfl rfl (Nat.le_of_ble_eq_true rfl) dX0_onLetter_52 (fun v u' hp => ?_)
  obtain ⟨rfl, rfl⟩ := hp
  exact ret _ _ _ _ dX0_onLetter_55 rfl ⟨rfl, rfl⟩
set_option maxHeartbeats 4000000 in
/-- onBorder -/
theorem k_onBorder (Z : jZ) (u : jS) (r : Nat) (hr : r < 12) (s0 : Int32) (ln : Bool) (hln : u.2 5 r = jb ln) : ∀ (l : Launch) (D : va_G), jKi l D Z.2.2.1 Z.2.2.2 yX0_onBorder cX0_onBorder 4 (some .int) { frames := 1, cells := 0, slots := 0, locals := 25 } Z.1 [.int (nI r), .int s0] (w0 Z) u (fun v u' => u = u' ∧ v = onB ln (u.2 7 r) (u.2 8 r) (u.2 10 r) (u.2 9 r) s0) := by
  intro l D
  refine jKi_start RX0 1 (by decide) rfl (Nat.le_of_ble_eq_true rfl) (by simp [Value.category]) ?_
  intro X hR ret
  show j0 X Z cX0_onBorder 4 u 0 [some (.ref Z.1), some (.int (nI r)), some (.int s0), none] []
  have fin : ∀ s1 : Int32, s1 = (if ln = true then nI 1 else ((s0 &&& u.2 8 r) <<< (nI 1 &&& 31)) ||| (s0 &&& u.2 10 r)) → j0 X Z cX0_onBorder 4 u 32 [some (.ref Z.1), some (.int (nI r)), some (.int s0), none] [.int s1] := by
    intro s1 hs1
    refine j_ist3 (by decide) dX0_onBorder_32 ?_
    refine j_ald0 dX0_onBorder_33 ?_
    refine j_ild1 dX0_onBorder_34 ?_
    refine j_ild3 dX0_onBorder_35 ?_
    refine j_iconst (nI 1) dX0_onBorder_36 (by decide) ?_
    refine j_top (jb true) jb_t.symm ?_
    refine c0_i (k_spread Z u r hr _ true) hR (lw_V q133 q135 qs6 q18 q136) rfl rfl hd_X0_spread ⟨by decide, by decide⟩ rfl rfl (Nat.le_of_ble_eq_true rfl) dX0_onBorder_37 (fun v u' hp => ?_)
    obtain ⟨rfl, rfl⟩ := hp
    exact ret _ _ _ _ dX0_onBorder_40 rfl ⟨rfl, by rw [onB, hs1]⟩
  refine j_ald0 dX0_onBorder_0 ?_
  refine g0_5 dX0_onBorder_1 ?_
  refine j_ild1 dX0_onBorder_4 ?_
  refine l0_5 dX0_onBorder_5 (by omega) ?_
  refine j_top (jb ln) hln ?_
  refine j_ifeqB 13 dX0_onBorder_6 (by decide) (fun c1 => ?_) (fun c1 => ?_)
  · refine j_ild2 dX0_onBorder_13 ?_
    refine j_ald0 dX0_onBorder_14 ?_
    refine g0_8 dX0_onBorder_15 ?_
    refine j_ild1 dX0_onBorder_18 ?_
    refine l0_8 dX0_onBorder_19 (by omega) ?_
    refine j_iand dX0_onBorder_20 ?_
    refine j_iconst (nI 1) dX0_onBorder_21 (by decide) ?_
    refine j_ishl dX0_onBorder_22 ?_
    refine j_ild2 dX0_onBorder_23 ?_
    refine j_ald0 dX0_onBorder_24 ?_
    refine g0_10 dX0_onBorder_25 ?_
    refine j_ild1 dX0_onBorder_28 ?_
    refine l0_10 dX0_onBorder_29 (by omega) ?_
    refine j_iand dX0_onBorder_30 ?_
    refine j_ior dX0_onBorder_31 ?_
    exact fin _ (by rw [if_neg (by rw [c1]; decide)])
  · refine j_iconst (nI 1) dX0_onBorder_9 (by decide) ?_
    refine j_goto 32 dX0_onBorder_10 (by decide) ?_
    exact fin _ (by rw [if_pos c1])
set_option maxHeartbeats 4000000 in
/-- partBorder -/
theorem k_partBorder (Z : jZ) (u : jS) (hn : u.1 0 ≤ 10) (x : Int32) (b : Bool) (hx : (x = -1 ∧ b = true) ∨ ∃ j, j < 2 ^ 31 ∧ x = nI j ∧ b = decide (u.1 0 ≤ j ∨ u.2 1 j = 9)) : ∀ (l : Launch) (D : va_G), jKi l D Z.2.2.1 Z.2.2.2 yX0_partBorder cX0_partBorder 2 (some .boolean) { frames := 0, cells := 0, slots := 0, locals := 0 } Z.1 [.int x] (w0 Z) u (fun v u' => u = u' ∧ v = jb b) := by
  intro l D
  refine jKi_start RX0 0 (by decide) rfl (Nat.le_of_ble_eq_true rfl) (by simp [Value.category]) ?_
  intro X hR ret
  show j0 X Z cX0_partBorder 2 u 0 [some (.ref Z.1), some (.int x)] []
  have fin1 : b = true → j0 X Z cX0_partBorder 2 u 23 [some (.ref Z.1), some (.int x)] [] := by
    intro hb
    refine j_iconst (nI 1) dX0_partBorder_23 (by decide) ?_
    refine j_goto 28 dX0_partBorder_24 (by decide) ?_
    exact ret _ _ _ _ dX0_partBorder_28 (by decide) ⟨rfl, by rw [hb]; decide⟩
  refine j_ild1 dX0_partBorder_0 ?_
  rcases hx with ⟨rfl, hb⟩ | ⟨j, hj, rfl, hb⟩
  · refine j_ifltM 23 dX0_partBorder_1 (by decide) ?_
    exact fin1 hb
  · refine j_ifltN 23 dX0_partBorder_1 hj (by decide) ?_
    refine j_ild1 dX0_partBorder_4 ?_
    refine j_ald0 dX0_partBorder_5 ?_
    refine g0_0 dX0_partBorder_6 ?_
    refine j_icgeN 23 dX0_partBorder_9 (by decide) (by omega) (by omega) (fun c1 => ?_) (fun c1 => ?_)
    · exact fin1 (by rw [hb]; simp [c1])
    · refine j_ald0 dX0_partBorder_12 ?_
      refine g0_1 dX0_partBorder_13 ?_
      refine j_ild1 dX0_partBorder_16 ?_
      refine l0_1 dX0_partBorder_17 (by omega) ?_
      refine j_bipush (nI 9) dX0_partBorder_18 (by decide) ?_
      refine j_icne 27 dX0_partBorder_20 (by decide) (fun c2 => ?_) (fun c2 => ?_)
      · refine j_iconst (nI 0) dX0_partBorder_27 (by decide) ?_
        refine ret _ _ _ _ dX0_partBorder_28 (by decide) ⟨rfl, ?_⟩
        rw [hb, decide_eq_false (fun q => by rcases q with q | q; omega; exact c2 q)]
        decide
      · exact fin1 (by rw [hb]; exact decide_eq_true (Or.inr c2))
end
section
set_option maxRecDepth 100000
/-! IgnoreRules: goodPattern, makeSets, makeEnds -/
set_option maxHeartbeats 4000000 in
theorem k_goodPattern (Z : jZ) (u : jS) (hn : u.1 0 ≤ 10) : ∀ (l : Launch) (D : va_G), jKi l D Z.2.2.1 Z.2.2.2 yX0_goodPattern cX0_goodPattern 4 (some .boolean) { frames := 1, cells := 0, slots := 0, locals := 21 } Z.1 [] (w0 Z) u (fun v u' => u = u' ∧ ∃ b : Bool, v = jb b ∧ (b = true ↔ gp (u.2 1) (u.1 0))) := by
  intro l D
  refine jKi_start RX0 3 (by decide) rfl (Nat.le_of_ble_eq_true rfl) (by simp [Value.category]) ?_
  intro X hR ret
  show j0 X Z cX0_goodPattern 4 u 0 [some (.ref Z.1), none, none, none] []
  refine j_ald0 dX0_goodPattern_0 ?_
  refine g0_0 dX0_goodPattern_1 ?_
  refine j_ifneN 9 dX0_goodPattern_4 (by decide) (by omega) (fun c0 => ?_) (fun c0 => ?_)
  · refine j_iconst (nI 0) dX0_goodPattern_9 (by decide) ?_
    refine j_ist1 (by decide) dX0_goodPattern_10 ?_
    have loop : ∀ (d i : Nat) (o2 o3 : Option Value), i + d = u.1 0 → (∀ j, j < i → (u.2 1 j = 9 → (0 < j ∧ ¬ u.2 1 (j - 1) = 9) ∧ (j + 1 < u.1 0 ∧ ¬ u.2 1 (j + 1) = 9)) ∧ (u.2 1 j = 10 → (j = 0 ∨ u.2 1 (j - 1) = 9) ∧ (j + 1 = u.1 0 ∨ u.2 1 (j + 1) = 9))) → j0 X Z cX0_goodPattern 4 u 11 [some (.ref Z.1), some (.int (nI i)), o2, o3] [] := by
      intro d
      induction d with
      | zero =>
        intro i o2 o3 hi hg
        refine j_ild1 dX0_goodPattern_11 ?_
        refine j_ald0 dX0_goodPattern_12 ?_
        refine g0_0 dX0_goodPattern_13 ?_
        refine j_icgeN 83 dX0_goodPattern_16 (by decide) (by omega) (by omega) (fun c1 => ?_) (fun c1 => ?_)
        · refine j_iconst (nI 1) dX0_goodPattern_83 (by decide) ?_
          exact ret _ _ _ _ dX0_goodPattern_84 (by decide) ⟨rfl, true, jb_t.symm, fun _ => ⟨c0, fun j hj => hg j (by omega)⟩, fun _ => rfl⟩
        · omega
      | succ d ih =>
        intro i o2 o3 hi hg
        refine j_ild1 dX0_goodPattern_11 ?_
        refine j_ald0 dX0_goodPattern_12 ?_
        refine g0_0 dX0_goodPattern_13 ?_
        refine j_icgeN 83 dX0_goodPattern_16 (by decide) (by omega) (by omega) (fun c1 => ?_) (fun c1 => ?_)
        · omega
        · refine j_ald0 dX0_goodPattern_19 ?_
          refine j_ild1 dX0_goodPattern_20 ?_
          refine j_iconst (nI 1) dX0_goodPattern_21 (by decide) ?_
          refine j_isub dX0_goodPattern_22 ?_
          refine c0_i (k_partBorder Z u hn (nI i - nI 1) (decide (i = 0 ∨ u.2 1 (i - 1) = 9)) (by rcases Nat.eq_zero_or_pos i with e | e; exact Or.inl ⟨by rw [e]; decide, by rw [e]; simp⟩; exact Or.inr ⟨i - 1, by omega, pk_sub e, decide_eq_decide.mpr ⟨fun q => by rcases q with q | q; omega; exact Or.inr q, fun q => by rcases q with q | q; omega; exact Or.inr q⟩⟩)) hR (lw_V q97 q99 qs1 q18 q100) rfl rfl hd_X0_partBorder ⟨by decide, by decide⟩ rfl rfl (Nat.le_of_ble_eq_true rfl) dX0_goodPattern_23 (fun v1 u1 hp1 => ?_)
          obtain ⟨rfl, rfl⟩ := hp1
          refine j_ist2 (by decide) dX0_goodPattern_26 ?_
          refine j_ald0 dX0_goodPattern_27 ?_
          refine j_ild1 dX0_goodPattern_28 ?_
          refine j_iconst (nI 1) dX0_goodPattern_29 (by decide) ?_
          first | refine j_iaddN dX0_goodPattern_30 ?_ | refine j_iadd dX0_goodPattern_30 ?_
          refine c0_i (k_partBorder Z u hn (nI (i + 1)) (decide (u.1 0 ≤ i + 1 ∨ u.2 1 (i + 1) = 9)) (Or.inr ⟨i + 1, by omega, rfl, rfl⟩)) hR (lw_V q97 q99 qs1 q18 q100) rfl rfl hd_X0_partBorder ⟨by decide, by decide⟩ rfl rfl (Nat.le_of_ble_eq_true rfl) dX0_goodPattern_31 (fun v2 u2 hp2 => ?_)
          obtain ⟨rfl, rfl⟩ := hp2
          have bad : ¬ ((u.2 1 i = 9 → (0 < i ∧ ¬ u.2 1 (i - 1) = 9) ∧ (i + 1 < u.1 0 ∧ ¬ u.2 1 (i + 1) = 9)) ∧ (u.2 1 i = 10 → (i = 0 ∨ u.2 1 (i - 1) = 9) ∧ (i + 1 = u.1 0 ∨ u.2 1 (i + 1) = 9))) → ∀ (pc : Nat) (L : List (Option Value)), decode cX0_goodPattern pc = .ok (.ireturn, 1) → j0 X Z cX0_goodPattern 4 u pc L [.int (nI 0)] := by
            intro hb pc L hd
            exact ret _ _ _ _ hd (by decide) ⟨rfl, false, jb_f.symm, (fun q => by cases q), fun q => absurd (q.2 i (by omega)) hb⟩
          have next : ∀ (x2 x3 : Option Value), (u.2 1 i = 9 → (0 < i ∧ ¬ u.2 1 (i - 1) = 9) ∧ (i + 1 < u.1 0 ∧ ¬ u.2 1 (i + 1) = 9)) → (u.2 1 i = 10 → (i = 0 ∨ u.2 1 (i - 1) = 9) ∧ (i + 1 = u.1 0 ∨ u.2 1 (i + 1) = 9)) → j0 X Z cX0_goodPattern 4 u 77 [some (.ref Z.1), some (.int (nI i)), x2, x3] [] := by
            intro x2 x3 h9 h10
            refine j_inc1N (by decide) dX0_goodPattern_77 ?_
            refine j_goto 11 dX0_goodPattern_80 (by decide) ?_
            refine ih (i + 1) _ _ (by omega) (fun j hj => ?_)
            by_cases e : j = i
            · rw [e]
              exact ⟨h9, h10⟩
            · exact hg j (by omega)
          have two : (u.2 1 i = 9 → (0 < i ∧ ¬ u.2 1 (i - 1) = 9) ∧ (i + 1 < u.1 0 ∧ ¬ u.2 1 (i + 1) = 9)) → j0 X Z cX0_goodPattern 4 u 56 [some (.ref Z.1), some (.int (nI i)), some (.int (jb (decide (i = 0 ∨ u.2 1 (i - 1) = 9)))), some (.int (jb (decide (u.1 0 ≤ i + 1 ∨ u.2 1 (i + 1) = 9))))] [] := by
            intro h9
            refine j_ald0 dX0_goodPattern_56 ?_
            refine g0_1 dX0_goodPattern_57 ?_
            refine j_ild1 dX0_goodPattern_60 ?_
            refine l0_1 dX0_goodPattern_61 (by omega) ?_
            refine j_bipush (nI 10) dX0_goodPattern_62 (by decide) ?_
            refine j_icne 77 dX0_goodPattern_64 (by decide) (fun e10 => ?_) (fun e10 => ?_)
            · exact next _ _ h9 (fun q => absurd q e10)
            · refine j_ild2 dX0_goodPattern_67 ?_
              refine j_ifeqB 75 dX0_goodPattern_68 (by decide) (fun b1 => ?_) (fun b1 => ?_)
              · refine j_iconst (nI 0) dX0_goodPattern_75 (by decide) ?_
                refine bad (fun q => ?_) _ _ dX0_goodPattern_76
                exact of_decide_eq_false b1 (q.2 e10).1
              · refine j_ild3 dX0_goodPattern_71 ?_
                refine j_ifneB 77 dX0_goodPattern_72 (by decide) (fun b2 => ?_) (fun b2 => ?_)
                · refine next _ _ h9 (fun _ => ⟨of_decide_eq_true b1, ?_⟩)
                  rcases of_decide_eq_true b2 with q | q
                  · exact Or.inl (by omega)
                  · exact Or.inr q
                · refine j_iconst (nI 0) dX0_goodPattern_75 (by decide) ?_
                  refine bad (fun q => ?_) _ _ dX0_goodPattern_76
                  refine of_decide_eq_false b2 ?_
                  rcases (q.2 e10).2 with q | q
                  · exact Or.inl (by omega)
                  · exact Or.inr q
          refine j_ist3 (by decide) dX0_goodPattern_34 ?_
          refine j_ald0 dX0_goodPattern_35 ?_
          refine g0_1 dX0_goodPattern_36 ?_
          refine j_ild1 dX0_goodPattern_39 ?_
          refine l0_1 dX0_goodPattern_40 (by omega) ?_
          refine j_bipush (nI 9) dX0_goodPattern_41 (by decide) ?_
          refine j_icne 56 dX0_goodPattern_43 (by decide) (fun e9 => ?_) (fun e9 => ?_)
          · exact two (fun q => absurd q e9)
          · refine j_ild2 dX0_goodPattern_46 ?_
            refine j_ifneB 54 dX0_goodPattern_47 (by decide) (fun b1 => ?_) (fun b1 => ?_)
            · refine j_iconst (nI 0) dX0_goodPattern_54 (by decide) ?_
              refine bad (fun q => ?_) _ _ dX0_goodPattern_55
              have q1 := (q.1 e9).1
              rcases of_decide_eq_true b1 with q2 | q2
              · omega
              · exact q1.2 q2
            · refine j_ild3 dX0_goodPattern_50 ?_
              refine j_ifeqB 56 dX0_goodPattern_51 (by decide) (fun b2 => ?_) (fun b2 => ?_)
              · refine two (fun _ => ?_)
                have q1 := of_decide_eq_false b1
                have q2 := of_decide_eq_false b2
                exact ⟨⟨Nat.pos_of_ne_zero (fun q => q1 (Or.inl q)), fun q => q1 (Or.inr q)⟩, Nat.not_le.mp (fun q => q2 (Or.inl q)), fun q => q2 (Or.inr q)⟩
              · refine j_iconst (nI 0) dX0_goodPattern_54 (by decide) ?_
                refine bad (fun q => ?_) _ _ dX0_goodPattern_55
                have q1 := (q.1 e9).2
                rcases of_decide_eq_true b2 with q2 | q2
                · omega
                · exact q1.2 q2
    exact loop (u.1 0) 0 none none (by omega) (fun j hj => by omega)
  · refine j_iconst (nI 0) dX0_goodPattern_7 (by decide) ?_
    refine ret _ _ _ _ dX0_goodPattern_8 (by decide) ⟨rfl, false, jb_f.symm, (fun q => by cases q), fun q => ?_⟩
    have := q.1
    omega
set_option maxHeartbeats 4000000 in
/-- makeSets: the eleven sets, of the pattern in the buffer -/
theorem k_makeSets (Z : jZ) (u : jS) (r n : Nat) (hr : r < 12) (hn : n ≤ 10) (hb : ∀ i, i < n → ∃ a, 1 ≤ a ∧ a ≤ 10 ∧ u.2 1 i = nI a) : ∀ (l : Launch) (D : va_G), jKv l D Z.2.2.1 Z.2.2.2 yX0_makeSets cX0_makeSets 6 { frames := 0, cells := 0, slots := 0, locals := 0 } Z.1 [.int (nI r), .int (nI n)] (w0 Z) u (fun u' => MS u u' r n n n) := by
  intro l D
  refine jKv_start RX0 3 (by decide) rfl (Nat.le_of_ble_eq_true rfl) (by simp [Value.category]) ?_
  intro X hR ret
  show j0 X Z cX0_makeSets 6 u 0 [some (.ref Z.1), some (.int (nI r)), some (.int (nI n)), none, none, none] []
  have main : ∀ (d i : Nat) (u1 : jS) (o4 o5 : Option Value), i + d = n → MS u u1 r n i i → j0 X Z cX0_makeSets 6 u1 56 [some (.ref Z.1), some (.int (nI r)), some (.int (nI n)), some (.int (nI i)), o4, o5] [] := by
    intro d
    induction d with
    | zero =>
      intro i u1 o4 o5 hi hm
      refine j_ild3 dX0_makeSets_56 ?_
      refine j_ild2 dX0_makeSets_57 ?_
      refine j_icgeN 209 dX0_makeSets_58 (by decide) (by omega) (by omega) (fun c1 => ?_) (fun c1 => ?_)
      · exact ret u1 _ _ dX0_makeSets_209 (by rw [show i = n by omega] at hm; exact hm)
      · omega
    | succ d ih =>
      intro i u1 o4 o5 hi hm
      refine j_ild3 dX0_makeSets_56 ?_
      refine j_ild2 dX0_makeSets_57 ?_
      refine j_icgeN 209 dX0_makeSets_58 (by decide) (by omega) (by omega) (fun c1 => ?_) (fun c1 => ?_)
      · omega
      · refine j_iconst (nI 1) dX0_makeSets_61 (by decide) ?_
        refine j_ild3 dX0_makeSets_62 ?_
        refine j_ishl dX0_makeSets_63 ?_
        refine j_ist4 (by decide) dX0_makeSets_64 ?_
        refine j_ald0 dX0_makeSets_66 ?_
        refine g0_1 dX0_makeSets_67 ?_
        refine j_ild3 dX0_makeSets_70 ?_
        refine l0_1 dX0_makeSets_71 (by omega) ?_
        obtain ⟨a, ha1, ha10, hba⟩ := hb i (by omega)
        refine j_top (nI a) (by rw [MS_buf hm]; exact hba) ?_
        have tail : ∀ u2, MS u u2 r n (i + 1) i → j0 X Z cX0_makeSets 6 u2 178 [some (.ref Z.1), some (.int (nI r)), some (.int (nI n)), some (.int (nI i)), some (.int (nI 1 <<< (nI i &&& 31))), some (.int (nI a))] [] := by
          intro u2 hm2
          refine j_ild5 dX0_makeSets_178 ?_
          refine j_bipush (nI 10) dX0_makeSets_180 (by decide) ?_
          refine j_icneN 203 dX0_makeSets_182 (by decide) (by omega) (by omega) (fun e10 => ?_) (fun e10 => ?_)
          · refine j_inc3N (by decide) dX0_makeSets_203 ?_
            refine j_goto 56 dX0_makeSets_206 (by decide) ?_
            refine ih (i + 1) u2 _ _ (by omega) (MS_noskip hm2 (fun q => ?_))
            rw [hba] at q
            exact e10 ((nI_eq (by omega) (by omega)).mp q.1)
          · refine j_ild3 dX0_makeSets_185 ?_
            refine j_iconst (nI 1) dX0_makeSets_186 (by decide) ?_
            first | refine j_iaddN dX0_makeSets_187 ?_ | refine j_iadd dX0_makeSets_187 ?_
            refine j_ild2 dX0_makeSets_188 ?_
            refine j_icgeN 203 dX0_makeSets_189 (by decide) (by omega) (by omega) (fun cn => ?_) (fun cn => ?_)
            · refine j_inc3N (by decide) dX0_makeSets_203 ?_
              refine j_goto 56 dX0_makeSets_206 (by decide) ?_
              refine ih (i + 1) u2 _ _ (by omega) (MS_noskip hm2 (fun q => ?_))
              omega
            · refine j_ald0 dX0_makeSets_192 ?_
              refine g0_9 dX0_makeSets_193 ?_
              refine j_ild1 dX0_makeSets_196 ?_
              refine j_dup2 rfl rfl dX0_makeSets_197 ?_
              refine l0_9 dX0_makeSets_198 (by omega) ?_
              refine j_ild4 dX0_makeSets_199 ?_
              refine j_ior dX0_makeSets_201 ?_
              refine s0_9 dX0_makeSets_202 (by omega) ?_
              refine j_inc3N (by decide) dX0_makeSets_203 ?_
              refine j_goto 56 dX0_makeSets_206 (by decide) ?_
              exact ih (i + 1) _ _ _ (by omega) (MS_skip hm2 (by omega) (by rw [hba, e10]) (by omega))
        refine j_ist5 (by decide) dX0_makeSets_72 ?_
        refine j_ild5 dX0_makeSets_74 ?_
        refine j_bipush (nI 7) dX0_makeSets_76 (by decide) ?_
        refine j_icgeN 101 dX0_makeSets_78 (by decide) (by omega) (by omega) (fun c7 => ?_) (fun c7 => ?_)
        · refine j_ild5 dX0_makeSets_101 ?_
          refine j_bipush (nI 7) dX0_makeSets_103 (by decide) ?_
          refine j_icneN 122 dX0_makeSets_105 (by decide) (by omega) (by omega) (fun e7 => ?_) (fun e7 => ?_)
          · refine j_ild5 dX0_makeSets_122 ?_
            refine j_bipush (nI 8) dX0_makeSets_124 (by decide) ?_
            refine j_icneN 146 dX0_makeSets_126 (by decide) (by omega) (by omega) (fun e8 => ?_) (fun e8 => ?_)
            · refine j_ild5 dX0_makeSets_146 ?_
              refine j_bipush (nI 9) dX0_makeSets_148 (by decide) ?_
              refine j_icneN 167 dX0_makeSets_150 (by decide) (by omega) (by omega) (fun e9 => ?_) (fun e9 => ?_)
              · refine j_ald0 dX0_makeSets_167 ?_
                refine g0_10 dX0_makeSets_168 ?_
                refine j_ild1 dX0_makeSets_171 ?_
                refine j_dup2 rfl rfl dX0_makeSets_172 ?_
                refine l0_10 dX0_makeSets_173 (by omega) ?_
                refine j_ild4 dX0_makeSets_174 ?_
                refine j_ior dX0_makeSets_176 ?_
                refine s0_10 dX0_makeSets_177 (by omega) ?_
                exact tail _ (MS_upd (c := 10) hm (by omega) (by decide) (by decide) rfl (by rw [hba, show a = 10 by omega]; rfl))
              · refine j_ald0 dX0_makeSets_153 ?_
                refine g0_8 dX0_makeSets_154 ?_
                refine j_ild1 dX0_makeSets_157 ?_
                refine j_dup2 rfl rfl dX0_makeSets_158 ?_
                refine l0_8 dX0_makeSets_159 (by omega) ?_
                refine j_ild4 dX0_makeSets_160 ?_
                refine j_ior dX0_makeSets_162 ?_
                refine s0_8 dX0_makeSets_163 (by omega) ?_
                refine j_goto 178 dX0_makeSets_164 (by decide) ?_
                exact tail _ (MS_upd (c := 8) hm (by omega) (by decide) (by decide) rfl (by rw [hba, e9]; rfl))
            · refine j_ald0 dX0_makeSets_129 ?_
              refine g0_6 dX0_makeSets_130 ?_
              refine j_ild1 dX0_makeSets_133 ?_
              refine j_bipush (nI 7) dX0_makeSets_134 (by decide) ?_
              first | refine j_imulN dX0_makeSets_136 ?_ | refine j_imul dX0_makeSets_136 ?_
              refine j_dup2 rfl rfl dX0_makeSets_137 ?_
              refine l0_6 dX0_makeSets_138 (by omega) ?_
              refine j_ild4 dX0_makeSets_139 ?_
              refine j_ior dX0_makeSets_141 ?_
              refine s0_6 dX0_makeSets_142 (by omega) ?_
              refine j_goto 178 dX0_makeSets_143 (by decide) ?_
              exact tail _ (MS_upd (c := 0) hm (by omega) (by decide) (by decide) rfl (by rw [hba, e8]; rfl))
          · refine j_ald0 dX0_makeSets_108 ?_
            refine g0_7 dX0_makeSets_109 ?_
            refine j_ild1 dX0_makeSets_112 ?_
            refine j_dup2 rfl rfl dX0_makeSets_113 ?_
            refine l0_7 dX0_makeSets_114 (by omega) ?_
            refine j_ild4 dX0_makeSets_115 ?_
            refine j_ior dX0_makeSets_117 ?_
            refine s0_7 dX0_makeSets_118 (by omega) ?_
            refine j_goto 178 dX0_makeSets_119 (by decide) ?_
            exact tail _ (MS_upd (c := 7) hm (by omega) (by decide) (by decide) rfl (by rw [hba, e7]; rfl))
        · refine j_ald0 dX0_makeSets_81 ?_
          refine g0_6 dX0_makeSets_82 ?_
          refine j_ild1 dX0_makeSets_85 ?_
          refine j_bipush (nI 7) dX0_makeSets_86 (by decide) ?_
          first | refine j_imulN dX0_makeSets_88 ?_ | refine j_imul dX0_makeSets_88 ?_
          refine j_ild5 dX0_makeSets_89 ?_
          first | refine j_iaddN dX0_makeSets_91 ?_ | refine j_iadd dX0_makeSets_91 ?_
          refine j_dup2 rfl rfl dX0_makeSets_92 ?_
          refine l0_6 dX0_makeSets_93 (by omega) ?_
          refine j_ild4 dX0_makeSets_94 ?_
          refine j_ior dX0_makeSets_96 ?_
          refine s0_6 dX0_makeSets_97 (by omega) ?_
          refine j_goto 178 dX0_makeSets_98 (by decide) ?_
          refine tail _ (MS_upd (c := a) hm (by omega) (by omega) (by omega) (by rw [msl, if_pos c7]) ?_)
          rw [hba, msv, if_neg (by omega), if_pos (by omega)]
  have clear : ∀ (d i : Nat) (u1 : jS) (o4 o5 : Option Value), i + d = 7 → MC u u1 r i → j0 X Z cX0_makeSets 6 u1 2 [some (.ref Z.1), some (.int (nI r)), some (.int (nI n)), some (.int (nI i)), o4, o5] [] := by
    intro d
    induction d with
    | zero =>
      intro i u1 o4 o5 hi hm
      refine j_ild3 dX0_makeSets_2 ?_
      refine j_bipush (nI 7) dX0_makeSets_3 (by decide) ?_
      refine j_icgeN 26 dX0_makeSets_5 (by decide) (by omega) (by omega) (fun c1 => ?_) (fun c1 => ?_)
      · rw [show i = 7 by omega] at hm
        have h1 := MC_step hm (by decide) (show msl r 7 = (7, r) from rfl)
        have h2 := MC_step h1 (by decide) (show msl r 8 = (8, r) from rfl)
        have h3 := MC_step h2 (by decide) (show msl r 9 = (9, r) from rfl)
        have h4 := MC_step h3 (by decide) (show msl r 10 = (10, r) from rfl)
        refine j_ald0 dX0_makeSets_26 ?_
        refine g0_7 dX0_makeSets_27 ?_
        refine j_ild1 dX0_makeSets_30 ?_
        refine j_iconst (nI 0) dX0_makeSets_31 (by decide) ?_
        refine s0_7 dX0_makeSets_32 (by omega) ?_
        refine j_ald0 dX0_makeSets_33 ?_
        refine g0_8 dX0_makeSets_34 ?_
        refine j_ild1 dX0_makeSets_37 ?_
        refine j_iconst (nI 0) dX0_makeSets_38 (by decide) ?_
        refine s0_8 dX0_makeSets_39 (by omega) ?_
        refine j_ald0 dX0_makeSets_40 ?_
        refine g0_9 dX0_makeSets_41 ?_
        refine j_ild1 dX0_makeSets_44 ?_
        refine j_iconst (nI 0) dX0_makeSets_45 (by decide) ?_
        refine s0_9 dX0_makeSets_46 (by omega) ?_
        refine j_ald0 dX0_makeSets_47 ?_
        refine g0_10 dX0_makeSets_48 ?_
        refine j_ild1 dX0_makeSets_51 ?_
        refine j_iconst (nI 0) dX0_makeSets_52 (by decide) ?_
        refine s0_10 dX0_makeSets_53 (by omega) ?_
        refine j_iconst (nI 0) dX0_makeSets_54 (by decide) ?_
        refine j_ist3 (by decide) dX0_makeSets_55 ?_
        exact main n 0 _ _ _ (by omega) (MS_of h4)
      · omega
    | succ d ih =>
      intro i u1 o4 o5 hi hm
      refine j_ild3 dX0_makeSets_2 ?_
      refine j_bipush (nI 7) dX0_makeSets_3 (by decide) ?_
      refine j_icgeN 26 dX0_makeSets_5 (by decide) (by omega) (by omega) (fun c1 => ?_) (fun c1 => ?_)
      · omega
      · refine j_ald0 dX0_makeSets_8 ?_
        refine g0_6 dX0_makeSets_9 ?_
        refine j_ild1 dX0_makeSets_12 ?_
        refine j_bipush (nI 7) dX0_makeSets_13 (by decide) ?_
        first | refine j_imulN dX0_makeSets_15 ?_ | refine j_imul dX0_makeSets_15 ?_
        refine j_ild3 dX0_makeSets_16 ?_
        first | refine j_iaddN dX0_makeSets_17 ?_ | refine j_iadd dX0_makeSets_17 ?_
        refine j_iconst (nI 0) dX0_makeSets_18 (by decide) ?_
        refine s0_6 dX0_makeSets_19 (by omega) ?_
        refine j_inc3N (by decide) dX0_makeSets_20 ?_
        refine j_goto 2 dX0_makeSets_23 (by decide) ?_
        exact ih (i + 1) _ _ _ (by omega) (MC_step hm (by omega) (by rw [msl, if_pos c1]))
  refine j_iconst (nI 0) dX0_makeSets_0 (by decide) ?_
  refine j_ist3 (by decide) dX0_makeSets_1 ?_
  exact clear 7 0 u _ _ rfl ⟨rfl, fun _ _ _ => rfl, fun j hj => by omega⟩
set_option maxHeartbeats 4000000 in
/-- makeEnds: the places at which the pattern may end -/
theorem k_makeEnds (Z : jZ) (u : jS) (r n : Nat) (hr : r < 12) (hn : n ≤ 10) : ∀ (l : Launch) (D : va_G), jKv l D Z.2.2.1 Z.2.2.2 yX0_makeEnds cX0_makeEnds 6 { frames := 0, cells := 0, slots := 0, locals := 0 } Z.1 [.int (nI r), .int (nI n)] (w0 Z) u (fun u' => ∃ E : Int32, u' = jset u 11 r E ∧ ∀ b, bt E b = true ↔ b ≤ n ∧ ∀ a, b ≤ a → a < n → u.2 1 a = 9 ∨ u.2 1 a = 10) := by
  intro l D
  refine jKv_start RX0 3 (by decide) rfl (Nat.le_of_ble_eq_true rfl) (by simp [Value.category]) ?_
  intro X hR ret
  show j0 X Z cX0_makeEnds 6 u 0 [some (.ref Z.1), some (.int (nI r)), some (.int (nI n)), none, none, none] []
  have fin : ∀ (S : Int32) (o4 o5 : Option Value), (∀ b, bt S b = true ↔ b ≤ n ∧ ∀ a, b ≤ a → a < n → u.2 1 a = 9 ∨ u.2 1 a = 10) → j0 X Z cX0_makeEnds 6 u 71 [some (.ref Z.1), some (.int (nI r)), some (.int (nI n)), some (.int S), o4, o5] [] := by
    intro S o4 o5 hS
    refine j_ald0 dX0_makeEnds_71 ?_
    refine g0_11 dX0_makeEnds_72 ?_
    refine j_ild1 dX0_makeEnds_75 ?_
    refine j_ild3 dX0_makeEnds_76 ?_
    refine s0_11 dX0_makeEnds_77 (by omega) ?_
    exact ret _ _ _ dX0_makeEnds_78 ⟨S, rfl, hS⟩
  have loop : ∀ (j : Nat) (S : Int32), j ≤ n → (∀ b, bt S b = true ↔ j ≤ b ∧ b ≤ n) → (∀ a, j ≤ a → a < n → u.2 1 a = 9 ∨ u.2 1 a = 10) → j0 X Z cX0_makeEnds 6 u 12 [some (.ref Z.1), some (.int (nI r)), some (.int (nI n)), some (.int S), some (.int (nI 1)), some (.int (nI j + (-1)))] [] := by
    intro j
    induction j with
    | zero =>
      intro S hj hS ha
      rw [show nI 0 + (-1) = -1 from by decide]
      refine j_ild5 dX0_makeEnds_12 ?_
      refine j_ifltM 71 dX0_makeEnds_14 (by decide) ?_
      exact fin _ _ _ (fun b => ⟨fun q => ⟨((hS b).mp q).2, fun a _ h => ha a (by omega) h⟩, fun q => (hS b).mpr ⟨by omega, q.1⟩⟩)
    | succ j ih =>
      intro S hj hS ha
      rw [pk_m1]
      refine j_ild5 dX0_makeEnds_12 ?_
      refine j_ifltN 71 dX0_makeEnds_14 (by omega) (by decide) ?_
      refine j_ild4 dX0_makeEnds_17 ?_
      refine j_ifeqN 71 dX0_makeEnds_19 (by decide) (by omega) (fun z1 => ?_) (fun z1 => ?_)
      · omega
      · have yes : (u.2 1 j = 9 ∨ u.2 1 j = 10) → j0 X Z cX0_makeEnds 6 u 46 [some (.ref Z.1), some (.int (nI r)), some (.int (nI n)), some (.int S), some (.int (nI 1)), some (.int (nI j))] [] := by
          intro hy
          refine j_iconst (nI 1) dX0_makeEnds_46 (by decide) ?_
          refine j_goto 51 dX0_makeEnds_47 (by decide) ?_
          refine j_ist4 (by decide) dX0_makeEnds_51 ?_
          refine j_ild4 dX0_makeEnds_53 ?_
          refine j_ifeqN 65 dX0_makeEnds_55 (by decide) (by omega) (fun z2 => ?_) (fun z2 => ?_)
          · omega
          · refine j_ild3 dX0_makeEnds_58 ?_
            refine j_iconst (nI 1) dX0_makeEnds_59 (by decide) ?_
            refine j_ild5 dX0_makeEnds_60 ?_
            refine j_ishl dX0_makeEnds_62 ?_
            refine j_ior dX0_makeEnds_63 ?_
            refine j_ist3 (by decide) dX0_makeEnds_64 ?_
            refine j_inc5M (by decide) dX0_makeEnds_65 ?_
            refine j_goto 12 dX0_makeEnds_68 (by decide) ?_
            refine ih _ (by omega) (fun b => ?_) (fun a h1 h2 => ?_)
            · rw [b_or, Bool.or_eq_true, hS b]
              constructor
              · rintro (⟨h1, h2⟩ | h1)
                · exact ⟨by omega, h2⟩
                · rw [bt_one (by omega) (bt_lt h1)] at h1
                  have := of_decide_eq_true h1
                  omega
              · rintro ⟨h1, h2⟩
                by_cases e : b = j
                · right
                  rw [bt_one (by omega) (by omega), e]
                  exact decide_eq_true rfl
                · exact Or.inl ⟨by omega, h2⟩
            · by_cases e : a = j
              · rw [e]
                exact hy
              · exact ha a (by omega) h2
        refine j_ald0 dX0_makeEnds_22 ?_
        refine g0_1 dX0_makeEnds_23 ?_
        refine j_ild5 dX0_makeEnds_26 ?_
        refine l0_1 dX0_makeEnds_28 (by omega) ?_
        refine j_bipush (nI 10) dX0_makeEnds_29 (by decide) ?_
        refine j_iceq 46 dX0_makeEnds_31 (by decide) (fun e10 => ?_) (fun e10 => ?_)
        · exact yes (Or.inr e10)
        · refine j_ald0 dX0_makeEnds_34 ?_
          refine g0_1 dX0_makeEnds_35 ?_
          refine j_ild5 dX0_makeEnds_38 ?_
          refine l0_1 dX0_makeEnds_40 (by omega) ?_
          refine j_bipush (nI 9) dX0_makeEnds_41 (by decide) ?_
          refine j_icne 50 dX0_makeEnds_43 (by decide) (fun e9 => ?_) (fun e9 => ?_)
          · refine j_iconst (nI 0) dX0_makeEnds_50 (by decide) ?_
            refine j_ist4 (by decide) dX0_makeEnds_51 ?_
            refine j_ild4 dX0_makeEnds_53 ?_
            refine j_ifeqN 65 dX0_makeEnds_55 (by decide) (by omega) (fun z2 => ?_) (fun z2 => ?_)
            · have stop : ∀ b, bt S b = true ↔ b ≤ n ∧ ∀ a, b ≤ a → a < n → u.2 1 a = 9 ∨ u.2 1 a = 10 := by
                intro b
                rw [hS b]
                constructor
                · rintro ⟨h1, h2⟩
                  exact ⟨h2, fun a h3 h4 => ha a (by omega) h4⟩
                · rintro ⟨h1, h2⟩
                  refine ⟨?_, h1⟩
                  rcases Nat.lt_or_ge j b with q | q
                  · omega
                  · rcases h2 j q (by omega) with q | q
                    · exact absurd q e9
                    · exact absurd q e10
              refine j_inc5M (by decide) dX0_makeEnds_65 ?_
              refine j_goto 12 dX0_makeEnds_68 (by decide) ?_
              match j with
              | 0 =>
                rw [show nI 0 + (-1) = -1 from by decide]
                refine j_ild5 dX0_makeEnds_12 ?_
                refine j_ifltM 71 dX0_makeEnds_14 (by decide) ?_
                exact fin _ _ _ stop
              | j + 1 =>
                rw [pk_m1]
                refine j_ild5 dX0_makeEnds_12 ?_
                refine j_ifltN 71 dX0_makeEnds_14 (by omega) (by decide) ?_
                refine j_ild4 dX0_makeEnds_17 ?_
                refine j_ifeqN 71 dX0_makeEnds_19 (by decide) (by omega) (fun z3 => ?_) (fun z3 => ?_)
                · exact fin _ _ _ stop
                · omega
            · omega
          · exact yes (Or.inl e9)
  refine j_iconst (nI 1) dX0_makeEnds_0 (by decide) ?_
  refine j_ild2 dX0_makeEnds_1 ?_
  refine j_ishl dX0_makeEnds_2 ?_
  refine j_ist3 (by decide) dX0_makeEnds_3 ?_
  refine j_iconst (nI 1) dX0_makeEnds_4 (by decide) ?_
  refine j_ist4 (by decide) dX0_makeEnds_5 ?_
  refine j_ild2 dX0_makeEnds_7 ?_
  refine j_iconst (nI 1) dX0_makeEnds_8 (by decide) ?_
  refine j_isub dX0_makeEnds_9 ?_
  rw [nI_sub1]
  refine j_ist5 (by decide) dX0_makeEnds_10 ?_
  refine loop n _ (Nat.le_refl _) (fun b => ?_) (fun a h1 h2 => by omega)
  constructor
  · intro h
    rw [bt_one (by omega) (bt_lt h)] at h
    have := of_decide_eq_true h
    omega
  · intro h
    rw [bt_one (by omega) (by omega)]
    exact decide_eq_true (by omega)
end
section
set_option maxRecDepth 100000
/-! IgnoreRules: rule, pattern, dropRule, path, clearPath, rules -/
set_option maxHeartbeats 4000000 in
theorem k_rule (Z : jZ) (u : jS) (hn : u.1 0 ≤ 10) (hq : u.1 2 ≤ 12) (hb : ∀ i, i < u.1 0 → ∃ a, 1 ≤ a ∧ a ≤ 10 ∧ u.2 1 i = nI a) (mk : Int32) : ∀ (l : Launch) (D : va_G), jKi l D Z.2.2.1 Z.2.2.2 yX0_rule cX0_rule 5 (some .int) { frames := 2, cells := 0, slots := 0, locals := 44 } Z.1 [.int mk] (w0 Z) u (fun v u' => RU0 u (mk &&& 7) v u') := by
  intro l D
  refine jKi_start RX0 3 (by decide) rfl (Nat.le_of_ble_eq_true rfl) (by simp [Value.category]) ?_
  intro X hR ret
  show j0 X Z cX0_rule 5 u 0 [some (.ref Z.1), some (.int mk), none, none, none] []
  refine j_ald0 dX0_rule_0 ?_
  refine c0_i (k_goodPattern Z u hn) hR (lw_V q93 q95 qs0 q18 q96) rfl rfl hd_X0_goodPattern ⟨by decide, by decide⟩ rfl rfl (Nat.le_of_ble_eq_true rfl) dX0_rule_1 (fun v0 u0 hp0 => ?_)
  obtain ⟨rfl, b, rfl, hbg⟩ := hp0
  refine j_ist2 (by decide) dX0_rule_4 ?_
  refine j_ald0 dX0_rule_5 ?_
  refine g0_0 dX0_rule_6 ?_
  refine j_ist3 (by decide) dX0_rule_9 ?_
  refine j_ald0 dX0_rule_10 ?_
  refine j_iconst (nI 0) dX0_rule_11 (by decide) ?_
  refine p0_0 dX0_rule_12 ?_
  generalize hu1 : jput u 0 0 = u1
  have e0 : u1.1 0 = 0 := by rw [← hu1]; rfl
  have e2 : u1.1 2 = u.1 2 := by rw [← hu1]; rfl
  have e12 : u1.1 12 = u.1 12 := by rw [← hu1]; rfl
  have ea : u1.2 = u.2 := by rw [← hu1]; rfl
  obtain ⟨R, eR⟩ : ∃ R, R = u.1 2 := ⟨_, rfl⟩
  obtain ⟨n, en⟩ : ∃ n, n = u.1 0 := ⟨_, rfl⟩
  rw [← en]
  refine j_ild2 dX0_rule_15 ?_
  refine j_ifneB 22 dX0_rule_16 (by decide) (fun cb => ?_) (fun cb => ?_)
  · refine j_ald0 dX0_rule_22 ?_
    refine g0_2 dX0_rule_23 ?_
    refine j_bipush (nI 12) dX0_rule_26 (by decide) ?_
    refine j_icltN 34 dX0_rule_28 (by decide) (by omega) (by omega) (fun c1 => ?_) (fun c1 => ?_)
    · refine j_ald0 dX0_rule_34 ?_
      refine g0_2 dX0_rule_35 ?_
      refine j_top (nI R) (by rw [e2, eR]) ?_
      have hg : gp (u.2 1) (u.1 0) := hbg.mp cb
      have k58 : ∀ b1 : Bool, b1 = decide (¬ (mk &&& 7) &&& 1 = 0) → j0 X Z cX0_rule 5 u1 58 [some (.ref Z.1), some (.int mk), some (.int (jb b)), some (.int (nI n)), some (.int (nI R))] [.int (jb b1), .int (nI R), .ref (Z.2.1 3)] := by
        intro b1 hb1
        refine s0_3 dX0_rule_58 (by omega) (by first | exact jb_vn _ | decide) ?_
        refine j_ald0 dX0_rule_59 ?_
        refine g0_4 dX0_rule_60 ?_
        refine j_ild4 dX0_rule_63 ?_
        refine j_ild1 dX0_rule_65 ?_
        refine j_iconst (nI 4) dX0_rule_66 (by decide) ?_
        refine j_iand dX0_rule_67 ?_
        refine j_iconst (nI 4) dX0_rule_68 (by decide) ?_
        have k77 : ∀ b2 : Bool, b2 = decide (¬ (mk &&& 7) &&& 4 = 0) → j0 X Z cX0_rule 5 (jset u1 3 R (jb b1)) 77 [some (.ref Z.1), some (.int mk), some (.int (jb b)), some (.int (nI n)), some (.int (nI R))] [.int (jb b2), .int (nI R), .ref (Z.2.1 4)] := by
          intro b2 hb2
          refine s0_4 dX0_rule_77 (by omega) (by first | exact jb_vn _ | decide) ?_
          refine j_ald0 dX0_rule_78 ?_
          refine j_ild4 dX0_rule_79 ?_
          refine j_ild3 dX0_rule_81 ?_
          generalize hu3 : jset (jset u1 3 R (jb b1)) 4 R (jb b2) = u3
          have f1 : u3.2 1 = u.2 1 := by rw [← hu3, ← ea]; rfl
          have fs : u3.1 = u1.1 := by rw [← hu3]; rfl
          have f3 : u3.2 3 R = jb b1 := by rw [← hu3, jset_o _ _ _ (by decide), jset_a, if_pos ⟨rfl, rfl⟩]
          have f4 : u3.2 4 R = jb b2 := by rw [← hu3, jset_a, if_pos ⟨rfl, rfl⟩]
          have fk : ∀ k x, ¬ (k = 3 ∧ x = R) → ¬ (k = 4 ∧ x = R) → u3.2 k x = u.2 k x := by
            intro k x h1 h2
            rw [← hu3, jset_a, if_neg h2, jset_a, if_neg h1, ea]
          refine c0_v (k_makeSets Z u3 R n (by omega) (by omega) (fun i hi => by rw [f1]; exact hb i (by omega))) hR (lw_V q101 q103 qs2 q18 q104) rfl rfl hd_X0_makeSets ⟨by decide, by decide⟩ rfl rfl (Nat.le_of_ble_eq_true rfl) dX0_rule_82 (fun u4 hm => ?_)
          refine j_ald0 dX0_rule_85 ?_
          refine j_ild4 dX0_rule_86 ?_
          refine j_ild3 dX0_rule_88 ?_
          refine c0_v (k_makeEnds Z u4 R n (by omega) (by omega)) hR (lw_V q105 q107 qs3 q18 q108) rfl rfl hd_X0_makeEnds ⟨by decide, by decide⟩ rfl rfl (Nat.le_of_ble_eq_true rfl) dX0_rule_89 (fun u5 hp5 => ?_)
          obtain ⟨E, rfl, hE⟩ := hp5
          generalize hu5 : jset u4 11 R E = u5
          have g1 : u5.2 1 = u.2 1 := by
            rw [← hu5, jset_o _ _ _ (by decide), ← f1]
            funext x
            exact MS_buf hm x
          have gs : u5.1 = u1.1 := by rw [← hu5, ← fs]; exact hm.1
          have gk : ∀ k x, ¬ (k = 3 ∧ x = R) → ¬ (k = 4 ∧ x = R) → ¬ (k = 11 ∧ x = R) → (∀ j, j < 11 → msl R j ≠ (k, x)) → u5.2 k x = u.2 k x := by
            intro k x h1 h2 h3 h4
            rw [← hu5, jset_a, if_neg h3, hm.2.1 k x h4, fk k x h1 h2]
          have hmn : ∀ k x, k < 6 → ∀ j, j < 11 → msl R j ≠ (k, x) := by
            intro k x hk j hj h
            unfold msl at h
            split at h <;> simp only [Prod.mk.injEq] at h <;> omega
          have g3 : u5.2 3 R = jb b1 := by rw [← hu5, jset_o _ _ _ (by decide), hm.2.1 3 R (hmn 3 R (by decide)), f3]
          have g4 : u5.2 4 R = jb b2 := by rw [← hu5, jset_o _ _ _ (by decide), hm.2.1 4 R (hmn 4 R (by decide)), f4]
          have gS : ∀ j, j < 11 → u5.2 (msl R j).1 (msl R j).2 = u4.2 (msl R j).1 (msl R j).2 := by
            intro j hj
            rw [← hu5, jset_a, if_neg]
            intro q
            have q1 := q.1
            unfold msl at q1
            split at q1 <;> omega
          have hrs : rs (u.2 1) (u.1 0) (fun c => u5.2 6 (R * 7 + c)) (u5.2 7 R) (u5.2 8 R) (u5.2 9 R) (u5.2 10 R) (u5.2 11 R) := by
            have key : ∀ j, j < 11 → ∀ i, bt (u5.2 (msl R j).1 (msl R j).2) i = true ↔ i < n ∧ u.2 1 i = nI (msv j) ∧ (j = 9 → i + 1 < n) := by
              intro j hj i
              rw [gS j hj, hm.2.2 j hj i, f1]
              split <;> exact Iff.rfl
            rw [← en]
            refine ⟨fun i => ?_, fun i => ?_, fun i => ?_, fun i => ?_, fun i => ?_, fun c h1 h6 i => ?_, fun i => ?_⟩
            · exact (key 7 (by decide) i).trans ⟨fun q => ⟨q.1, q.2.1⟩, fun q => ⟨q.1, q.2, fun e => absurd e (by decide)⟩⟩
            · exact (key 8 (by decide) i).trans ⟨fun q => ⟨q.1, q.2.1⟩, fun q => ⟨q.1, q.2, fun e => absurd e (by decide)⟩⟩
            · exact (key 9 (by decide) i).trans ⟨fun q => ⟨q.2.2 rfl, q.2.1⟩, fun q => ⟨by omega, q.2, fun _ => q.1⟩⟩
            · exact (key 10 (by decide) i).trans ⟨fun q => ⟨q.1, q.2.1⟩, fun q => ⟨q.1, q.2, fun e => absurd e (by decide)⟩⟩
            · exact (key 0 (by decide) i).trans ⟨fun q => ⟨q.1, q.2.1⟩, fun q => ⟨q.1, q.2, fun e => absurd e (by decide)⟩⟩
            · have hk := key c (by omega) i
              rw [msl, if_pos (by omega), msv, if_neg (by omega), if_pos (by omega)] at hk
              exact hk.trans ⟨fun q => ⟨q.1, q.2.1⟩, fun q => ⟨q.1, q.2, fun e => by omega⟩⟩
            · rw [← hu5, jset_a, if_pos ⟨rfl, rfl⟩, hE i]
              have : u4.2 1 = u.2 1 := by
                rw [← f1]
                funext x
                exact MS_buf hm x
              rw [this]
          have k119 : ∀ b3 : Bool, b3 = decide (pl (u.2 1) (u.1 0) 0 = u.1 0 ∧ (mk &&& 7) &&& 2 = 0) → j0 X Z cX0_rule 5 u5 119 [some (.ref Z.1), some (.int mk), some (.int (jb b)), some (.int (nI n)), some (.int (nI R))] [.int (jb b3), .int (nI R), .ref (Z.2.1 5)] := by
            intro b3 hb3
            refine s0_5 dX0_rule_119 (by omega) (by first | exact jb_vn _ | decide) ?_
            refine j_ald0 dX0_rule_120 ?_
            refine j_dup rfl dX0_rule_121 ?_
            refine g0_2 dX0_rule_122 ?_
            refine j_iconst (nI 1) dX0_rule_125 (by decide) ?_
            first | refine j_iaddN dX0_rule_126 ?_ | refine j_iadd dX0_rule_126 ?_
            refine p0_2 dX0_rule_127 ?_
            refine j_ild4 dX0_rule_130 ?_
            refine ret _ _ _ _ dX0_rule_132 rfl (Or.inr (Or.inr ⟨hg, by omega, by rw [eR], ?_, ?_, ?_, ?_, ?_, ?_⟩))
            · rw [jput_s, if_neg (by decide), jset_s, gs, e0]
            · rw [jput_s, if_pos rfl, jset_s, gs, e2]
            · rw [jput_s, if_neg (by decide), jset_s, gs, e12]
            · intro k hk
              rw [jput_a, jset_o _ _ _ (by omega)]
              rcases hk with hk | hk
              · rw [hk, g1]
              · funext x
                refine gk k x (by omega) (by omega) (by omega) (fun j hj h => ?_)
                unfold msl at h
                split at h <;> simp only [Prod.mk.injEq] at h <;> omega
            · intro r hr sg len m h
              have hne : r ≠ R := by omega
              have mm : ∀ k, 7 ≤ k → ∀ j, j < 11 → msl R j ≠ (k, r) := by
                intro k hk j hj h
                unfold msl at h
                split at h <;> simp only [Prod.mk.injEq] at h <;> omega
              refine RR0_congr ?_ ?_ ?_ (fun c hc => ?_) ?_ ?_ ?_ ?_ ?_ h
              · rw [jput_a, jset_o _ _ _ (by decide)]
                exact gk 3 r (by omega) (by omega) (by omega) (hmn 3 r (by decide))
              · rw [jput_a, jset_o _ _ _ (by decide)]
                exact gk 4 r (by omega) (by omega) (by omega) (hmn 4 r (by decide))
              · rw [jput_a, jset_a, if_neg (fun q => hne q.2)]
                exact gk 5 r (by omega) (by omega) (by omega) (hmn 5 r (by decide))
              · rw [jput_a, jset_o _ _ _ (by decide)]
                refine gk 6 _ (by omega) (by omega) (by omega) (fun j hj h => ?_)
                unfold msl at h
                split at h <;> simp only [Prod.mk.injEq] at h <;> omega
              · rw [jput_a, jset_o _ _ _ (by decide)]
                exact gk 7 r (by omega) (by omega) (by omega) (mm 7 (by decide))
              · rw [jput_a, jset_o _ _ _ (by decide)]
                exact gk 8 r (by omega) (by omega) (by omega) (mm 8 (by decide))
              · rw [jput_a, jset_o _ _ _ (by decide)]
                exact gk 9 r (by omega) (by omega) (by omega) (mm 9 (by decide))
              · rw [jput_a, jset_o _ _ _ (by decide)]
                exact gk 10 r (by omega) (by omega) (by omega) (mm 10 (by decide))
              · rw [jput_a, jset_o _ _ _ (by decide)]
                exact gk 11 r (by omega) (by omega) (by omega) (mm 11 (by decide))
            · rw [← eR]
              refine ⟨?_, ?_, ?_, ?_⟩
              · rw [jput_a, jset_o _ _ _ (by decide), g3, hb1]
              · rw [jput_a, jset_o _ _ _ (by decide), g4, hb2]
              · rw [jput_a, jset_a, if_pos ⟨rfl, rfl⟩, hb3]
              · exact hrs
          have hsl : u5.2 8 R = 0 ↔ pl (u.2 1) (u.1 0) 0 = u.1 0 := by
            rw [pl_all]
            constructor
            · intro h i hi h9
              have := (hrs.2.1 i).mpr ⟨hi, h9⟩
              rw [h, b_0] at this
              cases this
            · intro h
              apply Classical.byContradiction
              intro q
              obtain ⟨i, -, hi⟩ := bt_ne0.mp q
              obtain ⟨h1, h2⟩ := (hrs.2.1 i).mp hi
              exact h i h1 h2
          refine j_ald0 dX0_rule_92 ?_
          refine g0_5 dX0_rule_93 ?_
          refine j_ild4 dX0_rule_96 ?_
          refine j_ald0 dX0_rule_98 ?_
          refine g0_8 dX0_rule_99 ?_
          refine j_ild4 dX0_rule_102 ?_
          refine l0_8 dX0_rule_104 (by omega) ?_
          refine j_ifne 118 dX0_rule_105 (by decide) (fun s1 => ?_) (fun s1 => ?_)
          · refine j_iconst (nI 0) dX0_rule_118 (by decide) ?_
            refine j_top (jb false) jb_f.symm ?_
            exact k119 false (by rw [decide_eq_false (fun q => s1 (hsl.mpr q.1))])
          · refine j_ild1 dX0_rule_108 ?_
            refine j_iconst (nI 2) dX0_rule_109 (by decide) ?_
            refine j_iand dX0_rule_110 ?_
            refine j_ifne 118 dX0_rule_111 (by decide) (fun s2 => ?_) (fun s2 => ?_)
            · refine j_iconst (nI 0) dX0_rule_118 (by decide) ?_
              refine j_top (jb false) jb_f.symm ?_
              exact k119 false (by rw [decide_eq_false (fun q => s2 (by rw [mk2] at q; exact q.2))])
            · refine j_iconst (nI 1) dX0_rule_114 (by decide) ?_
              refine j_goto 119 dX0_rule_115 (by decide) ?_
              refine j_top (jb true) jb_t.symm ?_
              exact k119 true (by rw [decide_eq_true ⟨hsl.mp s1, by rw [mk2]; exact s2⟩])
        refine j_icne 76 dX0_rule_69 (by decide) (fun s1 => ?_) (fun s1 => ?_)
        · refine j_iconst (nI 0) dX0_rule_76 (by decide) ?_
          refine j_top (jb false) jb_f.symm ?_
          exact k77 false (by rw [mk4, decide_eq_false (fun q => s1 ((and4 mk).mpr q))])
        · refine j_iconst (nI 1) dX0_rule_72 (by decide) ?_
          refine j_goto 77 dX0_rule_73 (by decide) ?_
          refine j_top (jb true) jb_t.symm ?_
          exact k77 true (by rw [mk4, decide_eq_true ((and4 mk).mp s1)])
      refine j_ist4 (by decide) dX0_rule_38 ?_
      refine j_ald0 dX0_rule_40 ?_
      refine g0_3 dX0_rule_41 ?_
      refine j_ild4 dX0_rule_44 ?_
      refine j_ild1 dX0_rule_46 ?_
      refine j_iconst (nI 1) dX0_rule_47 (by decide) ?_
      refine j_iand dX0_rule_48 ?_
      refine j_iconst (nI 1) dX0_rule_49 (by decide) ?_
      refine j_icne 57 dX0_rule_50 (by decide) (fun s1 => ?_) (fun s1 => ?_)
      · refine j_iconst (nI 0) dX0_rule_57 (by decide) ?_
        refine j_top (jb false) jb_f.symm ?_
        exact k58 false (by rw [mk1, decide_eq_false (fun q => s1 ((and1 mk).mpr q))])
      · refine j_iconst (nI 1) dX0_rule_53 (by decide) ?_
        refine j_goto 58 dX0_rule_54 (by decide) ?_
        refine j_top (jb true) jb_t.symm ?_
        exact k58 true (by rw [mk1, decide_eq_true ((and1 mk).mp s1)])
    · refine j_bipush (-2) dX0_rule_31 (by decide) ?_
      exact ret _ _ _ _ dX0_rule_33 rfl (Or.inr (Or.inl ⟨hbg.mp cb, by omega, rfl, hu1.symm⟩))
  · refine j_bipush (-3) dX0_rule_19 (by decide) ?_
    refine ret _ _ _ _ dX0_rule_21 rfl (Or.inl ⟨fun q => ?_, rfl, hu1.symm⟩)
    rw [hbg.mpr q] at cb
    cases cb
set_option maxHeartbeats 4000000 in
theorem k_pattern (Z : jZ) (u : jS) (hn : u.1 0 ≤ 10) (c : Int32) : ∀ (l : Launch) (D : va_G), jKi l D Z.2.2.1 Z.2.2.2 yX0_pattern cX0_pattern 2 (some .int) { frames := 0, cells := 0, slots := 0, locals := 0 } Z.1 [.int c] (w0 Z) u (fun v u' => v = pV (u.1 0) c ∧ ((pOk (u.1 0) c ∧ u' = jput (jset u 1 (u.1 0) c) 0 (u.1 0 + 1)) ∨ (¬ pOk (u.1 0) c ∧ u' = u))) := by
  intro l D
  refine jKi_start RX0 0 (by decide) rfl (Nat.le_of_ble_eq_true rfl) (by simp [Value.category]) ?_
  intro X hR ret
  show j0 X Z cX0_pattern 2 u 0 [some (.ref Z.1), some (.int c)] []
  have bad : (c < 1 ∨ 10 < c) → j0 X Z cX0_pattern 2 u 11 [some (.ref Z.1), some (.int c)] [] := by
    intro hb
    refine j_iconst (-1) dX0_pattern_11 (by decide) ?_
    exact ret _ _ _ _ dX0_pattern_12 rfl ⟨by rw [pV, if_pos hb], Or.inr ⟨fun q => q.1 hb, rfl⟩⟩
  refine j_ild1 dX0_pattern_0 ?_
  refine j_iconst (nI 1) dX0_pattern_1 (by decide) ?_
  refine j_iclt 11 dX0_pattern_2 (by decide) (fun c1 => ?_) (fun c1 => ?_)
  · exact bad (Or.inl c1)
  · refine j_ild1 dX0_pattern_5 ?_
    refine j_bipush (nI 10) dX0_pattern_6 (by decide) ?_
    refine j_icle 13 dX0_pattern_8 (by decide) (fun c2 => ?_) (fun c2 => ?_)
    · have hok : ¬ (c < 1 ∨ 10 < c) := by
        rintro (q | q)
        · exact c1 q
        · exact absurd c2 (Int32.not_le.mpr q)
      refine j_ald0 dX0_pattern_13 ?_
      refine g0_0 dX0_pattern_14 ?_
      refine j_bipush (nI 10) dX0_pattern_17 (by decide) ?_
      refine j_icltN 25 dX0_pattern_19 (by decide) (by omega) (by omega) (fun c3 => ?_) (fun c3 => ?_)
      · refine j_ald0 dX0_pattern_25 ?_
        refine g0_1 dX0_pattern_26 ?_
        refine j_ald0 dX0_pattern_29 ?_
        refine g0_0 dX0_pattern_30 ?_
        refine j_ild1 dX0_pattern_33 ?_
        refine s0_1 dX0_pattern_34 (by omega) ?_
        refine j_ald0 dX0_pattern_35 ?_
        refine j_dup rfl dX0_pattern_36 ?_
        refine g0_0 dX0_pattern_37 ?_
        refine j_iconst (nI 1) dX0_pattern_40 (by decide) ?_
        first | refine j_iaddN dX0_pattern_41 ?_ | refine j_iadd dX0_pattern_41 ?_
        refine p0_0 dX0_pattern_42 ?_
        refine j_ald0 dX0_pattern_45 ?_
        refine g0_0 dX0_pattern_46 ?_
        exact ret _ _ _ _ dX0_pattern_49 rfl ⟨by rw [pV, if_neg hok, if_neg (by omega)]; rfl, Or.inl ⟨⟨hok, c3⟩, rfl⟩⟩
      · refine j_bipush (-2) dX0_pattern_22 (by decide) ?_
        exact ret _ _ _ _ dX0_pattern_24 rfl ⟨by rw [pV, if_neg hok, if_pos c3], Or.inr ⟨fun q => by have := q.2; omega, rfl⟩⟩
    · exact bad (Or.inr (Int32.not_le.mp c2))
set_option maxHeartbeats 4000000 in
theorem k_dropRule (Z : jZ) (u : jS) (hq : u.1 2 ≤ 12) : ∀ (l : Launch) (D : va_G), jKi l D Z.2.2.1 Z.2.2.2 yX0_dropRule cX0_dropRule 1 (some .int) { frames := 0, cells := 0, slots := 0, locals := 0 } Z.1 [] (w0 Z) u (fun v u' => (u.1 2 = 0 ∧ v = -5 ∧ u' = u) ∨ (0 < u.1 2 ∧ v = nI (u.1 2 - 1) ∧ u' = jput u 2 (u.1 2 - 1))) := by
  intro l D
  refine jKi_start RX0 0 (by decide) rfl (Nat.le_of_ble_eq_true rfl) (by simp [Value.category]) ?_
  intro X hR ret
  show j0 X Z cX0_dropRule 1 u 0 [some (.ref Z.1)] []
  refine j_ald0 dX0_dropRule_0 ?_
  refine g0_2 dX0_dropRule_1 ?_
  refine j_ifneN 10 dX0_dropRule_4 (by decide) (by omega) (fun c1 => ?_) (fun c1 => ?_)
  · refine j_ald0 dX0_dropRule_10 ?_
    refine j_dup rfl dX0_dropRule_11 ?_
    refine g0_2 dX0_dropRule_12 ?_
    refine j_iconst (nI 1) dX0_dropRule_15 (by decide) ?_
    refine j_isubN (by omega) dX0_dropRule_16 ?_
    refine p0_2 dX0_dropRule_17 ?_
    refine j_ald0 dX0_dropRule_20 ?_
    refine g0_2 dX0_dropRule_21 ?_
    exact ret _ _ _ _ dX0_dropRule_24 rfl (Or.inr ⟨c1, rfl, rfl⟩)
  · refine j_bipush (-5) dX0_dropRule_7 (by decide) ?_
    exact ret _ _ _ _ dX0_dropRule_9 rfl (Or.inl ⟨c1, rfl, rfl⟩)
set_option maxHeartbeats 4000000 in
theorem k_rules (Z : jZ) (u : jS) : ∀ (l : Launch) (D : va_G), jKi l D Z.2.2.1 Z.2.2.2 yX0_rules cX0_rules 1 (some .int) { frames := 0, cells := 0, slots := 0, locals := 0 } Z.1 [] (w0 Z) u (fun v u' => u = u' ∧ v = nI (u.1 2)) := by
  intro l D
  refine jKi_start RX0 0 (by decide) rfl (Nat.le_of_ble_eq_true rfl) (by simp [Value.category]) ?_
  intro X hR ret
  show j0 X Z cX0_rules 1 u 0 [some (.ref Z.1)] []
  refine j_ald0 dX0_rules_0 ?_
  refine g0_2 dX0_rules_1 ?_
  exact ret _ _ _ _ dX0_rules_4 rfl ⟨rfl, rfl⟩
set_option maxHeartbeats 4000000 in
theorem k_clearPath (Z : jZ) (u : jS) : ∀ (l : Launch) (D : va_G), jKv l D Z.2.2.1 Z.2.2.2 yX0_clearPath cX0_clearPath 1 { frames := 0, cells := 0, slots := 0, locals := 0 } Z.1 [] (w0 Z) u (fun u' => u' = jset (jput u 12 1) 13 0 (nI 0)) := by
  intro l D
  refine jKv_start RX0 0 (by decide) rfl (Nat.le_of_ble_eq_true rfl) (by simp [Value.category]) ?_
  intro X hR ret
  show j0 X Z cX0_clearPath 1 u 0 [some (.ref Z.1)] []
  refine j_ald0 dX0_clearPath_0 ?_
  refine j_iconst (nI 1) dX0_clearPath_1 (by decide) ?_
  refine p0_12 dX0_clearPath_2 ?_
  refine j_ald0 dX0_clearPath_5 ?_
  refine g0_13 dX0_clearPath_6 ?_
  refine j_iconst (nI 0) dX0_clearPath_9 (by decide) ?_
  refine j_iconst (nI 0) dX0_clearPath_10 (by decide) ?_
  refine s0_13 dX0_clearPath_11 (by omega) ?_
  exact ret _ _ _ dX0_clearPath_12 rfl
set_option maxHeartbeats 4000000 in
theorem k_path (Z : jZ) (u : jS) (h1 : 1 ≤ u.1 12) (h6 : u.1 12 ≤ 6) (z : Nat) (hz : z ≤ 8) (hl : u.2 13 (u.1 12 - 1) = nI z) (c : Int32) : ∀ (l : Launch) (D : va_G), jKi l D Z.2.2.1 Z.2.2.2 yX0_path cX0_path 3 (some .int) { frames := 0, cells := 0, slots := 0, locals := 0 } Z.1 [.int c] (w0 Z) u (fun v u' => v = pathV (u.1 12) (pathK (u.1 12) z c) ∧ u' = pathU 12 13 14 u (u.1 12) z c (pathK (u.1 12) z c)) := by
  intro l D
  refine jKi_start RX0 1 (by decide) rfl (Nat.le_of_ble_eq_true rfl) (by simp [Value.category]) ?_
  intro X hR ret
  show j0 X Z cX0_path 3 u 0 [some (.ref Z.1), some (.int c), none] []
  obtain ⟨k, ek⟩ : ∃ k, k = pathK (u.1 12) z c := ⟨_, rfl⟩
  rw [← ek] at ret
  have main : ¬ ((c < 1 ∨ 6 < c) ∧ ¬ c = 9) → j0 X Z cX0_path 3 u 19 [some (.ref Z.1), some (.int c), none] [] := by
    intro hm
    rw [pathK, if_neg hm] at ek
    refine j_ald0 dX0_path_19 ?_
    refine g0_12 dX0_path_20 ?_
    refine j_iconst (nI 1) dX0_path_23 (by decide) ?_
    refine j_isubN (by omega) dX0_path_24 ?_
    refine j_ist2 (by decide) dX0_path_25 ?_
    refine j_ild1 dX0_path_26 ?_
    refine j_bipush (nI 9) dX0_path_27 (by decide) ?_
    refine j_icne 78 dX0_path_29 (by decide) (fun c9 => ?_) (fun c9 => ?_)
    · rw [if_neg (show ¬ c = 9 from c9)] at ek
      refine j_ald0 dX0_path_78 ?_
      refine g0_13 dX0_path_79 ?_
      refine j_ild2 dX0_path_82 ?_
      refine l0_13 dX0_path_83 (by omega) ?_
      refine j_top (nI z) hl ?_
      refine j_bipush (nI 8) dX0_path_84 (by decide) ?_
      refine j_icltN 92 dX0_path_86 (by decide) (by omega) (by omega) (fun c8 => ?_) (fun c8 => ?_)
      · rw [if_neg (by omega)] at ek
        refine j_ald0 dX0_path_92 ?_
        refine g0_14 dX0_path_93 ?_
        refine j_ild2 dX0_path_96 ?_
        refine j_bipush (nI 8) dX0_path_97 (by decide) ?_
        first | refine j_imulN dX0_path_99 ?_ | refine j_imul dX0_path_99 ?_
        refine j_ald0 dX0_path_100 ?_
        refine g0_13 dX0_path_101 ?_
        refine j_ild2 dX0_path_104 ?_
        refine l0_13 dX0_path_105 (by omega) ?_
        refine j_top (nI z) hl ?_
        first | refine j_iaddN dX0_path_106 ?_ | refine j_iadd dX0_path_106 ?_
        refine j_ild1 dX0_path_107 ?_
        refine s0_14 dX0_path_108 (by omega) ?_
        refine j_ald0 dX0_path_109 ?_
        refine g0_13 dX0_path_110 ?_
        refine j_ild2 dX0_path_113 ?_
        refine j_dup2 rfl rfl dX0_path_114 ?_
        refine l0_13 dX0_path_115 (by omega) ?_
        refine j_top (nI z) (by rw [jset_o _ _ _ (by decide)]; exact hl) ?_
        refine j_iconst (nI 1) dX0_path_116 (by decide) ?_
        first | refine j_iaddN dX0_path_117 ?_ | refine j_iadd dX0_path_117 ?_
        refine s0_13 dX0_path_118 (by omega) ?_
        refine j_ald0 dX0_path_119 ?_
        refine g0_12 dX0_path_120 ?_
        exact ret _ _ _ _ dX0_path_123 rfl ⟨by rw [ek]; rfl, by rw [ek]; rfl⟩
      · rw [if_pos c8] at ek
        refine j_bipush (-2) dX0_path_89 (by decide) ?_
        exact ret _ _ _ _ dX0_path_91 rfl ⟨by rw [ek]; rfl, by rw [ek]; rfl⟩
    · rw [if_pos (show c = 9 from c9)] at ek
      have bad : (z = 0 ∨ u.1 12 = 6) → j0 X Z cX0_path 3 u 50 [some (.ref Z.1), some (.int c), some (.int (nI (u.1 12 - 1)))] [] := by
        intro hb
        rw [if_pos hb] at ek
        refine j_bipush (-4) dX0_path_50 (by decide) ?_
        exact ret _ _ _ _ dX0_path_52 rfl ⟨by rw [ek]; rfl, by rw [ek]; rfl⟩
      refine j_ald0 dX0_path_32 ?_
      refine g0_13 dX0_path_33 ?_
      refine j_ild2 dX0_path_36 ?_
      refine l0_13 dX0_path_37 (by omega) ?_
      refine j_top (nI z) hl ?_
      refine j_ifeqN 50 dX0_path_38 (by decide) (by omega) (fun z0 => ?_) (fun z0 => ?_)
      · exact bad (Or.inl z0)
      · refine j_ald0 dX0_path_41 ?_
        refine g0_12 dX0_path_42 ?_
        refine j_bipush (nI 6) dX0_path_45 (by decide) ?_
        refine j_icneN 53 dX0_path_47 (by decide) (by omega) (by omega) (fun z6 => ?_) (fun z6 => ?_)
        · rw [if_neg (by omega)] at ek
          refine j_ald0 dX0_path_53 ?_
          refine g0_13 dX0_path_54 ?_
          refine j_ald0 dX0_path_57 ?_
          refine g0_12 dX0_path_58 ?_
          refine j_iconst (nI 0) dX0_path_61 (by decide) ?_
          refine s0_13 dX0_path_62 (by omega) ?_
          refine j_ald0 dX0_path_63 ?_
          refine j_dup rfl dX0_path_64 ?_
          refine g0_12 dX0_path_65 ?_
          refine j_iconst (nI 1) dX0_path_68 (by decide) ?_
          first | refine j_iaddN dX0_path_69 ?_ | refine j_iadd dX0_path_69 ?_
          refine p0_12 dX0_path_70 ?_
          refine j_ald0 dX0_path_73 ?_
          refine g0_12 dX0_path_74 ?_
          exact ret _ _ _ _ dX0_path_77 rfl ⟨by rw [ek]; rfl, by rw [ek]; rfl⟩
        · exact bad (Or.inr z6)
  have chk : (c < 1 ∨ 6 < c) → j0 X Z cX0_path 3 u 11 [some (.ref Z.1), some (.int c), none] [] := by
    intro hc
    refine j_ild1 dX0_path_11 ?_
    refine j_bipush (nI 9) dX0_path_12 (by decide) ?_
    refine j_iceq 19 dX0_path_14 (by decide) (fun c9 => ?_) (fun c9 => ?_)
    · exact main (fun q => q.2 c9)
    · rw [pathK, if_pos ⟨hc, c9⟩] at ek
      refine j_iconst (-1) dX0_path_17 (by decide) ?_
      exact ret _ _ _ _ dX0_path_18 rfl ⟨by rw [ek]; rfl, by rw [ek]; rfl⟩
  refine j_ild1 dX0_path_0 ?_
  refine j_iconst (nI 1) dX0_path_1 (by decide) ?_
  refine j_iclt 11 dX0_path_2 (by decide) (fun c1 => ?_) (fun c1 => ?_)
  · exact chk (Or.inl c1)
  · refine j_ild1 dX0_path_5 ?_
    refine j_bipush (nI 6) dX0_path_6 (by decide) ?_
    refine j_icle 19 dX0_path_8 (by decide) (fun c2 => ?_) (fun c2 => ?_)
    · refine main (fun q => ?_)
      rcases q.1 with q | q
      · exact c1 q
      · exact absurd c2 (Int32.not_le.mpr q)
    · exact chk (Or.inr (Int32.not_le.mp c2))
end
section
set_option maxRecDepth 100000
/-! IgnoreRules: walkName, walk, firstIgnored and the questions -/
set_option maxHeartbeats 4000000 in
theorem k_walkName (Z : jZ) (u : jS) (k z : Nat) (hk : k < 6) (hq : u.1 2 ≤ 12) (hz : u.2 13 k = nI z) (hz8 : z ≤ 8) (ho : ∀ i, i < z → okl (u.2 14 (k * 8 + i))) (ln : Nat → Bool) (hln : ∀ r, r < u.1 2 → u.2 5 r = jb (ln r)) : ∀ (l : Launch) (D : va_G), jKv l D Z.2.2.1 Z.2.2.2 yX0_walkName cX0_walkName 5 { frames := 2, cells := 0, slots := 0, locals := 50 } Z.1 [.int (nI k)] (w0 Z) u (fun u' => u'.1 = u.1 ∧ (∀ j, j ≠ 15 → u'.2 j = u.2 j) ∧ ∀ r, r < u.1 2 → u'.2 15 r = stN (fun c => u.2 6 (r * 7 + c)) (u.2 7 r) (u.2 10 r) (u.2 9 r) (fun i => u.2 14 (k * 8 + i)) z (stB (ln r) (u.2 7 r) (u.2 8 r) (u.2 10 r) (u.2 9 r) k (u.2 15 r))) := by
  intro l D
  refine jKv_start RX0 3 (by decide) rfl (Nat.le_of_ble_eq_true rfl) (by simp [Value.category]) ?_
  intro X hR ret
  show j0 X Z cX0_walkName 5 u 0 [some (.ref Z.1), some (.int (nI k)), none, none, none] []
  have outer : ∀ (d r : Nat) (u1 : jS) (o3 o4 : Option Value), r + d = u.1 2 → u1.1 = u.1 → (∀ j, j ≠ 15 → u1.2 j = u.2 j) → (∀ a, a < r → u1.2 15 a = stN (fun c => u.2 6 (a * 7 + c)) (u.2 7 a) (u.2 10 a) (u.2 9 a) (fun i => u.2 14 (k * 8 + i)) z (stB (ln a) (u.2 7 a) (u.2 8 a) (u.2 10 a) (u.2 9 a) k (u.2 15 a))) → (∀ a, r ≤ a → u1.2 15 a = u.2 15 a) → j0 X Z cX0_walkName 5 u1 2 [some (.ref Z.1), some (.int (nI k)), some (.int (nI r)), o3, o4] [] := by
    intro d
    induction d with
    | zero =>
      intro r u1 o3 o4 hr h1 h2 h3 h4
      have hq1 : u1.1 2 = u.1 2 := by rw [h1]
      refine j_ild2 dX0_walkName_2 ?_
      refine j_ald0 dX0_walkName_3 ?_
      refine g0_2 dX0_walkName_4 ?_
      refine j_icgeN 88 dX0_walkName_7 (by decide) (by omega) (by omega) (fun c1 => ?_) (fun c1 => ?_)
      · exact ret u1 _ _ dX0_walkName_88 ⟨h1, h2, fun a ha => h3 a (by omega)⟩
      · omega
    | succ d ih =>
      intro r u1 o3 o4 hr h1 h2 h3 h4
      have hq1 : u1.1 2 = u.1 2 := by rw [h1]
      refine j_ild2 dX0_walkName_2 ?_
      refine j_ald0 dX0_walkName_3 ?_
      refine g0_2 dX0_walkName_4 ?_
      refine j_icgeN 88 dX0_walkName_7 (by decide) (by omega) (by omega) (fun c1 => ?_) (fun c1 => ?_)
      · omega
      · have inner : ∀ (e i : Nat) (s0 : Int32), i + e = z → j0 X Z cX0_walkName 5 u1 39 [some (.ref Z.1), some (.int (nI k)), some (.int (nI r)), some (.int (stN (fun c => u.2 6 (r * 7 + c)) (u.2 7 r) (u.2 10 r) (u.2 9 r) (fun i => u.2 14 (k * 8 + i)) i (stB (ln r) (u.2 7 r) (u.2 8 r) (u.2 10 r) (u.2 9 r) k (u.2 15 r)))), some (.int (nI i))] [] := by
          intro e
          induction e with
          | zero =>
            intro i s0 hi
            refine j_ild4 dX0_walkName_39 ?_
            refine j_ald0 dX0_walkName_41 ?_
            refine g0_13 dX0_walkName_42 ?_
            refine j_ild1 dX0_walkName_45 ?_
            refine l0_13 dX0_walkName_46 (by omega) ?_
            refine j_top (nI z) (by rw [h2 13 (by decide)]; exact hz) ?_
            refine j_icgeN 75 dX0_walkName_47 (by decide) (by omega) (by omega) (fun c2 => ?_) (fun c2 => ?_)
            · refine j_ald0 dX0_walkName_75 ?_
              refine g0_15 dX0_walkName_76 ?_
              refine j_ild2 dX0_walkName_79 ?_
              refine j_ild3 dX0_walkName_80 ?_
              refine s0_15 dX0_walkName_81 (by omega) ?_
              refine j_inc2N (by decide) dX0_walkName_82 ?_
              refine j_goto 2 dX0_walkName_85 (by decide) ?_
              refine ih (r + 1) _ _ _ (by omega) h1 (fun j hj => by rw [jset_o _ _ _ hj]; exact h2 j hj) (fun a ha => ?_) (fun a ha => ?_)
              · rw [jset_a]
                by_cases ea : a = r
                · rw [if_pos ⟨rfl, ea⟩, ea, show i = z by omega]
                · rw [if_neg (fun q => ea q.2)]
                  exact h3 a (by omega)
              · rw [jset_a, if_neg (by omega)]
                exact h4 a (by omega)
            · omega
          | succ e ihe =>
            intro i s0 hi
            refine j_ild4 dX0_walkName_39 ?_
            refine j_ald0 dX0_walkName_41 ?_
            refine g0_13 dX0_walkName_42 ?_
            refine j_ild1 dX0_walkName_45 ?_
            refine l0_13 dX0_walkName_46 (by omega) ?_
            refine j_top (nI z) (by rw [h2 13 (by decide)]; exact hz) ?_
            refine j_icgeN 75 dX0_walkName_47 (by decide) (by omega) (by omega) (fun c2 => ?_) (fun c2 => ?_)
            · omega
            · refine j_ald0 dX0_walkName_50 ?_
              refine j_ild2 dX0_walkName_51 ?_
              refine j_ild3 dX0_walkName_52 ?_
              refine j_ald0 dX0_walkName_53 ?_
              refine g0_14 dX0_walkName_54 ?_
              refine j_ild1 dX0_walkName_57 ?_
              refine j_bipush (nI 8) dX0_walkName_58 (by decide) ?_
              first | refine j_imulN dX0_walkName_60 ?_ | refine j_imul dX0_walkName_60 ?_
              refine j_ild4 dX0_walkName_61 ?_
              first | refine j_iaddN dX0_walkName_63 ?_ | refine j_iadd dX0_walkName_63 ?_
              refine l0_14 dX0_walkName_64 (by omega) ?_
              obtain ⟨a, ha1, ha6, ha⟩ := ho i (by omega)
              refine j_top (nI a) (by rw [h2 14 (by decide)]; exact ha) ?_
              refine c0_i (k_onLetter Z u1 r (by omega) _ a (by omega)) hR (lw_V q141 q143 qs8 q18 q144) rfl rfl hd_X0_onLetter ⟨by decide, by decide⟩ rfl rfl (Nat.le_of_ble_eq_true rfl) dX0_walkName_65 (fun v u2 hp => ?_)
              obtain ⟨rfl, hv⟩ := hp
              refine j_ist3 (by decide) dX0_walkName_68 ?_
              refine j_inc4N (by decide) dX0_walkName_69 ?_
              refine j_goto 39 dX0_walkName_72 (by decide) ?_
              have := ihe (i + 1) s0 (by omega)
              rw [stN] at this
              rw [hv, h2 6 (by decide), h2 7 (by decide), h2 9 (by decide), h2 10 (by decide)]
              rw [ha, nI_clamp (by omega)] at this
              exact this
        have at35 : ∀ s0 : Int32, s0 = stB (ln r) (u.2 7 r) (u.2 8 r) (u.2 10 r) (u.2 9 r) k (u.2 15 r) → j0 X Z cX0_walkName 5 u1 35 [some (.ref Z.1), some (.int (nI k)), some (.int (nI r)), o3, o4] [.int s0] := by
          intro s0 hs0
          refine j_ist3 (by decide) dX0_walkName_35 ?_
          refine j_iconst (nI 0) dX0_walkName_36 (by decide) ?_
          refine j_ist4 (by decide) dX0_walkName_37 ?_
          rw [hs0]
          exact inner z 0 0 (by omega)
        refine j_ild1 dX0_walkName_10 ?_
        refine j_ifneN 24 dX0_walkName_11 (by decide) (by omega) (fun k0 => ?_) (fun k0 => ?_)
        · refine j_ald0 dX0_walkName_24 ?_
          refine j_ild2 dX0_walkName_25 ?_
          refine j_ald0 dX0_walkName_26 ?_
          refine g0_15 dX0_walkName_27 ?_
          refine j_ild2 dX0_walkName_30 ?_
          refine l0_15 dX0_walkName_31 (by omega) ?_
          refine c0_i (k_onBorder Z u1 r (by omega) _ (ln r) (by rw [h2 5 (by decide)]; exact hln r (by omega))) hR (lw_V q137 q139 qs7 q18 q140) rfl rfl hd_X0_onBorder ⟨by decide, by decide⟩ rfl rfl (Nat.le_of_ble_eq_true rfl) dX0_walkName_32 (fun v u2 hp => ?_)
          obtain ⟨rfl, hv⟩ := hp
          refine at35 v ?_
          rw [hv, h2 7 (by decide), h2 8 (by decide), h2 9 (by decide), h2 10 (by decide), h4 r (Nat.le_refl _), stB, if_neg (by omega)]
        · refine j_ald0 dX0_walkName_14 ?_
          refine j_ild2 dX0_walkName_15 ?_
          refine j_iconst (nI 1) dX0_walkName_16 (by decide) ?_
          refine j_iconst (nI 1) dX0_walkName_17 (by decide) ?_
          refine j_top (jb true) jb_t.symm ?_
          refine c0_i (k_spread Z u1 r (by omega) _ true) hR (lw_V q133 q135 qs6 q18 q136) rfl rfl hd_X0_spread ⟨by decide, by decide⟩ rfl rfl (Nat.le_of_ble_eq_true rfl) dX0_walkName_18 (fun v u2 hp => ?_)
          obtain ⟨rfl, hv⟩ := hp
          refine j_goto 35 dX0_walkName_21 (by decide) ?_
          refine at35 v ?_
          rw [hv, h2 7 (by decide), h2 9 (by decide), stB, if_pos k0]
  refine j_iconst (nI 0) dX0_walkName_0 (by decide) ?_
  refine j_ist2 (by decide) dX0_walkName_1 ?_
  exact outer (u.1 2) 0 u _ _ (by omega) rfl (fun _ _ => rfl) (fun a ha => by omega) (fun _ _ => rfl)
set_option maxHeartbeats 4000000 in
theorem k_walk (Z : jZ) (u : jS) (ln fd ng : Nat → Bool) (sz : Nat → Nat) (hw : WF0 u ln fd ng sz) (fo : Bool) : ∀ (l : Launch) (D : va_G), jKi l D Z.2.2.1 Z.2.2.2 yX0_walk cX0_walk 5 (some .boolean) { frames := 3, cells := 0, slots := 0, locals := 74 } Z.1 [.int (jb fo)] (w0 Z) u (fun v u' => sm0 u u' ∧ v = jb (decide (0 < sz (u.1 12 - 1))) ∧ (0 < sz (u.1 12 - 1) → ∀ k, k < u.1 12 → u'.2 16 k = lastV (hit0 u ln fd sz fo (u.1 12) k) (u.1 2) ∧ u'.2 17 k = nI (cntV (hit0 u ln fd sz fo (u.1 12) k) (u.1 2)))) := by
  intro l D
  refine jKi_start RX0 3 (by decide) rfl (Nat.le_of_ble_eq_true rfl) (by simp [Value.category]) ?_
  intro X hR ret
  show j0 X Z cX0_walk 5 u 0 [some (.ref Z.1), some (.int (jb fo)), none, none, none] []
  obtain ⟨hN1, hN6, hq, hnm, hrl⟩ := id hw
  obtain ⟨N, eN⟩ : ∃ N, N = u.1 12 := ⟨_, rfl⟩
  obtain ⟨q, eq⟩ : ∃ q, q = u.1 2 := ⟨_, rfl⟩
  rw [← eN] at hN1 hN6 hnm ret
  rw [← eq] at hq hrl ret
  refine j_ald0 dX0_walk_0 ?_
  refine g0_13 dX0_walk_1 ?_
  refine j_ald0 dX0_walk_4 ?_
  refine g0_12 dX0_walk_5 ?_
  refine j_iconst (nI 1) dX0_walk_8 (by decide) ?_
  refine j_isubN (by omega) dX0_walk_9 ?_
  refine l0_13 dX0_walk_10 (by omega) ?_
  rw [← eN]
  refine j_top (nI (sz (N - 1))) (hnm (N - 1) (by omega)).1 ?_
  have hz8 := (hnm (N - 1) (by omega)).2.1
  refine j_ifneN 16 dX0_walk_11 (by decide) (by omega) (fun z0 => ?_) (fun z0 => ?_)
  · have outer : ∀ (d k : Nat) (u1 : jS) (o3 o4 : Option Value), k + d = N → sm0 u u1 → (∀ k', k = k' + 1 → ∀ r, r < q → u1.2 15 r = stA (ln r) (fun c => u.2 6 (r * 7 + c)) (u.2 7 r) (u.2 8 r) (u.2 10 r) (u.2 9 r) (fun q i => u.2 14 (q * 8 + i)) sz k') → (∀ a, a < k → u1.2 16 a = lastV (hit0 u ln fd sz fo N a) q ∧ u1.2 17 a = nI (cntV (hit0 u ln fd sz fo N a) q)) → j0 X Z cX0_walk 5 u1 18 [some (.ref Z.1), some (.int (jb fo)), some (.int (nI k)), o3, o4] [] := by
      intro d
      induction d with
      | zero =>
        intro k u1 o3 o4 hk hs hst hres
        have hN : u1.1 12 = N := by rw [hs.1, eN]
        refine j_ild2 dX0_walk_18 ?_
        refine j_ald0 dX0_walk_19 ?_
        refine g0_12 dX0_walk_20 ?_
        refine j_icgeN 140 dX0_walk_23 (by decide) (by omega) (by omega) (fun c1 => ?_) (fun c1 => ?_)
        · refine j_iconst (nI 1) dX0_walk_140 (by decide) ?_
          exact ret _ _ _ _ dX0_walk_141 (by decide) ⟨hs, by rw [decide_eq_true z0]; decide, fun _ a ha => hres a (by omega)⟩
        · omega
      | succ d ih =>
        intro k u1 o3 o4 hk hs hst hres
        have hN : u1.1 12 = N := by rw [hs.1, eN]
        have hq1 : u1.1 2 = q := by rw [hs.1, eq]
        refine j_ild2 dX0_walk_18 ?_
        refine j_ald0 dX0_walk_19 ?_
        refine g0_12 dX0_walk_20 ?_
        refine j_icgeN 140 dX0_walk_23 (by decide) (by omega) (by omega) (fun c1 => ?_) (fun c1 => ?_)
        · omega
        · obtain ⟨hk1, hk2, hk3⟩ := hnm k (by omega)
          refine j_ald0 dX0_walk_26 ?_
          refine j_ild2 dX0_walk_27 ?_
          refine c0_v (k_walkName Z u1 k (sz k) (by omega) (by omega) (by rw [hs.2 13 (by decide)]; exact hk1) hk2 (by rw [hs.2 14 (by decide)]; exact hk3) ln (by rw [hs.2 5 (by decide), hq1]; exact fun r hr => (hrl r hr).1)) hR (lw_V q129 q131 qs5 q18 q132) rfl rfl hd_X0_walkName ⟨by decide, by decide⟩ rfl rfl (Nat.le_of_ble_eq_true rfl) dX0_walk_28 (fun u2 hp2 => ?_)
          obtain ⟨hp1, hp2, hp3⟩ := hp2
          have hs2 : sm0 u u2 := ⟨by rw [hp1]; exact hs.1, fun j hj => by rw [hp2 j (by omega)]; exact hs.2 j hj⟩
          have hst2 : ∀ r, r < q → u2.2 15 r = stA (ln r) (fun c => u.2 6 (r * 7 + c)) (u.2 7 r) (u.2 8 r) (u.2 10 r) (u.2 9 r) (fun q i => u.2 14 (q * 8 + i)) sz k := by
            intro r hr
            rw [hp3 r (by omega), hs.2 6 (by decide), hs.2 7 (by decide), hs.2 8 (by decide), hs.2 9 (by decide), hs.2 10 (by decide), hs.2 14 (by decide)]
            match k, hst with
            | 0, _ => rw [stA, stB_0 (s' := 0)]
            | k + 1, hst => rw [stA, hst k rfl r hr]
          have hr16 : ∀ a, a < k → u2.2 16 a = lastV (hit0 u ln fd sz fo N a) q ∧ u2.2 17 a = nI (cntV (hit0 u ln fd sz fo N a) q) := by
            rw [hp2 16 (by decide), hp2 17 (by decide)]
            exact hres
          have hN2 : u2.1 12 = N := by rw [hs2.1, eN]
          have at50 : ∀ isF : Bool, isF = (fo || decide (k + 1 < N)) → j0 X Z cX0_walk 5 u2 50 [some (.ref Z.1), some (.int (jb fo)), some (.int (nI k)), o3, o4] [.int (jb isF)] := by
            intro isF hF
            have inner : ∀ (e r : Nat) (u3 : jS), r + e = q → sm0 u u3 → u3.2 15 = u2.2 15 → (∀ a, a < k → u3.2 16 a = lastV (hit0 u ln fd sz fo N a) q ∧ u3.2 17 a = nI (cntV (hit0 u ln fd sz fo N a) q)) → u3.2 16 k = lastV (hit0 u ln fd sz fo N k) r → u3.2 17 k = nI (cntV (hit0 u ln fd sz fo N k) r) → j0 X Z cX0_walk 5 u3 69 [some (.ref Z.1), some (.int (jb fo)), some (.int (nI k)), some (.int (jb isF)), some (.int (nI r))] [] := by
              intro e
              induction e with
              | zero =>
                intro r u3 hr hs3 h15 hres3 h16 h17
                have hq3 : u3.1 2 = q := by rw [hs3.1, eq]
                refine j_ild4 dX0_walk_69 ?_
                refine j_ald0 dX0_walk_71 ?_
                refine g0_2 dX0_walk_72 ?_
                refine j_icgeN 134 dX0_walk_75 (by decide) (by omega) (by omega) (fun c2 => ?_) (fun c2 => ?_)
                · refine j_inc2N (by decide) dX0_walk_134 ?_
                  refine j_goto 18 dX0_walk_137 (by decide) ?_
                  refine ih (k + 1) u3 _ _ (by omega) hs3 (fun k' hk' r hr => ?_) (fun a ha => ?_)
                  · rw [h15, show k' = k by omega]
                    exact hst2 r hr
                  · by_cases ea : a = k
                    · rw [ea]
                      rw [show r = q by omega] at h16 h17
                      exact ⟨h16, h17⟩
                    · exact hres3 a (by omega)
                · omega
              | succ e ihe =>
                intro r u3 hr hs3 h15 hres3 h16 h17
                have hq3 : u3.1 2 = q := by rw [hs3.1, eq]
                have hcn := cntV_le (hit0 u ln fd sz fo N k) r
                refine j_ild4 dX0_walk_69 ?_
                refine j_ald0 dX0_walk_71 ?_
                refine g0_2 dX0_walk_72 ?_
                refine j_icgeN 134 dX0_walk_75 (by decide) (by omega) (by omega) (fun c2 => ?_) (fun c2 => ?_)
                · omega
                · have hval : u3.2 15 r &&& u3.2 11 r = stA (ln r) (fun c => u.2 6 (r * 7 + c)) (u.2 7 r) (u.2 8 r) (u.2 10 r) (u.2 9 r) (fun q i => u.2 14 (q * 8 + i)) sz k &&& u.2 11 r := by
                    rw [h15, hst2 r (by omega), hs3.2 11 (by decide)]
                  have no : hit0 u ln fd sz fo N k r = false → j0 X Z cX0_walk 5 u3 128 [some (.ref Z.1), some (.int (jb fo)), some (.int (nI k)), some (.int (jb isF)), some (.int (nI r))] [] := by
                    intro hno
                    refine j_inc4N (by decide) dX0_walk_128 ?_
                    refine j_goto 69 dX0_walk_131 (by decide) ?_
                    refine ihe (r + 1) u3 (by omega) hs3 h15 hres3 ?_ ?_
                    · rw [lastV, if_neg (by rw [hno]; decide)]
                      exact h16
                    · rw [cntV, if_neg (by rw [hno]; decide)]
                      exact h17
                  have yes : hit0 u ln fd sz fo N k r = true → j0 X Z cX0_walk 5 u3 110 [some (.ref Z.1), some (.int (jb fo)), some (.int (nI k)), some (.int (jb isF)), some (.int (nI r))] [] := by
                    intro hyes
                    refine j_ald0 dX0_walk_110 ?_
                    refine g0_16 dX0_walk_111 ?_
                    refine j_ild2 dX0_walk_114 ?_
                    refine j_ild4 dX0_walk_115 ?_
                    refine s0_16 dX0_walk_117 (by omega) ?_
                    refine j_ald0 dX0_walk_118 ?_
                    refine g0_17 dX0_walk_119 ?_
                    refine j_ild2 dX0_walk_122 ?_
                    refine j_dup2 rfl rfl dX0_walk_123 ?_
                    refine l0_17 dX0_walk_124 (by omega) ?_
                    refine j_top (nI (cntV (hit0 u ln fd sz fo N k) r)) (by rw [jset_o _ _ _ (by decide)]; exact h17) ?_
                    refine j_iconst (nI 1) dX0_walk_125 (by decide) ?_
                    first | refine j_iaddN dX0_walk_126 ?_ | refine j_iadd dX0_walk_126 ?_
                    refine s0_17 dX0_walk_127 (by omega) ?_
                    refine j_inc4N (by decide) dX0_walk_128 ?_
                    refine j_goto 69 dX0_walk_131 (by decide) ?_
                    refine ihe (r + 1) _ (by omega) (sm0_set (sm0_set hs3 (by decide) _ _) (by decide) _ _) h15 (fun a ha => ?_) ?_ ?_
                    · rw [jset_o _ _ _ (by decide), jset_a, if_neg (by omega), jset_a, if_neg (by omega), jset_o _ _ _ (by decide)]
                      exact hres3 a ha
                    · rw [jset_o _ _ _ (by decide), jset_a, if_pos ⟨rfl, rfl⟩, lastV, if_pos hyes]
                    · rw [jset_a, if_pos ⟨rfl, rfl⟩, cntV, if_pos hyes]
                  refine j_ald0 dX0_walk_78 ?_
                  refine g0_15 dX0_walk_79 ?_
                  refine j_ild4 dX0_walk_82 ?_
                  refine l0_15 dX0_walk_84 (by omega) ?_
                  refine j_ald0 dX0_walk_85 ?_
                  refine g0_11 dX0_walk_86 ?_
                  refine j_ild4 dX0_walk_89 ?_
                  refine l0_11 dX0_walk_91 (by omega) ?_
                  refine j_iand dX0_walk_92 ?_
                  rw [hval]
                  refine j_ifeq 128 dX0_walk_93 (by decide) (fun e0 => ?_) (fun e0 => ?_)
                  · exact no (by rw [hit0, decide_eq_false (fun h => h e0)]; rfl)
                  · refine j_ild3 dX0_walk_96 ?_
                    refine j_ifneB 110 dX0_walk_97 (by decide) (fun eF => ?_) (fun eF => ?_)
                    · exact yes (by rw [hit0, decide_eq_true e0, ← hF, eF]; rfl)
                    · refine j_ald0 dX0_walk_100 ?_
                      refine g0_4 dX0_walk_101 ?_
                      refine j_ild4 dX0_walk_104 ?_
                      refine l0_4 dX0_walk_106 (by omega) ?_
                      refine j_top (jb (fd r)) (by rw [hs3.2 4 (by decide)]; exact (hrl r (by omega)).2.1) ?_
                      refine j_ifneB 128 dX0_walk_107 (by decide) (fun eD => ?_) (fun eD => ?_)
                      · exact no (by rw [hit0, ← hF, eF, eD]; simp)
                      · exact yes (by rw [hit0, decide_eq_true e0, ← hF, eF, eD]; rfl)
            refine j_ist3 (by decide) dX0_walk_50 ?_
            refine j_ald0 dX0_walk_51 ?_
            refine g0_16 dX0_walk_52 ?_
            refine j_ild2 dX0_walk_55 ?_
            refine j_bipush (-5) dX0_walk_56 (by decide) ?_
            refine s0_16 dX0_walk_58 (by omega) ?_
            refine j_ald0 dX0_walk_59 ?_
            refine g0_17 dX0_walk_60 ?_
            refine j_ild2 dX0_walk_63 ?_
            refine j_iconst (nI 0) dX0_walk_64 (by decide) ?_
            refine s0_17 dX0_walk_65 (by omega) ?_
            refine j_iconst (nI 0) dX0_walk_66 (by decide) ?_
            refine j_ist4 (by decide) dX0_walk_67 ?_
            refine inner q 0 _ (by omega) (sm0_set (sm0_set hs2 (by decide) _ _) (by decide) _ _) rfl (fun a ha => ?_) ?_ ?_
            · rw [jset_o _ _ _ (by decide), jset_a, if_neg (by omega), jset_a, if_neg (by omega), jset_o _ _ _ (by decide)]
              exact hr16 a ha
            · rw [jset_o _ _ _ (by decide), jset_a, if_pos ⟨rfl, rfl⟩]
              rfl
            · rw [jset_a, if_pos ⟨rfl, rfl⟩]
              rfl
          refine j_ild1 dX0_walk_31 ?_
          refine j_ifneB 45 dX0_walk_32 (by decide) (fun cf => ?_) (fun cf => ?_)
          · refine j_iconst (nI 1) dX0_walk_45 (by decide) ?_
            refine j_goto 50 dX0_walk_46 (by decide) ?_
            refine j_top (jb true) jb_t.symm ?_
            exact at50 true (by rw [cf]; rfl)
          · refine j_ild2 dX0_walk_35 ?_
            refine j_ald0 dX0_walk_36 ?_
            refine g0_12 dX0_walk_37 ?_
            refine j_iconst (nI 1) dX0_walk_40 (by decide) ?_
            refine j_isubN (by omega) dX0_walk_41 ?_
            rw [hN2]
            refine j_icgeN 49 dX0_walk_42 (by decide) (by omega) (by omega) (fun cn => ?_) (fun cn => ?_)
            · refine j_iconst (nI 0) dX0_walk_49 (by decide) ?_
              refine j_top (jb false) jb_f.symm ?_
              exact at50 false (by rw [cf, decide_eq_false (by omega)]; rfl)
            · refine j_iconst (nI 1) dX0_walk_45 (by decide) ?_
              refine j_goto 50 dX0_walk_46 (by decide) ?_
              refine j_top (jb true) jb_t.symm ?_
              exact at50 true (by rw [cf, decide_eq_true (by omega)]; rfl)
    refine j_iconst (nI 0) dX0_walk_16 (by decide) ?_
    refine j_ist2 (by decide) dX0_walk_17 ?_
    exact outer N 0 u _ _ (by omega) (sm0_rf u) (fun k' h => by omega) (fun a ha => by omega)
  · refine j_iconst (nI 0) dX0_walk_14 (by decide) ?_
    exact ret _ _ _ _ dX0_walk_15 (by decide) ⟨sm0_rf u, by rw [decide_eq_false (by omega)]; decide, fun h => by omega⟩
set_option maxHeartbeats 4000000 in
theorem k_firstIgnored (Z : jZ) (u : jS) (hN : u.1 12 ≤ 6) (P : Nat → Bool) (hP : ∀ k, k < u.1 12 → (u.2 16 k = -5 ∧ P k = false) ∨ ∃ r b, r < 12 ∧ u.2 16 k = nI r ∧ u.2 3 r = jb b ∧ P k = !b) : ∀ (l : Launch) (D : va_G), jKi l D Z.2.2.1 Z.2.2.2 yX0_firstIgnored cX0_firstIgnored 2 (some .int) { frames := 0, cells := 0, slots := 0, locals := 0 } Z.1 [] (w0 Z) u (fun v u' => u = u' ∧ v = fstN P (u.1 12) 0) := by
  intro l D
  refine jKi_start RX0 1 (by decide) rfl (Nat.le_of_ble_eq_true rfl) (by simp [Value.category]) ?_
  intro X hR ret
  show j0 X Z cX0_firstIgnored 2 u 0 [some (.ref Z.1), none] []
  have loop : ∀ (d i : Nat), i + d = u.1 12 → fstN P d i = fstN P (u.1 12) 0 → j0 X Z cX0_firstIgnored 2 u 2 [some (.ref Z.1), some (.int (nI i))] [] := by
    intro d
    induction d with
    | zero =>
      intro i hi he
      refine j_ild1 dX0_firstIgnored_2 ?_
      refine j_ald0 dX0_firstIgnored_3 ?_
      refine g0_12 dX0_firstIgnored_4 ?_
      refine j_icgeN 43 dX0_firstIgnored_7 (by decide) (by omega) (by omega) (fun c1 => ?_) (fun c1 => ?_)
      · refine j_bipush (-5) dX0_firstIgnored_43 (by decide) ?_
        exact ret _ _ _ _ dX0_firstIgnored_45 rfl ⟨rfl, he⟩
      · omega
    | succ d ih =>
      intro i hi he
      refine j_ild1 dX0_firstIgnored_2 ?_
      refine j_ald0 dX0_firstIgnored_3 ?_
      refine g0_12 dX0_firstIgnored_4 ?_
      refine j_icgeN 43 dX0_firstIgnored_7 (by decide) (by omega) (by omega) (fun c1 => ?_) (fun c1 => ?_)
      · omega
      · have no : P i = false → j0 X Z cX0_firstIgnored 2 u 37 [some (.ref Z.1), some (.int (nI i))] [] := by
          intro hno
          refine j_inc1N (by decide) dX0_firstIgnored_37 ?_
          refine j_goto 2 dX0_firstIgnored_40 (by decide) ?_
          refine ih (i + 1) (by omega) ?_
          rw [← he, fstN, if_neg (by rw [hno]; decide)]
        refine j_ald0 dX0_firstIgnored_10 ?_
        refine g0_16 dX0_firstIgnored_11 ?_
        refine j_ild1 dX0_firstIgnored_14 ?_
        refine l0_16 dX0_firstIgnored_15 (by omega) ?_
        rcases hP i (by omega) with ⟨h1, h2⟩ | ⟨r, b, h1, h2, h3, h4⟩
        · refine j_top (-5) h1 ?_
          refine j_iflt 37 dX0_firstIgnored_16 (by decide) (fun e0 => ?_) (fun e0 => ?_)
          · exact no h2
          · exact absurd (by decide) e0
        · refine j_top (nI r) h2 ?_
          refine j_ifltN 37 dX0_firstIgnored_16 (by omega) (by decide) ?_
          refine j_ald0 dX0_firstIgnored_19 ?_
          refine g0_3 dX0_firstIgnored_20 ?_
          refine j_ald0 dX0_firstIgnored_23 ?_
          refine g0_16 dX0_firstIgnored_24 ?_
          refine j_ild1 dX0_firstIgnored_27 ?_
          refine l0_16 dX0_firstIgnored_28 (by omega) ?_
          refine j_top (nI r) h2 ?_
          refine l0_3 dX0_firstIgnored_29 (by omega) ?_
          refine j_top (jb b) h3 ?_
          refine j_ifneB 37 dX0_firstIgnored_30 (by decide) (fun eb => ?_) (fun eb => ?_)
          · exact no (by rw [h4, eb]; rfl)
          · refine j_ild1 dX0_firstIgnored_33 ?_
            refine j_iconst (nI 1) dX0_firstIgnored_34 (by decide) ?_
            first | refine j_iaddN dX0_firstIgnored_35 ?_ | refine j_iadd dX0_firstIgnored_35 ?_
            exact ret _ _ _ _ dX0_firstIgnored_36 rfl ⟨rfl, by rw [← he, fstN, if_pos (by rw [h4, eb]; rfl)]⟩
  refine j_iconst (nI 0) dX0_firstIgnored_0 (by decide) ?_
  refine j_ist1 (by decide) dX0_firstIgnored_1 ?_
  exact loop (u.1 12) 0 (by omega) rfl
/-- what a walk left for firstIgnored -/
theorem fi_pre {u u' : jS} {ln fd ng : Nat → Bool} {sz : Nat → Nat} {fo : Bool} (hw : WF0 u ln fd ng sz) (hs : sm0 u u') (hr : ∀ k, k < u.1 12 → u'.2 16 k = lastV (hit0 u ln fd sz fo (u.1 12) k) (u.1 2) ∧ u'.2 17 k = nI (cntV (hit0 u ln fd sz fo (u.1 12) k) (u.1 2))) : ∀ k, k < u'.1 12 → (u'.2 16 k = -5 ∧ cutP (hit0 u ln fd sz fo (u.1 12) k) ng (u.1 2) = false) ∨ ∃ r b, r < 12 ∧ u'.2 16 k = nI r ∧ u'.2 3 r = jb b ∧ cutP (hit0 u ln fd sz fo (u.1 12) k) ng (u.1 2) = !b := by
  intro k hk
  rw [hs.1] at hk
  rw [(hr k hk).1]
  have hq := hw.2.2.1
  rcases lastV_cases (hit0 u ln fd sz fo (u.1 12) k) ng (u.1 2) with h | ⟨r, h1, h2, h3⟩
  · exact Or.inl h
  · exact Or.inr ⟨r, ng r, by omega, h2, by rw [hs.2 3 (by decide)]; exact (hw.2.2.2.2 r h1).2.2, h3⟩
set_option maxHeartbeats 4000000 in
theorem k_cutAt (Z : jZ) (u : jS) (ln fd ng : Nat → Bool) (sz : Nat → Nat) (hw : WF0 u ln fd ng sz) (fo : Bool) : ∀ (l : Launch) (D : va_G), jKi l D Z.2.2.1 Z.2.2.2 yX0_cutAt cX0_cutAt 3 (some .int) { frames := 4, cells := 0, slots := 0, locals := 98 } Z.1 [.int (jb fo)] (w0 Z) u (fun v u' => sm0 u u' ∧ v = cutR (hit0 u ln fd sz fo (u.1 12)) ng (u.1 2) (u.1 12) (sz (u.1 12 - 1))) := by
  intro l D
  refine jKi_start RX0 1 (by decide) rfl (Nat.le_of_ble_eq_true rfl) (by simp [Value.category]) ?_
  intro X hR ret
  show j0 X Z cX0_cutAt 3 u 0 [some (.ref Z.1), some (.int (jb fo)), none] []
  refine j_ald0 dX0_cutAt_0 ?_
  refine j_ild1 dX0_cutAt_1 ?_
  refine c0_i (k_walk Z u ln fd ng sz hw fo) hR (lw_V q125 q127 qs4 q18 q128) rfl rfl hd_X0_walk ⟨by decide, by decide⟩ rfl rfl (Nat.le_of_ble_eq_true rfl) dX0_cutAt_2 (fun v1 u1 hp => ?_)
  obtain ⟨hs, rfl, hr⟩ := hp
  refine j_ist2 (by decide) dX0_cutAt_5 ?_
  refine j_ild2 dX0_cutAt_6 ?_
  refine j_ifeqB 17 dX0_cutAt_7 (by decide) (fun c1 => ?_) (fun c1 => ?_)
  · refine j_bipush (-5) dX0_cutAt_17 (by decide) ?_
    exact ret _ _ _ _ dX0_cutAt_19 rfl ⟨hs, by rw [cutR, if_pos (by have := of_decide_eq_false c1; omega)]⟩
  · have hz := of_decide_eq_true c1
    refine j_ald0 dX0_cutAt_10 ?_
    refine c0_i (k_firstIgnored Z u1 (by rw [hs.1]; exact hw.2.1) (fun k => cutP (hit0 u ln fd sz fo (u.1 12) k) ng (u.1 2)) (fi_pre hw hs (hr hz))) hR (lw_V q145 q147 qs9 q18 q148) rfl rfl hd_X0_firstIgnored ⟨by decide, by decide⟩ rfl rfl (Nat.le_of_ble_eq_true rfl) dX0_cutAt_11 (fun v2 u2 hp2 => ?_)
    obtain ⟨rfl, rfl⟩ := hp2
    refine j_goto 19 dX0_cutAt_14 (by decide) ?_
    exact ret _ _ _ _ dX0_cutAt_19 rfl ⟨hs, by rw [cutR, if_neg (by omega), hs.1]⟩
set_option maxHeartbeats 4000000 in
theorem k_ignored (Z : jZ) (u : jS) (ln fd ng : Nat → Bool) (sz : Nat → Nat) (hw : WF0 u ln fd ng sz) (fo : Bool) : ∀ (l : Launch) (D : va_G), jKi l D Z.2.2.1 Z.2.2.2 yX0_ignored cX0_ignored 4 (some .boolean) { frames := 4, cells := 0, slots := 0, locals := 98 } Z.1 [.int (jb fo)] (w0 Z) u (fun v u' => sm0 u u' ∧ v = jb (decide (¬ cutR (hit0 u ln fd sz fo (u.1 12)) ng (u.1 2) (u.1 12) (sz (u.1 12 - 1)) = -5))) := by
  intro l D
  refine jKi_start RX0 2 (by decide) rfl (Nat.le_of_ble_eq_true rfl) (by simp [Value.category]) ?_
  intro X hR ret
  show j0 X Z cX0_ignored 4 u 0 [some (.ref Z.1), some (.int (jb fo)), none, none] []
  refine j_ald0 dX0_ignored_0 ?_
  refine j_ild1 dX0_ignored_1 ?_
  refine c0_i (k_walk Z u ln fd ng sz hw fo) hR (lw_V q125 q127 qs4 q18 q128) rfl rfl hd_X0_walk ⟨by decide, by decide⟩ rfl rfl (Nat.le_of_ble_eq_true rfl) dX0_ignored_2 (fun v1 u1 hp => ?_)
  obtain ⟨hs, rfl, hr⟩ := hp
  refine j_ist2 (by decide) dX0_ignored_5 ?_
  refine j_ild2 dX0_ignored_6 ?_
  refine j_ifneB 12 dX0_ignored_7 (by decide) (fun c1 => ?_) (fun c1 => ?_)
  · have hz := of_decide_eq_true c1
    refine j_ald0 dX0_ignored_12 ?_
    refine c0_i (k_firstIgnored Z u1 (by rw [hs.1]; exact hw.2.1) (fun k => cutP (hit0 u ln fd sz fo (u.1 12) k) ng (u.1 2)) (fi_pre hw hs (hr hz))) hR (lw_V q145 q147 qs9 q18 q148) rfl rfl hd_X0_firstIgnored ⟨by decide, by decide⟩ rfl rfl (Nat.le_of_ble_eq_true rfl) dX0_ignored_13 (fun v2 u2 hp2 => ?_)
    obtain ⟨rfl, rfl⟩ := hp2
    have he : cutR (hit0 u ln fd sz fo (u.1 12)) ng (u.1 2) (u.1 12) (sz (u.1 12 - 1)) = fstN (fun k => cutP (hit0 u ln fd sz fo (u.1 12) k) ng (u.1 2)) (u1.1 12) 0 := by rw [cutR, if_neg (by omega), hs.1]
    refine j_ist3 (by decide) dX0_ignored_16 ?_
    refine j_ild3 dX0_ignored_17 ?_
    refine j_bipush (-5) dX0_ignored_18 (by decide) ?_
    refine j_iceq 27 dX0_ignored_20 (by decide) (fun e5 => ?_) (fun e5 => ?_)
    · refine j_iconst (nI 0) dX0_ignored_27 (by decide) ?_
      refine ret _ _ _ _ dX0_ignored_28 (by decide) ⟨hs, ?_⟩
      rw [decide_eq_false (fun h => h (by rw [he]; exact e5))]
      decide
    · refine j_iconst (nI 1) dX0_ignored_23 (by decide) ?_
      refine j_goto 28 dX0_ignored_24 (by decide) ?_
      refine ret _ _ _ _ dX0_ignored_28 (by decide) ⟨hs, ?_⟩
      have hne : ¬ cutR (hit0 u ln fd sz fo (u.1 12)) ng (u.1 2) (u.1 12) (sz (u.1 12 - 1)) = -5 := fun h => e5 (by rw [← he]; exact h)
      rw [decide_eq_true hne]
      decide
  · refine j_iconst (nI 0) dX0_ignored_10 (by decide) ?_
    refine ret _ _ _ _ dX0_ignored_11 (by decide) ⟨hs, ?_⟩
    rw [decide_eq_false (fun h => h (by rw [cutR, if_pos (by have := of_decide_eq_false c1; omega)]))]
    decide
set_option maxHeartbeats 4000000 in
theorem k_lastMatch (Z : jZ) (u : jS) (ln fd ng : Nat → Bool) (sz : Nat → Nat) (hw : WF0 u ln fd ng sz) (fo : Bool) : ∀ (l : Launch) (D : va_G), jKi l D Z.2.2.1 Z.2.2.2 yX0_lastMatch cX0_lastMatch 3 (some .int) { frames := 4, cells := 0, slots := 0, locals := 98 } Z.1 [.int (jb fo)] (w0 Z) u (fun v u' => sm0 u u' ∧ v = if sz (u.1 12 - 1) = 0 then -5 else lastV (hit0 u ln fd sz fo (u.1 12) (u.1 12 - 1)) (u.1 2)) := by
  intro l D
  refine jKi_start RX0 1 (by decide) rfl (Nat.le_of_ble_eq_true rfl) (by simp [Value.category]) ?_
  intro X hR ret
  show j0 X Z cX0_lastMatch 3 u 0 [some (.ref Z.1), some (.int (jb fo)), none] []
  obtain ⟨hN1, hN6, -⟩ := id hw
  refine j_ald0 dX0_lastMatch_0 ?_
  refine j_ild1 dX0_lastMatch_1 ?_
  refine c0_i (k_walk Z u ln fd ng sz hw fo) hR (lw_V q125 q127 qs4 q18 q128) rfl rfl hd_X0_walk ⟨by decide, by decide⟩ rfl rfl (Nat.le_of_ble_eq_true rfl) dX0_lastMatch_2 (fun v1 u1 hp => ?_)
  obtain ⟨hs, rfl, hr⟩ := hp
  have hN : u1.1 12 = u.1 12 := by rw [hs.1]
  refine j_ist2 (by decide) dX0_lastMatch_5 ?_
  refine j_ild2 dX0_lastMatch_6 ?_
  refine j_ifeqB 24 dX0_lastMatch_7 (by decide) (fun c1 => ?_) (fun c1 => ?_)
  · refine j_bipush (-5) dX0_lastMatch_24 (by decide) ?_
    exact ret _ _ _ _ dX0_lastMatch_26 rfl ⟨hs, by rw [if_pos (by have := of_decide_eq_false c1; omega)]⟩
  · have hz := of_decide_eq_true c1
    refine j_ald0 dX0_lastMatch_10 ?_
    refine g0_16 dX0_lastMatch_11 ?_
    refine j_ald0 dX0_lastMatch_14 ?_
    refine g0_12 dX0_lastMatch_15 ?_
    refine j_iconst (nI 1) dX0_lastMatch_18 (by decide) ?_
    refine j_isubN (by omega) dX0_lastMatch_19 ?_
    refine l0_16 dX0_lastMatch_20 (by omega) ?_
    refine j_goto 26 dX0_lastMatch_21 (by decide) ?_
    refine ret _ _ _ _ dX0_lastMatch_26 rfl ⟨hs, ?_⟩
    rw [if_neg (by omega), hN]
    exact (hr hz _ (by omega)).1
set_option maxHeartbeats 4000000 in
theorem k_matches (Z : jZ) (u : jS) (ln fd ng : Nat → Bool) (sz : Nat → Nat) (hw : WF0 u ln fd ng sz) (fo : Bool) : ∀ (l : Launch) (D : va_G), jKi l D Z.2.2.1 Z.2.2.2 yX0_matches cX0_matches 3 (some .int) { frames := 4, cells := 0, slots := 0, locals := 98 } Z.1 [.int (jb fo)] (w0 Z) u (fun v u' => sm0 u u' ∧ v = if sz (u.1 12 - 1) = 0 then nI 0 else nI (cntV (hit0 u ln fd sz fo (u.1 12) (u.1 12 - 1)) (u.1 2))) := by
  intro l D
  refine jKi_start RX0 1 (by decide) rfl (Nat.le_of_ble_eq_true rfl) (by simp [Value.category]) ?_
  intro X hR ret
  show j0 X Z cX0_matches 3 u 0 [some (.ref Z.1), some (.int (jb fo)), none] []
  obtain ⟨hN1, hN6, -⟩ := id hw
  refine j_ald0 dX0_matches_0 ?_
  refine j_ild1 dX0_matches_1 ?_
  refine c0_i (k_walk Z u ln fd ng sz hw fo) hR (lw_V q125 q127 qs4 q18 q128) rfl rfl hd_X0_walk ⟨by decide, by decide⟩ rfl rfl (Nat.le_of_ble_eq_true rfl) dX0_matches_2 (fun v1 u1 hp => ?_)
  obtain ⟨hs, rfl, hr⟩ := hp
  have hN : u1.1 12 = u.1 12 := by rw [hs.1]
  refine j_ist2 (by decide) dX0_matches_5 ?_
  refine j_ild2 dX0_matches_6 ?_
  refine j_ifeqB 24 dX0_matches_7 (by decide) (fun c1 => ?_) (fun c1 => ?_)
  · refine j_iconst (nI 0) dX0_matches_24 (by decide) ?_
    exact ret _ _ _ _ dX0_matches_25 rfl ⟨hs, by rw [if_pos (by have := of_decide_eq_false c1; omega)]⟩
  · have hz := of_decide_eq_true c1
    refine j_ald0 dX0_matches_10 ?_
    refine g0_17 dX0_matches_11 ?_
    refine j_ald0 dX0_matches_14 ?_
    refine g0_12 dX0_matches_15 ?_
    refine j_iconst (nI 1) dX0_matches_18 (by decide) ?_
    refine j_isubN (by omega) dX0_matches_19 ?_
    refine l0_17 dX0_matches_20 (by omega) ?_
    refine j_goto 25 dX0_matches_21 (by decide) ?_
    refine ret _ _ _ _ dX0_matches_25 rfl ⟨hs, ?_⟩
    rw [if_neg (by omega), hN]
    exact (hr hz _ (by omega)).2
end
section
set_option maxRecDepth 100000
/-! IgnoreRulesModel: pattern, good, rule, dropRule, rules, path, clearPath, isPath -/
set_option maxHeartbeats 4000000 in
theorem x_pattern (Z : jZ) (t : jS) (hn : t.1 1 ≤ 10) (c : Int32) : ∀ (l : Launch) (D : va_G), jKi l D Z.2.2.1 Z.2.2.2 yX1_pattern cX1_pattern 2 (some .int) { frames := 0, cells := 0, slots := 0, locals := 0 } Z.1 [.int c] (w1 Z) t (fun v t' => v = pV (t.1 1) c ∧ ((pOk (t.1 1) c ∧ t' = jput (jset t 0 (t.1 1) c) 1 (t.1 1 + 1)) ∨ (¬ pOk (t.1 1) c ∧ t' = t))) := by
  intro l D
  refine jKi_start RX1 0 (by decide) rfl (Nat.le_of_ble_eq_true rfl) (by simp [Value.category]) ?_
  intro X hR ret
  show j1 X Z cX1_pattern 2 t 0 [some (.ref Z.1), some (.int c)] []
  have bad : (c < 1 ∨ 10 < c) → j1 X Z cX1_pattern 2 t 11 [some (.ref Z.1), some (.int c)] [] := by
    intro hb
    refine j_iconst (-1) dX1_pattern_11 (by decide) ?_
    exact ret _ _ _ _ dX1_pattern_12 rfl ⟨by rw [pV, if_pos hb], Or.inr ⟨fun q => q.1 hb, rfl⟩⟩
  refine j_ild1 dX1_pattern_0 ?_
  refine j_iconst (nI 1) dX1_pattern_1 (by decide) ?_
  refine j_iclt 11 dX1_pattern_2 (by decide) (fun c1 => ?_) (fun c1 => ?_)
  · exact bad (Or.inl c1)
  · refine j_ild1 dX1_pattern_5 ?_
    refine j_bipush (nI 10) dX1_pattern_6 (by decide) ?_
    refine j_icle 13 dX1_pattern_8 (by decide) (fun c2 => ?_) (fun c2 => ?_)
    · have hok : ¬ (c < 1 ∨ 10 < c) := by
        rintro (q | q)
        · exact c1 q
        · exact absurd c2 (Int32.not_le.mpr q)
      refine j_ald0 dX1_pattern_13 ?_
      refine g1_1 dX1_pattern_14 ?_
      refine j_bipush (nI 10) dX1_pattern_17 (by decide) ?_
      refine j_icneN 25 dX1_pattern_19 (by decide) (by omega) (by omega) (fun c3 => ?_) (fun c3 => ?_)
      · refine j_ald0 dX1_pattern_25 ?_
        refine g1_0 dX1_pattern_26 ?_
        refine j_ald0 dX1_pattern_29 ?_
        refine g1_1 dX1_pattern_30 ?_
        refine j_ild1 dX1_pattern_33 ?_
        refine s1_0 dX1_pattern_34 (by omega) ?_
        refine j_ald0 dX1_pattern_35 ?_
        refine j_dup rfl dX1_pattern_36 ?_
        refine g1_1 dX1_pattern_37 ?_
        refine j_iconst (nI 1) dX1_pattern_40 (by decide) ?_
        first | refine j_iaddN dX1_pattern_41 ?_ | refine j_iadd dX1_pattern_41 ?_
        refine p1_1 dX1_pattern_42 ?_
        refine j_ald0 dX1_pattern_45 ?_
        refine g1_1 dX1_pattern_46 ?_
        exact ret _ _ _ _ dX1_pattern_49 rfl ⟨by rw [pV, if_neg hok, if_neg (by omega)]; rfl, Or.inl ⟨⟨hok, by omega⟩, rfl⟩⟩
      · refine j_bipush (-2) dX1_pattern_22 (by decide) ?_
        exact ret _ _ _ _ dX1_pattern_24 rfl ⟨by rw [pV, if_neg hok, if_pos (by omega)], Or.inr ⟨fun q => by have := q.2; omega, rfl⟩⟩
    · exact bad (Or.inr (Int32.not_le.mp c2))
set_option maxHeartbeats 4000000 in
theorem x_good (Z : jZ) (t : jS) (hn : t.1 1 ≤ 10) : ∀ (l : Launch) (D : va_G), jKi l D Z.2.2.1 Z.2.2.2 yX1_good cX1_good 4 (some .boolean) { frames := 0, cells := 0, slots := 0, locals := 0 } Z.1 [] (w1 Z) t (fun v t' => t = t' ∧ ∃ b : Bool, v = jb b ∧ (b = true ↔ gp (t.2 0) (t.1 1))) := by
  intro l D
  refine jKi_start RX1 3 (by decide) rfl (Nat.le_of_ble_eq_true rfl) (by simp [Value.category]) ?_
  intro X hR ret
  show j1 X Z cX1_good 4 t 0 [some (.ref Z.1), none, none, none] []
  have no : ¬ gp (t.2 0) (t.1 1) → ∀ (pc : Nat) (L : List (Option Value)), decode cX1_good pc = .ok (.ireturn, 1) → j1 X Z cX1_good 4 t pc L [.int (nI 0)] := by
    intro hb pc L hd
    exact ret _ _ _ _ hd (by decide) ⟨rfl, false, jb_f.symm, (fun q => by cases q), fun q => absurd q hb⟩
  have at34 : ¬ gp (t.2 0) (t.1 1) → j1 X Z cX1_good 4 t 34 [some (.ref Z.1), none, none, none] [] := by
    intro hb
    refine j_iconst (nI 0) dX1_good_34 (by decide) ?_
    exact no hb _ _ dX1_good_35
  refine j_ald0 dX1_good_0 ?_
  refine g1_1 dX1_good_1 ?_
  refine j_ifeqN 34 dX1_good_4 (by decide) (by omega) (fun c0 => ?_) (fun c0 => ?_)
  · exact at34 (fun q => by have := q.1; omega)
  · refine j_ald0 dX1_good_7 ?_
    refine g1_0 dX1_good_8 ?_
    refine j_iconst (nI 0) dX1_good_11 (by decide) ?_
    refine l1_0 dX1_good_12 (by omega) ?_
    refine j_bipush (nI 9) dX1_good_13 (by decide) ?_
    refine j_iceq 34 dX1_good_15 (by decide) (fun c00 => ?_) (fun c00 => ?_)
    · refine at34 (fun q => ?_)
      have := (gp_9 q c0 c00).1
      omega
    · refine j_ald0 dX1_good_18 ?_
      refine g1_0 dX1_good_19 ?_
      refine j_ald0 dX1_good_22 ?_
      refine g1_1 dX1_good_23 ?_
      refine j_iconst (nI 1) dX1_good_26 (by decide) ?_
      refine j_isubN (by omega) dX1_good_27 ?_
      refine l1_0 dX1_good_28 (by omega) ?_
      refine j_bipush (nI 9) dX1_good_29 (by decide) ?_
      refine j_icne 36 dX1_good_31 (by decide) (fun cl => ?_) (fun cl => ?_)
      · have loop : ∀ (d i : Nat) (o2 o3 : Option Value), i + d = t.1 1 → (∀ j, j < i → (t.2 0 j = 9 → 0 < j ∧ ¬ t.2 0 (j - 1) = 9) ∧ (t.2 0 j = 10 → (j = 0 ∨ t.2 0 (j - 1) = 9) ∧ (j + 1 = t.1 1 ∨ t.2 0 (j + 1) = 9))) → j1 X Z cX1_good 4 t 38 [some (.ref Z.1), some (.int (nI i)), o2, o3] [] := by
          intro d
          induction d with
          | zero =>
            intro i o2 o3 hi hg
            refine j_ild1 dX1_good_38 ?_
            refine j_ald0 dX1_good_39 ?_
            refine g1_1 dX1_good_40 ?_
            refine j_icgeN 142 dX1_good_43 (by decide) (by omega) (by omega) (fun c1 => ?_) (fun c1 => ?_)
            · refine j_iconst (nI 1) dX1_good_142 (by decide) ?_
              refine ret _ _ _ _ dX1_good_143 (by decide) ⟨rfl, true, jb_t.symm, fun _ => ⟨c0, fun j hj => ⟨fun h9 => ⟨(hg j (by omega)).1 h9, ?_⟩, (hg j (by omega)).2⟩⟩, fun _ => rfl⟩
              have hl : j + 1 < t.1 1 := by
                rcases Nat.lt_or_ge (j + 1) (t.1 1) with q | q
                · exact q
                · exact absurd (by rw [show t.1 1 - 1 = j by omega]; exact h9) cl
              refine ⟨hl, fun h9' => ?_⟩
              exact ((hg (j + 1) (by omega)).1 h9').2 (by simpa using h9)
            · omega
          | succ d ih =>
            intro i o2 o3 hi hg
            refine j_ild1 dX1_good_38 ?_
            refine j_ald0 dX1_good_39 ?_
            refine g1_1 dX1_good_40 ?_
            refine j_icgeN 142 dX1_good_43 (by decide) (by omega) (by omega) (fun c1 => ?_) (fun c1 => ?_)
            · omega
            · have at98 : ∀ (b1 b2 : Bool), b1 = decide (i = 0 ∨ t.2 0 (i - 1) = 9) → b2 = decide (i + 1 = t.1 1 ∨ t.2 0 (i + 1) = 9) → j1 X Z cX1_good 4 t 98 [some (.ref Z.1), some (.int (nI i)), some (.int (jb b1)), some (.int (jb b2))] [] := by
                intro b1 b2 hb1 hb2
                have next : (t.2 0 i = 9 → 0 < i ∧ ¬ t.2 0 (i - 1) = 9) → (t.2 0 i = 10 → (i = 0 ∨ t.2 0 (i - 1) = 9) ∧ (i + 1 = t.1 1 ∨ t.2 0 (i + 1) = 9)) → j1 X Z cX1_good 4 t 136 [some (.ref Z.1), some (.int (nI i)), some (.int (jb b1)), some (.int (jb b2))] [] := by
                  intro h9 h10
                  refine j_inc1N (by decide) dX1_good_136 ?_
                  refine j_goto 38 dX1_good_139 (by decide) ?_
                  refine ih (i + 1) _ _ (by omega) (fun j hj => ?_)
                  by_cases e : j = i
                  · rw [e]
                    exact ⟨h9, h10⟩
                  · exact hg j (by omega)
                have two : (t.2 0 i = 9 → 0 < i ∧ ¬ t.2 0 (i - 1) = 9) → j1 X Z cX1_good 4 t 115 [some (.ref Z.1), some (.int (nI i)), some (.int (jb b1)), some (.int (jb b2))] [] := by
                  intro h9
                  refine j_ald0 dX1_good_115 ?_
                  refine g1_0 dX1_good_116 ?_
                  refine j_ild1 dX1_good_119 ?_
                  refine l1_0 dX1_good_120 (by omega) ?_
                  refine j_bipush (nI 10) dX1_good_121 (by decide) ?_
                  refine j_icne 136 dX1_good_123 (by decide) (fun e10 => ?_) (fun e10 => ?_)
                  · exact next h9 (fun q => absurd q e10)
                  · refine j_ild2 dX1_good_126 ?_
                    refine j_ifeqB 134 dX1_good_127 (by decide) (fun f1 => ?_) (fun f1 => ?_)
                    · refine j_iconst (nI 0) dX1_good_134 (by decide) ?_
                      refine no (fun q => ?_) _ _ dX1_good_135
                      rw [hb1] at f1
                      exact of_decide_eq_false f1 (gp_10 q (by omega) e10).1
                    · refine j_ild3 dX1_good_130 ?_
                      refine j_ifneB 136 dX1_good_131 (by decide) (fun f2 => ?_) (fun f2 => ?_)
                      · rw [hb1] at f1
                        rw [hb2] at f2
                        exact next h9 (fun _ => ⟨of_decide_eq_true f1, of_decide_eq_true f2⟩)
                      · refine j_iconst (nI 0) dX1_good_134 (by decide) ?_
                        refine no (fun q => ?_) _ _ dX1_good_135
                        rw [hb2] at f2
                        exact of_decide_eq_false f2 (gp_10 q (by omega) e10).2
                refine j_ald0 dX1_good_98 ?_
                refine g1_0 dX1_good_99 ?_
                refine j_ild1 dX1_good_102 ?_
                refine l1_0 dX1_good_103 (by omega) ?_
                refine j_bipush (nI 9) dX1_good_104 (by decide) ?_
                refine j_icne 115 dX1_good_106 (by decide) (fun e9 => ?_) (fun e9 => ?_)
                · exact two (fun q => absurd q e9)
                · refine j_ild2 dX1_good_109 ?_
                  refine j_ifeqB 115 dX1_good_110 (by decide) (fun f1 => ?_) (fun f1 => ?_)
                  · rw [hb1] at f1
                    have f1 := of_decide_eq_false f1
                    exact two (fun _ => ⟨Nat.pos_of_ne_zero (fun q => f1 (Or.inl q)), fun q => f1 (Or.inr q)⟩)
                  · refine j_iconst (nI 0) dX1_good_113 (by decide) ?_
                    refine no (fun q => ?_) _ _ dX1_good_114
                    rw [hb1] at f1
                    obtain ⟨g1, g2, -⟩ := gp_9 q (by omega) e9
                    rcases of_decide_eq_true f1 with f | f
                    · omega
                    · exact g2 f
              have at68 : ∀ b1 : Bool, b1 = decide (i = 0 ∨ t.2 0 (i - 1) = 9) → j1 X Z cX1_good 4 t 68 [some (.ref Z.1), some (.int (nI i)), o2, o3] [.int (jb b1)] := by
                intro b1 hb1
                refine j_ist2 (by decide) dX1_good_68 ?_
                refine j_ild1 dX1_good_69 ?_
                refine j_ald0 dX1_good_70 ?_
                refine g1_1 dX1_good_71 ?_
                refine j_iconst (nI 1) dX1_good_74 (by decide) ?_
                refine j_isubN (by omega) dX1_good_75 ?_
                refine j_iceqN 92 dX1_good_76 (by decide) (by omega) (by omega) (fun e1 => ?_) (fun e1 => ?_)
                · refine j_iconst (nI 1) dX1_good_92 (by decide) ?_
                  refine j_goto 97 dX1_good_93 (by decide) ?_
                  refine j_top (jb true) jb_t.symm ?_
                  refine j_ist3 (by decide) dX1_good_97 ?_
                  exact at98 b1 true hb1 (by rw [decide_eq_true (Or.inl (by omega))])
                · refine j_ald0 dX1_good_79 ?_
                  refine g1_0 dX1_good_80 ?_
                  refine j_ild1 dX1_good_83 ?_
                  refine j_iconst (nI 1) dX1_good_84 (by decide) ?_
                  first | refine j_iaddN dX1_good_85 ?_ | refine j_iadd dX1_good_85 ?_
                  refine l1_0 dX1_good_86 (by omega) ?_
                  refine j_bipush (nI 9) dX1_good_87 (by decide) ?_
                  refine j_icne 96 dX1_good_89 (by decide) (fun e2 => ?_) (fun e2 => ?_)
                  · refine j_iconst (nI 0) dX1_good_96 (by decide) ?_
                    refine j_top (jb false) jb_f.symm ?_
                    refine j_ist3 (by decide) dX1_good_97 ?_
                    exact at98 b1 false hb1 (by rw [decide_eq_false (fun q => by rcases q with q | q; omega; exact e2 q)])
                  · refine j_iconst (nI 1) dX1_good_92 (by decide) ?_
                    refine j_goto 97 dX1_good_93 (by decide) ?_
                    refine j_top (jb true) jb_t.symm ?_
                    refine j_ist3 (by decide) dX1_good_97 ?_
                    exact at98 b1 true hb1 (decide_eq_true (Or.inr e2)).symm
              refine j_ild1 dX1_good_46 ?_
              refine j_ifeqN 63 dX1_good_47 (by decide) (by omega) (fun i0 => ?_) (fun i0 => ?_)
              · refine j_iconst (nI 1) dX1_good_63 (by decide) ?_
                refine j_goto 68 dX1_good_64 (by decide) ?_
                refine j_top (jb true) jb_t.symm ?_
                exact at68 true (by rw [decide_eq_true (Or.inl i0)])
              · refine j_ald0 dX1_good_50 ?_
                refine g1_0 dX1_good_51 ?_
                refine j_ild1 dX1_good_54 ?_
                refine j_iconst (nI 1) dX1_good_55 (by decide) ?_
                refine j_isubN (by omega) dX1_good_56 ?_
                refine l1_0 dX1_good_57 (by omega) ?_
                refine j_bipush (nI 9) dX1_good_58 (by decide) ?_
                refine j_icne 67 dX1_good_60 (by decide) (fun e2 => ?_) (fun e2 => ?_)
                · refine j_iconst (nI 0) dX1_good_67 (by decide) ?_
                  refine j_top (jb false) jb_f.symm ?_
                  exact at68 false (by rw [decide_eq_false (fun q => by rcases q with q | q; omega; exact e2 q)])
                · refine j_iconst (nI 1) dX1_good_63 (by decide) ?_
                  refine j_goto 68 dX1_good_64 (by decide) ?_
                  refine j_top (jb true) jb_t.symm ?_
                  exact at68 true (decide_eq_true (Or.inr e2)).symm
        refine j_iconst (nI 0) dX1_good_36 (by decide) ?_
        refine j_ist1 (by decide) dX1_good_37 ?_
        exact loop (t.1 1) 0 none none (by omega) (fun j hj => by omega)
      · refine at34 (fun q => ?_)
        have := (gp_9 q (by omega) cl).2.2.1
        omega
set_option maxHeartbeats 4000000 in
theorem x_rule (Z : jZ) (t : jS) (hn : t.1 1 ≤ 10) (hq : t.1 5 ≤ 12) (mk : Int32) : ∀ (l : Launch) (D : va_G), jKi l D Z.2.2.1 Z.2.2.2 yX1_rule cX1_rule 5 (some .int) { frames := 1, cells := 0, slots := 0, locals := 23 } Z.1 [.int mk] (w1 Z) t (fun v t' => RU1 t (mk &&& 7) v t') := by
  intro l D
  refine jKi_start RX1 3 (by decide) rfl (Nat.le_of_ble_eq_true rfl) (by simp [Value.category]) ?_
  intro X hR ret
  show j1 X Z cX1_rule 5 t 0 [some (.ref Z.1), some (.int mk), none, none, none] []
  refine j_ald0 dX1_rule_0 ?_
  refine c1_i (x_good Z t hn) hR (lw_V q222 q224 qs10 q19 q225) rfl rfl hd_X1_good ⟨by decide, by decide⟩ rfl rfl (Nat.le_of_ble_eq_true rfl) dX1_rule_1 (fun v0 t0 hp0 => ?_)
  obtain ⟨rfl, b, rfl, hbg⟩ := hp0
  refine j_ist2 (by decide) dX1_rule_4 ?_
  refine j_ald0 dX1_rule_5 ?_
  refine g1_1 dX1_rule_6 ?_
  refine j_ist3 (by decide) dX1_rule_9 ?_
  refine j_ald0 dX1_rule_10 ?_
  refine j_iconst (nI 0) dX1_rule_11 (by decide) ?_
  refine p1_1 dX1_rule_12 ?_
  generalize ht1 : jput t 1 0 = t1
  have e1 : t1.1 1 = 0 := by rw [← ht1]; rfl
  have e5 : t1.1 5 = t.1 5 := by rw [← ht1]; rfl
  have e8 : t1.1 8 = t.1 8 := by rw [← ht1]; rfl
  have ea : t1.2 = t.2 := by rw [← ht1]; rfl
  obtain ⟨R, eR⟩ : ∃ R, R = t.1 5 := ⟨_, rfl⟩
  obtain ⟨n, en⟩ : ∃ n, n = t.1 1 := ⟨_, rfl⟩
  rw [← en]
  refine j_ild2 dX1_rule_15 ?_
  refine j_ifneB 22 dX1_rule_16 (by decide) (fun cb => ?_) (fun cb => ?_)
  · refine j_ald0 dX1_rule_22 ?_
    refine g1_5 dX1_rule_23 ?_
    refine j_bipush (nI 12) dX1_rule_26 (by decide) ?_
    refine j_icneN 34 dX1_rule_28 (by decide) (by omega) (by omega) (fun c1 => ?_) (fun c1 => ?_)
    · have loop : ∀ (d i : Nat) (t2 : jS), i + d = n → t2.1 = t1.1 → (∀ k, k ≠ 2 → t2.2 k = t.2 k) → (∀ x, (x < R * 10 ∨ R * 10 + i ≤ x) → t2.2 2 x = t.2 2 x) → (∀ j, j < i → t2.2 2 (R * 10 + j) = t.2 0 j) → j1 X Z cX1_rule 5 t2 37 [some (.ref Z.1), some (.int mk), some (.int (jb b)), some (.int (nI n)), some (.int (nI i))] [] := by
        intro d
        induction d with
        | zero =>
          intro i t2 hi hs hk hx hj
          have hs5 : t2.1 5 = R := by rw [hs, e5, eR]
          refine j_ild4 dX1_rule_37 ?_
          refine j_ild3 dX1_rule_39 ?_
          refine j_icgeN 71 dX1_rule_40 (by decide) (by omega) (by omega) (fun c2 => ?_) (fun c2 => ?_)
          · refine j_ald0 dX1_rule_71 ?_
            refine g1_3 dX1_rule_72 ?_
            refine j_ald0 dX1_rule_75 ?_
            refine g1_5 dX1_rule_76 ?_
            refine j_ild3 dX1_rule_79 ?_
            refine s1_3 dX1_rule_80 (by omega) ?_
            refine j_ald0 dX1_rule_81 ?_
            refine g1_4 dX1_rule_82 ?_
            refine j_ald0 dX1_rule_85 ?_
            refine g1_5 dX1_rule_86 ?_
            refine j_ild1 dX1_rule_89 ?_
            refine j_bipush (nI 7) dX1_rule_90 (by decide) ?_
            refine j_iand dX1_rule_92 ?_
            refine s1_4 dX1_rule_93 (by rw [jset_s]; omega) ?_
            generalize ht3 : jset (jset t2 3 (t2.1 5) (nI n)) 4 ((jset t2 3 (t2.1 5) (nI n)).1 5) (mk &&& nI 7) = t3
            have hs3 : t3.1 = t1.1 := by rw [← ht3, ← hs]; rfl
            have h5 : t3.1 5 = R := by rw [hs3, e5, eR]
            have hR5 : (jset t2 3 (t2.1 5) (nI n)).1 5 = R := hs5
            rw [hR5, hs5] at ht3
            refine j_ald0 dX1_rule_94 ?_
            refine j_dup rfl dX1_rule_95 ?_
            refine g1_5 dX1_rule_96 ?_
            refine j_iconst (nI 1) dX1_rule_99 (by decide) ?_
            first | refine j_iaddN dX1_rule_100 ?_ | refine j_iadd dX1_rule_100 ?_
            refine p1_5 dX1_rule_101 ?_
            refine j_ald0 dX1_rule_104 ?_
            refine g1_5 dX1_rule_105 ?_
            refine j_iconst (nI 1) dX1_rule_108 (by decide) ?_
            refine j_isubN (by rw [jput_s, if_pos rfl]; omega) dX1_rule_109 ?_
            refine ret _ _ _ _ dX1_rule_110 rfl (Or.inr (Or.inr ⟨hbg.mp cb, by omega, ?_, ?_, ?_, ?_, ?_, ?_, ?_, ?_, ?_⟩))
            · show nI (t3.1 5 + 1 - 1) = _
              rw [h5, eR]
              rfl
            · rw [jput_s, if_neg (by decide), hs3, e1]
            · rw [jput_s, if_pos rfl, h5, eR]
            · rw [jput_s, if_neg (by decide), hs3, e8]
            · intro k hk'
              rw [jput_a, ← ht3, jset_o _ _ _ (by omega), jset_o _ _ _ (by omega)]
              exact hk k (by omega)
            · intro r hr
              rw [← eR] at hr
              refine ⟨fun j hj' => ?_, ?_, ?_⟩
              · rw [jput_a, ← ht3, jset_o _ _ _ (by decide), jset_o _ _ _ (by decide)]
                exact hx _ (by omega)
              · rw [jput_a, ← ht3, jset_o _ _ _ (by decide), jset_a, if_neg (fun q => hr q.2), hk 3 (by decide)]
              · rw [jput_a, ← ht3, jset_a, if_neg (fun q => hr q.2), jset_o _ _ _ (by decide), hk 4 (by decide)]
            · intro j hj'
              rw [jput_a, ← ht3, jset_o _ _ _ (by decide), jset_o _ _ _ (by decide), ← eR]
              exact hj j (by omega)
            · rw [jput_a, ← ht3, jset_o _ _ _ (by decide), ← eR, jset_a, if_pos ⟨rfl, rfl⟩, en]
            · rw [jput_a, ← ht3, ← eR, jset_a, if_pos ⟨rfl, rfl⟩]
              rfl
          · omega
        | succ d ih =>
          intro i t2 hi hs hk hx hj
          have hs5 : t2.1 5 = R := by rw [hs, e5, eR]
          refine j_ild4 dX1_rule_37 ?_
          refine j_ild3 dX1_rule_39 ?_
          refine j_icgeN 71 dX1_rule_40 (by decide) (by omega) (by omega) (fun c2 => ?_) (fun c2 => ?_)
          · omega
          · refine j_ald0 dX1_rule_43 ?_
            refine g1_2 dX1_rule_44 ?_
            refine j_ald0 dX1_rule_47 ?_
            refine g1_5 dX1_rule_48 ?_
            refine j_bipush (nI 10) dX1_rule_51 (by decide) ?_
            first | refine j_imulN dX1_rule_53 ?_ | refine j_imul dX1_rule_53 ?_
            refine j_ild4 dX1_rule_54 ?_
            rw [hs5]
            first | refine j_iaddN dX1_rule_56 ?_ | refine j_iadd dX1_rule_56 ?_
            refine j_ald0 dX1_rule_57 ?_
            refine g1_0 dX1_rule_58 ?_
            refine j_ild4 dX1_rule_61 ?_
            refine l1_0 dX1_rule_63 (by omega) ?_
            refine s1_2 dX1_rule_64 (by omega) ?_
            refine j_inc4N (by decide) dX1_rule_65 ?_
            refine j_goto 37 dX1_rule_68 (by decide) ?_
            refine ih (i + 1) _ (by omega) hs (fun k hk' => ?_) (fun x hx' => ?_) (fun j hj' => ?_)
            · rw [jset_o _ _ _ hk']
              exact hk k hk'
            · rw [jset_a, if_neg (by omega)]
              exact hx x (by omega)
            · rw [jset_a]
              by_cases e : j = i
              · rw [if_pos ⟨rfl, by rw [e]⟩, hk 0 (by decide), e]
              · rw [if_neg (by omega)]
                exact hj j (by omega)
      refine j_iconst (nI 0) dX1_rule_34 (by decide) ?_
      refine j_ist4 (by decide) dX1_rule_35 ?_
      exact loop n 0 t1 (by omega) rfl (fun k _ => by rw [ea]) (fun x _ => by rw [ea]) (fun j hj => by omega)
    · refine j_bipush (-2) dX1_rule_31 (by decide) ?_
      exact ret _ _ _ _ dX1_rule_33 rfl (Or.inr (Or.inl ⟨hbg.mp cb, by omega, rfl, ht1.symm⟩))
  · refine j_bipush (-3) dX1_rule_19 (by decide) ?_
    refine ret _ _ _ _ dX1_rule_21 rfl (Or.inl ⟨fun q => ?_, rfl, ht1.symm⟩)
    rw [hbg.mpr q] at cb
    cases cb
set_option maxHeartbeats 4000000 in
theorem x_dropRule (Z : jZ) (t : jS) (hq : t.1 5 ≤ 12) : ∀ (l : Launch) (D : va_G), jKi l D Z.2.2.1 Z.2.2.2 yX1_dropRule cX1_dropRule 1 (some .int) { frames := 0, cells := 0, slots := 0, locals := 0 } Z.1 [] (w1 Z) t (fun v t' => (t.1 5 = 0 ∧ v = -5 ∧ t' = t) ∨ (0 < t.1 5 ∧ v = nI (t.1 5 - 1) ∧ t' = jput t 5 (t.1 5 - 1))) := by
  intro l D
  refine jKi_start RX1 0 (by decide) rfl (Nat.le_of_ble_eq_true rfl) (by simp [Value.category]) ?_
  intro X hR ret
  show j1 X Z cX1_dropRule 1 t 0 [some (.ref Z.1)] []
  refine j_ald0 dX1_dropRule_0 ?_
  refine g1_5 dX1_dropRule_1 ?_
  refine j_ifneN 10 dX1_dropRule_4 (by decide) (by omega) (fun c1 => ?_) (fun c1 => ?_)
  · refine j_ald0 dX1_dropRule_10 ?_
    refine j_dup rfl dX1_dropRule_11 ?_
    refine g1_5 dX1_dropRule_12 ?_
    refine j_iconst (nI 1) dX1_dropRule_15 (by decide) ?_
    refine j_isubN (by omega) dX1_dropRule_16 ?_
    refine p1_5 dX1_dropRule_17 ?_
    refine j_ald0 dX1_dropRule_20 ?_
    refine g1_5 dX1_dropRule_21 ?_
    exact ret _ _ _ _ dX1_dropRule_24 rfl (Or.inr ⟨c1, rfl, rfl⟩)
  · refine j_bipush (-5) dX1_dropRule_7 (by decide) ?_
    exact ret _ _ _ _ dX1_dropRule_9 rfl (Or.inl ⟨c1, rfl, rfl⟩)
set_option maxHeartbeats 4000000 in
theorem x_rules (Z : jZ) (t : jS) : ∀ (l : Launch) (D : va_G), jKi l D Z.2.2.1 Z.2.2.2 yX1_rules cX1_rules 1 (some .int) { frames := 0, cells := 0, slots := 0, locals := 0 } Z.1 [] (w1 Z) t (fun v t' => t = t' ∧ v = nI (t.1 5)) := by
  intro l D
  refine jKi_start RX1 0 (by decide) rfl (Nat.le_of_ble_eq_true rfl) (by simp [Value.category]) ?_
  intro X hR ret
  show j1 X Z cX1_rules 1 t 0 [some (.ref Z.1)] []
  refine j_ald0 dX1_rules_0 ?_
  refine g1_5 dX1_rules_1 ?_
  exact ret _ _ _ _ dX1_rules_4 rfl ⟨rfl, rfl⟩
set_option maxHeartbeats 4000000 in
theorem x_clearPath (Z : jZ) (t : jS) : ∀ (l : Launch) (D : va_G), jKv l D Z.2.2.1 Z.2.2.2 yX1_clearPath cX1_clearPath 1 { frames := 0, cells := 0, slots := 0, locals := 0 } Z.1 [] (w1 Z) t (fun t' => t' = jset (jput t 8 1) 7 0 (nI 0)) := by
  intro l D
  refine jKv_start RX1 0 (by decide) rfl (Nat.le_of_ble_eq_true rfl) (by simp [Value.category]) ?_
  intro X hR ret
  show j1 X Z cX1_clearPath 1 t 0 [some (.ref Z.1)] []
  refine j_ald0 dX1_clearPath_0 ?_
  refine j_iconst (nI 1) dX1_clearPath_1 (by decide) ?_
  refine p1_8 dX1_clearPath_2 ?_
  refine j_ald0 dX1_clearPath_5 ?_
  refine g1_7 dX1_clearPath_6 ?_
  refine j_iconst (nI 0) dX1_clearPath_9 (by decide) ?_
  refine j_iconst (nI 0) dX1_clearPath_10 (by decide) ?_
  refine s1_7 dX1_clearPath_11 (by omega) ?_
  exact ret _ _ _ dX1_clearPath_12 rfl
set_option maxHeartbeats 4000000 in
theorem x_path (Z : jZ) (t : jS) (h1 : 1 ≤ t.1 8) (h6 : t.1 8 ≤ 6) (z : Nat) (hz : z ≤ 8) (hl : t.2 7 (t.1 8 - 1) = nI z) (c : Int32) : ∀ (l : Launch) (D : va_G), jKi l D Z.2.2.1 Z.2.2.2 yX1_path cX1_path 3 (some .int) { frames := 0, cells := 0, slots := 0, locals := 0 } Z.1 [.int c] (w1 Z) t (fun v t' => v = pathV (t.1 8) (pathK (t.1 8) z c) ∧ t' = pathU 8 7 6 t (t.1 8) z c (pathK (t.1 8) z c)) := by
  intro l D
  refine jKi_start RX1 1 (by decide) rfl (Nat.le_of_ble_eq_true rfl) (by simp [Value.category]) ?_
  intro X hR ret
  show j1 X Z cX1_path 3 t 0 [some (.ref Z.1), some (.int c), none] []
  obtain ⟨k, ek⟩ : ∃ k, k = pathK (t.1 8) z c := ⟨_, rfl⟩
  rw [← ek] at ret
  have main : ¬ ((c < 1 ∨ 6 < c) ∧ ¬ c = 9) → j1 X Z cX1_path 3 t 19 [some (.ref Z.1), some (.int c), none] [] := by
    intro hm
    rw [pathK, if_neg hm] at ek
    refine j_ald0 dX1_path_19 ?_
    refine g1_8 dX1_path_20 ?_
    refine j_iconst (nI 1) dX1_path_23 (by decide) ?_
    refine j_isubN (by omega) dX1_path_24 ?_
    refine j_ist2 (by decide) dX1_path_25 ?_
    refine j_ild1 dX1_path_26 ?_
    refine j_bipush (nI 9) dX1_path_27 (by decide) ?_
    refine j_icne 78 dX1_path_29 (by decide) (fun c9 => ?_) (fun c9 => ?_)
    · rw [if_neg (show ¬ c = 9 from c9)] at ek
      refine j_ald0 dX1_path_78 ?_
      refine g1_7 dX1_path_79 ?_
      refine j_ild2 dX1_path_82 ?_
      refine l1_7 dX1_path_83 (by omega) ?_
      refine j_top (nI z) hl ?_
      refine j_bipush (nI 8) dX1_path_84 (by decide) ?_
      refine j_icneN 92 dX1_path_86 (by decide) (by omega) (by omega) (fun c8 => ?_) (fun c8 => ?_)
      · rw [if_neg (by omega)] at ek
        refine j_ald0 dX1_path_92 ?_
        refine g1_6 dX1_path_93 ?_
        refine j_ild2 dX1_path_96 ?_
        refine j_bipush (nI 8) dX1_path_97 (by decide) ?_
        first | refine j_imulN dX1_path_99 ?_ | refine j_imul dX1_path_99 ?_
        refine j_ald0 dX1_path_100 ?_
        refine g1_7 dX1_path_101 ?_
        refine j_ild2 dX1_path_104 ?_
        refine l1_7 dX1_path_105 (by omega) ?_
        refine j_top (nI z) hl ?_
        first | refine j_iaddN dX1_path_106 ?_ | refine j_iadd dX1_path_106 ?_
        refine j_ild1 dX1_path_107 ?_
        refine s1_6 dX1_path_108 (by omega) ?_
        refine j_ald0 dX1_path_109 ?_
        refine g1_7 dX1_path_110 ?_
        refine j_ild2 dX1_path_113 ?_
        refine j_dup2 rfl rfl dX1_path_114 ?_
        refine l1_7 dX1_path_115 (by omega) ?_
        refine j_top (nI z) (by rw [jset_o _ _ _ (by decide)]; exact hl) ?_
        refine j_iconst (nI 1) dX1_path_116 (by decide) ?_
        first | refine j_iaddN dX1_path_117 ?_ | refine j_iadd dX1_path_117 ?_
        refine s1_7 dX1_path_118 (by omega) ?_
        refine j_ald0 dX1_path_119 ?_
        refine g1_8 dX1_path_120 ?_
        exact ret _ _ _ _ dX1_path_123 rfl ⟨by rw [ek]; rfl, by rw [ek]; rfl⟩
      · rw [if_pos (by omega)] at ek
        refine j_bipush (-2) dX1_path_89 (by decide) ?_
        exact ret _ _ _ _ dX1_path_91 rfl ⟨by rw [ek]; rfl, by rw [ek]; rfl⟩
    · rw [if_pos (show c = 9 from c9)] at ek
      have bad : (z = 0 ∨ t.1 8 = 6) → j1 X Z cX1_path 3 t 50 [some (.ref Z.1), some (.int c), some (.int (nI (t.1 8 - 1)))] [] := by
        intro hb
        rw [if_pos hb] at ek
        refine j_bipush (-4) dX1_path_50 (by decide) ?_
        exact ret _ _ _ _ dX1_path_52 rfl ⟨by rw [ek]; rfl, by rw [ek]; rfl⟩
      refine j_ald0 dX1_path_32 ?_
      refine g1_7 dX1_path_33 ?_
      refine j_ild2 dX1_path_36 ?_
      refine l1_7 dX1_path_37 (by omega) ?_
      refine j_top (nI z) hl ?_
      refine j_ifeqN 50 dX1_path_38 (by decide) (by omega) (fun z0 => ?_) (fun z0 => ?_)
      · exact bad (Or.inl z0)
      · refine j_ald0 dX1_path_41 ?_
        refine g1_8 dX1_path_42 ?_
        refine j_bipush (nI 6) dX1_path_45 (by decide) ?_
        refine j_icneN 53 dX1_path_47 (by decide) (by omega) (by omega) (fun z6 => ?_) (fun z6 => ?_)
        · rw [if_neg (by omega)] at ek
          refine j_ald0 dX1_path_53 ?_
          refine g1_7 dX1_path_54 ?_
          refine j_ald0 dX1_path_57 ?_
          refine g1_8 dX1_path_58 ?_
          refine j_iconst (nI 0) dX1_path_61 (by decide) ?_
          refine s1_7 dX1_path_62 (by omega) ?_
          refine j_ald0 dX1_path_63 ?_
          refine j_dup rfl dX1_path_64 ?_
          refine g1_8 dX1_path_65 ?_
          refine j_iconst (nI 1) dX1_path_68 (by decide) ?_
          first | refine j_iaddN dX1_path_69 ?_ | refine j_iadd dX1_path_69 ?_
          refine p1_8 dX1_path_70 ?_
          refine j_ald0 dX1_path_73 ?_
          refine g1_8 dX1_path_74 ?_
          exact ret _ _ _ _ dX1_path_77 rfl ⟨by rw [ek]; rfl, by rw [ek]; rfl⟩
        · exact bad (Or.inr z6)
  have chk : (c < 1 ∨ 6 < c) → j1 X Z cX1_path 3 t 11 [some (.ref Z.1), some (.int c), none] [] := by
    intro hc
    refine j_ild1 dX1_path_11 ?_
    refine j_bipush (nI 9) dX1_path_12 (by decide) ?_
    refine j_iceq 19 dX1_path_14 (by decide) (fun c9 => ?_) (fun c9 => ?_)
    · exact main (fun q => q.2 c9)
    · rw [pathK, if_pos ⟨hc, c9⟩] at ek
      refine j_iconst (-1) dX1_path_17 (by decide) ?_
      exact ret _ _ _ _ dX1_path_18 rfl ⟨by rw [ek]; rfl, by rw [ek]; rfl⟩
  refine j_ild1 dX1_path_0 ?_
  refine j_iconst (nI 1) dX1_path_1 (by decide) ?_
  refine j_iclt 11 dX1_path_2 (by decide) (fun c1 => ?_) (fun c1 => ?_)
  · exact chk (Or.inl c1)
  · refine j_ild1 dX1_path_5 ?_
    refine j_bipush (nI 6) dX1_path_6 (by decide) ?_
    refine j_icle 19 dX1_path_8 (by decide) (fun c2 => ?_) (fun c2 => ?_)
    · refine main (fun q => ?_)
      rcases q.1 with q | q
      · exact c1 q
      · exact absurd c2 (Int32.not_le.mpr q)
    · exact chk (Or.inr (Int32.not_le.mp c2))
set_option maxHeartbeats 4000000 in
theorem x_isPath (Z : jZ) (t : jS) (h1 : 1 ≤ t.1 8) (h6 : t.1 8 ≤ 6) (z : Nat) (hz : z ≤ 8) (hl : t.2 7 (t.1 8 - 1) = nI z) : ∀ (l : Launch) (D : va_G), jKi l D Z.2.2.1 Z.2.2.2 yX1_isPath cX1_isPath 1 (some .boolean) { frames := 0, cells := 0, slots := 0, locals := 0 } Z.1 [] (w1 Z) t (fun v t' => t = t' ∧ v = jb (decide (0 < z))) := by
  intro l D
  refine jKi_start RX1 0 (by decide) rfl (Nat.le_of_ble_eq_true rfl) (by simp [Value.category]) ?_
  intro X hR ret
  show j1 X Z cX1_isPath 1 t 0 [some (.ref Z.1)] []
  refine j_ald0 dX1_isPath_0 ?_
  refine g1_7 dX1_isPath_1 ?_
  refine j_ald0 dX1_isPath_4 ?_
  refine g1_8 dX1_isPath_5 ?_
  refine j_iconst (nI 1) dX1_isPath_8 (by decide) ?_
  refine j_isubN (by omega) dX1_isPath_9 ?_
  refine l1_7 dX1_isPath_10 (by omega) ?_
  refine j_top (nI z) hl ?_
  refine j_ifleN 18 dX1_isPath_11 (by decide) (by omega) (fun z0 => ?_) (fun z0 => ?_)
  · refine j_iconst (nI 0) dX1_isPath_18 (by decide) ?_
    exact ret _ _ _ _ dX1_isPath_19 (by decide) ⟨rfl, by rw [decide_eq_false (by omega)]; decide⟩
  · refine j_iconst (nI 1) dX1_isPath_14 (by decide) ?_
    refine j_goto 19 dX1_isPath_15 (by decide) ?_
    exact ret _ _ _ _ dX1_isPath_19 (by decide) ⟨rfl, by rw [decide_eq_true z0]; decide⟩
end
section
set_option maxRecDepth 100000
/-! IgnoreRulesModel: cut, partFits, allFit -/
set_option maxHeartbeats 4000000 in
theorem x_cut (Z : jZ) (t : jS) (r len : Nat) (hr : r < 12) (hl : t.2 3 r = nI len) (hl10 : len ≤ 10) (g : gp (sgr t r) len) : ∀ (l : Launch) (D : va_G), jKv l D Z.2.2.1 Z.2.2.2 yX1_cut cX1_cut 5 { frames := 0, cells := 0, slots := 0, locals := 0 } Z.1 [.int (nI r)] (w1 Z) t (fun t' => sm1 t t' ∧ (∀ k, 11 < k → t'.2 k = t.2 k) ∧ ∃ np, CUT t' r (sgr t r) len np) := by
  intro l D
  refine jKv_start RX1 3 (by decide) rfl (Nat.le_of_ble_eq_true rfl) (by simp [Value.category]) ?_
  intro X hR ret
  show j1 X Z cX1_cut 5 t 0 [some (.ref Z.1), some (.int (nI r)), none, none, none] []
  have hsg : ∀ i, t.2 2 (r * 10 + i) = sgr t r i := fun _ => rfl
  generalize sgr t r = sg at g hsg ret
  have loop : ∀ (d i p : Nat) (t1 : jS), i + d = len + 1 → t1.1 11 = p → (∀ k, k ≠ 11 → t1.1 k = t.1 k) → (∀ k, k ≠ 9 → k ≠ 10 → t1.2 k = t.2 k) → (∀ a, a < p → t1.2 9 a = nI (r * 10 + pst sg len a) ∧ t1.2 10 a = nI (r * 10 + (pst sg len a + pl sg len (pst sg len a))) ∧ pst sg len a < len) → 2 * p ≤ pst sg len p → ((i ≤ len ∧ pst sg len p ≤ i ∧ i + pl sg len i = pst sg len p + pl sg len (pst sg len p) ∧ ps sg (pst sg len p)) ∨ (i = len + 1 ∧ pst sg len p = len + 1 ∧ 1 ≤ p)) → j1 X Z cX1_cut 5 t1 28 [some (.ref Z.1), some (.int (nI r)), some (.int (nI (r * 10 + pst sg len p))), some (.int (nI (r * 10 + len))), some (.int (nI (r * 10 + i)))] [] := by
    intro d
    induction d with
    | zero =>
      intro i p t1 hi hp hs hk hf h2 hpos
      refine j_ild4 dX1_cut_28 ?_
      refine j_ild3 dX1_cut_30 ?_
      refine j_icgtN 94 dX1_cut_31 (by decide) (by omega) (by omega) (fun c1 => ?_) (fun c1 => ?_)
      · rcases hpos with q | ⟨-, q1, q2⟩
        · omega
        · exact ret t1 _ _ dX1_cut_94 ⟨⟨hs, fun k hk' => hk k (by omega) (by omega)⟩, fun k hk' => hk k (by omega) (by omega), p, hp, q2, by omega, hf, q1⟩
      · omega
    | succ d ih =>
      intro i p t1 hi hp hs hk hf h2 hpos
      obtain ⟨hil, hpi, hpl, hps⟩ : i ≤ len ∧ pst sg len p ≤ i ∧ i + pl sg len i = pst sg len p + pl sg len (pst sg len p) ∧ ps sg (pst sg len p) := by
        rcases hpos with q | q
        · exact q
        · omega
      have hlt : pst sg len p < len := by
        rcases Nat.lt_or_ge (pst sg len p) len with q | q
        · exact q
        · have q0 := g.1
          rcases hps with w | w
          · omega
          · have := gp_9 g (by omega) w
            omega
      have wr : i = pst sg len p + pl sg len (pst sg len p) → j1 X Z cX1_cut 5 t1 52 [some (.ref Z.1), some (.int (nI r)), some (.int (nI (r * 10 + pst sg len p))), some (.int (nI (r * 10 + len))), some (.int (nI (r * 10 + i)))] [] := by
        intro hw
        have hnx : pst sg len (p + 1) = i + 1 := by rw [pst, hw]
        refine j_ald0 dX1_cut_52 ?_
        refine g1_9 dX1_cut_53 ?_
        refine j_ald0 dX1_cut_56 ?_
        refine g1_11 dX1_cut_57 ?_
        rw [hp]
        refine j_ild2 dX1_cut_60 ?_
        refine s1_9 dX1_cut_61 (by omega) ?_
        refine j_ald0 dX1_cut_62 ?_
        refine g1_10 dX1_cut_63 ?_
        refine j_ald0 dX1_cut_66 ?_
        refine g1_11 dX1_cut_67 ?_
        rw [jset_s, hp]
        refine j_ild4 dX1_cut_70 ?_
        refine s1_10 dX1_cut_72 (by omega) ?_
        refine j_ald0 dX1_cut_73 ?_
        refine j_dup rfl dX1_cut_74 ?_
        refine g1_11 dX1_cut_75 ?_
        rw [jset_s, jset_s, hp]
        refine j_iconst (nI 1) dX1_cut_78 (by decide) ?_
        first | refine j_iaddN dX1_cut_79 ?_ | refine j_iadd dX1_cut_79 ?_
        refine p1_11 dX1_cut_80 ?_
        refine j_ild4 dX1_cut_83 ?_
        refine j_iconst (nI 1) dX1_cut_85 (by decide) ?_
        first | refine j_iaddN dX1_cut_86 ?_ | refine j_iadd dX1_cut_86 ?_
        refine j_ist2 (by decide) dX1_cut_87 ?_
        refine j_inc4N (by decide) dX1_cut_88 ?_
        refine j_goto 28 dX1_cut_91 (by decide) ?_
        rw [show r * 10 + i + 1 = r * 10 + (i + 1) by omega]
        have := ih (i + 1) (p + 1) (jput (jset (jset t1 9 p (nI (r * 10 + pst sg len p))) 10 p (nI (r * 10 + i))) 11 (p + 1)) (by omega) rfl (fun k hk' => by rw [jput_s, if_neg hk']; exact hs k hk') (fun k h9 h10 => by rw [jput_a, jset_o _ _ _ h10, jset_o _ _ _ h9]; exact hk k h9 h10) ?_ ?_ ?_
        · rw [hnx] at this
          exact this
        · intro a ha
          rw [jput_a]
          by_cases e : a = p
          · rw [e]
            refine ⟨?_, ?_, hlt⟩
            · rw [jset_o _ _ _ (by decide), jset_a, if_pos ⟨rfl, rfl⟩]
            · rw [jset_a, if_pos ⟨rfl, rfl⟩, hw]
          · rw [jset_o _ _ _ (by decide), jset_a, if_neg (fun q => e q.2), jset_a, if_neg (fun q => e q.2), jset_o _ _ _ (by decide)]
            exact hf a (by omega)
        · have := pst_2 g p hlt hps
          omega
        · rcases Nat.lt_or_ge i len with q | q
          · refine Or.inl ⟨by omega, by omega, by rw [hnx], ?_⟩
            rw [hnx]
            refine ps_s ?_
            rw [hw]
            exact pl_end' (by omega) (by omega)
          · exact Or.inr ⟨by omega, by omega, by omega⟩
      refine j_ild4 dX1_cut_28 ?_
      refine j_ild3 dX1_cut_30 ?_
      refine j_icgtN 94 dX1_cut_31 (by decide) (by omega) (by omega) (fun c1 => ?_) (fun c1 => ?_)
      · omega
      · refine j_ild4 dX1_cut_34 ?_
        refine j_ild3 dX1_cut_36 ?_
        refine j_iceqN 52 dX1_cut_37 (by decide) (by omega) (by omega) (fun c2 => ?_) (fun c2 => ?_)
        · have e : i = len := by omega
          rw [e, pl_ge (Nat.le_refl _)] at hpl
          exact wr (by omega)
        · refine j_ald0 dX1_cut_40 ?_
          refine g1_2 dX1_cut_41 ?_
          refine j_ild4 dX1_cut_44 ?_
          refine l1_2 dX1_cut_46 (by omega) ?_
          refine j_bipush (nI 9) dX1_cut_47 (by decide) ?_
          refine j_icne 88 dX1_cut_49 (by decide) (fun e9 => ?_) (fun e9 => ?_)
          · have hn9 : ¬ sg i = 9 := by
              intro q
              apply e9
              rw [hk 2 (by decide) (by decide), hsg]
              exact q
            rw [pl_s (by omega) hn9] at hpl
            refine j_inc4N (by decide) dX1_cut_88 ?_
            refine j_goto 28 dX1_cut_91 (by decide) ?_
            have := ih (i + 1) p t1 (by omega) hp hs hk hf h2 (Or.inl ⟨by omega, by omega, by omega, hps⟩)
            exact this
          · have h9 : sg i = 9 := by
              rw [← hsg, ← hk 2 (by decide) (by decide)]
              exact e9
            rw [pl_9 h9] at hpl
            exact wr (by omega)
  refine j_ald0 dX1_cut_0 ?_
  refine j_iconst (nI 0) dX1_cut_1 (by decide) ?_
  refine p1_11 dX1_cut_2 ?_
  refine j_ild1 dX1_cut_5 ?_
  refine j_bipush (nI 10) dX1_cut_6 (by decide) ?_
  first | refine j_imulN dX1_cut_8 ?_ | refine j_imul dX1_cut_8 ?_
  refine j_ist2 (by decide) dX1_cut_9 ?_
  refine j_ild1 dX1_cut_10 ?_
  refine j_bipush (nI 10) dX1_cut_11 (by decide) ?_
  first | refine j_imulN dX1_cut_13 ?_ | refine j_imul dX1_cut_13 ?_
  refine j_ald0 dX1_cut_14 ?_
  refine g1_3 dX1_cut_15 ?_
  refine j_ild1 dX1_cut_18 ?_
  refine l1_3 dX1_cut_19 (by omega) ?_
  refine j_top (nI len) (by rw [jput_a]; exact hl) ?_
  first | refine j_iaddN dX1_cut_20 ?_ | refine j_iadd dX1_cut_20 ?_
  refine j_ist3 (by decide) dX1_cut_21 ?_
  refine j_ild1 dX1_cut_22 ?_
  refine j_bipush (nI 10) dX1_cut_23 (by decide) ?_
  first | refine j_imulN dX1_cut_25 ?_ | refine j_imul dX1_cut_25 ?_
  refine j_ist4 (by decide) dX1_cut_26 ?_
  exact loop (len + 1) 0 0 (jput t 11 0) (by omega) rfl (fun k hk => by rw [jput_s, if_neg hk]) (fun _ _ _ => rfl) (fun a ha => by omega) (Nat.zero_le _) (Or.inl ⟨by omega, Nat.zero_le _, rfl, Or.inl rfl⟩)
set_option maxHeartbeats 4000000 in
theorem x_partFits (Z : jZ) (t : jS) (A i0 e z pt q : Nat) (hpt : pt < 11) (h9 : t.2 9 pt = nI (A + i0)) (h10 : t.2 10 pt = nI (A + e)) (hA : A + e ≤ 120) (he : i0 ≤ e) (he10 : e ≤ 10) (hq : q < 6) (h7 : t.2 7 q = nI z) (hz : z ≤ 8) : ∀ (l : Launch) (D : va_G), jKi l D Z.2.2.1 Z.2.2.2 yX1_partFits cX1_partFits 10 (some .boolean) { frames := 0, cells := 0, slots := 0, locals := 0 } Z.1 [.int (nI pt), .int (nI q)] (w1 Z) t (fun v t' => v = jb (pf (fun i => t.2 2 (A + i)) (fun k => t.2 6 (q * 8 + k)) e z i0 0) ∧ t'.1 = t.1 ∧ ∀ k, k ≠ 12 → t'.2 k = t.2 k) := by
  intro l D
  refine jKi_start RX1 7 (by decide) rfl (Nat.le_of_ble_eq_true rfl) (by simp [Value.category]) ?_
  intro X hR ret
  show j1 X Z cX1_partFits 10 t 0 [some (.ref Z.1), some (.int (nI pt)), some (.int (nI q)), none, none, none, none, none, none, none] []
  obtain ⟨sg, hsg⟩ : ∃ sg : Nat → Int32, sg = fun i => t.2 2 (A + i) := ⟨_, rfl⟩
  obtain ⟨lt, hlt⟩ : ∃ lt : Nat → Int32, lt = fun k => t.2 6 (q * 8 + k) := ⟨_, rfl⟩
  rw [← hsg, ← hlt] at ret
  obtain ⟨n, en⟩ : ∃ n, n = e - i0 := ⟨_, rfl⟩
  have outer : ∀ (j : Nat) (t1 : jS) (o6 o7 o8 o9 : Option Value), j ≤ n + 1 → t1.1 = t.1 → (∀ k, k ≠ 12 → t1.2 k = t.2 k) → (∀ p k, j ≤ p → p ≤ n → k ≤ z → t1.2 12 (p * 11 + k) = jb (pf sg lt e z (i0 + p) k)) → j1 X Z cX1_partFits 10 t1 25 [some (.ref Z.1), some (.int (nI pt)), some (.int (nI q)), some (.int (nI n)), some (.int (nI z)), some (.int (nI j + (-1))), o6, o7, o8, o9] [] := by
    intro j
    induction j with
    | zero =>
      intro t1 o6 o7 o8 o9 hj hs hk hf
      rw [show nI 0 + (-1) = -1 from by decide]
      refine j_ild5 dX1_partFits_25 ?_
      refine j_ifltM 244 dX1_partFits_27 (by decide) ?_
      refine j_ald0 dX1_partFits_244 ?_
      refine g1_12 dX1_partFits_245 ?_
      refine j_iconst (nI 0) dX1_partFits_248 (by decide) ?_
      refine l1_12 dX1_partFits_249 (by omega) ?_
      have := hf 0 0 (by omega) (by omega) (by omega)
      refine j_top (jb (pf sg lt e z i0 0)) this ?_
      exact ret _ _ _ _ dX1_partFits_250 (jb_nar _) ⟨rfl, hs, hk⟩
    | succ j ih =>
      intro t1 o6 o7 o8 o9 hj hs hk hf
      rw [pk_m1]
      refine j_ild5 dX1_partFits_25 ?_
      refine j_ifltN 244 dX1_partFits_27 (by omega) (by decide) ?_
      have inner : ∀ (jq : Nat) (t2 : jS) (o7 o8 o9 : Option Value), jq ≤ z + 1 → t2.1 = t.1 → (∀ k, k ≠ 12 → t2.2 k = t.2 k) → (∀ p k, j + 1 ≤ p → p ≤ n → k ≤ z → t2.2 12 (p * 11 + k) = jb (pf sg lt e z (i0 + p) k)) → (∀ k, jq ≤ k → k ≤ z → t2.2 12 (j * 11 + k) = jb (pf sg lt e z (i0 + j) k)) → j1 X Z cX1_partFits 10 t2 34 [some (.ref Z.1), some (.int (nI pt)), some (.int (nI q)), some (.int (nI n)), some (.int (nI z)), some (.int (nI j)), some (.int (nI jq + (-1))), o7, o8, o9] [] := by
        intro jq
        induction jq with
        | zero =>
          intro t2 o7 o8 o9 hjq hs2 hk2 hf2 hr2
          rw [show nI 0 + (-1) = -1 from by decide]
          refine j_ild6 dX1_partFits_34 ?_
          refine j_ifltM 238 dX1_partFits_36 (by decide) ?_
          refine j_inc5M (by decide) dX1_partFits_238 ?_
          refine j_goto 25 dX1_partFits_241 (by decide) ?_
          refine ih t2 _ _ _ _ (by omega) hs2 hk2 (fun p k h1 h2 h3 => ?_)
          by_cases ep : p = j
          · rw [ep]
            exact hr2 k (by omega) h3
          · exact hf2 p k (by omega) h2 h3
        | succ k ihq =>
          intro t2 o7 o8 o9 hjq hs2 hk2 hf2 hr2
          rw [pk_m1]
          refine j_ild6 dX1_partFits_34 ?_
          refine j_ifltN 238 dX1_partFits_36 (by omega) (by decide) ?_
          have at63 : ∀ sn : Int32, (j < n → sn = sg (i0 + j)) → j1 X Z cX1_partFits 10 t2 63 [some (.ref Z.1), some (.int (nI pt)), some (.int (nI q)), some (.int (nI n)), some (.int (nI z)), some (.int (nI j)), some (.int (nI k)), o7, o8, o9] [.int sn] := by
            intro sn hsn
            have at77 : ∀ m : Bool, m = decide (k < z) → j1 X Z cX1_partFits 10 t2 77 [some (.ref Z.1), some (.int (nI pt)), some (.int (nI q)), some (.int (nI n)), some (.int (nI z)), some (.int (nI j)), some (.int (nI k)), some (.int sn), o8, o9] [.int (jb m)] := by
              intro m hm
              have at217 : ∀ b : Bool, b = pf sg lt e z (i0 + j) k → j1 X Z cX1_partFits 10 t2 217 [some (.ref Z.1), some (.int (nI pt)), some (.int (nI q)), some (.int (nI n)), some (.int (nI z)), some (.int (nI j)), some (.int (nI k)), some (.int sn), some (.int (jb m)), some (.int (jb b))] [] := by
                intro b hb
                refine j_ald0 dX1_partFits_217 ?_
                refine g1_12 dX1_partFits_218 ?_
                refine j_ild5 dX1_partFits_221 ?_
                refine j_bipush (nI 11) dX1_partFits_223 (by decide) ?_
                first | refine j_imulN dX1_partFits_225 ?_ | refine j_imul dX1_partFits_225 ?_
                refine j_ild6 dX1_partFits_226 ?_
                first | refine j_iaddN dX1_partFits_228 ?_ | refine j_iadd dX1_partFits_228 ?_
                refine j_ild9 dX1_partFits_229 ?_
                refine s1_12 dX1_partFits_231 (by omega) (by first | exact jb_vn _ | decide) ?_
                refine j_inc6M (by decide) dX1_partFits_232 ?_
                refine j_goto 34 dX1_partFits_235 (by decide) ?_
                refine ihq _ _ _ _ (by omega) hs2 (fun k' hk' => ?_) (fun p k' h1 h2 h3 => ?_) (fun k' h1 h2 => ?_)
                · rw [jset_o _ _ _ hk']
                  exact hk2 k' hk'
                · rw [jset_a, if_neg (by omega)]
                  exact hf2 p k' h1 h2 h3
                · rw [jset_a]
                  by_cases ek : k' = k
                  · rw [if_pos ⟨rfl, by rw [ek]⟩, hb, ek]
                  · rw [if_neg (by omega)]
                    exact hr2 k' (by omega) h2
              refine j_ist8 (by decide) dX1_partFits_77 ?_
              refine j_iconst (nI 0) dX1_partFits_79 (by decide) ?_
              refine j_top (jb false) jb_f.symm ?_
              refine j_ist9 (by decide) dX1_partFits_80 ?_
              refine j_ild5 dX1_partFits_82 ?_
              refine j_ild3 dX1_partFits_84 ?_
              refine j_icneN 103 dX1_partFits_85 (by decide) (by omega) (by omega) (fun cn => ?_) (fun cn => ?_)
              · have hjn : j < n := by omega
                have hjt : j + 1 ≤ n := hjn
                have hsn := hsn hjn
                have hie : i0 + j < e := by omega
                refine j_ild7 dX1_partFits_103 ?_
                refine j_bipush (nI 7) dX1_partFits_105 (by decide) ?_
                refine j_icne 161 dX1_partFits_107 (by decide) (fun e7 => ?_) (fun e7 => ?_)
                · have h7' : ¬ sg (i0 + j) = 7 := by rw [← hsn]; exact e7
                  have hpf := pf_n (lt := lt) (z := z) (k := k) hie h7'
                  refine j_ild8 dX1_partFits_161 ?_
                  refine j_ifeqB 217 dX1_partFits_163 (by decide) (fun fm => ?_) (fun fm => ?_)
                  · exact at217 false (by rw [hpf, ← hm, fm]; rfl)
                  · have hkz : k < z := of_decide_eq_true (by rw [← hm]; exact fm)
                    have no : ((decide (sg (i0 + j) = 8) || decide (sg (i0 + j) = lt k)) && pf sg lt e z (i0 + j + 1) (k + 1)) = false → j1 X Z cX1_partFits 10 t2 214 [some (.ref Z.1), some (.int (nI pt)), some (.int (nI q)), some (.int (nI n)), some (.int (nI z)), some (.int (nI j)), some (.int (nI k)), some (.int sn), some (.int (jb m)), some (.int (jb false))] [] := by
                      intro hno
                      refine j_iconst (nI 0) dX1_partFits_214 (by decide) ?_
                      refine j_top (jb false) jb_f.symm ?_
                      refine j_ist9 (by decide) dX1_partFits_215 ?_
                      exact at217 false (by rw [hpf, hno, Bool.and_false])
                    have at190 : (sg (i0 + j) = 8 ∨ sg (i0 + j) = lt k) → j1 X Z cX1_partFits 10 t2 190 [some (.ref Z.1), some (.int (nI pt)), some (.int (nI q)), some (.int (nI n)), some (.int (nI z)), some (.int (nI j)), some (.int (nI k)), some (.int sn), some (.int (jb m)), some (.int (jb false))] [] := by
                      intro hor
                      have hor' : (decide (sg (i0 + j) = 8) || decide (sg (i0 + j) = lt k)) = true := by
                        rcases hor with w | w
                        · rw [decide_eq_true w]; rfl
                        · rw [decide_eq_true w, Bool.or_true]
                      refine j_ald0 dX1_partFits_190 ?_
                      refine g1_12 dX1_partFits_191 ?_
                      refine j_ild5 dX1_partFits_194 ?_
                      refine j_iconst (nI 1) dX1_partFits_196 (by decide) ?_
                      first | refine j_iaddN dX1_partFits_197 ?_ | refine j_iadd dX1_partFits_197 ?_
                      refine j_bipush (nI 11) dX1_partFits_198 (by decide) ?_
                      first | refine j_imulN dX1_partFits_200 ?_ | refine j_imul dX1_partFits_200 ?_
                      refine j_ild6 dX1_partFits_201 ?_
                      first | refine j_iaddN dX1_partFits_203 ?_ | refine j_iadd dX1_partFits_203 ?_
                      refine j_iconst (nI 1) dX1_partFits_204 (by decide) ?_
                      first | refine j_iaddN dX1_partFits_205 ?_ | refine j_iadd dX1_partFits_205 ?_
                      refine l1_12 dX1_partFits_206 (by omega) ?_
                      refine j_top (jb (pf sg lt e z (i0 + j + 1) (k + 1))) (hf2 (j + 1) (k + 1) (by omega) hjt (by omega)) ?_
                      refine j_ifeqB 214 dX1_partFits_207 (by decide) (fun fr => ?_) (fun fr => ?_)
                      · exact no (by rw [fr, Bool.and_false])
                      · refine j_iconst (nI 1) dX1_partFits_210 (by decide) ?_
                        refine j_goto 215 dX1_partFits_211 (by decide) ?_
                        refine j_top (jb true) jb_t.symm ?_
                        refine j_ist9 (by decide) dX1_partFits_215 ?_
                        exact at217 true (by rw [hpf, decide_eq_true hkz, hor', fr]; rfl)
                    refine j_ild7 dX1_partFits_166 ?_
                    refine j_bipush (nI 8) dX1_partFits_168 (by decide) ?_
                    refine j_iceq 190 dX1_partFits_170 (by decide) (fun e8 => ?_) (fun e8 => ?_)
                    · exact at190 (Or.inl (by rw [← hsn]; exact e8))
                    · refine j_ild7 dX1_partFits_173 ?_
                      refine j_ald0 dX1_partFits_175 ?_
                      refine g1_6 dX1_partFits_176 ?_
                      refine j_ild2 dX1_partFits_179 ?_
                      refine j_bipush (nI 8) dX1_partFits_180 (by decide) ?_
                      first | refine j_imulN dX1_partFits_182 ?_ | refine j_imul dX1_partFits_182 ?_
                      refine j_ild6 dX1_partFits_183 ?_
                      first | refine j_iaddN dX1_partFits_185 ?_ | refine j_iadd dX1_partFits_185 ?_
                      refine l1_6 dX1_partFits_186 (by omega) ?_
                      refine j_icne 214 dX1_partFits_187 (by decide) (fun el => ?_) (fun el => ?_)
                      · refine no ?_
                        rw [decide_eq_false (fun w => e8 (by rw [hsn]; exact w)), decide_eq_false (fun w => el (by rw [hsn, w, hlt, hk2 6 (by decide)]))]
                        rfl
                      · refine at190 (Or.inr ?_)
                        rw [← hsn, el, hlt, hk2 6 (by decide)]
                · have h7' : sg (i0 + j) = 7 := by rw [← hsn]; exact e7
                  have hpf := pf_7 (lt := lt) (z := z) (k := k) hie h7'
                  have fin : ∀ b : Bool, b = pf sg lt e z (i0 + j) k → j1 X Z cX1_partFits 10 t2 156 [some (.ref Z.1), some (.int (nI pt)), some (.int (nI q)), some (.int (nI n)), some (.int (nI z)), some (.int (nI j)), some (.int (nI k)), some (.int sn), some (.int (jb m)), some (.int (jb false))] [.int (jb b)] := by
                    intro b hb
                    refine j_ist9 (by decide) dX1_partFits_156 ?_
                    refine j_goto 217 dX1_partFits_158 (by decide) ?_
                    exact at217 b hb
                  refine j_ald0 dX1_partFits_110 ?_
                  refine g1_12 dX1_partFits_111 ?_
                  refine j_ild5 dX1_partFits_114 ?_
                  refine j_iconst (nI 1) dX1_partFits_116 (by decide) ?_
                  first | refine j_iaddN dX1_partFits_117 ?_ | refine j_iadd dX1_partFits_117 ?_
                  refine j_bipush (nI 11) dX1_partFits_118 (by decide) ?_
                  first | refine j_imulN dX1_partFits_120 ?_ | refine j_imul dX1_partFits_120 ?_
                  refine j_ild6 dX1_partFits_121 ?_
                  first | refine j_iaddN dX1_partFits_123 ?_ | refine j_iadd dX1_partFits_123 ?_
                  refine l1_12 dX1_partFits_124 (by omega) ?_
                  refine j_top (jb (pf sg lt e z (i0 + j + 1) k)) (hf2 (j + 1) k (by omega) hjt (by omega)) ?_
                  refine j_ifneB 151 dX1_partFits_125 (by decide) (fun fr => ?_) (fun fr => ?_)
                  · refine j_iconst (nI 1) dX1_partFits_151 (by decide) ?_
                    refine j_goto 156 dX1_partFits_152 (by decide) ?_
                    refine j_top (jb true) jb_t.symm ?_
                    exact fin true (by rw [hpf, fr]; rfl)
                  · refine j_ild8 dX1_partFits_128 ?_
                    refine j_ifeqB 155 dX1_partFits_130 (by decide) (fun fm => ?_) (fun fm => ?_)
                    · refine j_iconst (nI 0) dX1_partFits_155 (by decide) ?_
                      refine j_top (jb false) jb_f.symm ?_
                      exact fin false (by rw [hpf, fr, ← hm, fm]; rfl)
                    · have hkz : k < z := of_decide_eq_true (by rw [← hm]; exact fm)
                      refine j_ald0 dX1_partFits_133 ?_
                      refine g1_12 dX1_partFits_134 ?_
                      refine j_ild5 dX1_partFits_137 ?_
                      refine j_bipush (nI 11) dX1_partFits_139 (by decide) ?_
                      first | refine j_imulN dX1_partFits_141 ?_ | refine j_imul dX1_partFits_141 ?_
                      refine j_ild6 dX1_partFits_142 ?_
                      first | refine j_iaddN dX1_partFits_144 ?_ | refine j_iadd dX1_partFits_144 ?_
                      refine j_iconst (nI 1) dX1_partFits_145 (by decide) ?_
                      first | refine j_iaddN dX1_partFits_146 ?_ | refine j_iadd dX1_partFits_146 ?_
                      refine l1_12 dX1_partFits_147 (by omega) ?_
                      refine j_top (jb (pf sg lt e z (i0 + j) (k + 1))) (hr2 (k + 1) (by omega) (by omega)) ?_
                      refine j_ifeqB 155 dX1_partFits_148 (by decide) (fun fs => ?_) (fun fs => ?_)
                      · refine j_iconst (nI 0) dX1_partFits_155 (by decide) ?_
                        refine j_top (jb false) jb_f.symm ?_
                        exact fin false (by rw [hpf, fr, fs, Bool.and_false]; rfl)
                      · refine j_iconst (nI 1) dX1_partFits_151 (by decide) ?_
                        refine j_goto 156 dX1_partFits_152 (by decide) ?_
                        refine j_top (jb true) jb_t.symm ?_
                        exact fin true (by rw [hpf, fr, fs, decide_eq_true hkz]; rfl)
              · have hpf : pf sg lt e z (i0 + j) k = decide (z ≤ k) := pf_ge (by omega)
                refine j_ild8 dX1_partFits_88 ?_
                refine j_ifneB 97 dX1_partFits_90 (by decide) (fun fm => ?_) (fun fm => ?_)
                · refine j_iconst (nI 0) dX1_partFits_97 (by decide) ?_
                  refine j_top (jb false) jb_f.symm ?_
                  refine j_ist9 (by decide) dX1_partFits_98 ?_
                  refine j_goto 217 dX1_partFits_100 (by decide) ?_
                  refine at217 false ?_
                  have : k < z := of_decide_eq_true (by rw [← hm]; exact fm)
                  rw [hpf, decide_eq_false (by omega)]
                · refine j_iconst (nI 1) dX1_partFits_93 (by decide) ?_
                  refine j_goto 98 dX1_partFits_94 (by decide) ?_
                  refine j_top (jb true) jb_t.symm ?_
                  refine j_ist9 (by decide) dX1_partFits_98 ?_
                  refine j_goto 217 dX1_partFits_100 (by decide) ?_
                  refine at217 true ?_
                  have : ¬ k < z := of_decide_eq_false (by rw [← hm]; exact fm)
                  rw [hpf, decide_eq_true (by omega)]
            refine j_ist7 (by decide) dX1_partFits_63 ?_
            refine j_ild6 dX1_partFits_65 ?_
            refine j_ild4 dX1_partFits_67 ?_
            refine j_icgeN 76 dX1_partFits_69 (by decide) (by omega) (by omega) (fun cz => ?_) (fun cz => ?_)
            · refine j_iconst (nI 0) dX1_partFits_76 (by decide) ?_
              refine j_top (jb false) jb_f.symm ?_
              exact at77 false (by rw [decide_eq_false (by omega)])
            · refine j_iconst (nI 1) dX1_partFits_72 (by decide) ?_
              refine j_goto 77 dX1_partFits_73 (by decide) ?_
              refine j_top (jb true) jb_t.symm ?_
              exact at77 true (by rw [decide_eq_true (by omega)])
          refine j_ild5 dX1_partFits_39 ?_
          refine j_ild3 dX1_partFits_41 ?_
          refine j_icgeN 62 dX1_partFits_42 (by decide) (by omega) (by omega) (fun cj => ?_) (fun cj => ?_)
          · refine j_iconst (nI 0) dX1_partFits_62 (by decide) ?_
            exact at63 _ (fun w => by omega)
          · refine j_ald0 dX1_partFits_45 ?_
            refine g1_2 dX1_partFits_46 ?_
            refine j_ald0 dX1_partFits_49 ?_
            refine g1_9 dX1_partFits_50 ?_
            refine j_ild1 dX1_partFits_53 ?_
            refine l1_9 dX1_partFits_54 (by omega) ?_
            refine j_top (nI (A + i0)) (by rw [hk2 9 (by decide)]; exact h9) ?_
            refine j_ild5 dX1_partFits_55 ?_
            first | refine j_iaddN dX1_partFits_57 ?_ | refine j_iadd dX1_partFits_57 ?_
            refine l1_2 dX1_partFits_58 (by omega) ?_
            refine j_goto 63 dX1_partFits_59 (by decide) ?_
            refine at63 _ (fun _ => ?_)
            rw [hk2 2 (by decide), hsg, show A + i0 + j = A + (i0 + j) by omega]
      refine j_ild4 dX1_partFits_30 ?_
      refine j_top (nI (z + 1) + (-1)) (pk_m1 z).symm ?_
      refine j_ist6 (by decide) dX1_partFits_32 ?_
      exact inner (z + 1) t1 _ _ _ (Nat.le_refl _) hs hk hf (fun k h1 h2 => by omega)
  refine j_ald0 dX1_partFits_0 ?_
  refine g1_10 dX1_partFits_1 ?_
  refine j_ild1 dX1_partFits_4 ?_
  refine l1_10 dX1_partFits_5 (by omega) ?_
  refine j_top (nI (A + e)) h10 ?_
  refine j_ald0 dX1_partFits_6 ?_
  refine g1_9 dX1_partFits_7 ?_
  refine j_ild1 dX1_partFits_10 ?_
  refine l1_9 dX1_partFits_11 (by omega) ?_
  refine j_top (nI (A + i0)) h9 ?_
  refine j_isubN (by omega) dX1_partFits_12 ?_
  rw [show A + e - (A + i0) = n by omega]
  refine j_ist3 (by decide) dX1_partFits_13 ?_
  refine j_ald0 dX1_partFits_14 ?_
  refine g1_7 dX1_partFits_15 ?_
  refine j_ild2 dX1_partFits_18 ?_
  refine l1_7 dX1_partFits_19 (by omega) ?_
  refine j_top (nI z) h7 ?_
  refine j_ist4 (by decide) dX1_partFits_20 ?_
  refine j_ild3 dX1_partFits_22 ?_
  refine j_top (nI (n + 1) + (-1)) (pk_m1 n).symm ?_
  refine j_ist5 (by decide) dX1_partFits_23 ?_
  exact outer (n + 1) t _ _ _ _ (Nat.le_refl _) rfl (fun _ _ => rfl) (fun p k h1 h2 => by omega)
set_option maxHeartbeats 4000000 in
theorem x_allFit (Z : jZ) (t : jS) (r len np n : Nat) (hr : r < 12) (hl10 : len ≤ 10) (hn6 : n ≤ 6) (sz : Nat → Nat) (hnm : ∀ q, q < n → t.2 7 q = nI (sz q) ∧ sz q ≤ 8) (hC : CUT t r (sgr t r) len np) : ∀ (l : Launch) (D : va_G), jKi l D Z.2.2.1 Z.2.2.2 yX1_allFit cX1_allFit 6 (some .boolean) { frames := 1, cells := 0, slots := 0, locals := 29 } Z.1 [.int (nI n)] (w1 Z) t (fun v t' => v = jb (lf (sgr t r) len n (ftn (sgr t r) len (ltr t) sz) 0 0) ∧ t'.1 = t.1 ∧ ∀ k, k ≠ 12 → k ≠ 13 → t'.2 k = t.2 k) := by
  intro l D
  refine jKi_start RX1 4 (by decide) rfl (Nat.le_of_ble_eq_true rfl) (by simp [Value.category]) ?_
  intro X hR ret
  show j1 X Z cX1_allFit 6 t 0 [some (.ref Z.1), some (.int (nI n)), none, none, none, none] []
  obtain ⟨hnp, hn1, hn5, hpt, hend⟩ := hC
  obtain ⟨sg, hsg⟩ : ∃ sg : Nat → Int32, sg = sgr t r := ⟨_, rfl⟩
  obtain ⟨lt, hlt⟩ : ∃ lt : Nat → Nat → Int32, lt = ltr t := ⟨_, rfl⟩
  rw [← hsg] at hpt hend
  rw [← hsg, ← hlt] at ret
  have outer : ∀ (j : Nat) (t1 : jS) (o3 o4 o5 : Option Value), j ≤ np + 1 → t1.1 = t.1 → (∀ k, k ≠ 12 → k ≠ 13 → t1.2 k = t.2 k) → (∀ p q, j ≤ p → p ≤ np → q ≤ n → t1.2 13 (p * 11 + q) = jb (lf sg len n (ftn sg len lt sz) (pst sg len p) q)) → j1 X Z cX1_allFit 6 t1 5 [some (.ref Z.1), some (.int (nI n)), some (.int (nI j + (-1))), o3, o4, o5] [] := by
    intro j
    induction j with
    | zero =>
      intro t1 o3 o4 o5 hj hs hk hf
      rw [show nI 0 + (-1) = -1 from by decide]
      refine j_ild2 dX1_allFit_5 ?_
      refine j_ifltM 172 dX1_allFit_6 (by decide) ?_
      refine j_ald0 dX1_allFit_172 ?_
      refine g1_13 dX1_allFit_173 ?_
      refine j_iconst (nI 0) dX1_allFit_176 (by decide) ?_
      refine l1_13 dX1_allFit_177 (by omega) ?_
      have := hf 0 0 (by omega) (by omega) (by omega)
      refine j_top (jb (lf sg len n (ftn sg len lt sz) 0 0)) this ?_
      exact ret _ _ _ _ dX1_allFit_178 (jb_nar _) ⟨rfl, hs, hk⟩
    | succ j ih =>
      intro t1 o3 o4 o5 hj hs hk hf
      rw [pk_m1]
      refine j_ild2 dX1_allFit_5 ?_
      refine j_ifltN 172 dX1_allFit_6 (by omega) (by decide) ?_
      have inner : ∀ (jq : Nat) (t2 : jS) (o4 o5 : Option Value), jq ≤ n + 1 → t2.1 = t.1 → (∀ k, k ≠ 12 → k ≠ 13 → t2.2 k = t.2 k) → (∀ p q, j + 1 ≤ p → p ≤ np → q ≤ n → t2.2 13 (p * 11 + q) = jb (lf sg len n (ftn sg len lt sz) (pst sg len p) q)) → (∀ q, jq ≤ q → q ≤ n → t2.2 13 (j * 11 + q) = jb (lf sg len n (ftn sg len lt sz) (pst sg len j) q)) → j1 X Z cX1_allFit 6 t2 11 [some (.ref Z.1), some (.int (nI n)), some (.int (nI j)), some (.int (nI jq + (-1))), o4, o5] [] := by
        intro jq
        induction jq with
        | zero =>
          intro t2 o4 o5 hjq hs2 hk2 hf2 hr2
          rw [show nI 0 + (-1) = -1 from by decide]
          refine j_ild3 dX1_allFit_11 ?_
          refine j_ifltM 166 dX1_allFit_12 (by decide) ?_
          refine j_inc2M (by decide) dX1_allFit_166 ?_
          refine j_goto 5 dX1_allFit_169 (by decide) ?_
          refine ih t2 _ _ _ (by omega) hs2 hk2 (fun p k h1 h2 h3 => ?_)
          by_cases ep : p = j
          · rw [ep]
            exact hr2 k (by omega) h3
          · exact hf2 p k (by omega) h2 h3
        | succ k ihq =>
          intro t2 o4 o5 hjq hs2 hk2 hf2 hr2
          rw [pk_m1]
          have hp2 : t2.1 11 = np := by rw [hs2, hnp]
          refine j_ild3 dX1_allFit_11 ?_
          refine j_ifltN 166 dX1_allFit_12 (by omega) (by decide) ?_
          have at25 : ∀ m : Bool, m = decide (k < n) → j1 X Z cX1_allFit 6 t2 25 [some (.ref Z.1), some (.int (nI n)), some (.int (nI j)), some (.int (nI k)), o4, o5] [.int (jb m)] := by
            intro m hm
            have at147 : ∀ (b : Bool) (t3 : jS), b = lf sg len n (ftn sg len lt sz) (pst sg len j) k → t3.1 = t2.1 → (∀ k, k ≠ 12 → t3.2 k = t2.2 k) → j1 X Z cX1_allFit 6 t3 147 [some (.ref Z.1), some (.int (nI n)), some (.int (nI j)), some (.int (nI k)), some (.int (jb m)), some (.int (jb b))] [] := by
              intro b t3 hb hs3 hk3
              refine j_ald0 dX1_allFit_147 ?_
              refine g1_13 dX1_allFit_148 ?_
              refine j_ild2 dX1_allFit_151 ?_
              refine j_bipush (nI 11) dX1_allFit_152 (by decide) ?_
              first | refine j_imulN dX1_allFit_154 ?_ | refine j_imul dX1_allFit_154 ?_
              refine j_ild3 dX1_allFit_155 ?_
              first | refine j_iaddN dX1_allFit_156 ?_ | refine j_iadd dX1_allFit_156 ?_
              refine j_ild5 dX1_allFit_157 ?_
              refine s1_13 dX1_allFit_159 (by omega) (by first | exact jb_vn _ | decide) ?_
              refine j_inc3M (by decide) dX1_allFit_160 ?_
              refine j_goto 11 dX1_allFit_163 (by decide) ?_
              refine ihq _ _ _ (by omega) (by rw [jset_s, hs3]; exact hs2) (fun k' h1 h2 => ?_) (fun p k' h1 h2 h3 => ?_) (fun k' h1 h2 => ?_)
              · rw [jset_o _ _ _ h2, hk3 k' h1]
                exact hk2 k' h1 h2
              · rw [jset_a, if_neg (by omega), hk3 13 (by decide)]
                exact hf2 p k' h1 h2 h3
              · rw [jset_a]
                by_cases ek : k' = k
                · rw [if_pos ⟨rfl, by rw [ek]⟩, hb, ek]
                · rw [if_neg (by omega), hk3 13 (by decide)]
                  exact hr2 k' (by omega) h2
            refine j_ist4 (by decide) dX1_allFit_25 ?_
            refine j_iconst (nI 0) dX1_allFit_27 (by decide) ?_
            refine j_top (jb false) jb_f.symm ?_
            refine j_ist5 (by decide) dX1_allFit_28 ?_
            refine j_ild2 dX1_allFit_30 ?_
            refine j_ald0 dX1_allFit_31 ?_
            refine g1_11 dX1_allFit_32 ?_
            rw [hp2]
            refine j_icneN 53 dX1_allFit_35 (by decide) (by omega) (by omega) (fun cn => ?_) (fun cn => ?_)
            · have hjn : j < np := by omega
              obtain ⟨hq9, hq10, hql⟩ := hpt j hjn
              have hjt : j + 1 ≤ np := hjn
              have hnx : pst sg len (j + 1) = pst sg len j + pl sg len (pst sg len j) + 1 := rfl
              refine j_ald0 dX1_allFit_53 ?_
              refine g1_2 dX1_allFit_54 ?_
              refine j_ald0 dX1_allFit_57 ?_
              refine g1_9 dX1_allFit_58 ?_
              refine j_ild2 dX1_allFit_61 ?_
              refine l1_9 dX1_allFit_62 (by omega) ?_
              refine j_top (nI (r * 10 + pst sg len j)) (by rw [hk2 9 (by decide) (by decide)]; exact hq9) ?_
              refine l1_2 dX1_allFit_63 (by omega) ?_
              refine j_top (sg (pst sg len j)) (by rw [hk2 2 (by decide) (by decide), hsg]; rfl) ?_
              refine j_bipush (nI 10) dX1_allFit_64 (by decide) ?_
              refine j_icne 116 dX1_allFit_66 (by decide) (fun e10 => ?_) (fun e10 => ?_)
              · have hlf := lf_n (n := n) (ft := ftn sg len lt sz) (q := k) hql e10
                rw [← hnx] at hlf
                refine j_ild4 dX1_allFit_116 ?_
                refine j_ifeqB 147 dX1_allFit_118 (by decide) (fun fm => ?_) (fun fm => ?_)
                · exact at147 false t2 (by rw [hlf, ← hm, fm]; rfl) rfl (fun _ _ => rfl)
                · have hkn : k < n := of_decide_eq_true (by rw [← hm]; exact fm)
                  obtain ⟨hz1, hz2⟩ := hnm k hkn
                  refine j_ald0 dX1_allFit_121 ?_
                  refine g1_13 dX1_allFit_122 ?_
                  refine j_ild2 dX1_allFit_125 ?_
                  refine j_iconst (nI 1) dX1_allFit_126 (by decide) ?_
                  first | refine j_iaddN dX1_allFit_127 ?_ | refine j_iadd dX1_allFit_127 ?_
                  refine j_bipush (nI 11) dX1_allFit_128 (by decide) ?_
                  first | refine j_imulN dX1_allFit_130 ?_ | refine j_imul dX1_allFit_130 ?_
                  refine j_ild3 dX1_allFit_131 ?_
                  first | refine j_iaddN dX1_allFit_132 ?_ | refine j_iadd dX1_allFit_132 ?_
                  refine j_iconst (nI 1) dX1_allFit_133 (by decide) ?_
                  first | refine j_iaddN dX1_allFit_134 ?_ | refine j_iadd dX1_allFit_134 ?_
                  refine l1_13 dX1_allFit_135 (by omega) ?_
                  refine j_top (jb (lf sg len n (ftn sg len lt sz) (pst sg len (j + 1)) (k + 1))) (hf2 (j + 1) (k + 1) (by omega) hjt (by omega)) ?_
                  refine j_ifeqB 147 dX1_allFit_136 (by decide) (fun fr => ?_) (fun fr => ?_)
                  · exact at147 false t2 (by rw [hlf, fr, Bool.false_and, Bool.and_false]) rfl (fun _ _ => rfl)
                  · refine j_ald0 dX1_allFit_139 ?_
                    refine j_ild2 dX1_allFit_140 ?_
                    refine j_ild3 dX1_allFit_141 ?_
                    have hle := pl_le' (sg := sg) (len := len) (i := pst sg len j) (by omega)
                    refine c1_i (x_partFits Z t2 (r * 10) (pst sg len j) (pst sg len j + pl sg len (pst sg len j)) (sz k) j k (by omega) (by rw [hk2 9 (by decide) (by decide)]; exact hq9) (by rw [hk2 10 (by decide) (by decide)]; exact hq10) (by omega) (by omega) (by omega) (by omega) (by rw [hk2 7 (by decide) (by decide)]; exact hz1) hz2) hR (lw_V q262 q264 qs15 q19 q265) rfl rfl hd_X1_partFits ⟨by decide, by decide⟩ rfl rfl (Nat.le_of_ble_eq_true rfl) dX1_allFit_142 (fun v t3 hp => ?_)
                    obtain ⟨hv, hs3, hk3⟩ := hp
                    have hv' : v = jb (ftn sg len lt sz (pst sg len j) k) := by
                      rw [hv, hk2 2 (by decide) (by decide), hk2 6 (by decide) (by decide), ftn, hsg, hlt]
                      rfl
                    rw [hv']
                    refine j_ist5 (by decide) dX1_allFit_145 ?_
                    exact at147 _ t3 (by rw [hlf, fr, decide_eq_true hkn]; rfl) hs3 hk3
              · have hlf := lf_10 (n := n) (ft := ftn sg len lt sz) (q := k) hql e10
                rw [← hnx] at hlf
                have fin : ∀ b : Bool, b = lf sg len n (ftn sg len lt sz) (pst sg len j) k → j1 X Z cX1_allFit 6 t2 111 [some (.ref Z.1), some (.int (nI n)), some (.int (nI j)), some (.int (nI k)), some (.int (jb m)), some (.int (jb false))] [.int (jb b)] := by
                  intro b hb
                  refine j_ist5 (by decide) dX1_allFit_111 ?_
                  refine j_goto 147 dX1_allFit_113 (by decide) ?_
                  exact at147 b t2 hb rfl (fun _ _ => rfl)
                refine j_ald0 dX1_allFit_69 ?_
                refine g1_13 dX1_allFit_70 ?_
                refine j_ild2 dX1_allFit_73 ?_
                refine j_iconst (nI 1) dX1_allFit_74 (by decide) ?_
                first | refine j_iaddN dX1_allFit_75 ?_ | refine j_iadd dX1_allFit_75 ?_
                refine j_bipush (nI 11) dX1_allFit_76 (by decide) ?_
                first | refine j_imulN dX1_allFit_78 ?_ | refine j_imul dX1_allFit_78 ?_
                refine j_ild3 dX1_allFit_79 ?_
                first | refine j_iaddN dX1_allFit_80 ?_ | refine j_iadd dX1_allFit_80 ?_
                refine l1_13 dX1_allFit_81 (by omega) ?_
                refine j_top (jb (lf sg len n (ftn sg len lt sz) (pst sg len (j + 1)) k)) (hf2 (j + 1) k (by omega) hjt (by omega)) ?_
                refine j_ifneB 106 dX1_allFit_82 (by decide) (fun fr => ?_) (fun fr => ?_)
                · refine j_iconst (nI 1) dX1_allFit_106 (by decide) ?_
                  refine j_goto 111 dX1_allFit_107 (by decide) ?_
                  refine j_top (jb true) jb_t.symm ?_
                  exact fin true (by rw [hlf, fr]; rfl)
                · refine j_ild4 dX1_allFit_85 ?_
                  refine j_ifeqB 110 dX1_allFit_87 (by decide) (fun fm => ?_) (fun fm => ?_)
                  · refine j_iconst (nI 0) dX1_allFit_110 (by decide) ?_
                    refine j_top (jb false) jb_f.symm ?_
                    exact fin false (by rw [hlf, fr, ← hm, fm]; rfl)
                  · have hkn : k < n := of_decide_eq_true (by rw [← hm]; exact fm)
                    refine j_ald0 dX1_allFit_90 ?_
                    refine g1_13 dX1_allFit_91 ?_
                    refine j_ild2 dX1_allFit_94 ?_
                    refine j_bipush (nI 11) dX1_allFit_95 (by decide) ?_
                    first | refine j_imulN dX1_allFit_97 ?_ | refine j_imul dX1_allFit_97 ?_
                    refine j_ild3 dX1_allFit_98 ?_
                    first | refine j_iaddN dX1_allFit_99 ?_ | refine j_iadd dX1_allFit_99 ?_
                    refine j_iconst (nI 1) dX1_allFit_100 (by decide) ?_
                    first | refine j_iaddN dX1_allFit_101 ?_ | refine j_iadd dX1_allFit_101 ?_
                    refine l1_13 dX1_allFit_102 (by omega) ?_
                    refine j_top (jb (lf sg len n (ftn sg len lt sz) (pst sg len j) (k + 1))) (hr2 (k + 1) (by omega) (by omega)) ?_
                    refine j_ifeqB 110 dX1_allFit_103 (by decide) (fun fs => ?_) (fun fs => ?_)
                    · refine j_iconst (nI 0) dX1_allFit_110 (by decide) ?_
                      refine j_top (jb false) jb_f.symm ?_
                      exact fin false (by rw [hlf, fr, fs, Bool.and_false]; rfl)
                    · refine j_iconst (nI 1) dX1_allFit_106 (by decide) ?_
                      refine j_goto 111 dX1_allFit_107 (by decide) ?_
                      refine j_top (jb true) jb_t.symm ?_
                      exact fin true (by rw [hlf, fr, fs, decide_eq_true hkn]; rfl)
            · have hlf : lf sg len n (ftn sg len lt sz) (pst sg len j) k = decide (n ≤ k) := by
                rw [cn, hend]
                exact lf_ge (by omega)
              refine j_ild4 dX1_allFit_38 ?_
              refine j_ifneB 47 dX1_allFit_40 (by decide) (fun fm => ?_) (fun fm => ?_)
              · refine j_iconst (nI 0) dX1_allFit_47 (by decide) ?_
                refine j_top (jb false) jb_f.symm ?_
                refine j_ist5 (by decide) dX1_allFit_48 ?_
                refine j_goto 147 dX1_allFit_50 (by decide) ?_
                refine at147 false t2 ?_ rfl (fun _ _ => rfl)
                have : k < n := of_decide_eq_true (by rw [← hm]; exact fm)
                rw [hlf, decide_eq_false (by omega)]
              · refine j_iconst (nI 1) dX1_allFit_43 (by decide) ?_
                refine j_goto 48 dX1_allFit_44 (by decide) ?_
                refine j_top (jb true) jb_t.symm ?_
                refine j_ist5 (by decide) dX1_allFit_48 ?_
                refine j_goto 147 dX1_allFit_50 (by decide) ?_
                refine at147 true t2 ?_ rfl (fun _ _ => rfl)
                have : ¬ k < n := of_decide_eq_false (by rw [← hm]; exact fm)
                rw [hlf, decide_eq_true (by omega)]
          refine j_ild3 dX1_allFit_15 ?_
          refine j_ild1 dX1_allFit_16 ?_
          refine j_icgeN 24 dX1_allFit_17 (by decide) (by omega) (by omega) (fun cz => ?_) (fun cz => ?_)
          · refine j_iconst (nI 0) dX1_allFit_24 (by decide) ?_
            refine j_top (jb false) jb_f.symm ?_
            exact at25 false (by rw [decide_eq_false (by omega)])
          · refine j_iconst (nI 1) dX1_allFit_20 (by decide) ?_
            refine j_goto 25 dX1_allFit_21 (by decide) ?_
            refine j_top (jb true) jb_t.symm ?_
            exact at25 true (by rw [decide_eq_true (by omega)])
      refine j_ild1 dX1_allFit_9 ?_
      refine j_top (nI (n + 1) + (-1)) (pk_m1 n).symm ?_
      refine j_ist3 (by decide) dX1_allFit_10 ?_
      exact inner (n + 1) t1 _ _ (Nat.le_refl _) hs hk hf (fun k h1 h2 => by omega)
  refine j_ald0 dX1_allFit_0 ?_
  refine g1_11 dX1_allFit_1 ?_
  rw [hnp]
  refine j_top (nI (np + 1) + (-1)) (pk_m1 np).symm ?_
  refine j_ist2 (by decide) dX1_allFit_4 ?_
  exact outer (np + 1) t _ _ _ (Nat.le_refl _) rfl (fun _ _ _ => rfl) (fun p k h1 h2 => by omega)
end
section
set_option maxRecDepth 100000
/-! IgnoreRulesModel: matchesRule, lastFor and the questions -/
set_option maxHeartbeats 4000000 in
theorem x_matchesRule (Z : jZ) (t : jS) (len sz : Nat → Nat) (hw : WF1 t len sz) (r n : Nat) (hr : r < t.1 5) (hn1 : 1 ≤ n) (hn : n ≤ t.1 8) (fo : Bool) : ∀ (l : Launch) (D : va_G), jKi l D Z.2.2.1 Z.2.2.2 yX1_matchesRule cX1_matchesRule 4 (some .boolean) { frames := 2, cells := 0, slots := 0, locals := 54 } Z.1 [.int (nI r), .int (nI n), .int (jb fo)] (w1 Z) t (fun v t' => sm1 t t' ∧ v = jb (mrV t len sz fo r n)) := by
  intro l D
  refine jKi_start RX1 0 (by decide) rfl (Nat.le_of_ble_eq_true rfl) (by simp [Value.category]) ?_
  intro X hR ret
  show j1 X Z cX1_matchesRule 4 t 0 [some (.ref Z.1), some (.int (nI r)), some (.int (nI n)), some (.int (jb fo))] []
  obtain ⟨hN1, hN6, hq, hnm, hrl⟩ := id hw
  obtain ⟨hl, hl10, hg⟩ := hrl r hr
  have main : ¬ (¬ t.2 4 r &&& 4 = 0 ∧ fo = false) → j1 X Z cX1_matchesRule 4 t 17 [some (.ref Z.1), some (.int (nI r)), some (.int (nI n)), some (.int (jb fo))] [] := by
    intro hm
    have hmr : mrV t len sz fo r n = (if pl (sgr t r) (len r) 0 = len r ∧ t.2 4 r &&& 2 = 0 then decide (sgr t r 0 = 10) || ftn (sgr t r) (len r) (ltr t) sz 0 (n - 1) else lf (sgr t r) (len r) n (ftn (sgr t r) (len r) (ltr t) sz) 0 0) := by
      rw [mrV, if_neg hm]
    refine j_ald0 dX1_matchesRule_17 ?_
    refine j_ild1 dX1_matchesRule_18 ?_
    refine c1_v (x_cut Z t r (len r) (by omega) hl hl10 hg) hR (lw_V q258 q260 qs14 q19 q261) rfl rfl hd_X1_cut ⟨by decide, by decide⟩ rfl rfl (Nat.le_of_ble_eq_true rfl) dX1_matchesRule_19 (fun t1 hp => ?_)
    obtain ⟨hs, -, np, hC⟩ := hp
    obtain ⟨hnp, h1, h5, hpt, hend⟩ := id hC
    have hone : pl (sgr t r) (len r) 0 = len r ↔ np = 1 := by
      constructor
      · intro h
        rcases Nat.lt_or_ge 1 np with q | q
        · have h2 := (hpt 1 q).2.2
          have h3 : pst (sgr t r) (len r) 1 = 0 + pl (sgr t r) (len r) 0 + 1 := rfl
          omega
        · omega
      · intro h
        rw [h] at hend
        have h3 : pst (sgr t r) (len r) 1 = 0 + pl (sgr t r) (len r) 0 + 1 := rfl
        omega
    have all : ¬ (pl (sgr t r) (len r) 0 = len r ∧ t.2 4 r &&& 2 = 0) → j1 X Z cX1_matchesRule 4 t1 72 [some (.ref Z.1), some (.int (nI r)), some (.int (nI n)), some (.int (jb fo))] [] := by
      intro hno
      refine j_ald0 dX1_matchesRule_72 ?_
      refine j_ild2 dX1_matchesRule_73 ?_
      refine c1_i (x_allFit Z t1 r (len r) np n (by omega) hl10 (by omega) sz (fun q hq' => by rw [hs.2 7 (by decide)]; exact hnm q (by omega)) (by rw [sm1_sg hs]; exact hC)) hR (lw_V q266 q268 qs16 q19 q269) rfl rfl hd_X1_allFit ⟨by decide, by decide⟩ rfl rfl (Nat.le_of_ble_eq_true rfl) dX1_matchesRule_74 (fun v t2 hp2 => ?_)
      obtain ⟨hv, hs2, hk2⟩ := hp2
      rw [sm1_sg hs, sm1_lt hs] at hv
      rw [hv]
      refine ret _ _ _ _ dX1_matchesRule_77 (jb_nar _) ⟨⟨fun k hk => ?_, fun k hk => ?_⟩, ?_⟩
      · rw [hs2]
        exact hs.1 k hk
      · rw [hk2 k (by omega) (by omega)]
        exact hs.2 k hk
      · rw [hmr, if_neg hno]
    refine j_ald0 dX1_matchesRule_22 ?_
    refine g1_11 dX1_matchesRule_23 ?_
    refine j_iconst (nI 1) dX1_matchesRule_26 (by decide) ?_
    rw [hnp]
    refine j_icneN 72 dX1_matchesRule_27 (by decide) (by omega) (by omega) (fun c1 => ?_) (fun c1 => ?_)
    · exact all (fun q => c1 (hone.mp q.1))
    · refine j_ald0 dX1_matchesRule_30 ?_
      refine g1_4 dX1_matchesRule_31 ?_
      refine j_ild1 dX1_matchesRule_34 ?_
      refine l1_4 dX1_matchesRule_35 (by omega) ?_
      refine j_iconst (nI 2) dX1_matchesRule_36 (by decide) ?_
      refine j_iand dX1_matchesRule_37 ?_
      rw [hs.2 4 (by decide)]
      refine j_ifne 72 dX1_matchesRule_38 (by decide) (fun c2 => ?_) (fun c2 => ?_)
      · exact all (fun q => c2 q.2)
      · rw [if_pos ⟨hone.mpr c1, c2⟩] at hmr
        refine j_ald0 dX1_matchesRule_41 ?_
        refine g1_2 dX1_matchesRule_42 ?_
        refine j_ild1 dX1_matchesRule_45 ?_
        refine j_bipush (nI 10) dX1_matchesRule_46 (by decide) ?_
        first | refine j_imulN dX1_matchesRule_48 ?_ | refine j_imul dX1_matchesRule_48 ?_
        refine l1_2 dX1_matchesRule_49 (by omega) ?_
        refine j_top (sgr t r 0) (by rw [hs.2 2 (by decide)]; rfl) ?_
        refine j_bipush (nI 10) dX1_matchesRule_50 (by decide) ?_
        refine j_iceq 66 dX1_matchesRule_52 (by decide) (fun e10 => ?_) (fun e10 => ?_)
        · refine j_iconst (nI 1) dX1_matchesRule_66 (by decide) ?_
          refine j_goto 71 dX1_matchesRule_67 (by decide) ?_
          refine j_top (jb true) jb_t.symm ?_
          refine ret _ _ _ _ dX1_matchesRule_71 (jb_nar _) ⟨hs, ?_⟩
          rw [hmr, decide_eq_true (show sgr t r 0 = 10 from e10), Bool.true_or]
        · refine j_ald0 dX1_matchesRule_55 ?_
          refine j_iconst (nI 0) dX1_matchesRule_56 (by decide) ?_
          refine j_ild2 dX1_matchesRule_57 ?_
          refine j_iconst (nI 1) dX1_matchesRule_58 (by decide) ?_
          refine j_isubN (by omega) dX1_matchesRule_59 ?_
          obtain ⟨hz1, hz2⟩ := hnm (n - 1) (by omega)
          obtain ⟨hq9, hq10, hql⟩ := hpt 0 (by omega)
          have hle := pl_le' (sg := sgr t r) (len := len r) (i := pst (sgr t r) (len r) 0) (by omega)
          refine c1_i (x_partFits Z t1 (r * 10) (pst (sgr t r) (len r) 0) (pst (sgr t r) (len r) 0 + pl (sgr t r) (len r) (pst (sgr t r) (len r) 0)) (sz (n - 1)) 0 (n - 1) (by omega) hq9 hq10 (by omega) (by omega) (by omega) (by omega) (by rw [hs.2 7 (by decide)]; exact hz1) hz2) hR (lw_V q262 q264 qs15 q19 q265) rfl rfl hd_X1_partFits ⟨by decide, by decide⟩ rfl rfl (Nat.le_of_ble_eq_true rfl) dX1_matchesRule_60 (fun v t2 hp2 => ?_)
          obtain ⟨hv, hs2, hk2⟩ := hp2
          have hv' : v = jb (ftn (sgr t r) (len r) (ltr t) sz 0 (n - 1)) := by
            rw [hv, hs.2 2 (by decide), hs.2 6 (by decide)]
            rfl
          have hs3 : sm1 t t2 := ⟨fun k hk => by rw [hs2]; exact hs.1 k hk, fun k hk => by rw [hk2 k (by omega)]; exact hs.2 k hk⟩
          rw [hv']
          refine j_ifeqB 70 dX1_matchesRule_63 (by decide) (fun fb => ?_) (fun fb => ?_)
          · refine j_iconst (nI 0) dX1_matchesRule_70 (by decide) ?_
            refine j_top (jb false) jb_f.symm ?_
            refine ret _ _ _ _ dX1_matchesRule_71 (jb_nar _) ⟨hs3, ?_⟩
            rw [hmr, decide_eq_false (show ¬ sgr t r 0 = 10 from e10), fb]
            rfl
          · refine j_iconst (nI 1) dX1_matchesRule_66 (by decide) ?_
            refine j_goto 71 dX1_matchesRule_67 (by decide) ?_
            refine j_top (jb true) jb_t.symm ?_
            refine ret _ _ _ _ dX1_matchesRule_71 (jb_nar _) ⟨hs3, ?_⟩
            rw [hmr, fb, Bool.or_true]
  refine j_ald0 dX1_matchesRule_0 ?_
  refine g1_4 dX1_matchesRule_1 ?_
  refine j_ild1 dX1_matchesRule_4 ?_
  refine l1_4 dX1_matchesRule_5 (by omega) ?_
  refine j_iconst (nI 4) dX1_matchesRule_6 (by decide) ?_
  refine j_iand dX1_matchesRule_7 ?_
  refine j_ifeq 17 dX1_matchesRule_8 (by decide) (fun c4 => ?_) (fun c4 => ?_)
  · exact main (fun q => q.1 c4)
  · refine j_ild3 dX1_matchesRule_11 ?_
    refine j_ifneB 17 dX1_matchesRule_12 (by decide) (fun cf => ?_) (fun cf => ?_)
    · exact main (fun q => by rw [cf] at q; exact absurd q.2 (by decide))
    · refine j_iconst (nI 0) dX1_matchesRule_15 (by decide) ?_
      refine j_top (jb false) jb_f.symm ?_
      exact ret _ _ _ _ dX1_matchesRule_16 (jb_nar _) ⟨sm1_rf t, by rw [mrV, if_pos ⟨c4, cf⟩]⟩
set_option maxHeartbeats 4000000 in
theorem x_lastFor (Z : jZ) (t : jS) (len sz : Nat → Nat) (hw : WF1 t len sz) (n : Nat) (hn1 : 1 ≤ n) (hn : n ≤ t.1 8) (fo : Bool) : ∀ (l : Launch) (D : va_G), jKi l D Z.2.2.1 Z.2.2.2 yX1_lastFor cX1_lastFor 5 (some .int) { frames := 3, cells := 0, slots := 0, locals := 77 } Z.1 [.int (nI n), .int (jb fo)] (w1 Z) t (fun v t' => sm1 t t' ∧ v = lastV (fun r => mrV t len sz fo r n) (t.1 5)) := by
  intro l D
  refine jKi_start RX1 2 (by decide) rfl (Nat.le_of_ble_eq_true rfl) (by simp [Value.category]) ?_
  intro X hR ret
  show j1 X Z cX1_lastFor 5 t 0 [some (.ref Z.1), some (.int (nI n)), some (.int (jb fo)), none, none] []
  have hq := hw.2.2.1
  have loop : ∀ (d r : Nat) (t1 : jS), r + d = t.1 5 → sm1 t t1 → j1 X Z cX1_lastFor 5 t1 6 [some (.ref Z.1), some (.int (nI n)), some (.int (jb fo)), some (.int (lastV (fun r => mrV t len sz fo r n) r)), some (.int (nI r))] [] := by
    intro d
    induction d with
    | zero =>
      intro r t1 hr hs
      have h5 : t1.1 5 = t.1 5 := hs.1 5 (by decide)
      refine j_ild4 dX1_lastFor_6 ?_
      refine j_ald0 dX1_lastFor_8 ?_
      refine g1_5 dX1_lastFor_9 ?_
      refine j_icgeN 35 dX1_lastFor_12 (by decide) (by omega) (by omega) (fun c1 => ?_) (fun c1 => ?_)
      · refine j_ild3 dX1_lastFor_35 ?_
        exact ret _ _ _ _ dX1_lastFor_36 rfl ⟨hs, by rw [show r = t.1 5 by omega]⟩
      · omega
    | succ d ih =>
      intro r t1 hr hs
      have h5 : t1.1 5 = t.1 5 := hs.1 5 (by decide)
      refine j_ild4 dX1_lastFor_6 ?_
      refine j_ald0 dX1_lastFor_8 ?_
      refine g1_5 dX1_lastFor_9 ?_
      refine j_icgeN 35 dX1_lastFor_12 (by decide) (by omega) (by omega) (fun c1 => ?_) (fun c1 => ?_)
      · omega
      · refine j_ald0 dX1_lastFor_15 ?_
        refine j_ild4 dX1_lastFor_16 ?_
        refine j_ild1 dX1_lastFor_18 ?_
        refine j_ild2 dX1_lastFor_19 ?_
        refine c1_i (x_matchesRule Z t1 len sz (WF1_sm hw hs) r n (by omega) hn1 (by rw [hs.1 8 (by decide)]; exact hn) fo) hR (lw_V q254 q256 qs13 q19 q257) rfl rfl hd_X1_matchesRule ⟨by decide, by decide⟩ rfl rfl (Nat.le_of_ble_eq_true rfl) dX1_lastFor_20 (fun v t2 hp => ?_)
        obtain ⟨hs2, rfl⟩ := hp
        rw [mrV_sm hs]
        refine j_ifeqB 29 dX1_lastFor_23 (by decide) (fun fb => ?_) (fun fb => ?_)
        · refine j_inc4N (by decide) dX1_lastFor_29 ?_
          refine j_goto 6 dX1_lastFor_32 (by decide) ?_
          have := ih (r + 1) t2 (by omega) (sm1_tr hs hs2)
          rw [lastV, if_neg (by rw [fb]; decide)] at this
          exact this
        · refine j_ild4 dX1_lastFor_26 ?_
          refine j_ist3 (by decide) dX1_lastFor_28 ?_
          refine j_inc4N (by decide) dX1_lastFor_29 ?_
          refine j_goto 6 dX1_lastFor_32 (by decide) ?_
          have := ih (r + 1) t2 (by omega) (sm1_tr hs hs2)
          rw [lastV, if_pos fb] at this
          exact this
  refine j_bipush (-5) dX1_lastFor_0 (by decide) ?_
  refine j_ist3 (by decide) dX1_lastFor_2 ?_
  refine j_iconst (nI 0) dX1_lastFor_3 (by decide) ?_
  refine j_ist4 (by decide) dX1_lastFor_4 ?_
  exact loop (t.1 5) 0 t (by omega) (sm1_rf t)
set_option maxHeartbeats 4000000 in
theorem x_matches (Z : jZ) (t : jS) (len sz : Nat → Nat) (hw : WF1 t len sz) (fo : Bool) : ∀ (l : Launch) (D : va_G), jKi l D Z.2.2.1 Z.2.2.2 yX1_matches cX1_matches 4 (some .int) { frames := 3, cells := 0, slots := 0, locals := 77 } Z.1 [.int (jb fo)] (w1 Z) t (fun v t' => sm1 t t' ∧ v = if sz (t.1 8 - 1) = 0 then nI 0 else nI (cntV (fun r => mrV t len sz fo r (t.1 8)) (t.1 5))) := by
  intro l D
  refine jKi_start RX1 2 (by decide) rfl (Nat.le_of_ble_eq_true rfl) (by simp [Value.category]) ?_
  intro X hR ret
  show j1 X Z cX1_matches 4 t 0 [some (.ref Z.1), some (.int (jb fo)), none, none] []
  obtain ⟨hN1, hN6, hq, hnm, -⟩ := id hw
  obtain ⟨hz1, hz2⟩ := hnm (t.1 8 - 1) (by omega)
  obtain ⟨f, hf⟩ : ∃ f : Nat → Nat, f = fun r => if sz (t.1 8 - 1) = 0 then 0 else cntV (fun r => mrV t len sz fo r (t.1 8)) r := ⟨_, rfl⟩
  have loop : ∀ (d r : Nat) (t1 : jS), r + d = t.1 5 → sm1 t t1 → j1 X Z cX1_matches 4 t1 4 [some (.ref Z.1), some (.int (jb fo)), some (.int (nI (f r))), some (.int (nI r))] [] := by
    intro d
    induction d with
    | zero =>
      intro r t1 hr hs
      have h5 : t1.1 5 = t.1 5 := hs.1 5 (by decide)
      refine j_ild3 dX1_matches_4 ?_
      refine j_ald0 dX1_matches_5 ?_
      refine g1_5 dX1_matches_6 ?_
      refine j_icgeN 41 dX1_matches_9 (by decide) (by omega) (by omega) (fun c1 => ?_) (fun c1 => ?_)
      · refine j_ild2 dX1_matches_41 ?_
        refine ret _ _ _ _ dX1_matches_42 rfl ⟨hs, ?_⟩
        rw [hf, show r = t.1 5 by omega]
        split <;> rfl
      · omega
    | succ d ih =>
      intro r t1 hr hs
      have h5 : t1.1 5 = t.1 5 := hs.1 5 (by decide)
      have h8 : t1.1 8 = t.1 8 := hs.1 8 (by decide)
      refine j_ild3 dX1_matches_4 ?_
      refine j_ald0 dX1_matches_5 ?_
      refine g1_5 dX1_matches_6 ?_
      refine j_icgeN 41 dX1_matches_9 (by decide) (by omega) (by omega) (fun c1 => ?_) (fun c1 => ?_)
      · omega
      · refine j_ald0 dX1_matches_12 ?_
        refine c1_i (x_isPath Z t1 (by omega) (by omega) (sz (t.1 8 - 1)) hz2 (by rw [h8, hs.2 7 (by decide)]; exact hz1)) hR (lw_V q246 q248 qs11 q19 q249) rfl rfl hd_X1_isPath ⟨by decide, by decide⟩ rfl rfl (Nat.le_of_ble_eq_true rfl) dX1_matches_13 (fun v t2 hp => ?_)
        obtain ⟨rfl, rfl⟩ := hp
        refine j_ifeqB 35 dX1_matches_16 (by decide) (fun z0 => ?_) (fun z0 => ?_)
        · have hz := of_decide_eq_false z0
          refine j_inc3N (by decide) dX1_matches_35 ?_
          refine j_goto 4 dX1_matches_38 (by decide) ?_
          have := ih (r + 1) t1 (by omega) hs
          rw [hf] at this ⊢
          simp only [if_pos (show sz (t.1 8 - 1) = 0 by omega)] at this ⊢
          exact this
        · have hz := of_decide_eq_true z0
          refine j_ald0 dX1_matches_19 ?_
          refine j_ild3 dX1_matches_20 ?_
          refine j_ald0 dX1_matches_21 ?_
          refine g1_8 dX1_matches_22 ?_
          refine j_ild1 dX1_matches_25 ?_
          rw [h8]
          refine c1_i (x_matchesRule Z t1 len sz (WF1_sm hw hs) r (t.1 8) (by omega) hN1 (by omega) fo) hR (lw_V q254 q256 qs13 q19 q257) rfl rfl hd_X1_matchesRule ⟨by decide, by decide⟩ rfl rfl (Nat.le_of_ble_eq_true rfl) dX1_matches_26 (fun v t2 hp => ?_)
          obtain ⟨hs2, rfl⟩ := hp
          rw [mrV_sm hs]
          refine j_ifeqB 35 dX1_matches_29 (by decide) (fun fb => ?_) (fun fb => ?_)
          · refine j_inc3N (by decide) dX1_matches_35 ?_
            refine j_goto 4 dX1_matches_38 (by decide) ?_
            have := ih (r + 1) t2 (by omega) (sm1_tr hs hs2)
            rw [hf] at this ⊢
            simp only [if_neg (show ¬ sz (t.1 8 - 1) = 0 by omega)] at this ⊢
            rw [cntV, if_neg (by rw [fb]; decide)] at this
            exact this
          · refine j_inc2N (by decide) dX1_matches_32 ?_
            refine j_inc3N (by decide) dX1_matches_35 ?_
            refine j_goto 4 dX1_matches_38 (by decide) ?_
            have := ih (r + 1) t2 (by omega) (sm1_tr hs hs2)
            rw [hf] at this ⊢
            simp only [if_neg (show ¬ sz (t.1 8 - 1) = 0 by omega)] at this ⊢
            rw [cntV, if_pos fb] at this
            exact this
  refine j_iconst (nI 0) dX1_matches_0 (by decide) ?_
  refine j_ist2 (by decide) dX1_matches_1 ?_
  refine j_iconst (nI 0) dX1_matches_2 (by decide) ?_
  refine j_ist3 (by decide) dX1_matches_3 ?_
  have hf0 : f 0 = 0 := by
    rw [hf]
    split <;> rfl
  have := loop (t.1 5) 0 t (by omega) (sm1_rf t)
  rw [hf0] at this
  exact this
set_option maxHeartbeats 4000000 in
theorem x_cutAt (Z : jZ) (t : jS) (len sz : Nat → Nat) (hw : WF1 t len sz) (fo : Bool) : ∀ (l : Launch) (D : va_G), jKi l D Z.2.2.1 Z.2.2.2 yX1_cutAt cX1_cutAt 4 (some .int) { frames := 4, cells := 0, slots := 0, locals := 101 } Z.1 [.int (jb fo)] (w1 Z) t (fun v t' => sm1 t t' ∧ v = cutR (fun k r => mrV t len sz (fo || decide (k + 1 < t.1 8)) r (k + 1)) (fun r => decide (¬ t.2 4 r &&& 1 = 0)) (t.1 5) (t.1 8) (sz (t.1 8 - 1))) := by
  intro l D
  refine jKi_start RX1 2 (by decide) rfl (Nat.le_of_ble_eq_true rfl) (by simp [Value.category]) ?_
  intro X hR ret
  show j1 X Z cX1_cutAt 4 t 0 [some (.ref Z.1), some (.int (jb fo)), none, none] []
  obtain ⟨hN1, hN6, hq, hnm, -⟩ := id hw
  obtain ⟨hz1, hz2⟩ := hnm (t.1 8 - 1) (by omega)
  refine j_ald0 dX1_cutAt_0 ?_
  refine c1_i (x_isPath Z t hN1 hN6 (sz (t.1 8 - 1)) hz2 hz1) hR (lw_V q246 q248 qs11 q19 q249) rfl rfl hd_X1_isPath ⟨by decide, by decide⟩ rfl rfl (Nat.le_of_ble_eq_true rfl) dX1_cutAt_1 (fun v0 t0 hp0 => ?_)
  obtain ⟨rfl, rfl⟩ := hp0
  refine j_ifneB 10 dX1_cutAt_4 (by decide) (fun z0 => ?_) (fun z0 => ?_)
  · have hz := of_decide_eq_true z0
    have loop : ∀ (d i : Nat) (t1 : jS) (o3 : Option Value), i + d = t.1 8 → sm1 t t1 → fstN (fun k => cutP (fun r => mrV t len sz (fo || decide (k + 1 < t.1 8)) r (k + 1)) (fun r => decide (¬ t.2 4 r &&& 1 = 0)) (t.1 5)) d i = fstN (fun k => cutP (fun r => mrV t len sz (fo || decide (k + 1 < t.1 8)) r (k + 1)) (fun r => decide (¬ t.2 4 r &&& 1 = 0)) (t.1 5)) (t.1 8) 0 → j1 X Z cX1_cutAt 4 t1 12 [some (.ref Z.1), some (.int (jb fo)), some (.int (nI (i + 1))), o3] [] := by
      intro d
      induction d with
      | zero =>
        intro i t1 o3 hi hs he
        have h8 : t1.1 8 = t.1 8 := hs.1 8 (by decide)
        refine j_ild2 dX1_cutAt_12 ?_
        refine j_ald0 dX1_cutAt_13 ?_
        refine g1_8 dX1_cutAt_14 ?_
        refine j_icgtN 66 dX1_cutAt_17 (by decide) (by omega) (by omega) (fun c1 => ?_) (fun c1 => ?_)
        · refine j_bipush (-5) dX1_cutAt_66 (by decide) ?_
          exact ret _ _ _ _ dX1_cutAt_68 rfl ⟨hs, by rw [cutR, if_neg (by omega)]; exact he⟩
        · omega
      | succ d ih =>
        intro i t1 o3 hi hs he
        have h8 : t1.1 8 = t.1 8 := hs.1 8 (by decide)
        refine j_ild2 dX1_cutAt_12 ?_
        refine j_ald0 dX1_cutAt_13 ?_
        refine g1_8 dX1_cutAt_14 ?_
        refine j_icgtN 66 dX1_cutAt_17 (by decide) (by omega) (by omega) (fun c1 => ?_) (fun c1 => ?_)
        · omega
        · have at39 : ∀ b : Bool, b = (fo || decide (i + 1 < t.1 8)) → j1 X Z cX1_cutAt 4 t1 39 [some (.ref Z.1), some (.int (jb fo)), some (.int (nI (i + 1))), o3] [.int (jb b), .int (nI (i + 1)), .ref Z.1] := by
            intro b hb
            refine c1_i (x_lastFor Z t1 len sz (WF1_sm hw hs) (i + 1) (by omega) (by omega) b) hR (lw_V q250 q252 qs12 q19 q253) rfl rfl hd_X1_lastFor ⟨by decide, by decide⟩ rfl rfl (Nat.le_of_ble_eq_true rfl) dX1_cutAt_39 (fun v t2 hp => ?_)
            obtain ⟨hs2, hv⟩ := hp
            have hs3 := sm1_tr hs hs2
            have hv' : v = lastV (fun r => mrV t len sz (fo || decide (i + 1 < t.1 8)) r (i + 1)) (t.1 5) := by
              rw [hv, hs.1 5 (by decide), ← hb]
              exact lastV_congr _ (fun r _ => mrV_sm hs len sz b r (i + 1))
            have no : cutP (fun r => mrV t len sz (fo || decide (i + 1 < t.1 8)) r (i + 1)) (fun r => decide (¬ t.2 4 r &&& 1 = 0)) (t.1 5) = false → ∀ o3, j1 X Z cX1_cutAt 4 t2 60 [some (.ref Z.1), some (.int (jb fo)), some (.int (nI (i + 1))), o3] [] := by
              intro hno o3
              refine j_inc2N (by decide) dX1_cutAt_60 ?_
              refine j_goto 12 dX1_cutAt_63 (by decide) ?_
              refine ih (i + 1) t2 _ (by omega) hs3 ?_
              rw [← he, fstN, if_neg (by rw [hno]; decide)]
            refine j_ist3 (by decide) dX1_cutAt_42 ?_
            refine j_ild3 dX1_cutAt_43 ?_
            rcases lastV_cases (fun r => mrV t len sz (fo || decide (i + 1 < t.1 8)) r (i + 1)) (fun r => decide (¬ t.2 4 r &&& 1 = 0)) (t.1 5) with ⟨g1, g2⟩ | ⟨r, g1, g2, g3⟩
            · rw [hv', g1]
              refine j_iflt 60 dX1_cutAt_44 (by decide) (fun e0 => ?_) (fun e0 => ?_)
              · exact no g2 _
              · exact absurd (by decide) e0
            · rw [hv', g2]
              refine j_ifltN 60 dX1_cutAt_44 (by omega) (by decide) ?_
              refine j_ald0 dX1_cutAt_47 ?_
              refine g1_4 dX1_cutAt_48 ?_
              refine j_ild3 dX1_cutAt_51 ?_
              refine l1_4 dX1_cutAt_52 (by omega) ?_
              refine j_iconst (nI 1) dX1_cutAt_53 (by decide) ?_
              refine j_iand dX1_cutAt_54 ?_
              rw [hs3.2 4 (by decide)]
              refine j_ifne 60 dX1_cutAt_55 (by decide) (fun e1 => ?_) (fun e1 => ?_)
              · exact no (by rw [g3, decide_eq_true (show ¬ t.2 4 r &&& 1 = 0 from e1)]; rfl) _
              · refine j_ild2 dX1_cutAt_58 ?_
                refine ret _ _ _ _ dX1_cutAt_59 rfl ⟨hs3, ?_⟩
                rw [cutR, if_neg (by omega), ← he, fstN, if_pos]
                rw [g3, decide_eq_false (fun q => q e1)]
                rfl
          refine j_ald0 dX1_cutAt_20 ?_
          refine j_ild2 dX1_cutAt_21 ?_
          refine j_ild1 dX1_cutAt_22 ?_
          refine j_ifneB 34 dX1_cutAt_23 (by decide) (fun cf => ?_) (fun cf => ?_)
          · refine j_iconst (nI 1) dX1_cutAt_34 (by decide) ?_
            refine j_goto 39 dX1_cutAt_35 (by decide) ?_
            refine j_top (jb true) jb_t.symm ?_
            exact at39 true (by rw [cf]; rfl)
          · refine j_ild2 dX1_cutAt_26 ?_
            refine j_ald0 dX1_cutAt_27 ?_
            refine g1_8 dX1_cutAt_28 ?_
            rw [h8]
            refine j_icgeN 38 dX1_cutAt_31 (by decide) (by omega) (by omega) (fun cn => ?_) (fun cn => ?_)
            · refine j_iconst (nI 0) dX1_cutAt_38 (by decide) ?_
              refine j_top (jb false) jb_f.symm ?_
              exact at39 false (by rw [cf, decide_eq_false (by omega)]; rfl)
            · refine j_iconst (nI 1) dX1_cutAt_34 (by decide) ?_
              refine j_goto 39 dX1_cutAt_35 (by decide) ?_
              refine j_top (jb true) jb_t.symm ?_
              exact at39 true (by rw [cf, decide_eq_true (by omega)]; rfl)
    refine j_iconst (nI 1) dX1_cutAt_10 (by decide) ?_
    refine j_ist2 (by decide) dX1_cutAt_11 ?_
    exact loop (t.1 8) 0 t _ (by omega) (sm1_rf t) rfl
  · refine j_bipush (-5) dX1_cutAt_7 (by decide) ?_
    exact ret _ _ _ _ dX1_cutAt_9 rfl ⟨sm1_rf t, by rw [cutR, if_pos (by have := of_decide_eq_false z0; omega)]⟩
set_option maxHeartbeats 4000000 in
theorem x_ignored (Z : jZ) (t : jS) (len sz : Nat → Nat) (hw : WF1 t len sz) (fo : Bool) : ∀ (l : Launch) (D : va_G), jKi l D Z.2.2.1 Z.2.2.2 yX1_ignored cX1_ignored 2 (some .boolean) { frames := 5, cells := 0, slots := 0, locals := 124 } Z.1 [.int (jb fo)] (w1 Z) t (fun v t' => sm1 t t' ∧ v = jb (decide (¬ cutR (fun k r => mrV t len sz (fo || decide (k + 1 < t.1 8)) r (k + 1)) (fun r => decide (¬ t.2 4 r &&& 1 = 0)) (t.1 5) (t.1 8) (sz (t.1 8 - 1)) = -5))) := by
  intro l D
  refine jKi_start RX1 0 (by decide) rfl (Nat.le_of_ble_eq_true rfl) (by simp [Value.category]) ?_
  intro X hR ret
  show j1 X Z cX1_ignored 2 t 0 [some (.ref Z.1), some (.int (jb fo))] []
  refine j_ald0 dX1_ignored_0 ?_
  refine j_ild1 dX1_ignored_1 ?_
  refine c1_i (x_cutAt Z t len sz hw fo) hR (lw_V q242 q243 q244 q19 q245) rfl rfl hd_X1_cutAt ⟨by decide, by decide⟩ rfl rfl (Nat.le_of_ble_eq_true rfl) dX1_ignored_2 (fun v t1 hp => ?_)
  obtain ⟨hs, hv⟩ := hp
  rw [← hv] at ret
  refine j_bipush (-5) dX1_ignored_5 (by decide) ?_
  refine j_iceq 14 dX1_ignored_7 (by decide) (fun e5 => ?_) (fun e5 => ?_)
  · refine j_iconst (nI 0) dX1_ignored_14 (by decide) ?_
    refine j_top (jb false) jb_f.symm ?_
    refine ret _ _ _ _ dX1_ignored_15 (jb_nar _) ⟨hs, ?_⟩
    rw [decide_eq_false (fun h => h e5)]
  · refine j_iconst (nI 1) dX1_ignored_10 (by decide) ?_
    refine j_goto 15 dX1_ignored_11 (by decide) ?_
    refine j_top (jb true) jb_t.symm ?_
    refine ret _ _ _ _ dX1_ignored_15 (jb_nar _) ⟨hs, ?_⟩
    rw [decide_eq_true e5]
set_option maxHeartbeats 4000000 in
theorem x_lastMatch (Z : jZ) (t : jS) (len sz : Nat → Nat) (hw : WF1 t len sz) (fo : Bool) : ∀ (l : Launch) (D : va_G), jKi l D Z.2.2.1 Z.2.2.2 yX1_lastMatch cX1_lastMatch 2 (some .int) { frames := 4, cells := 0, slots := 0, locals := 101 } Z.1 [.int (jb fo)] (w1 Z) t (fun v t' => sm1 t t' ∧ v = if sz (t.1 8 - 1) = 0 then -5 else lastV (fun r => mrV t len sz fo r (t.1 8)) (t.1 5)) := by
  intro l D
  refine jKi_start RX1 0 (by decide) rfl (Nat.le_of_ble_eq_true rfl) (by simp [Value.category]) ?_
  intro X hR ret
  show j1 X Z cX1_lastMatch 2 t 0 [some (.ref Z.1), some (.int (jb fo))] []
  obtain ⟨hN1, hN6, hq, hnm, -⟩ := id hw
  obtain ⟨hz1, hz2⟩ := hnm (t.1 8 - 1) (by omega)
  refine j_ald0 dX1_lastMatch_0 ?_
  refine c1_i (x_isPath Z t hN1 hN6 (sz (t.1 8 - 1)) hz2 hz1) hR (lw_V q246 q248 qs11 q19 q249) rfl rfl hd_X1_isPath ⟨by decide, by decide⟩ rfl rfl (Nat.le_of_ble_eq_true rfl) dX1_lastMatch_1 (fun v0 t0 hp0 => ?_)
  obtain ⟨rfl, rfl⟩ := hp0
  refine j_ifeqB 19 dX1_lastMatch_4 (by decide) (fun z0 => ?_) (fun z0 => ?_)
  · refine j_bipush (-5) dX1_lastMatch_19 (by decide) ?_
    exact ret _ _ _ _ dX1_lastMatch_21 rfl ⟨sm1_rf t, by rw [if_pos (by have := of_decide_eq_false z0; omega)]⟩
  · have hz := of_decide_eq_true z0
    refine j_ald0 dX1_lastMatch_7 ?_
    refine j_ald0 dX1_lastMatch_8 ?_
    refine g1_8 dX1_lastMatch_9 ?_
    refine j_ild1 dX1_lastMatch_12 ?_
    refine c1_i (x_lastFor Z t len sz hw (t.1 8) hN1 (Nat.le_refl _) fo) hR (lw_V q250 q252 qs12 q19 q253) rfl rfl hd_X1_lastFor ⟨by decide, by decide⟩ rfl rfl (Nat.le_of_ble_eq_true rfl) dX1_lastMatch_13 (fun v t1 hp => ?_)
    obtain ⟨hs, hv⟩ := hp
    refine j_goto 21 dX1_lastMatch_16 (by decide) ?_
    exact ret _ _ _ _ dX1_lastMatch_21 rfl ⟨hs, by rw [if_neg (by omega)]; exact hv⟩
end
section
set_option maxRecDepth 100000
/-! CONSTRUCTORS: a contract that makes cells; rows of new arrays and of fields that are set once -/
def jN (X : jC) : Prop := X.2.2.2.2.2.2.2.2.1.name = "<init>"
def jKc (l : Launch) (D : va_G) (cI cZ : ClassId) (y : MethodName) (b : ByteArray) (n : Nat) (rm : Room) (o : Nat) {S : Type} (wb : va_W) (wf : S → va_W) (mc ms : Nat) : Prop :=
  ∀ sz : Nat, Met l y (ws_ y b n none) rm (va_Pc [.ref o] (fun U => U.heap.size = sz ∧ va_P D vwCl wb U.heap ∧ va_K D vwCl [(cI, .int), (cZ, .boolean)] U ∧ va_D (fun _ => True) wb)) (va_Qv (fun _ : S => True) (fun u t => va_P D vwCl (wf u) t.heap ∧ va_K D vwCl [(cI, .int), (cZ, .boolean)] t ∧ va_D (va_A wb sz) (wf u)) (va_A wb sz)) mc ms (va_A wb sz)
set_option maxHeartbeats 4000000 in
theorem jKc_start {l : Launch} {D : va_G} {cI cZ : ClassId} {y : MethodName} {b : ByteArray} {n : Nat} {rm : Room} {o : Nat} {S : Type} {wb : va_W} {wf : S → va_W} {mc ms : Nat} (own : String) (k : Nat) (hy : plainName y.cls = true) (ho : y.cls = own) (hi : y.name = "<init>") (hlen : (lg_sl [.ref o]).length ≤ n)
    (body : ∀ X : jC, jR X = rm → jN X → (∀ (u : S) (pc : Nat) (L : List (Option Value)), decode b pc = .ok (.return_, 1) → jJ X cI cZ own b n mc ms (wf u) pc L []) → jJ X cI cZ own b n 0 0 wb 0 ([Value.ref o].map some ++ List.replicate k none) []) : jKc l D cI cZ y b n rm o wb wf mc ms := by
  intro sz
  refine Met.ofW (cc := b) (maxL := n) (ret := none) hy rfl ?_
  intro p e s m args below meth c s₁ B hml hv
  obtain ⟨rfl, hsz, hP, hK, hD0⟩ := hv
  have hx := B.exec
  have hb := B.bytes
  have hr := B.returns
  have hts := atoms_spec (ws := ws_ y b n none) B.pre
  have hts : ∀ w ∈ lw_all, w.before _ s = true := fun w h => hts w (List.mem_cons_of_mem _ h)
  have hown : s.vm.findClass y.cls = some m.cls := findClass_of_methodNamed B.named
  rw [ho] at hown
  have hlocks := B.notSynchronized
  have hin : meth.name = y.name := (name_of_methodNamed B.named B.method).1
  rw [hi] at hin
  subst hsz
  have hD := hD0.self (sz := s.heap.size)
  have hl := lv_entry ([.ref o]) (n := n) hlen
  rw [lg_entry_eq]
  have hA : ∀ q : Nat, s.heap.size ≤ q → va_A wb s.heap.size q := fun q h => Or.inr h
  have hE : jE (p, l, e, rm, s, m, ([Value.ref o] : List Value).toArray, below, meth, c, MQ below (va_Qv (fun _ : S => True) (fun u t => va_P D vwCl (wf u) t.heap ∧ va_K D vwCl [(cI, .int), (cZ, .boolean)] t ∧ va_D (va_A wb s.heap.size) (wf u)) (va_A wb s.heap.size)) ([Value.ref o] : List Value).toArray s mc ms (va_A wb s.heap.size), va_A wb s.heap.size, D) own b n := ⟨hx, hb, hml, hown, hts, hlocks, hA⟩
  have hB := body (p, l, e, rm, s, m, ([Value.ref o] : List Value).toArray, below, meth, c, MQ below (va_Qv (fun _ : S => True) (fun u t => va_P D vwCl (wf u) t.heap ∧ va_K D vwCl [(cI, .int), (cZ, .boolean)] t ∧ va_D (va_A wb s.heap.size) (wf u)) (va_A wb s.heap.size)) ([Value.ref o] : List Value).toArray s mc ms (va_A wb s.heap.size), va_A wb s.heap.size, D) rfl hin ?_
  · exact hB hE s.heap [] _ hK hP hD va_S.rf (jL_entry (by simp [Value.category]) hl)
  · intro u pc L d E H locs ls hK hP hD hS hl
    exact W.vret hx hb hr (fun t ht hW => ⟨⟨u, rfl, trivial, by rw [ht]; exact hP, va_K.moved hW.alike hK, hD⟩, hS.F ht⟩) hS.2.2 d hlocks
set_option maxHeartbeats 4000000 in
theorem jcall_c {X : jC} {cI cZ : ClassId} {own : String} {cc : ByteArray} {n k1 k2 mc ms : Nat} {w wr wb : va_W} {S : Type} {wf : S → va_W} {y : MethodName} {b : ByteArray} {mL : Nat} {rm R : Room} {o : Nat} {pc : Nat} {L : List (Option Value)} {rest : List Value} {idx : Nat}
    (hM : ∀ (l : Launch) (D : va_G), jKc l D cI cZ y b mL rm o wb wf mc ms) (hR : jR X = R) (isC isR : List Nat) (hC : isC.map (fun i => w[i]?) = wb.map some) (hndC : va_nd isC = true) (hW : isR.map (fun i => w[i]?) = wr.map some) (hnd : va_nd isR = true) (hdis : ∀ i ∈ isR, i ∉ isC)
    (hG : GoodIn lw_all (ws_ y b mL none)) (hrc : rm.cells = mc) (hrs : rm.slots = ms) (hini : Cond.initialized y.cls ∈ lw_all) (hlk : Cond.methodLink own idx y ∈ lw_all) (him : Cond.instanceMethod y ∈ lw_all) (hy1 : y.name = "<init>")
    (hd : y.cls ≠ "java/lang/invoke/MethodHandle" ∧ y.cls ≠ "java/lang/invoke/VarHandle" ∧ (parseMethodDescriptor y.desc).map (fun d => d.parameters.length) = some 0) (hroom : rm.frames + 1 ≤ R.frames ∧ 8 + (mL + 11) + rm.locals ≤ R.locals) (hk : k1 + mc ≤ R.cells ∧ k2 + ms ≤ R.slots)
    (hsum : (rest.map fun v => v.category).sum ≤ 8) (d : decode cc pc = .ok (.invokespecial idx, 3))
    (k : ∀ (u : S), jJ X cI cZ own cc n (k1 + mc) (k2 + ms) (wr ++ wf u) (pc + 3) L rest) : jJ X cI cZ own cc n k1 k2 w pc L (.ref o :: rest) := by
  obtain ⟨p, l, e, R0, s, m, args, below, meth, c, Q, A, D⟩ := X
  intro E H locs ls hK hP hD hS hl
  have hR : R0 = R := hR
  subst hR
  obtain ⟨hx, hb, hml, hown, hts, hlk2, hA⟩ := id E
  have hPc := hP.sub (ws' := wb) isC (jfm _ _ _ hC)
  have hDc := hD.sub (ws' := wb) isC hndC hC
  have hFc := va_free (wc := wb) hD hS hA isC hC
  have hrun := va_runI (below := below) (meth := meth) (H := H) (locs := locs) (cells := k1) (slots := k2) (g := F0 m pc ls (.ref o :: rest)) (e := e) (As := []) (rest := rest) (⟨hx, hb, hml, hown, hts⟩ : CallFix p m c cc n s args lw_all own) (hM l D H.size) (cwI 0 hts hG rfl hrc hrs (hts _ hini) (hts _ hlk) (hts _ him) hy1 hd hroom) ⟨fun a U g mk q => by obtain ⟨q0, q1, qP, qK, qD⟩ := q; exact ⟨q0, q1, qP, va_K.moved (u := U) (U := U.calling g mk a) (Vm.Alike.refl U.vm) qK, qD⟩, fun U hU hW => ⟨rfl, by rw [hU], by rw [hU]; exact hPc, va_K.moved hW.alike hK, hDc.weaken (fun _ _ _ _ => trivial)⟩⟩ rfl rfl (jL_size hl) rfl (lv_room hsum) d hk
  refine va_callv hrun hS (fun q _ h => hFc q h) hFc (fun u t H1 locs1 ht hvm hw hB hz1 hk1 hS1 => ?_)
  obtain ⟨hP1, hK1, hD1⟩ := hB
  rw [ht] at hP1
  obtain ⟨hP2, hD2⟩ := va_join (wr := wr) (w1 := wf u) hP hD isC isR hC hW hnd hdis hk1 hFc hP1 hD1
  exact k u E H1 locs1 ls hK hP2 hD2 hS1 hl
section JI
variable {X : jC} {cI cZ : ClassId} {own : String} {cc : ByteArray} {n k1 k2 : Nat} {w : va_W} {pc : Nat} {L : List (Option Value)} {st : List Value} {R : Room}
theorem j_objInit {a idx : Nat} (hlk : Cond.methodLink own idx objectInit ∈ lw_all) (hR : jR X = R) (hf : 1 ≤ R.frames) (hlo : (st.map fun v => v.category).sum + 12 ≤ R.locals) (d : decode cc pc = .ok (.invokespecial idx, 3)) (k : jJ X cI cZ own cc n k1 k2 w (pc + 3) L st) : jJ X cI cZ own cc n k1 k2 w pc L (.ref a :: st) := by
  obtain ⟨p, l, e, R0, s, m, args, below, meth, c, Q, A, D⟩ := X
  intro E H locs ls hK hP hD hS hl
  have hR : R0 = R := hR
  subst hR
  refine W.objInit E.1 E.2.1 E.2.2.2.1 (E.2.2.2.2.1 _ hlk) (E.2.2.2.2.1 _ q26) (E.2.2.2.2.1 _ q27) rfl (by rw [E.2.2.1]; exact jL_size hl) rfl d hf ?_ ?_
  · have h0 : (F0 m pc ls (.ref a :: st)).monitorRoom = 0 := rfl
    rw [h0]
    omega
  · exact k E H locs ls hK hP hD hS hl
set_option maxHeartbeats 4000000 in
theorem j_newI {c0 : Nat × va_E} {ws : va_W} {N : Nat} (hR : jR X = R) (hN : N ≤ 1000) (hk : k1 + 1 ≤ R.cells ∧ k2 + N ≤ R.slots) (d : decode cc pc = .ok (.newarray .int, 2)) (k : ∀ q : Nat, jJ X cI cZ own cc n (k1 + 1) (k2 + N) (c0 :: (ws ++ [(q, .inl (cI, N, .inl (fun _ => 0)))])) (pc + 2) L (.ref q :: st)) : jJ X cI cZ own cc n k1 k2 (c0 :: ws) pc L (.int (nI N) :: st) := by
  obtain ⟨p, l, e, R0, s, m, args, below, meth, c, Q, A, D⟩ := X
  intro E H locs ls hK hP hD hS hl
  have hR : R0 = R := hR
  subst hR
  refine va_newa (atype := .int) (ty := .int) (N' := N) (a0 := (N, .inl (fun _ => 0))) E.1 E.2.1 (E.2.2.2.2.1 _ q83) rfl hK hP hD hS E.2.2.2.2.2.2 (fun _ => rfl) (nI_pos (by omega)) (nI_clamp (by omega)) (by show N * 4 ≤ _; omega) hk.1 hk.2 d (fun q cA H1 hK1 hP1 hD1 hS1 => ?_)
  have e1 : s.vm.findClass ("[" ++ FieldType.toString .int) = some cA := (hK1.2 2 (cA, .int) rfl).2
  have e2 : s.vm.findClass ("[" ++ FieldType.toString .int) = some cI := (hK.2 0 (cI, .int) rfl).2
  have e3 : cA = cI := Option.some.inj (e1.symm.trans e2)
  subst e3
  exact k q E H1 locs ls hK hP1 hD1 hS1 hl
set_option maxHeartbeats 4000000 in
theorem j_newZ {c0 : Nat × va_E} {ws : va_W} {N : Nat} (hR : jR X = R) (hN : N ≤ 1000) (hk : k1 + 1 ≤ R.cells ∧ k2 + N ≤ R.slots) (d : decode cc pc = .ok (.newarray .boolean, 2)) (k : ∀ q : Nat, jJ X cI cZ own cc n (k1 + 1) (k2 + N) (c0 :: (ws ++ [(q, .inl (cZ, N, .inl (fun _ => 0)))])) (pc + 2) L (.ref q :: st)) : jJ X cI cZ own cc n k1 k2 (c0 :: ws) pc L (.int (nI N) :: st) := by
  obtain ⟨p, l, e, R0, s, m, args, below, meth, c, Q, A, D⟩ := X
  intro E H locs ls hK hP hD hS hl
  have hR : R0 = R := hR
  subst hR
  refine va_newa (atype := .boolean) (ty := .boolean) (N' := N) (a0 := (N, .inl (fun _ => 0))) E.1 E.2.1 (E.2.2.2.2.1 _ q84) rfl hK hP hD hS E.2.2.2.2.2.2 (fun _ => rfl) (nI_pos (by omega)) (nI_clamp (by omega)) (by show N * 1 ≤ _; omega) hk.1 hk.2 d (fun q cA H1 hK1 hP1 hD1 hS1 => ?_)
  have e1 : s.vm.findClass ("[" ++ FieldType.toString .boolean) = some cA := (hK1.2 2 (cA, .boolean) rfl).2
  have e2 : s.vm.findClass ("[" ++ FieldType.toString .boolean) = some cZ := (hK.2 1 (cZ, .boolean) rfl).2
  have e3 : cA = cZ := Option.some.inj (e1.symm.trans e2)
  subst e3
  exact k q E H1 locs ls hK hP1 hD1 hS1 hl
end JI
section JP0
variable {X : jC} {cI cZ : ClassId} {cc : ByteArray} {n k1 k2 o : Nat} {fs : List Value} {ws : va_W} {pc : Nat} {L : List (Option Value)} {st : List Value}
theorem pI0_1 {q : Nat} (hN : jN X) (hl : 1 < fs.length) (d : decode cc pc = .ok (.putfield 7, 3)) (k : jJ X cI cZ RX0 cc n k1 k2 ((o, .inr (0, fs.set 1 (.ref q))) :: ws) (pc + 3) L st) : jJ X cI cZ RX0 cc n k1 k2 ((o, .inr (0, fs)) :: ws) pc L (.ref q :: .ref o :: st) := by
  obtain ⟨p, l, e, R, s, m, args, below, meth, c, Q, A, D⟩ := X
  intro E H locs ls hK hP hD hS hl9
  exact va_putF (D := D) (ci := 0) (v := .ref q) (ty := .array .int) (C := RX0) (T := TX0) (N := 18) E.1 E.2.1 E.2.2.2.2.1 in_X0 tyX0 tyX0_ok nmX0 E.2.2.2.1 hK hP hD hS 0 rfl rfl 1 (by decide) (E.2.2.2.2.1 _ q29) (fun _ h9 => h9) rfl hN rfl (by decide +kernel) rfl rfl hl d (fun H1 locs1 hP1 hD1 hS1 => k E H1 locs1 ls hK hP1 hD1 hS1 hl9)
theorem pI0_3 {q : Nat} (hN : jN X) (hl : 3 < fs.length) (d : decode cc pc = .ok (.putfield 13, 3)) (k : jJ X cI cZ RX0 cc n k1 k2 ((o, .inr (0, fs.set 3 (.ref q))) :: ws) (pc + 3) L st) : jJ X cI cZ RX0 cc n k1 k2 ((o, .inr (0, fs)) :: ws) pc L (.ref q :: .ref o :: st) := by
  obtain ⟨p, l, e, R, s, m, args, below, meth, c, Q, A, D⟩ := X
  intro E H locs ls hK hP hD hS hl9
  exact va_putF (D := D) (ci := 0) (v := .ref q) (ty := .array .boolean) (C := RX0) (T := TX0) (N := 18) E.1 E.2.1 E.2.2.2.2.1 in_X0 tyX0 tyX0_ok nmX0 E.2.2.2.1 hK hP hD hS 0 rfl rfl 3 (by decide) (E.2.2.2.2.1 _ q31) (fun _ h9 => h9) rfl hN rfl (by decide +kernel) rfl rfl hl d (fun H1 locs1 hP1 hD1 hS1 => k E H1 locs1 ls hK hP1 hD1 hS1 hl9)
theorem pI0_4 {q : Nat} (hN : jN X) (hl : 4 < fs.length) (d : decode cc pc = .ok (.putfield 17, 3)) (k : jJ X cI cZ RX0 cc n k1 k2 ((o, .inr (0, fs.set 4 (.ref q))) :: ws) (pc + 3) L st) : jJ X cI cZ RX0 cc n k1 k2 ((o, .inr (0, fs)) :: ws) pc L (.ref q :: .ref o :: st) := by
  obtain ⟨p, l, e, R, s, m, args, below, meth, c, Q, A, D⟩ := X
  intro E H locs ls hK hP hD hS hl9
  exact va_putF (D := D) (ci := 0) (v := .ref q) (ty := .array .boolean) (C := RX0) (T := TX0) (N := 18) E.1 E.2.1 E.2.2.2.2.1 in_X0 tyX0 tyX0_ok nmX0 E.2.2.2.1 hK hP hD hS 0 rfl rfl 4 (by decide) (E.2.2.2.2.1 _ q32) (fun _ h9 => h9) rfl hN rfl (by decide +kernel) rfl rfl hl d (fun H1 locs1 hP1 hD1 hS1 => k E H1 locs1 ls hK hP1 hD1 hS1 hl9)
theorem pI0_5 {q : Nat} (hN : jN X) (hl : 5 < fs.length) (d : decode cc pc = .ok (.putfield 20, 3)) (k : jJ X cI cZ RX0 cc n k1 k2 ((o, .inr (0, fs.set 5 (.ref q))) :: ws) (pc + 3) L st) : jJ X cI cZ RX0 cc n k1 k2 ((o, .inr (0, fs)) :: ws) pc L (.ref q :: .ref o :: st) := by
  obtain ⟨p, l, e, R, s, m, args, below, meth, c, Q, A, D⟩ := X
  intro E H locs ls hK hP hD hS hl9
  exact va_putF (D := D) (ci := 0) (v := .ref q) (ty := .array .boolean) (C := RX0) (T := TX0) (N := 18) E.1 E.2.1 E.2.2.2.2.1 in_X0 tyX0 tyX0_ok nmX0 E.2.2.2.1 hK hP hD hS 0 rfl rfl 5 (by decide) (E.2.2.2.2.1 _ q33) (fun _ h9 => h9) rfl hN rfl (by decide +kernel) rfl rfl hl d (fun H1 locs1 hP1 hD1 hS1 => k E H1 locs1 ls hK hP1 hD1 hS1 hl9)
theorem pI0_6 {q : Nat} (hN : jN X) (hl : 6 < fs.length) (d : decode cc pc = .ok (.putfield 23, 3)) (k : jJ X cI cZ RX0 cc n k1 k2 ((o, .inr (0, fs.set 6 (.ref q))) :: ws) (pc + 3) L st) : jJ X cI cZ RX0 cc n k1 k2 ((o, .inr (0, fs)) :: ws) pc L (.ref q :: .ref o :: st) := by
  obtain ⟨p, l, e, R, s, m, args, below, meth, c, Q, A, D⟩ := X
  intro E H locs ls hK hP hD hS hl9
  exact va_putF (D := D) (ci := 0) (v := .ref q) (ty := .array .int) (C := RX0) (T := TX0) (N := 18) E.1 E.2.1 E.2.2.2.2.1 in_X0 tyX0 tyX0_ok nmX0 E.2.2.2.1 hK hP hD hS 0 rfl rfl 6 (by decide) (E.2.2.2.2.1 _ q34) (fun _ h9 => h9) rfl hN rfl (by decide +kernel) rfl rfl hl d (fun H1 locs1 hP1 hD1 hS1 => k E H1 locs1 ls hK hP1 hD1 hS1 hl9)
theorem pI0_7 {q : Nat} (hN : jN X) (hl : 7 < fs.length) (d : decode cc pc = .ok (.putfield 26, 3)) (k : jJ X cI cZ RX0 cc n k1 k2 ((o, .inr (0, fs.set 7 (.ref q))) :: ws) (pc + 3) L st) : jJ X cI cZ RX0 cc n k1 k2 ((o, .inr (0, fs)) :: ws) pc L (.ref q :: .ref o :: st) := by
  obtain ⟨p, l, e, R, s, m, args, below, meth, c, Q, A, D⟩ := X
  intro E H locs ls hK hP hD hS hl9
  exact va_putF (D := D) (ci := 0) (v := .ref q) (ty := .array .int) (C := RX0) (T := TX0) (N := 18) E.1 E.2.1 E.2.2.2.2.1 in_X0 tyX0 tyX0_ok nmX0 E.2.2.2.1 hK hP hD hS 0 rfl rfl 7 (by decide) (E.2.2.2.2.1 _ q35) (fun _ h9 => h9) rfl hN rfl (by decide +kernel) rfl rfl hl d (fun H1 locs1 hP1 hD1 hS1 => k E H1 locs1 ls hK hP1 hD1 hS1 hl9)
theorem pI0_8 {q : Nat} (hN : jN X) (hl : 8 < fs.length) (d : decode cc pc = .ok (.putfield 29, 3)) (k : jJ X cI cZ RX0 cc n k1 k2 ((o, .inr (0, fs.set 8 (.ref q))) :: ws) (pc + 3) L st) : jJ X cI cZ RX0 cc n k1 k2 ((o, .inr (0, fs)) :: ws) pc L (.ref q :: .ref o :: st) := by
  obtain ⟨p, l, e, R, s, m, args, below, meth, c, Q, A, D⟩ := X
  intro E H locs ls hK hP hD hS hl9
  exact va_putF (D := D) (ci := 0) (v := .ref q) (ty := .array .int) (C := RX0) (T := TX0) (N := 18) E.1 E.2.1 E.2.2.2.2.1 in_X0 tyX0 tyX0_ok nmX0 E.2.2.2.1 hK hP hD hS 0 rfl rfl 8 (by decide) (E.2.2.2.2.1 _ q36) (fun _ h9 => h9) rfl hN rfl (by decide +kernel) rfl rfl hl d (fun H1 locs1 hP1 hD1 hS1 => k E H1 locs1 ls hK hP1 hD1 hS1 hl9)
theorem pI0_9 {q : Nat} (hN : jN X) (hl : 9 < fs.length) (d : decode cc pc = .ok (.putfield 32, 3)) (k : jJ X cI cZ RX0 cc n k1 k2 ((o, .inr (0, fs.set 9 (.ref q))) :: ws) (pc + 3) L st) : jJ X cI cZ RX0 cc n k1 k2 ((o, .inr (0, fs)) :: ws) pc L (.ref q :: .ref o :: st) := by
  obtain ⟨p, l, e, R, s, m, args, below, meth, c, Q, A, D⟩ := X
  intro E H locs ls hK hP hD hS hl9
  exact va_putF (D := D) (ci := 0) (v := .ref q) (ty := .array .int) (C := RX0) (T := TX0) (N := 18) E.1 E.2.1 E.2.2.2.2.1 in_X0 tyX0 tyX0_ok nmX0 E.2.2.2.1 hK hP hD hS 0 rfl rfl 9 (by decide) (E.2.2.2.2.1 _ q37) (fun _ h9 => h9) rfl hN rfl (by decide +kernel) rfl rfl hl d (fun H1 locs1 hP1 hD1 hS1 => k E H1 locs1 ls hK hP1 hD1 hS1 hl9)
theorem pI0_10 {q : Nat} (hN : jN X) (hl : 10 < fs.length) (d : decode cc pc = .ok (.putfield 35, 3)) (k : jJ X cI cZ RX0 cc n k1 k2 ((o, .inr (0, fs.set 10 (.ref q))) :: ws) (pc + 3) L st) : jJ X cI cZ RX0 cc n k1 k2 ((o, .inr (0, fs)) :: ws) pc L (.ref q :: .ref o :: st) := by
  obtain ⟨p, l, e, R, s, m, args, below, meth, c, Q, A, D⟩ := X
  intro E H locs ls hK hP hD hS hl9
  exact va_putF (D := D) (ci := 0) (v := .ref q) (ty := .array .int) (C := RX0) (T := TX0) (N := 18) E.1 E.2.1 E.2.2.2.2.1 in_X0 tyX0 tyX0_ok nmX0 E.2.2.2.1 hK hP hD hS 0 rfl rfl 10 (by decide) (E.2.2.2.2.1 _ q38) (fun _ h9 => h9) rfl hN rfl (by decide +kernel) rfl rfl hl d (fun H1 locs1 hP1 hD1 hS1 => k E H1 locs1 ls hK hP1 hD1 hS1 hl9)
theorem pI0_11 {q : Nat} (hN : jN X) (hl : 11 < fs.length) (d : decode cc pc = .ok (.putfield 38, 3)) (k : jJ X cI cZ RX0 cc n k1 k2 ((o, .inr (0, fs.set 11 (.ref q))) :: ws) (pc + 3) L st) : jJ X cI cZ RX0 cc n k1 k2 ((o, .inr (0, fs)) :: ws) pc L (.ref q :: .ref o :: st) := by
  obtain ⟨p, l, e, R, s, m, args, below, meth, c, Q, A, D⟩ := X
  intro E H locs ls hK hP hD hS hl9
  exact va_putF (D := D) (ci := 0) (v := .ref q) (ty := .array .int) (C := RX0) (T := TX0) (N := 18) E.1 E.2.1 E.2.2.2.2.1 in_X0 tyX0 tyX0_ok nmX0 E.2.2.2.1 hK hP hD hS 0 rfl rfl 11 (by decide) (E.2.2.2.2.1 _ q39) (fun _ h9 => h9) rfl hN rfl (by decide +kernel) rfl rfl hl d (fun H1 locs1 hP1 hD1 hS1 => k E H1 locs1 ls hK hP1 hD1 hS1 hl9)
theorem pI0_12 {v : Nat} (hl : 12 < fs.length) (d : decode cc pc = .ok (.putfield 56, 3)) (k : jJ X cI cZ RX0 cc n k1 k2 ((o, .inr (0, fs.set 12 (.int (nI v)))) :: ws) (pc + 3) L st) : jJ X cI cZ RX0 cc n k1 k2 ((o, .inr (0, fs)) :: ws) pc L (.int (nI v) :: .ref o :: st) := by
  obtain ⟨p, l, e, R, s, m, args, below, meth, c, Q, A, D⟩ := X
  intro E H locs ls hK hP hD hS hl9
  exact va_put (D := D) (ci := 0) (v := .int (nI v)) (ty := .int) (C := RX0) (T := TX0) (N := 18) E.1 E.2.1 E.2.2.2.2.1 in_X0 tyX0 tyX0_ok nmX0 E.2.2.2.1 hK hP hD hS 0 rfl rfl 12 (by decide) (E.2.2.2.2.1 _ q40) (fun _ h9 => h9) rfl (by decide +kernel) rfl rfl hl d (fun H1 locs1 hP1 hD1 hS1 => k E H1 locs1 ls hK hP1 hD1 hS1 hl9)
theorem pI0_13 {q : Nat} (hN : jN X) (hl : 13 < fs.length) (d : decode cc pc = .ok (.putfield 41, 3)) (k : jJ X cI cZ RX0 cc n k1 k2 ((o, .inr (0, fs.set 13 (.ref q))) :: ws) (pc + 3) L st) : jJ X cI cZ RX0 cc n k1 k2 ((o, .inr (0, fs)) :: ws) pc L (.ref q :: .ref o :: st) := by
  obtain ⟨p, l, e, R, s, m, args, below, meth, c, Q, A, D⟩ := X
  intro E H locs ls hK hP hD hS hl9
  exact va_putF (D := D) (ci := 0) (v := .ref q) (ty := .array .int) (C := RX0) (T := TX0) (N := 18) E.1 E.2.1 E.2.2.2.2.1 in_X0 tyX0 tyX0_ok nmX0 E.2.2.2.1 hK hP hD hS 0 rfl rfl 13 (by decide) (E.2.2.2.2.1 _ q41) (fun _ h9 => h9) rfl hN rfl (by decide +kernel) rfl rfl hl d (fun H1 locs1 hP1 hD1 hS1 => k E H1 locs1 ls hK hP1 hD1 hS1 hl9)
theorem pI0_14 {q : Nat} (hN : jN X) (hl : 14 < fs.length) (d : decode cc pc = .ok (.putfield 44, 3)) (k : jJ X cI cZ RX0 cc n k1 k2 ((o, .inr (0, fs.set 14 (.ref q))) :: ws) (pc + 3) L st) : jJ X cI cZ RX0 cc n k1 k2 ((o, .inr (0, fs)) :: ws) pc L (.ref q :: .ref o :: st) := by
  obtain ⟨p, l, e, R, s, m, args, below, meth, c, Q, A, D⟩ := X
  intro E H locs ls hK hP hD hS hl9
  exact va_putF (D := D) (ci := 0) (v := .ref q) (ty := .array .int) (C := RX0) (T := TX0) (N := 18) E.1 E.2.1 E.2.2.2.2.1 in_X0 tyX0 tyX0_ok nmX0 E.2.2.2.1 hK hP hD hS 0 rfl rfl 14 (by decide) (E.2.2.2.2.1 _ q42) (fun _ h9 => h9) rfl hN rfl (by decide +kernel) rfl rfl hl d (fun H1 locs1 hP1 hD1 hS1 => k E H1 locs1 ls hK hP1 hD1 hS1 hl9)
theorem pI0_15 {q : Nat} (hN : jN X) (hl : 15 < fs.length) (d : decode cc pc = .ok (.putfield 47, 3)) (k : jJ X cI cZ RX0 cc n k1 k2 ((o, .inr (0, fs.set 15 (.ref q))) :: ws) (pc + 3) L st) : jJ X cI cZ RX0 cc n k1 k2 ((o, .inr (0, fs)) :: ws) pc L (.ref q :: .ref o :: st) := by
  obtain ⟨p, l, e, R, s, m, args, below, meth, c, Q, A, D⟩ := X
  intro E H locs ls hK hP hD hS hl9
  exact va_putF (D := D) (ci := 0) (v := .ref q) (ty := .array .int) (C := RX0) (T := TX0) (N := 18) E.1 E.2.1 E.2.2.2.2.1 in_X0 tyX0 tyX0_ok nmX0 E.2.2.2.1 hK hP hD hS 0 rfl rfl 15 (by decide) (E.2.2.2.2.1 _ q43) (fun _ h9 => h9) rfl hN rfl (by decide +kernel) rfl rfl hl d (fun H1 locs1 hP1 hD1 hS1 => k E H1 locs1 ls hK hP1 hD1 hS1 hl9)
theorem pI0_16 {q : Nat} (hN : jN X) (hl : 16 < fs.length) (d : decode cc pc = .ok (.putfield 50, 3)) (k : jJ X cI cZ RX0 cc n k1 k2 ((o, .inr (0, fs.set 16 (.ref q))) :: ws) (pc + 3) L st) : jJ X cI cZ RX0 cc n k1 k2 ((o, .inr (0, fs)) :: ws) pc L (.ref q :: .ref o :: st) := by
  obtain ⟨p, l, e, R, s, m, args, below, meth, c, Q, A, D⟩ := X
  intro E H locs ls hK hP hD hS hl9
  exact va_putF (D := D) (ci := 0) (v := .ref q) (ty := .array .int) (C := RX0) (T := TX0) (N := 18) E.1 E.2.1 E.2.2.2.2.1 in_X0 tyX0 tyX0_ok nmX0 E.2.2.2.1 hK hP hD hS 0 rfl rfl 16 (by decide) (E.2.2.2.2.1 _ q44) (fun _ h9 => h9) rfl hN rfl (by decide +kernel) rfl rfl hl d (fun H1 locs1 hP1 hD1 hS1 => k E H1 locs1 ls hK hP1 hD1 hS1 hl9)
theorem pI0_17 {q : Nat} (hN : jN X) (hl : 17 < fs.length) (d : decode cc pc = .ok (.putfield 53, 3)) (k : jJ X cI cZ RX0 cc n k1 k2 ((o, .inr (0, fs.set 17 (.ref q))) :: ws) (pc + 3) L st) : jJ X cI cZ RX0 cc n k1 k2 ((o, .inr (0, fs)) :: ws) pc L (.ref q :: .ref o :: st) := by
  obtain ⟨p, l, e, R, s, m, args, below, meth, c, Q, A, D⟩ := X
  intro E H locs ls hK hP hD hS hl9
  exact va_putF (D := D) (ci := 0) (v := .ref q) (ty := .array .int) (C := RX0) (T := TX0) (N := 18) E.1 E.2.1 E.2.2.2.2.1 in_X0 tyX0 tyX0_ok nmX0 E.2.2.2.1 hK hP hD hS 0 rfl rfl 17 (by decide) (E.2.2.2.2.1 _ q45) (fun _ h9 => h9) rfl hN rfl (by decide +kernel) rfl rfl hl d (fun H1 locs1 hP1 hD1 hS1 => k E H1 locs1 ls hK hP1 hD1 hS1 hl9)
end JP0
abbrev fs0 : List Value := [.int 0, .null, .int 0, .null, .null, .null, .null, .null, .null, .null, .null, .null, .int 0, .null, .null, .null, .null, .null]
/-- the state behind the constructor -/
def in0 : jS := (fun k => if k = 12 then 1 else 0, fun _ _ => 0)
set_option maxHeartbeats 4000000 in
theorem k_init0 (o : Nat) (cI cZ : ClassId) : ∀ (l : Launch) (D : va_G), jKc l D cI cZ yX0_init cX0_init 1 { frames := 1, cells := 15, slots := 268, locals := 12 } o [(o, .inr (0, fs0))] (fun ad : Nat → Nat => w0 (o, ad, cI, cZ) in0) 15 268 := by
  intro l D
  refine jKc_start RX0 0 (by decide) rfl rfl (Nat.le_of_ble_eq_true rfl) ?_
  intro X hR hN ret
  show jJ X cI cZ RX0 cX0_init 1 0 0 [(o, .inr (0, fs0))] 0 [some (.ref o)] []
  refine j_ald0 dX0_init_0 ?_
  refine j_objInit q25 hR (Nat.le_of_ble_eq_true rfl) (Nat.le_of_ble_eq_true rfl) dX0_init_1 ?_
  refine j_ald0 dX0_init_4 ?_
  refine j_bipush (nI 10) dX0_init_5 (by decide) ?_
  refine j_newI hR (by decide) ⟨Nat.le_of_ble_eq_true rfl, Nat.le_of_ble_eq_true rfl⟩ dX0_init_7 (fun q_7 => ?_)
  refine pI0_1 hN (Nat.le_of_ble_eq_true rfl) dX0_init_9 ?_
  refine j_ald0 dX0_init_12 ?_
  refine j_bipush (nI 12) dX0_init_13 (by decide) ?_
  refine j_newZ hR (by decide) ⟨Nat.le_of_ble_eq_true rfl, Nat.le_of_ble_eq_true rfl⟩ dX0_init_15 (fun q_15 => ?_)
  refine pI0_3 hN (Nat.le_of_ble_eq_true rfl) dX0_init_17 ?_
  refine j_ald0 dX0_init_20 ?_
  refine j_bipush (nI 12) dX0_init_21 (by decide) ?_
  refine j_newZ hR (by decide) ⟨Nat.le_of_ble_eq_true rfl, Nat.le_of_ble_eq_true rfl⟩ dX0_init_23 (fun q_23 => ?_)
  refine pI0_4 hN (Nat.le_of_ble_eq_true rfl) dX0_init_25 ?_
  refine j_ald0 dX0_init_28 ?_
  refine j_bipush (nI 12) dX0_init_29 (by decide) ?_
  refine j_newZ hR (by decide) ⟨Nat.le_of_ble_eq_true rfl, Nat.le_of_ble_eq_true rfl⟩ dX0_init_31 (fun q_31 => ?_)
  refine pI0_5 hN (Nat.le_of_ble_eq_true rfl) dX0_init_33 ?_
  refine j_ald0 dX0_init_36 ?_
  refine j_bipush (nI 84) dX0_init_37 (by decide) ?_
  refine j_newI hR (by decide) ⟨Nat.le_of_ble_eq_true rfl, Nat.le_of_ble_eq_true rfl⟩ dX0_init_39 (fun q_39 => ?_)
  refine pI0_6 hN (Nat.le_of_ble_eq_true rfl) dX0_init_41 ?_
  refine j_ald0 dX0_init_44 ?_
  refine j_bipush (nI 12) dX0_init_45 (by decide) ?_
  refine j_newI hR (by decide) ⟨Nat.le_of_ble_eq_true rfl, Nat.le_of_ble_eq_true rfl⟩ dX0_init_47 (fun q_47 => ?_)
  refine pI0_7 hN (Nat.le_of_ble_eq_true rfl) dX0_init_49 ?_
  refine j_ald0 dX0_init_52 ?_
  refine j_bipush (nI 12) dX0_init_53 (by decide) ?_
  refine j_newI hR (by decide) ⟨Nat.le_of_ble_eq_true rfl, Nat.le_of_ble_eq_true rfl⟩ dX0_init_55 (fun q_55 => ?_)
  refine pI0_8 hN (Nat.le_of_ble_eq_true rfl) dX0_init_57 ?_
  refine j_ald0 dX0_init_60 ?_
  refine j_bipush (nI 12) dX0_init_61 (by decide) ?_
  refine j_newI hR (by decide) ⟨Nat.le_of_ble_eq_true rfl, Nat.le_of_ble_eq_true rfl⟩ dX0_init_63 (fun q_63 => ?_)
  refine pI0_9 hN (Nat.le_of_ble_eq_true rfl) dX0_init_65 ?_
  refine j_ald0 dX0_init_68 ?_
  refine j_bipush (nI 12) dX0_init_69 (by decide) ?_
  refine j_newI hR (by decide) ⟨Nat.le_of_ble_eq_true rfl, Nat.le_of_ble_eq_true rfl⟩ dX0_init_71 (fun q_71 => ?_)
  refine pI0_10 hN (Nat.le_of_ble_eq_true rfl) dX0_init_73 ?_
  refine j_ald0 dX0_init_76 ?_
  refine j_bipush (nI 12) dX0_init_77 (by decide) ?_
  refine j_newI hR (by decide) ⟨Nat.le_of_ble_eq_true rfl, Nat.le_of_ble_eq_true rfl⟩ dX0_init_79 (fun q_79 => ?_)
  refine pI0_11 hN (Nat.le_of_ble_eq_true rfl) dX0_init_81 ?_
  refine j_ald0 dX0_init_84 ?_
  refine j_bipush (nI 6) dX0_init_85 (by decide) ?_
  refine j_newI hR (by decide) ⟨Nat.le_of_ble_eq_true rfl, Nat.le_of_ble_eq_true rfl⟩ dX0_init_87 (fun q_87 => ?_)
  refine pI0_13 hN (Nat.le_of_ble_eq_true rfl) dX0_init_89 ?_
  refine j_ald0 dX0_init_92 ?_
  refine j_bipush (nI 48) dX0_init_93 (by decide) ?_
  refine j_newI hR (by decide) ⟨Nat.le_of_ble_eq_true rfl, Nat.le_of_ble_eq_true rfl⟩ dX0_init_95 (fun q_95 => ?_)
  refine pI0_14 hN (Nat.le_of_ble_eq_true rfl) dX0_init_97 ?_
  refine j_ald0 dX0_init_100 ?_
  refine j_bipush (nI 12) dX0_init_101 (by decide) ?_
  refine j_newI hR (by decide) ⟨Nat.le_of_ble_eq_true rfl, Nat.le_of_ble_eq_true rfl⟩ dX0_init_103 (fun q_103 => ?_)
  refine pI0_15 hN (Nat.le_of_ble_eq_true rfl) dX0_init_105 ?_
  refine j_ald0 dX0_init_108 ?_
  refine j_bipush (nI 6) dX0_init_109 (by decide) ?_
  refine j_newI hR (by decide) ⟨Nat.le_of_ble_eq_true rfl, Nat.le_of_ble_eq_true rfl⟩ dX0_init_111 (fun q_111 => ?_)
  refine pI0_16 hN (Nat.le_of_ble_eq_true rfl) dX0_init_113 ?_
  refine j_ald0 dX0_init_116 ?_
  refine j_bipush (nI 6) dX0_init_117 (by decide) ?_
  refine j_newI hR (by decide) ⟨Nat.le_of_ble_eq_true rfl, Nat.le_of_ble_eq_true rfl⟩ dX0_init_119 (fun q_119 => ?_)
  refine pI0_17 hN (Nat.le_of_ble_eq_true rfl) dX0_init_121 ?_
  refine j_ald0 dX0_init_124 ?_
  refine j_iconst (nI 1) dX0_init_125 (by decide) ?_
  refine pI0_12 (Nat.le_of_ble_eq_true rfl) dX0_init_126 ?_
  exact ret (fun k => if k = 1 then q_7 else if k = 3 then q_15 else if k = 4 then q_23 else if k = 5 then q_31 else if k = 6 then q_39 else if k = 7 then q_47 else if k = 8 then q_55 else if k = 9 then q_63 else if k = 10 then q_71 else if k = 11 then q_79 else if k = 13 then q_87 else if k = 14 then q_95 else if k = 15 then q_103 else if k = 16 then q_111 else if k = 17 then q_119 else 0) _ _ dX0_init_129
section JP1
variable {X : jC} {cI cZ : ClassId} {cc : ByteArray} {n k1 k2 o : Nat} {fs : List Value} {ws : va_W} {pc : Nat} {L : List (Option Value)} {st : List Value}
theorem pI1_0 {q : Nat} (hN : jN X) (hl : 0 < fs.length) (d : decode cc pc = .ok (.putfield 7, 3)) (k : jJ X cI cZ RX1 cc n k1 k2 ((o, .inr (1, fs.set 0 (.ref q))) :: ws) (pc + 3) L st) : jJ X cI cZ RX1 cc n k1 k2 ((o, .inr (1, fs)) :: ws) pc L (.ref q :: .ref o :: st) := by
  obtain ⟨p, l, e, R, s, m, args, below, meth, c, Q, A, D⟩ := X
  intro E H locs ls hK hP hD hS hl9
  exact va_putF (D := D) (ci := 1) (v := .ref q) (ty := .array .int) (C := RX1) (T := TX1) (N := 14) E.1 E.2.1 E.2.2.2.2.1 in_X1 tyX1 tyX1_ok nmX1 E.2.2.2.1 hK hP hD hS 0 rfl rfl 0 (by decide) (E.2.2.2.2.1 _ q171) (fun _ h9 => h9) rfl hN rfl (by decide +kernel) rfl rfl hl d (fun H1 locs1 hP1 hD1 hS1 => k E H1 locs1 ls hK hP1 hD1 hS1 hl9)
theorem pI1_2 {q : Nat} (hN : jN X) (hl : 2 < fs.length) (d : decode cc pc = .ok (.putfield 13, 3)) (k : jJ X cI cZ RX1 cc n k1 k2 ((o, .inr (1, fs.set 2 (.ref q))) :: ws) (pc + 3) L st) : jJ X cI cZ RX1 cc n k1 k2 ((o, .inr (1, fs)) :: ws) pc L (.ref q :: .ref o :: st) := by
  obtain ⟨p, l, e, R, s, m, args, below, meth, c, Q, A, D⟩ := X
  intro E H locs ls hK hP hD hS hl9
  exact va_putF (D := D) (ci := 1) (v := .ref q) (ty := .array .int) (C := RX1) (T := TX1) (N := 14) E.1 E.2.1 E.2.2.2.2.1 in_X1 tyX1 tyX1_ok nmX1 E.2.2.2.1 hK hP hD hS 0 rfl rfl 2 (by decide) (E.2.2.2.2.1 _ q173) (fun _ h9 => h9) rfl hN rfl (by decide +kernel) rfl rfl hl d (fun H1 locs1 hP1 hD1 hS1 => k E H1 locs1 ls hK hP1 hD1 hS1 hl9)
theorem pI1_3 {q : Nat} (hN : jN X) (hl : 3 < fs.length) (d : decode cc pc = .ok (.putfield 16, 3)) (k : jJ X cI cZ RX1 cc n k1 k2 ((o, .inr (1, fs.set 3 (.ref q))) :: ws) (pc + 3) L st) : jJ X cI cZ RX1 cc n k1 k2 ((o, .inr (1, fs)) :: ws) pc L (.ref q :: .ref o :: st) := by
  obtain ⟨p, l, e, R, s, m, args, below, meth, c, Q, A, D⟩ := X
  intro E H locs ls hK hP hD hS hl9
  exact va_putF (D := D) (ci := 1) (v := .ref q) (ty := .array .int) (C := RX1) (T := TX1) (N := 14) E.1 E.2.1 E.2.2.2.2.1 in_X1 tyX1 tyX1_ok nmX1 E.2.2.2.1 hK hP hD hS 0 rfl rfl 3 (by decide) (E.2.2.2.2.1 _ q174) (fun _ h9 => h9) rfl hN rfl (by decide +kernel) rfl rfl hl d (fun H1 locs1 hP1 hD1 hS1 => k E H1 locs1 ls hK hP1 hD1 hS1 hl9)
theorem pI1_4 {q : Nat} (hN : jN X) (hl : 4 < fs.length) (d : decode cc pc = .ok (.putfield 19, 3)) (k : jJ X cI cZ RX1 cc n k1 k2 ((o, .inr (1, fs.set 4 (.ref q))) :: ws) (pc + 3) L st) : jJ X cI cZ RX1 cc n k1 k2 ((o, .inr (1, fs)) :: ws) pc L (.ref q :: .ref o :: st) := by
  obtain ⟨p, l, e, R, s, m, args, below, meth, c, Q, A, D⟩ := X
  intro E H locs ls hK hP hD hS hl9
  exact va_putF (D := D) (ci := 1) (v := .ref q) (ty := .array .int) (C := RX1) (T := TX1) (N := 14) E.1 E.2.1 E.2.2.2.2.1 in_X1 tyX1 tyX1_ok nmX1 E.2.2.2.1 hK hP hD hS 0 rfl rfl 4 (by decide) (E.2.2.2.2.1 _ q175) (fun _ h9 => h9) rfl hN rfl (by decide +kernel) rfl rfl hl d (fun H1 locs1 hP1 hD1 hS1 => k E H1 locs1 ls hK hP1 hD1 hS1 hl9)
theorem pI1_6 {q : Nat} (hN : jN X) (hl : 6 < fs.length) (d : decode cc pc = .ok (.putfield 22, 3)) (k : jJ X cI cZ RX1 cc n k1 k2 ((o, .inr (1, fs.set 6 (.ref q))) :: ws) (pc + 3) L st) : jJ X cI cZ RX1 cc n k1 k2 ((o, .inr (1, fs)) :: ws) pc L (.ref q :: .ref o :: st) := by
  obtain ⟨p, l, e, R, s, m, args, below, meth, c, Q, A, D⟩ := X
  intro E H locs ls hK hP hD hS hl9
  exact va_putF (D := D) (ci := 1) (v := .ref q) (ty := .array .int) (C := RX1) (T := TX1) (N := 14) E.1 E.2.1 E.2.2.2.2.1 in_X1 tyX1 tyX1_ok nmX1 E.2.2.2.1 hK hP hD hS 0 rfl rfl 6 (by decide) (E.2.2.2.2.1 _ q177) (fun _ h9 => h9) rfl hN rfl (by decide +kernel) rfl rfl hl d (fun H1 locs1 hP1 hD1 hS1 => k E H1 locs1 ls hK hP1 hD1 hS1 hl9)
theorem pI1_7 {q : Nat} (hN : jN X) (hl : 7 < fs.length) (d : decode cc pc = .ok (.putfield 25, 3)) (k : jJ X cI cZ RX1 cc n k1 k2 ((o, .inr (1, fs.set 7 (.ref q))) :: ws) (pc + 3) L st) : jJ X cI cZ RX1 cc n k1 k2 ((o, .inr (1, fs)) :: ws) pc L (.ref q :: .ref o :: st) := by
  obtain ⟨p, l, e, R, s, m, args, below, meth, c, Q, A, D⟩ := X
  intro E H locs ls hK hP hD hS hl9
  exact va_putF (D := D) (ci := 1) (v := .ref q) (ty := .array .int) (C := RX1) (T := TX1) (N := 14) E.1 E.2.1 E.2.2.2.2.1 in_X1 tyX1 tyX1_ok nmX1 E.2.2.2.1 hK hP hD hS 0 rfl rfl 7 (by decide) (E.2.2.2.2.1 _ q178) (fun _ h9 => h9) rfl hN rfl (by decide +kernel) rfl rfl hl d (fun H1 locs1 hP1 hD1 hS1 => k E H1 locs1 ls hK hP1 hD1 hS1 hl9)
theorem pI1_8 {v : Nat} (hl : 8 < fs.length) (d : decode cc pc = .ok (.putfield 28, 3)) (k : jJ X cI cZ RX1 cc n k1 k2 ((o, .inr (1, fs.set 8 (.int (nI v)))) :: ws) (pc + 3) L st) : jJ X cI cZ RX1 cc n k1 k2 ((o, .inr (1, fs)) :: ws) pc L (.int (nI v) :: .ref o :: st) := by
  obtain ⟨p, l, e, R, s, m, args, below, meth, c, Q, A, D⟩ := X
  intro E H locs ls hK hP hD hS hl9
  exact va_put (D := D) (ci := 1) (v := .int (nI v)) (ty := .int) (C := RX1) (T := TX1) (N := 14) E.1 E.2.1 E.2.2.2.2.1 in_X1 tyX1 tyX1_ok nmX1 E.2.2.2.1 hK hP hD hS 0 rfl rfl 8 (by decide) (E.2.2.2.2.1 _ q179) (fun _ h9 => h9) rfl (by decide +kernel) rfl rfl hl d (fun H1 locs1 hP1 hD1 hS1 => k E H1 locs1 ls hK hP1 hD1 hS1 hl9)
theorem pI1_9 {q : Nat} (hN : jN X) (hl : 9 < fs.length) (d : decode cc pc = .ok (.putfield 32, 3)) (k : jJ X cI cZ RX1 cc n k1 k2 ((o, .inr (1, fs.set 9 (.ref q))) :: ws) (pc + 3) L st) : jJ X cI cZ RX1 cc n k1 k2 ((o, .inr (1, fs)) :: ws) pc L (.ref q :: .ref o :: st) := by
  obtain ⟨p, l, e, R, s, m, args, below, meth, c, Q, A, D⟩ := X
  intro E H locs ls hK hP hD hS hl9
  exact va_putF (D := D) (ci := 1) (v := .ref q) (ty := .array .int) (C := RX1) (T := TX1) (N := 14) E.1 E.2.1 E.2.2.2.2.1 in_X1 tyX1 tyX1_ok nmX1 E.2.2.2.1 hK hP hD hS 0 rfl rfl 9 (by decide) (E.2.2.2.2.1 _ q180) (fun _ h9 => h9) rfl hN rfl (by decide +kernel) rfl rfl hl d (fun H1 locs1 hP1 hD1 hS1 => k E H1 locs1 ls hK hP1 hD1 hS1 hl9)
theorem pI1_10 {q : Nat} (hN : jN X) (hl : 10 < fs.length) (d : decode cc pc = .ok (.putfield 35, 3)) (k : jJ X cI cZ RX1 cc n k1 k2 ((o, .inr (1, fs.set 10 (.ref q))) :: ws) (pc + 3) L st) : jJ X cI cZ RX1 cc n k1 k2 ((o, .inr (1, fs)) :: ws) pc L (.ref q :: .ref o :: st) := by
  obtain ⟨p, l, e, R, s, m, args, below, meth, c, Q, A, D⟩ := X
  intro E H locs ls hK hP hD hS hl9
  exact va_putF (D := D) (ci := 1) (v := .ref q) (ty := .array .int) (C := RX1) (T := TX1) (N := 14) E.1 E.2.1 E.2.2.2.2.1 in_X1 tyX1 tyX1_ok nmX1 E.2.2.2.1 hK hP hD hS 0 rfl rfl 10 (by decide) (E.2.2.2.2.1 _ q181) (fun _ h9 => h9) rfl hN rfl (by decide +kernel) rfl rfl hl d (fun H1 locs1 hP1 hD1 hS1 => k E H1 locs1 ls hK hP1 hD1 hS1 hl9)
theorem pI1_12 {q : Nat} (hN : jN X) (hl : 12 < fs.length) (d : decode cc pc = .ok (.putfield 38, 3)) (k : jJ X cI cZ RX1 cc n k1 k2 ((o, .inr (1, fs.set 12 (.ref q))) :: ws) (pc + 3) L st) : jJ X cI cZ RX1 cc n k1 k2 ((o, .inr (1, fs)) :: ws) pc L (.ref q :: .ref o :: st) := by
  obtain ⟨p, l, e, R, s, m, args, below, meth, c, Q, A, D⟩ := X
  intro E H locs ls hK hP hD hS hl9
  exact va_putF (D := D) (ci := 1) (v := .ref q) (ty := .array .boolean) (C := RX1) (T := TX1) (N := 14) E.1 E.2.1 E.2.2.2.2.1 in_X1 tyX1 tyX1_ok nmX1 E.2.2.2.1 hK hP hD hS 0 rfl rfl 12 (by decide) (E.2.2.2.2.1 _ q183) (fun _ h9 => h9) rfl hN rfl (by decide +kernel) rfl rfl hl d (fun H1 locs1 hP1 hD1 hS1 => k E H1 locs1 ls hK hP1 hD1 hS1 hl9)
theorem pI1_13 {q : Nat} (hN : jN X) (hl : 13 < fs.length) (d : decode cc pc = .ok (.putfield 42, 3)) (k : jJ X cI cZ RX1 cc n k1 k2 ((o, .inr (1, fs.set 13 (.ref q))) :: ws) (pc + 3) L st) : jJ X cI cZ RX1 cc n k1 k2 ((o, .inr (1, fs)) :: ws) pc L (.ref q :: .ref o :: st) := by
  obtain ⟨p, l, e, R, s, m, args, below, meth, c, Q, A, D⟩ := X
  intro E H locs ls hK hP hD hS hl9
  exact va_putF (D := D) (ci := 1) (v := .ref q) (ty := .array .boolean) (C := RX1) (T := TX1) (N := 14) E.1 E.2.1 E.2.2.2.2.1 in_X1 tyX1 tyX1_ok nmX1 E.2.2.2.1 hK hP hD hS 0 rfl rfl 13 (by decide) (E.2.2.2.2.1 _ q184) (fun _ h9 => h9) rfl hN rfl (by decide +kernel) rfl rfl hl d (fun H1 locs1 hP1 hD1 hS1 => k E H1 locs1 ls hK hP1 hD1 hS1 hl9)
end JP1
abbrev fs1 : List Value := [.null, .int 0, .null, .null, .null, .int 0, .null, .null, .int 0, .null, .null, .int 0, .null, .null]
/-- the state behind the constructor -/
def in1 : jS := (fun k => if k = 8 then 1 else 0, fun _ _ => 0)
set_option maxHeartbeats 4000000 in
theorem k_init1 (o : Nat) (cI cZ : ClassId) : ∀ (l : Launch) (D : va_G), jKc l D cI cZ yX1_init cX1_init 1 { frames := 1, cells := 10, slots := 472, locals := 12 } o [(o, .inr (1, fs1))] (fun ad : Nat → Nat => w1 (o, ad, cI, cZ) in1) 10 472 := by
  intro l D
  refine jKc_start RX1 0 (by decide) rfl rfl (Nat.le_of_ble_eq_true rfl) ?_
  intro X hR hN ret
  show jJ X cI cZ RX1 cX1_init 1 0 0 [(o, .inr (1, fs1))] 0 [some (.ref o)] []
  refine j_ald0 dX1_init_0 ?_
  refine j_objInit q170 hR (Nat.le_of_ble_eq_true rfl) (Nat.le_of_ble_eq_true rfl) dX1_init_1 ?_
  refine j_ald0 dX1_init_4 ?_
  refine j_bipush (nI 10) dX1_init_5 (by decide) ?_
  refine j_newI hR (by decide) ⟨Nat.le_of_ble_eq_true rfl, Nat.le_of_ble_eq_true rfl⟩ dX1_init_7 (fun q_7 => ?_)
  refine pI1_0 hN (Nat.le_of_ble_eq_true rfl) dX1_init_9 ?_
  refine j_ald0 dX1_init_12 ?_
  refine j_bipush (nI 120) dX1_init_13 (by decide) ?_
  refine j_newI hR (by decide) ⟨Nat.le_of_ble_eq_true rfl, Nat.le_of_ble_eq_true rfl⟩ dX1_init_15 (fun q_15 => ?_)
  refine pI1_2 hN (Nat.le_of_ble_eq_true rfl) dX1_init_17 ?_
  refine j_ald0 dX1_init_20 ?_
  refine j_bipush (nI 12) dX1_init_21 (by decide) ?_
  refine j_newI hR (by decide) ⟨Nat.le_of_ble_eq_true rfl, Nat.le_of_ble_eq_true rfl⟩ dX1_init_23 (fun q_23 => ?_)
  refine pI1_3 hN (Nat.le_of_ble_eq_true rfl) dX1_init_25 ?_
  refine j_ald0 dX1_init_28 ?_
  refine j_bipush (nI 12) dX1_init_29 (by decide) ?_
  refine j_newI hR (by decide) ⟨Nat.le_of_ble_eq_true rfl, Nat.le_of_ble_eq_true rfl⟩ dX1_init_31 (fun q_31 => ?_)
  refine pI1_4 hN (Nat.le_of_ble_eq_true rfl) dX1_init_33 ?_
  refine j_ald0 dX1_init_36 ?_
  refine j_bipush (nI 48) dX1_init_37 (by decide) ?_
  refine j_newI hR (by decide) ⟨Nat.le_of_ble_eq_true rfl, Nat.le_of_ble_eq_true rfl⟩ dX1_init_39 (fun q_39 => ?_)
  refine pI1_6 hN (Nat.le_of_ble_eq_true rfl) dX1_init_41 ?_
  refine j_ald0 dX1_init_44 ?_
  refine j_bipush (nI 6) dX1_init_45 (by decide) ?_
  refine j_newI hR (by decide) ⟨Nat.le_of_ble_eq_true rfl, Nat.le_of_ble_eq_true rfl⟩ dX1_init_47 (fun q_47 => ?_)
  refine pI1_7 hN (Nat.le_of_ble_eq_true rfl) dX1_init_49 ?_
  refine j_ald0 dX1_init_52 ?_
  refine j_iconst (nI 1) dX1_init_53 (by decide) ?_
  refine pI1_8 (Nat.le_of_ble_eq_true rfl) dX1_init_54 ?_
  refine j_ald0 dX1_init_57 ?_
  refine j_bipush (nI 11) dX1_init_58 (by decide) ?_
  refine j_newI hR (by decide) ⟨Nat.le_of_ble_eq_true rfl, Nat.le_of_ble_eq_true rfl⟩ dX1_init_60 (fun q_60 => ?_)
  refine pI1_9 hN (Nat.le_of_ble_eq_true rfl) dX1_init_62 ?_
  refine j_ald0 dX1_init_65 ?_
  refine j_bipush (nI 11) dX1_init_66 (by decide) ?_
  refine j_newI hR (by decide) ⟨Nat.le_of_ble_eq_true rfl, Nat.le_of_ble_eq_true rfl⟩ dX1_init_68 (fun q_68 => ?_)
  refine pI1_10 hN (Nat.le_of_ble_eq_true rfl) dX1_init_70 ?_
  refine j_ald0 dX1_init_73 ?_
  refine j_bipush (nI 121) dX1_init_74 (by decide) ?_
  refine j_newZ hR (by decide) ⟨Nat.le_of_ble_eq_true rfl, Nat.le_of_ble_eq_true rfl⟩ dX1_init_76 (fun q_76 => ?_)
  refine pI1_12 hN (Nat.le_of_ble_eq_true rfl) dX1_init_78 ?_
  refine j_ald0 dX1_init_81 ?_
  refine j_bipush (nI 121) dX1_init_82 (by decide) ?_
  refine j_newZ hR (by decide) ⟨Nat.le_of_ble_eq_true rfl, Nat.le_of_ble_eq_true rfl⟩ dX1_init_84 (fun q_84 => ?_)
  refine pI1_13 hN (Nat.le_of_ble_eq_true rfl) dX1_init_86 ?_
  exact ret (fun k => if k = 0 then q_7 else if k = 2 then q_15 else if k = 3 then q_23 else if k = 4 then q_31 else if k = 6 then q_39 else if k = 7 then q_47 else if k = 9 then q_60 else if k = 10 then q_68 else if k = 12 then q_76 else if k = 13 then q_84 else 0) _ _ dX1_init_89
end
section
set_option maxRecDepth 100000
/-! ===== what holds between the two objects ===== -/
theorem pl_congr {sg sg' : Nat → Int32} {len : Nat} : ∀ (m i : Nat), len - i ≤ m → (∀ j, j < len → sg j = sg' j) → pl sg len i = pl sg' len i
  | m, i, hm, h => by
    by_cases hi : i < len
    · by_cases h9 : sg i = 9
      · rw [pl_9 h9, pl_9 (by rw [← h i hi]; exact h9)]
      · rw [pl_s hi h9, pl_s hi (by rw [← h i hi]; exact h9)]
        match m with
        | 0 => omega
        | m + 1 => rw [pl_congr m (i + 1) (by omega) h]
    · rw [pl_ge (by omega), pl_ge (by omega)]
theorem gp_congr {sg sg' : Nat → Int32} {len : Nat} (h : ∀ j, j < len → sg j = sg' j) (g : gp sg len) : gp sg' len := by
  refine ⟨g.1, fun i hi => ⟨fun h9 => ?_, fun h10 => ?_⟩⟩
  · obtain ⟨a, b, c, d⟩ := gp_9 g hi (by rw [h i hi]; exact h9)
    exact ⟨⟨a, by rw [← h _ (by omega)]; exact b⟩, c, by rw [← h _ c]; exact d⟩
  · obtain ⟨a, b⟩ := gp_10 g hi (by rw [h i hi]; exact h10)
    refine ⟨?_, ?_⟩
    · rcases a with a | a
      · exact Or.inl a
      · exact Or.inr (by rw [← h _ (by omega)]; exact a)
    · rcases Nat.lt_or_ge (i + 1) len with q | q
      · rcases b with b | b
        · omega
        · exact Or.inr (by rw [← h _ q]; exact b)
      · exact Or.inl (by omega)
theorem rs_sg {sg sg' : Nat → Int32} {len : Nat} {so : Nat → Int32} {st sl sk db en : Int32} (h : ∀ j, j < len → sg j = sg' j) (r : rs sg len so st sl sk db en) : rs sg' len so st sl sk db en := by
  have key : ∀ (i : Nat) (x : Int32), (i < len ∧ sg i = x) ↔ (i < len ∧ sg' i = x) := fun i x => ⟨fun q => ⟨q.1, by rw [← h i q.1]; exact q.2⟩, fun q => ⟨q.1, by rw [h i q.1]; exact q.2⟩⟩
  refine ⟨fun i => (r.1 i).trans (key i 7), fun i => (r.2.1 i).trans (key i 9), fun i => (r.2.2.1 i).trans ⟨fun q => ⟨q.1, by rw [← h i (by omega)]; exact q.2⟩, fun q => ⟨q.1, by rw [h i (by omega)]; exact q.2⟩⟩, fun i => (r.2.2.2.1 i).trans (key i 10), fun i => (r.2.2.2.2.1 i).trans (key i 8), fun c h1 h6 i => (r.2.2.2.2.2.1 c h1 h6 i).trans (key i (nI c)), fun i => (r.2.2.2.2.2.2 i).trans ⟨fun q => ⟨q.1, fun a h1 h2 => by rw [← h a h2]; exact q.2 a h1 h2⟩, fun q => ⟨q.1, fun a h1 h2 => by rw [h a h2]; exact q.2 a h1 h2⟩⟩⟩
theorem RR0_sg {u : jS} {r : Nat} {sg sg' : Nat → Int32} {len : Nat} {mk : Int32} (h : ∀ j, j < len → sg j = sg' j) (g : RR0 u r sg len mk) : RR0 u r sg' len mk := by
  obtain ⟨a, b, c, d⟩ := g
  refine ⟨a, b, ?_, rs_sg h d⟩
  rw [← pl_congr (len - 0) 0 (Nat.le_refl _) h]
  exact c
/-- the law's invariant -/
def INV (u t : jS) (len sz : Nat → Nat) : Prop :=
  (u.1 0 = t.1 1 ∧ u.1 0 ≤ 10 ∧ u.2 1 = t.2 0 ∧ ∀ i, i < u.1 0 → ∃ a, 1 ≤ a ∧ a ≤ 10 ∧ u.2 1 i = nI a) ∧
  (u.1 2 = t.1 5 ∧ u.1 2 ≤ 12 ∧ ∀ r, r < u.1 2 → t.2 3 r = nI (len r) ∧ len r ≤ 10 ∧ gp (sgr t r) (len r) ∧ RR0 u r (sgr t r) (len r) (t.2 4 r)) ∧
  (u.1 12 = t.1 8 ∧ 1 ≤ u.1 12 ∧ u.1 12 ≤ 6 ∧ u.2 13 = t.2 7 ∧ u.2 14 = t.2 6 ∧ ∀ k, k < u.1 12 → u.2 13 k = nI (sz k) ∧ sz k ≤ 8 ∧ ∀ i, i < sz k → okl (u.2 14 (k * 8 + i)))
def lnF (t : jS) (len : Nat → Nat) (r : Nat) : Bool := decide (pl (sgr t r) (len r) 0 = len r ∧ t.2 4 r &&& 2 = 0)
def fdF (t : jS) (r : Nat) : Bool := decide (¬ t.2 4 r &&& 4 = 0)
def ngF (t : jS) (r : Nat) : Bool := decide (¬ t.2 4 r &&& 1 = 0)
theorem INV_0 : INV in0 in1 (fun _ => 0) (fun _ => 0) := by
  refine ⟨⟨rfl, Nat.zero_le _, rfl, fun i hi => ?_⟩, ⟨rfl, Nat.zero_le _, fun r hr => ?_⟩, ⟨rfl, Nat.le_refl _, by decide, rfl, rfl, fun k hk => ⟨rfl, Nat.zero_le _, fun i hi => absurd hi (Nat.not_lt_zero _)⟩⟩⟩
  · exact absurd hi (Nat.not_lt_zero _)
  · exact absurd hr (Nat.not_lt_zero _)
theorem INV_W0 {u t : jS} {len sz : Nat → Nat} (h : INV u t len sz) : WF0 u (lnF t len) (fdF t) (ngF t) sz := by
  obtain ⟨-, ⟨h1, h2, h3⟩, h4, h5, h6, h7, h8, h9⟩ := h
  exact ⟨h5, h6, h2, h9, fun r hr => by
    obtain ⟨-, -, -, a, b, c, -⟩ := h3 r hr
    exact ⟨c, b, a⟩⟩
theorem INV_W1 {u t : jS} {len sz : Nat → Nat} (h : INV u t len sz) : WF1 t len sz := by
  obtain ⟨-, ⟨h1, h2, h3⟩, h4, h5, h6, h7, h8, h9⟩ := h
  refine ⟨by omega, by omega, by omega, fun k hk => ?_, fun r hr => ?_⟩
  · rw [← h7]
    exact ⟨(h9 k (by omega)).1, (h9 k (by omega)).2.1⟩
  · obtain ⟨a, b, c, -⟩ := h3 r (by omega)
    exact ⟨a, b, c⟩
/-- the questions leave the invariant -/
theorem INV_sm {u t u' t' : jS} {len sz : Nat → Nat} (h : INV u t len sz) (s0 : sm0 u u') (s1 : sm1 t t') : INV u' t' len sz := by
  unfold INV
  rw [s0.1, s0.2 1 (by decide), s0.2 13 (by decide), s0.2 14 (by decide), s1.1 1 (by decide), s1.1 5 (by decide), s1.1 8 (by decide), s1.2 0 (by decide), s1.2 3 (by decide), s1.2 4 (by decide), s1.2 6 (by decide), s1.2 7 (by decide)]
  obtain ⟨h1, ⟨h2, h3, h4⟩, h5⟩ := h
  refine ⟨h1, ⟨h2, h3, fun r hr => ?_⟩, h5⟩
  obtain ⟨a, b, c, d⟩ := h4 r hr
  rw [sm1_sg s1]
  exact ⟨a, b, c, RR0_congr (by rw [s0.2 3 (by decide)]) (by rw [s0.2 4 (by decide)]) (by rw [s0.2 5 (by decide)]) (fun c _ => by rw [s0.2 6 (by decide)]) (by rw [s0.2 7 (by decide)]) (by rw [s0.2 8 (by decide)]) (by rw [s0.2 9 (by decide)]) (by rw [s0.2 10 (by decide)]) (by rw [s0.2 11 (by decide)]) d⟩
/-- THE HEART: the automaton's hit is the reference's match -/
theorem hit_eq {u t : jS} {len sz : Nat → Nat} (h : INV u t len sz) (fo : Bool) {k r : Nat} (hk : k < u.1 12) (hr : r < u.1 2) : hit0 u (lnF t len) (fdF t) sz fo (u.1 12) k r = mrV t len sz (fo || decide (k + 1 < u.1 12)) r (k + 1) := by
  obtain ⟨-, ⟨h1, h2, h3⟩, h4, h5, h6, h7, h8, h9⟩ := h
  obtain ⟨hl, hl10, hg, -, -, -, hrs⟩ := h3 r hr
  have hlt : (fun q i => u.2 14 (q * 8 + i)) = ltr t := by
    funext q i
    show u.2 14 _ = t.2 6 _
    rw [h8]
  have ho : ∀ q, q < k + 1 → ∀ j, j < sz q → okl (ltr t q j) := by
    intro q hq j hj
    show okl (t.2 6 (q * 8 + j))
    rw [← h8]
    exact (h9 q (by omega)).2.2 j hj
  have key := hit_ok (lt := ltr t) (sz := sz) (k := k) hrs hg hl10 (lnF t len r) ho
  rw [hit0, hlt]
  generalize (fo || decide (k + 1 < u.1 12)) = isF
  have kd : decide (¬ (stA (lnF t len r) (fun c => u.2 6 (r * 7 + c)) (u.2 7 r) (u.2 8 r) (u.2 10 r) (u.2 9 r) (ltr t) sz k &&& u.2 11 r) = 0) = lf (sgr t r) (len r) (k + 1) (ftn (sgr t r) (len r) (ltr t) sz) 0 (if lnF t len r = true then k else 0) := by
    cases hb : lf (sgr t r) (len r) (k + 1) (ftn (sgr t r) (len r) (ltr t) sz) 0 (if lnF t len r = true then k else 0) with
    | true => exact decide_eq_true (key.mpr hb)
    | false =>
      refine decide_eq_false (fun q => ?_)
      have := key.mp q
      rw [hb] at this
      cases this
  rw [kd, mrV]
  have tail : lf (sgr t r) (len r) (k + 1) (ftn (sgr t r) (len r) (ltr t) sz) 0 (if lnF t len r = true then k else 0) = (if pl (sgr t r) (len r) 0 = len r ∧ t.2 4 r &&& 2 = 0 then decide (sgr t r 0 = 10) || ftn (sgr t r) (len r) (ltr t) sz 0 (k + 1 - 1) else lf (sgr t r) (len r) (k + 1) (ftn (sgr t r) (len r) (ltr t) sz) 0 0) := by
    by_cases hq : pl (sgr t r) (len r) 0 = len r ∧ t.2 4 r &&& 2 = 0
    · have hln : lnF t len r = true := decide_eq_true hq
      rw [if_pos hq, if_pos hln, lf_last hg hq.1]
      rfl
    · have hln : lnF t len r = false := decide_eq_false hq
      rw [if_neg hq, if_neg (by rw [hln]; decide)]
  rw [← tail]
  generalize lf (sgr t r) (len r) (k + 1) (ftn (sgr t r) (len r) (ltr t) sz) 0 (if lnF t len r = true then k else 0) = Y
  by_cases h4' : t.2 4 r &&& 4 = 0
  · have hfd : fdF t r = false := decide_eq_false (fun q => q h4')
    rw [hfd, if_neg (fun q => q.1 h4')]
    simp
  · have hfd : fdF t r = true := decide_eq_true h4'
    rw [hfd]
    cases isF with
    | true =>
      rw [if_neg (fun q => absurd q.2 (by decide))]
      simp
    | false =>
      rw [if_pos ⟨h4', rfl⟩]
      simp
theorem q_cut {u t : jS} {len sz : Nat → Nat} (h : INV u t len sz) (fo : Bool) : cutR (hit0 u (lnF t len) (fdF t) sz fo (u.1 12)) (ngF t) (u.1 2) (u.1 12) (sz (u.1 12 - 1)) = cutR (fun k r => mrV t len sz (fo || decide (k + 1 < t.1 8)) r (k + 1)) (fun r => decide (¬ t.2 4 r &&& 1 = 0)) (t.1 5) (t.1 8) (sz (t.1 8 - 1)) := by
  rw [← h.2.2.1, ← h.2.1.1]
  exact cutR_congr (fun k hk r hr => hit_eq h fo hk hr) (fun r _ => rfl)
theorem q_hit {u t : jS} {len sz : Nat → Nat} (h : INV u t len sz) (fo : Bool) {r : Nat} (hr : r < u.1 2) : hit0 u (lnF t len) (fdF t) sz fo (u.1 12) (u.1 12 - 1) r = mrV t len sz fo r (u.1 12) := by
  have h5 := h.2.2.2.1
  rw [hit_eq h fo (by omega) hr, decide_eq_false (by omega), Bool.or_false, show u.1 12 - 1 + 1 = u.1 12 by omega]
theorem q_last {u t : jS} {len sz : Nat → Nat} (h : INV u t len sz) (fo : Bool) : (if sz (u.1 12 - 1) = 0 then (-5 : Int32) else lastV (hit0 u (lnF t len) (fdF t) sz fo (u.1 12) (u.1 12 - 1)) (u.1 2)) = if sz (t.1 8 - 1) = 0 then -5 else lastV (fun r => mrV t len sz fo r (t.1 8)) (t.1 5) := by
  rw [← h.2.2.1, ← h.2.1.1, lastV_congr _ (fun r hr => q_hit h fo hr)]
theorem q_cnt {u t : jS} {len sz : Nat → Nat} (h : INV u t len sz) (fo : Bool) : (if sz (u.1 12 - 1) = 0 then nI 0 else nI (cntV (hit0 u (lnF t len) (fdF t) sz fo (u.1 12) (u.1 12 - 1)) (u.1 2))) = if sz (t.1 8 - 1) = 0 then nI 0 else nI (cntV (fun r => mrV t len sz fo r (t.1 8)) (t.1 5)) := by
  rw [← h.2.2.1, ← h.2.1.1, cntV_congr _ (fun r hr => q_hit h fo hr)]
/-! the calls that change something -/
theorem INV_pattern {u t u' t' : jS} {len sz : Nat → Nat} (h : INV u t len sz) (c : Int32) (h0 : (pOk (u.1 0) c ∧ u' = jput (jset u 1 (u.1 0) c) 0 (u.1 0 + 1)) ∨ (¬ pOk (u.1 0) c ∧ u' = u)) (h1 : (pOk (t.1 1) c ∧ t' = jput (jset t 0 (t.1 1) c) 1 (t.1 1 + 1)) ∨ (¬ pOk (t.1 1) c ∧ t' = t)) : INV u' t' len sz := by
  obtain ⟨⟨a1, a2, a3, a4⟩, b, d⟩ := id h
  rw [← a1] at h1
  rcases h0 with ⟨p0, rfl⟩ | ⟨p0, rfl⟩
  · rcases h1 with ⟨p1, rfl⟩ | ⟨p1, rfl⟩
    · refine ⟨⟨?_, ?_, ?_, ?_⟩, ⟨b.1, b.2.1, fun r hr => ?_⟩, d⟩
      · rw [jput_s, if_pos rfl, jput_s, if_pos rfl]
      · rw [jput_s, if_pos rfl]
        exact p0.2
      · rw [jput_a, jput_a, jset_k, jset_k, a3]
      · intro i hi
        rw [jput_s, if_pos rfl] at hi
        rw [jput_a, jset_a]
        by_cases e : i = u.1 0
        · rw [if_pos ⟨rfl, e⟩]
          have hc1 : ¬ c < 1 := fun q => p0.1 (Or.inl q)
          have hc10 : ¬ 10 < c := fun q => p0.1 (Or.inr q)
          obtain ⟨j, hj, rfl⟩ := nI_of2 (x := c) (M := 10) (n := 10) (by decide) (fun q => hc1 (Int32.lt_trans q (by decide))) (Int32.not_lt.mp hc10)
          refine ⟨j, ?_, hj, rfl⟩
          rcases Nat.eq_zero_or_pos j with q | q
          · rw [q] at hc1
            exact absurd (by decide) hc1
          · exact q
        · rw [if_neg (fun q => e q.2)]
          exact a4 i (by omega)
      · obtain ⟨x1, x2, x3, x4⟩ := b.2.2 r hr
        exact ⟨x1, x2, x3, RR0_congr rfl rfl rfl (fun _ _ => rfl) rfl rfl rfl rfl rfl x4⟩
    · exact absurd p0 p1
  · rcases h1 with ⟨p1, rfl⟩ | ⟨p1, rfl⟩
    · exact absurd p1 p0
    · exact h
theorem INV_drop {u t u' t' : jS} {len sz : Nat → Nat} (h : INV u t len sz) {v0 v1 : Int32} (h0 : (u.1 2 = 0 ∧ v0 = -5 ∧ u' = u) ∨ (0 < u.1 2 ∧ v0 = nI (u.1 2 - 1) ∧ u' = jput u 2 (u.1 2 - 1))) (h1 : (t.1 5 = 0 ∧ v1 = -5 ∧ t' = t) ∨ (0 < t.1 5 ∧ v1 = nI (t.1 5 - 1) ∧ t' = jput t 5 (t.1 5 - 1))) : v0 = v1 ∧ INV u' t' len sz := by
  obtain ⟨a, ⟨b1, b2, b3⟩, d⟩ := id h
  rw [← b1] at h1
  rcases h0 with ⟨p0, rfl, rfl⟩ | ⟨p0, rfl, rfl⟩
  · rcases h1 with ⟨p1, rfl, rfl⟩ | ⟨p1, rfl, rfl⟩
    · exact ⟨rfl, h⟩
    · omega
  · rcases h1 with ⟨p1, rfl, rfl⟩ | ⟨p1, rfl, rfl⟩
    · omega
    · refine ⟨rfl, a, ⟨rfl, ?_, fun r hr => ?_⟩, d⟩
      · rw [jput_s, if_pos rfl]
        omega
      · rw [jput_s, if_pos rfl] at hr
        obtain ⟨x1, x2, x3, x4⟩ := b3 r (by omega)
        exact ⟨x1, x2, x3, RR0_congr rfl rfl rfl (fun _ _ => rfl) rfl rfl rfl rfl rfl x4⟩
theorem INV_rule {u t u' t' : jS} {len sz : Nat → Nat} (h : INV u t len sz) {mk v0 v1 : Int32} (h0 : RU0 u mk v0 u') (h1 : RU1 t mk v1 t') : v0 = v1 ∧ ∃ len', INV u' t' len' sz := by
  obtain ⟨⟨a1, a2, a3, a4⟩, ⟨b1, b2, b3⟩, d⟩ := id h
  unfold RU1 at h1
  rw [← a1, ← a3, ← b1] at h1
  have clr : INV (jput u 0 0) (jput t 1 0) len sz := by
    refine ⟨⟨rfl, Nat.zero_le _, a3, fun i hi => ?_⟩, ⟨b1, b2, fun r hr => ?_⟩, d⟩
    · exact absurd hi (Nat.not_lt_zero _)
    · obtain ⟨x1, x2, x3, x4⟩ := b3 r hr
      exact ⟨x1, x2, x3, RR0_congr rfl rfl rfl (fun _ _ => rfl) rfl rfl rfl rfl rfl x4⟩
  rcases h0 with ⟨p0, rfl, rfl⟩ | ⟨p0, p1, rfl, rfl⟩ | ⟨p0, p1, rfl, s0, s2, s12, sk, sr, sn⟩
  · rcases h1 with ⟨q0, rfl, rfl⟩ | ⟨q0, -⟩ | ⟨q0, -⟩
    · exact ⟨rfl, len, clr⟩
    · exact absurd q0 p0
    · exact absurd q0 p0
  · rcases h1 with ⟨q0, -⟩ | ⟨q0, q1, rfl, rfl⟩ | ⟨q0, q1, -⟩
    · exact absurd p0 q0
    · exact ⟨rfl, len, clr⟩
    · omega
  · rcases h1 with ⟨q0, -⟩ | ⟨q0, q1, -⟩ | ⟨q0, q1, rfl, w1, w5, w8, wk, wr, wn, wl, wm⟩
    · exact absurd p0 q0
    · omega
    · refine ⟨rfl, fun r => if r = u.1 2 then u.1 0 else len r, ⟨⟨by rw [s0, w1], by rw [s0]; exact Nat.zero_le _, by rw [sk 1 (Or.inl rfl), wk 0 (Or.inl rfl)]; exact a3, fun i hi => by rw [s0] at hi; omega⟩, ⟨by rw [s2, w5], by rw [s2]; exact p1, fun r hr => ?_⟩, ?_⟩⟩
      · rw [s2] at hr
        by_cases e : r = u.1 2
        · subst e
          have hs : ∀ j, j < u.1 0 → u.2 1 j = sgr t' (u.1 2) j := fun j hj => (wn j hj).symm
          refine ⟨?_, ?_, ?_, ?_⟩
          · show t'.2 3 (u.1 2) = nI (if u.1 2 = u.1 2 then u.1 0 else len (u.1 2))
            rw [if_pos rfl]
            exact wl
          · show (if u.1 2 = u.1 2 then u.1 0 else len (u.1 2)) ≤ 10
            rw [if_pos rfl]
            exact a2
          · show gp _ (if u.1 2 = u.1 2 then u.1 0 else len (u.1 2))
            rw [if_pos rfl]
            exact gp_congr hs p0
          · show RR0 u' (u.1 2) _ (if u.1 2 = u.1 2 then u.1 0 else len (u.1 2)) _
            rw [if_pos rfl, wm]
            exact RR0_sg hs sn
        · obtain ⟨x1, x2, x3, x4⟩ := b3 r (by omega)
          obtain ⟨y1, y2, y3⟩ := wr r e
          have hs : ∀ j, j < len r → sgr t r j = sgr t' r j := fun j hj => (y1 j (by omega)).symm
          refine ⟨?_, ?_, ?_, ?_⟩
          · show t'.2 3 r = nI (if r = u.1 2 then u.1 0 else len r)
            rw [if_neg e, y2]
            exact x1
          · show (if r = u.1 2 then u.1 0 else len r) ≤ 10
            rw [if_neg e]
            exact x2
          · show gp _ (if r = u.1 2 then u.1 0 else len r)
            rw [if_neg e]
            exact gp_congr hs x3
          · show RR0 u' r _ (if r = u.1 2 then u.1 0 else len r) _
            rw [if_neg e, y3]
            exact RR0_sg hs (sr r (by omega) _ _ _ x4)
      · rw [s12, w8, sk 13 (Or.inr (by decide)), sk 14 (Or.inr (by decide)), wk 6 (Or.inr (by decide)), wk 7 (Or.inr (by decide))]
        exact d
theorem INV_clear {u t : jS} {len sz : Nat → Nat} (h : INV u t len sz) : INV (jset (jput u 12 1) 13 0 (nI 0)) (jset (jput t 8 1) 7 0 (nI 0)) len (fun _ => 0) := by
  obtain ⟨a, ⟨b1, b2, b3⟩, d1, d2, d3, d4, d5, d6⟩ := h
  refine ⟨a, ⟨b1, b2, fun r hr => ?_⟩, rfl, Nat.le_refl _, (show (1 : Nat) ≤ 6 by decide), ?_, d5, fun k hk => ⟨?_, Nat.zero_le _, fun i hi => absurd hi (Nat.not_lt_zero _)⟩⟩
  · obtain ⟨x1, x2, x3, x4⟩ := b3 r hr
    exact ⟨x1, x2, x3, RR0_congr rfl rfl rfl (fun _ _ => rfl) rfl rfl rfl rfl rfl x4⟩
  · rw [jset_k, jset_k, jput_a, jput_a, d4]
  · have hk : k < 1 := hk
    rw [jset_a, if_pos ⟨rfl, by omega⟩]
theorem INV_path {u t : jS} {len sz : Nat → Nat} (h : INV u t len sz) (c : Int32) : ∃ sz', INV (pathU 12 13 14 u (u.1 12) (sz (u.1 12 - 1)) c (pathK (u.1 12) (sz (u.1 12 - 1)) c)) (pathU 8 7 6 t (t.1 8) (sz (t.1 8 - 1)) c (pathK (t.1 8) (sz (t.1 8 - 1)) c)) len sz' := by
  obtain ⟨a, ⟨b1, b2, b3⟩, d1, d2, d3, d4, d5, d6⟩ := id h
  rw [← d1]
  obtain ⟨z, ez⟩ : ∃ z, z = sz (u.1 12 - 1) := ⟨_, rfl⟩
  obtain ⟨k, ek⟩ : ∃ k, k = pathK (u.1 12) z c := ⟨_, rfl⟩
  rw [← ez, ← ek]
  have hz := (d6 (u.1 12 - 1) (by omega)).2.1
  rw [← ez] at hz
  unfold pathK at ek
  by_cases hb : (c < 1 ∨ 6 < c) ∧ ¬ c = 9
  · rw [if_pos hb] at ek
    subst ek
    exact ⟨sz, h⟩
  · rw [if_neg hb] at ek
    by_cases h9 : c = 9
    · rw [if_pos h9] at ek
      by_cases hs : z = 0 ∨ u.1 12 = 6
      · rw [if_pos hs] at ek
        subst ek
        exact ⟨sz, h⟩
      · rw [if_neg hs] at ek
        subst ek
        refine ⟨fun k => if k = u.1 12 then 0 else sz k, ?_⟩
        show INV (jput (jset u 13 (u.1 12) (nI 0)) 12 (u.1 12 + 1)) (jput (jset t 7 (u.1 12) (nI 0)) 8 (u.1 12 + 1)) len _
        refine ⟨a, ⟨b1, b2, fun r hr => ?_⟩, rfl, ?_, ?_, ?_, d5, fun k hk => ?_⟩
        · obtain ⟨x1, x2, x3, x4⟩ := b3 r hr
          exact ⟨x1, x2, x3, RR0_congr rfl rfl rfl (fun _ _ => rfl) rfl rfl rfl rfl rfl x4⟩
        · rw [jput_s, if_pos rfl]
          omega
        · rw [jput_s, if_pos rfl]
          omega
        · rw [jput_a, jput_a, jset_k, jset_k, d4]
        · rw [jput_s, if_pos rfl] at hk
          show (jset u 13 (u.1 12) (nI 0)).2 13 k = nI (if k = u.1 12 then 0 else sz k) ∧ (if k = u.1 12 then 0 else sz k) ≤ 8 ∧ ∀ i, i < (if k = u.1 12 then 0 else sz k) → okl (u.2 14 (k * 8 + i))
          rw [jset_a]
          by_cases e : k = u.1 12
          · rw [if_pos ⟨rfl, e⟩, if_pos e]
            exact ⟨rfl, Nat.zero_le _, fun i hi => by omega⟩
          · rw [if_neg (fun q => e q.2), if_neg e]
            exact d6 k (by omega)
    · rw [if_neg h9] at ek
      by_cases h8 : 8 ≤ z
      · rw [if_pos h8] at ek
        subst ek
        exact ⟨sz, h⟩
      · rw [if_neg h8] at ek
        subst ek
        have hc : okl c := by
          have hc1 : ¬ c < 1 := fun q => hb ⟨Or.inl q, h9⟩
          have hc6 : ¬ 6 < c := fun q => hb ⟨Or.inr q, h9⟩
          obtain ⟨j, hj, rfl⟩ := nI_of2 (x := c) (M := 6) (n := 6) (by decide) (fun q => hc1 (Int32.lt_trans q (by decide))) (Int32.not_lt.mp hc6)
          refine ⟨j, ?_, hj, rfl⟩
          rcases Nat.eq_zero_or_pos j with q | q
          · rw [q] at hc1
            exact absurd (by decide) hc1
          · exact q
        refine ⟨fun k => if k = u.1 12 - 1 then z + 1 else sz k, ?_⟩
        show INV (jset (jset u 14 ((u.1 12 - 1) * 8 + z) c) 13 (u.1 12 - 1) (nI (z + 1))) (jset (jset t 6 ((u.1 12 - 1) * 8 + z) c) 7 (u.1 12 - 1) (nI (z + 1))) len _
        refine ⟨a, ⟨b1, b2, fun r hr => ?_⟩, d1, d2, d3, ?_, ?_, fun k hk => ?_⟩
        · obtain ⟨x1, x2, x3, x4⟩ := b3 r hr
          exact ⟨x1, x2, x3, RR0_congr rfl rfl rfl (fun _ _ => rfl) rfl rfl rfl rfl rfl x4⟩
        · rw [jset_k, jset_k, jset_o _ _ _ (by decide), jset_o _ _ _ (by decide), d4]
        · rw [jset_o (k := 13) (j := 14) _ _ _ (by decide), jset_o (k := 7) (j := 6) _ _ _ (by decide), jset_k, jset_k, d5]
        · have hk : k < u.1 12 := hk
          show (jset (jset u 14 ((u.1 12 - 1) * 8 + z) c) 13 (u.1 12 - 1) (nI (z + 1))).2 13 k = nI (if k = u.1 12 - 1 then z + 1 else sz k) ∧ (if k = u.1 12 - 1 then z + 1 else sz k) ≤ 8 ∧ ∀ i, i < (if k = u.1 12 - 1 then z + 1 else sz k) → okl ((jset (jset u 14 ((u.1 12 - 1) * 8 + z) c) 13 (u.1 12 - 1) (nI (z + 1))).2 14 (k * 8 + i))
          rw [jset_a, jset_o _ _ _ (by decide)]
          by_cases e : k = u.1 12 - 1
          · rw [if_pos ⟨rfl, e⟩, if_pos e]
            refine ⟨rfl, by omega, fun i hi => ?_⟩
            rw [jset_o _ _ _ (by decide), jset_a]
            by_cases ei : i = z
            · rw [if_pos ⟨rfl, by rw [e, ei]⟩]
              exact hc
            · rw [if_neg (by omega)]
              exact (d6 k hk).2.2 i (by rw [e, ← ez]; omega)
          · rw [if_neg (fun q => e q.2), if_neg e, jset_o _ _ _ (by decide)]
            refine ⟨(d6 k hk).1, (d6 k hk).2.1, fun i hi => ?_⟩
            have hi8 := (d6 k hk).2.1
            rw [jset_a, if_neg (by omega)]
            exact (d6 k hk).2.2 i hi
end
section
set_option maxRecDepth 100000
/-! THE CLAIM OUT OF ONE WALK OF THE LAW'S BODY. Your part is whole_start (and what it stands on); all else here is the same for every law, but numbers. -/
def R_law : String := "IgnoreRulesLaw"
def lw_P (b : Addr) (xs : List Int32) (args : Array Value) (s : State) : Prop := args = #[.ref b] ∧ s.IntsAt b xs ∧ xs.length ≤ 128 ∧ (Jvm.Cond.and given_1 narrow_1).before args s = true
def lw_Q (_ : Array Value) (s : State) (o : Outcome) (t : State) : Prop := o = .returned (some (.int 1)) ∧ Framed s o t [] 600000 7290000
def lw_Z (below : List Frame) (a : Array Value) (s : State) : State → Prop := fun t => ∃ o, t.status = .running ∧ Ended t below o ∧ lw_Q a s o t
/-- the law's own end, with 1 on the stack, nothing written that was there before, its room as the claim has it -/
theorem lw_ret {p : Program} {l : Launch} {e : Env} {s : State} {m : MethodId} {below : List Frame} {meth : Method} {c : Code} {b : Nat} (hx : p.tables.exec = Jvm.exec) (hb : c.code = code) (hr : meth.sig.returnType = ret) (hlocks : meth.locks = false) {pc : Nat} {H : Heap} {ls : Array Slot} (hdg : decode code pc = .ok (.ireturn, 1)) : W p l e room_1 s m #[Value.ref b] below meth c H [] 600000 7290000 (lw_Z below #[Value.ref b] s) (F0 m pc ls [.int 1]) := by
  intro T hT X
  obtain ⟨fs, hret, hrun, hended, hW, hframe⟩ := X.leave (v := some (.int 1)) (hlocks := hlocks) (fun h => by rw [hr] at h; cases h)
  have hmeth' : T.vm.method? m = some meth := X.method'
  refine ⟨T.setFrames fs, ?_, .returned (some (.int 1)), hrun, hended, rfl, ⟨_, rfl⟩, hW, hframe⟩
  jvm_step X.here [X.here.top, hx, hb, hdg, hmeth', hr, ret, narrow_b1]
  (try refine ⟨rfl, ?_⟩); (try refine ⟨rfl, ?_⟩)
  first | (intro acts; rw [hret _ acts rfl rfl rfl]) | rw [hret _ _ rfl rfl rfl]
  exact Steps.refl _
/-- what holds at the law's entry: the machine, the code, the tables' words (any of lw_tbl by 'hts w (by decide +kernel)'), the script of L ints xs at the cell b, what the Statement gives of the start (any of its parts by flat_of_before) -/
def lw_At (p : Program) (s : State) (m : MethodId) (meth : Method) (c : Code) (b L : Nat) (xs : Nat → Int32) : Prop :=
  p.tables.exec = Jvm.exec ∧ c.code = code ∧ meth.sig.returnType = ret ∧ c.maxLocals = 4 ∧ s.vm.findClass R_law = some m.cls ∧ (∀ w ∈ lw_tbl, w.before #[Value.ref b] s = true) ∧ va_X b L xs s s.heap ∧ b < s.heap.size ∧ meth.locks = false ∧ (Jvm.Cond.and given_1 narrow_1).before #[Value.ref b] s = true

/-! rows of the law's body -/
def jX (X : jC) (b L : Nat) (xs : Nat → Int32) : Prop := match X with
  | (p, l, e, R, s, m, args, below, meth, c, Q, A, D) => va_X b L xs s s.heap ∧ b < s.heap.size ∧ ¬ A b
section JLaw
variable {X : jC} {cI cZ : ClassId} {own : String} {cc : ByteArray} {n k1 k2 : Nat} {w : va_W} {pc : Nat} {L : List (Option Value)} {st : List Value} {R : Room}
theorem j_sld {b Ls i : Nat} {xs : Nat → Int32} (hX : jX X b Ls xs ∧ Ls < 2 ^ 31) (d : decode cc pc = .ok (.iaload, 1)) (hi : i < Ls) (k : jJ X cI cZ own cc n k1 k2 w (pc + 1) L (.int (xs i) :: st)) : jJ X cI cZ own cc n k1 k2 w pc L (.int (nI i) :: .ref b :: st) := by
  obtain ⟨p, l, e, R0, s, m, args, below, meth, c, Q, A, D⟩ := X
  intro E H locs ls hK hP hD hS hl
  obtain ⟨⟨h1, h2, h3⟩, h4⟩ := hX
  refine va_sld E.1 E.2.1 h1 h2 h3 hS (vp_in_nI hi h4) d ?_
  rw [nI_clamp (by omega)]
  exact k E H locs ls hK hP hD hS hl
theorem j_slen {b Ls : Nat} {xs : Nat → Int32} (hX : jX X b Ls xs ∧ Ls < 2 ^ 31) (d : decode cc pc = .ok (.arraylength, 1)) (k : jJ X cI cZ own cc n k1 k2 w (pc + 1) L (.int (nI Ls) :: st)) : jJ X cI cZ own cc n k1 k2 w pc L (.ref b :: st) := by
  obtain ⟨p, l, e, R0, s, m, args, below, meth, c, Q, A, D⟩ := X
  intro E H locs ls hK hP hD hS hl
  obtain ⟨⟨h1, h2, h3⟩, h4⟩ := hX
  exact va_slen E.1 E.2.1 h1 h2 h3 hS d (k E H locs ls hK hP hD hS hl)
theorem j_tabIn {dflt lo hi : Int} {offs : Array Int} {len : Nat} {x : Int32} {off : Int} (tgt : Nat) (d : decode cc pc = .ok (.tableswitch dflt lo hi offs, len)) (h1 : ¬ x.toInt < lo) (h2 : ¬ hi < x.toInt) (ho : offs[(x.toInt - lo).toNat]? = some off) (ht : (pc : Int) + off = (tgt : Int)) (k : jJ X cI cZ own cc n k1 k2 w tgt L st) : jJ X cI cZ own cc n k1 k2 w pc L (.int x :: st) := by
  obtain ⟨p, l, e, R0, s, m, args, below, meth, c, Q, A, D⟩ := X
  intro E H locs ls hK hP hD hS hl
  exact lv_tableIn E.1 E.2.1 d h1 h2 ho ht (k E H locs ls hK hP hD hS hl)
theorem j_tabOut {dflt lo hi : Int} {offs : Array Int} {len : Nat} {x : Int32} (tgt : Nat) (d : decode cc pc = .ok (.tableswitch dflt lo hi offs, len)) (h : x.toInt < lo ∨ hi < x.toInt) (ht : (pc : Int) + dflt = (tgt : Int)) (k : jJ X cI cZ own cc n k1 k2 w tgt L st) : jJ X cI cZ own cc n k1 k2 w pc L (.int x :: st) := by
  obtain ⟨p, l, e, R0, s, m, args, below, meth, c, Q, A, D⟩ := X
  intro E H locs ls hK hP hD hS hl
  exact lv_tableOut E.1 E.2.1 d h ht (k E H locs ls hK hP hD hS hl)
set_option maxHeartbeats 4000000 in
theorem j_newO0 (hR : jR X = R) (hk : k1 + 1 ≤ R.cells ∧ k2 + 18 ≤ R.slots) (d : decode cc pc = .ok (.new 7, 3)) (k : ∀ q : Nat, jJ X cI cZ R_law cc n (k1 + 1) (k2 + 18) (w ++ [(q, .inr (0, fs0))]) (pc + 3) L (.ref q :: st)) : jJ X cI cZ R_law cc n k1 k2 w pc L st := by
  obtain ⟨p, l, e, R0, s, m, args, below, meth, c, Q, A, D⟩ := X
  intro E H locs ls hK hP hD hS hl
  have hR : R0 = R := hR
  subst hR
  exact va_new (ci := 0) (fs := fs0) (C := RX0) (T := TX0) (N := 18) E.1 E.2.1 E.2.2.2.2.1 in_X0 tyX0 tyX0_ok E.2.2.2.1 (E.2.2.2.2.1 _ q20) (E.2.2.2.2.1 _ q21) (E.2.2.2.2.1 _ q18) hK hP hD hS E.2.2.2.2.2.2 rfl (fun j hj => by rcases (show j = 0 ∨ j = 1 ∨ j = 2 ∨ j = 3 ∨ j = 4 ∨ j = 5 ∨ j = 6 ∨ j = 7 ∨ j = 8 ∨ j = 9 ∨ j = 10 ∨ j = 11 ∨ j = 12 ∨ j = 13 ∨ j = 14 ∨ j = 15 ∨ j = 16 ∨ j = 17 by omega) with rfl | rfl | rfl | rfl | rfl | rfl | rfl | rfl | rfl | rfl | rfl | rfl | rfl | rfl | rfl | rfl | rfl | rfl <;> rfl) hk.1 hk.2 d (fun q H1 hP1 hD1 hS1 => k q E H1 locs ls hK hP1 hD1 hS1 hl)
set_option maxHeartbeats 4000000 in
theorem j_newO1 (hR : jR X = R) (hk : k1 + 1 ≤ R.cells ∧ k2 + 14 ≤ R.slots) (d : decode cc pc = .ok (.new 10, 3)) (k : ∀ q : Nat, jJ X cI cZ R_law cc n (k1 + 1) (k2 + 14) (w ++ [(q, .inr (1, fs1))]) (pc + 3) L (.ref q :: st)) : jJ X cI cZ R_law cc n k1 k2 w pc L st := by
  obtain ⟨p, l, e, R0, s, m, args, below, meth, c, Q, A, D⟩ := X
  intro E H locs ls hK hP hD hS hl
  have hR : R0 = R := hR
  subst hR
  exact va_new (ci := 1) (fs := fs1) (C := RX1) (T := TX1) (N := 14) E.1 E.2.1 E.2.2.2.2.1 in_X1 tyX1 tyX1_ok E.2.2.2.1 (E.2.2.2.2.1 _ q165) (E.2.2.2.2.1 _ q166) (E.2.2.2.2.1 _ q19) hK hP hD hS E.2.2.2.2.2.2 rfl (fun j hj => by rcases (show j = 0 ∨ j = 1 ∨ j = 2 ∨ j = 3 ∨ j = 4 ∨ j = 5 ∨ j = 6 ∨ j = 7 ∨ j = 8 ∨ j = 9 ∨ j = 10 ∨ j = 11 ∨ j = 12 ∨ j = 13 by omega) with rfl | rfl | rfl | rfl | rfl | rfl | rfl | rfl | rfl | rfl | rfl | rfl | rfl | rfl <;> rfl) hk.1 hk.2 d (fun q H1 hP1 hD1 hS1 => k q E H1 locs ls hK hP1 hD1 hS1 hl)
end JLaw
set_option maxHeartbeats 4000000 in
theorem cL0_i {X : jC} {cI cZ : ClassId} {k1 k2 o0 o1 : Nat} {ad0 ad1 : Nat → Nat} {u t : jS} {pc : Nat} {L : List (Option Value)} {rest stk : List Value} {y : MethodName} {b : ByteArray} {mL : Nat} {ty : Option FieldType} {rm R : Room} {As : List Value} {post : Int32 → jS → Prop} {idx nA : Nat} (hM : ∀ (l : Launch) (D : va_G), jKi l D cI cZ y b mL ty rm o0 As (w0 (o0, ad0, cI, cZ)) u post) (hR : jR X = R) (hV : GoodIn lw_all (wsV R_law idx RX0 y (ws_ y b mL ty))) (hrc : rm.cells = 0) (hrs : rm.slots = 0) (hd : y.cls = RX0 ∧ y.cls ≠ "java/lang/invoke/MethodHandle" ∧ y.cls ≠ "java/lang/invoke/VarHandle" ∧ (parseMethodDescriptor y.desc).map (fun d => d.parameters.length) = some nA) (hroom : rm.frames + 1 ≤ R.frames ∧ 8 + (mL + 11) + rm.locals ≤ R.locals) (hk : k1 ≤ R.cells ∧ k2 ≤ R.slots) (hnA : As.length = nA) (hstk : stk = As.reverse ++ .ref o0 :: rest) (hsum : (rest.map fun v => v.category).sum ≤ 8) (d : decode code pc = .ok (.invokevirtual idx, 3)) (k : ∀ (r : Int32) (u' : jS), post r u' → jJ X cI cZ R_law code 4 k1 k2 (w1 (o1, ad1, cI, cZ) t ++ w0 (o0, ad0, cI, cZ) u') (pc + 3) L (.int r :: rest)) : jJ X cI cZ R_law code 4 k1 k2 (w0 (o0, ad0, cI, cZ) u ++ w1 (o1, ad1, cI, cZ) t) pc L stk :=
  jcall_i (wr := w1 (o1, ad1, cI, cZ) t) (ci := 0) (q := (RX0, TX0, 18)) (wf := w0 (o0, ad0, cI, cZ)) (u0 := u) hM hR [0, 1, 2, 3, 4, 5, 6, 7, 8, 9, 10, 11, 12, 13, 14, 15] [16, 17, 18, 19, 20, 21, 22, 23, 24, 25, 26] rfl (by decide) rfl (by decide) (by decide) rfl rfl hV hrc hrs hd hroom hk hnA hstk hsum d k
set_option maxHeartbeats 4000000 in
theorem cL0_v {X : jC} {cI cZ : ClassId} {k1 k2 o0 o1 : Nat} {ad0 ad1 : Nat → Nat} {u t : jS} {pc : Nat} {L : List (Option Value)} {rest stk : List Value} {y : MethodName} {b : ByteArray} {mL : Nat} {rm R : Room} {As : List Value} {post : jS → Prop} {idx nA : Nat} (hM : ∀ (l : Launch) (D : va_G), jKv l D cI cZ y b mL rm o0 As (w0 (o0, ad0, cI, cZ)) u post) (hR : jR X = R) (hV : GoodIn lw_all (wsV R_law idx RX0 y (ws_ y b mL none))) (hrc : rm.cells = 0) (hrs : rm.slots = 0) (hd : y.cls = RX0 ∧ y.cls ≠ "java/lang/invoke/MethodHandle" ∧ y.cls ≠ "java/lang/invoke/VarHandle" ∧ (parseMethodDescriptor y.desc).map (fun d => d.parameters.length) = some nA) (hroom : rm.frames + 1 ≤ R.frames ∧ 8 + (mL + 11) + rm.locals ≤ R.locals) (hk : k1 ≤ R.cells ∧ k2 ≤ R.slots) (hnA : As.length = nA) (hstk : stk = As.reverse ++ .ref o0 :: rest) (hsum : (rest.map fun v => v.category).sum ≤ 8) (d : decode code pc = .ok (.invokevirtual idx, 3)) (k : ∀ (u' : jS), post u' → jJ X cI cZ R_law code 4 k1 k2 (w1 (o1, ad1, cI, cZ) t ++ w0 (o0, ad0, cI, cZ) u') (pc + 3) L rest) : jJ X cI cZ R_law code 4 k1 k2 (w0 (o0, ad0, cI, cZ) u ++ w1 (o1, ad1, cI, cZ) t) pc L stk :=
  jcall_v (wr := w1 (o1, ad1, cI, cZ) t) (ci := 0) (q := (RX0, TX0, 18)) (wf := w0 (o0, ad0, cI, cZ)) (u0 := u) hM hR [0, 1, 2, 3, 4, 5, 6, 7, 8, 9, 10, 11, 12, 13, 14, 15] [16, 17, 18, 19, 20, 21, 22, 23, 24, 25, 26] rfl (by decide) rfl (by decide) (by decide) rfl rfl hV hrc hrs hd hroom hk hnA hstk hsum d k
set_option maxHeartbeats 4000000 in
theorem cL1_i {X : jC} {cI cZ : ClassId} {k1 k2 o0 o1 : Nat} {ad0 ad1 : Nat → Nat} {u t : jS} {pc : Nat} {L : List (Option Value)} {rest stk : List Value} {y : MethodName} {b : ByteArray} {mL : Nat} {ty : Option FieldType} {rm R : Room} {As : List Value} {post : Int32 → jS → Prop} {idx nA : Nat} (hM : ∀ (l : Launch) (D : va_G), jKi l D cI cZ y b mL ty rm o1 As (w1 (o1, ad1, cI, cZ)) t post) (hR : jR X = R) (hV : GoodIn lw_all (wsV R_law idx RX1 y (ws_ y b mL ty))) (hrc : rm.cells = 0) (hrs : rm.slots = 0) (hd : y.cls = RX1 ∧ y.cls ≠ "java/lang/invoke/MethodHandle" ∧ y.cls ≠ "java/lang/invoke/VarHandle" ∧ (parseMethodDescriptor y.desc).map (fun d => d.parameters.length) = some nA) (hroom : rm.frames + 1 ≤ R.frames ∧ 8 + (mL + 11) + rm.locals ≤ R.locals) (hk : k1 ≤ R.cells ∧ k2 ≤ R.slots) (hnA : As.length = nA) (hstk : stk = As.reverse ++ .ref o1 :: rest) (hsum : (rest.map fun v => v.category).sum ≤ 8) (d : decode code pc = .ok (.invokevirtual idx, 3)) (k : ∀ (r : Int32) (t' : jS), post r t' → jJ X cI cZ R_law code 4 k1 k2 (w0 (o0, ad0, cI, cZ) u ++ w1 (o1, ad1, cI, cZ) t') (pc + 3) L (.int r :: rest)) : jJ X cI cZ R_law code 4 k1 k2 (w1 (o1, ad1, cI, cZ) t ++ w0 (o0, ad0, cI, cZ) u) pc L stk :=
  jcall_i (wr := w0 (o0, ad0, cI, cZ) u) (ci := 1) (q := (RX1, TX1, 14)) (wf := w1 (o1, ad1, cI, cZ)) (u0 := t) hM hR [0, 1, 2, 3, 4, 5, 6, 7, 8, 9, 10] [11, 12, 13, 14, 15, 16, 17, 18, 19, 20, 21, 22, 23, 24, 25, 26] rfl (by decide) rfl (by decide) (by decide) rfl rfl hV hrc hrs hd hroom hk hnA hstk hsum d k
set_option maxHeartbeats 4000000 in
theorem cL1_v {X : jC} {cI cZ : ClassId} {k1 k2 o0 o1 : Nat} {ad0 ad1 : Nat → Nat} {u t : jS} {pc : Nat} {L : List (Option Value)} {rest stk : List Value} {y : MethodName} {b : ByteArray} {mL : Nat} {rm R : Room} {As : List Value} {post : jS → Prop} {idx nA : Nat} (hM : ∀ (l : Launch) (D : va_G), jKv l D cI cZ y b mL rm o1 As (w1 (o1, ad1, cI, cZ)) t post) (hR : jR X = R) (hV : GoodIn lw_all (wsV R_law idx RX1 y (ws_ y b mL none))) (hrc : rm.cells = 0) (hrs : rm.slots = 0) (hd : y.cls = RX1 ∧ y.cls ≠ "java/lang/invoke/MethodHandle" ∧ y.cls ≠ "java/lang/invoke/VarHandle" ∧ (parseMethodDescriptor y.desc).map (fun d => d.parameters.length) = some nA) (hroom : rm.frames + 1 ≤ R.frames ∧ 8 + (mL + 11) + rm.locals ≤ R.locals) (hk : k1 ≤ R.cells ∧ k2 ≤ R.slots) (hnA : As.length = nA) (hstk : stk = As.reverse ++ .ref o1 :: rest) (hsum : (rest.map fun v => v.category).sum ≤ 8) (d : decode code pc = .ok (.invokevirtual idx, 3)) (k : ∀ (t' : jS), post t' → jJ X cI cZ R_law code 4 k1 k2 (w0 (o0, ad0, cI, cZ) u ++ w1 (o1, ad1, cI, cZ) t') (pc + 3) L rest) : jJ X cI cZ R_law code 4 k1 k2 (w1 (o1, ad1, cI, cZ) t ++ w0 (o0, ad0, cI, cZ) u) pc L stk :=
  jcall_v (wr := w0 (o0, ad0, cI, cZ) u) (ci := 1) (q := (RX1, TX1, 14)) (wf := w1 (o1, ad1, cI, cZ)) (u0 := t) hM hR [0, 1, 2, 3, 4, 5, 6, 7, 8, 9, 10] [11, 12, 13, 14, 15, 16, 17, 18, 19, 20, 21, 22, 23, 24, 25, 26] rfl (by decide) rfl (by decide) (by decide) rfl rfl hV hrc hrs hd hroom hk hnA hstk hsum d k
end
section
set_option maxRecDepth 100000
/-- the loop's test: no two ints are left -/
theorem law_gt {i Ls : Nat} (hi : i < 2 ^ 30) (h : Ls < i + 2) (hL : Ls ≤ 128) : nI Ls - nI 2 < nI i := by
  rw [Int32.lt_iff_toInt_lt, pk_sub_toInt (by omega) (by omega), nI_toInt (by omega)]
  omega
/-! THE LAW -/
set_option maxHeartbeats 8000000 in
theorem law_loop {X : jC} {cI cZ : ClassId} {o0 o1 b Ls : Nat} {ad0 ad1 : Nat → Nat} {xs : Nat → Int32} (hR : jR X = room_1) (hX : jX X b Ls xs ∧ Ls < 2 ^ 31) (hL : Ls ≤ 128)
    (retL : ∀ (w : va_W) (pc : Nat) (L : List (Option Value)), decode code pc = .ok (.ireturn, 1) → jJ X cI cZ R_law code 4 27 772 w pc L [.int (nI 1)]) :
    ∀ (d i : Nat), Ls ≤ i + d → i ≤ 200 → ∀ (u t : jS) (len sz : Nat → Nat), INV u t len sz → jJ X cI cZ R_law code 4 27 772 (w0 (o0, ad0, cI, cZ) u ++ w1 (o1, ad1, cI, cZ) t) 18 [some (.ref b), some (.ref o0), some (.ref o1), some (.int (nI i))] [] := by
  intro d
  induction d with
  | zero =>
    intro i hi hi200 u t len sz hI
    refine j_ild3 dL_law_18 ?_
    refine j_ald0 dL_law_19 ?_
    refine j_slen hX dL_law_20 ?_
    refine j_iconst (nI 2) dL_law_21 (by decide) ?_
    refine j_isub dL_law_22 ?_
    refine j_icgt 356 dL_law_23 (by decide) (fun _ => ?_) (fun c => ?_)
    · refine j_iconst (nI 1) dL_law_356 (by decide) ?_
      exact retL _ _ _ dL_law_357
    · exact absurd (law_gt (by omega) (by omega) hL) c
  | succ d ih =>
    intro i hi hi200 u t len sz hI
    refine j_ild3 dL_law_18 ?_
    refine j_ald0 dL_law_19 ?_
    refine j_slen hX dL_law_20 ?_
    refine j_iconst (nI 2) dL_law_21 (by decide) ?_
    refine j_isub dL_law_22 ?_
    refine j_icgt 356 dL_law_23 (by decide) (fun _ => ?_) (fun c => ?_)
    · refine j_iconst (nI 1) dL_law_356 (by decide) ?_
      exact retL _ _ _ dL_law_357
    · have hi2 : i + 2 ≤ Ls := by
        rcases Nat.lt_or_ge Ls (i + 2) with q | q
        · exact absurd (law_gt (by omega) (by omega) hL) c
        · exact q
      have done : ∀ (u' t' : jS) (len' sz' : Nat → Nat), INV u' t' len' sz' → jJ X cI cZ R_law code 4 27 772 (w0 (o0, ad0, cI, cZ) u' ++ w1 (o1, ad1, cI, cZ) t') 350 [some (.ref b), some (.ref o0), some (.ref o1), some (.int (nI i))] [] := by
        intro u' t' len' sz' hI'
        refine j_inc3 (by decide) dL_law_350 ?_
        rw [show nI i + Int32.ofInt 2 = nI (i + 2) from nI_add i 2]
        refine j_goto 18 dL_law_353 (by decide) ?_
        exact ih (i + 2) (by omega) (by omega) u' t' len' sz' hI'
      have hW0 := INV_W0 hI
      have hW1 := INV_W1 hI
      obtain ⟨⟨a1, a2, a3, a4⟩, ⟨b1, b2, b3⟩, d1, d2, d3, d4, d5, d6⟩ := id hI
      refine j_ald0 dL_law_26 ?_
      refine j_ild3 dL_law_27 ?_
      refine j_sld hX dL_law_28 (by omega) ?_
      refine j_bipush (nI 15) dL_law_29 (by decide) ?_
      refine j_iand dL_law_31 ?_
      obtain ⟨j, hj, ej⟩ := pk_andE (xs i) (m := nI 15) 4 (by decide)
      refine j_top (nI j) ej ?_
      match j, hj with
      | 0, _ =>
        refine j_tabIn 88 dL_law_32 (by decide) (by decide) (show _ = some (56) from by decide) (by decide) ?_
        refine j_ald1 dL_law_88 ?_
        refine j_ald0 dL_law_89 ?_
        refine j_ild3 dL_law_90 ?_
        refine j_iconst (nI 1) dL_law_91 (by decide) ?_
        first | refine j_iaddN dL_law_92 ?_ | refine j_iadd dL_law_92 ?_
        refine j_sld hX dL_law_93 (by omega) ?_
        refine cL0_i (k_pattern (o0, ad0, cI, cZ) u a2 (xs (i + 1))) hR (lw_V q85 q86 q87 q18 q88) rfl rfl hd_X0_pattern ⟨by decide, by decide⟩ ⟨by decide, by decide⟩ rfl rfl (Nat.le_of_ble_eq_true rfl) dL_law_94 (fun v0 u' hp0 => ?_)
        refine j_ald2 dL_law_97 ?_
        refine j_ald0 dL_law_98 ?_
        refine j_ild3 dL_law_99 ?_
        refine j_iconst (nI 1) dL_law_100 (by decide) ?_
        first | refine j_iaddN dL_law_101 ?_ | refine j_iadd dL_law_101 ?_
        refine j_sld hX dL_law_102 (by omega) ?_
        refine cL1_i (x_pattern (o1, ad1, cI, cZ) t (by omega) (xs (i + 1))) hR (lw_V q214 q215 q216 q19 q217) rfl rfl hd_X1_pattern ⟨by decide, by decide⟩ ⟨by decide, by decide⟩ rfl rfl (Nat.le_of_ble_eq_true rfl) dL_law_103 (fun v1 t' hp1 => ?_)
        have hI' := INV_pattern hI _ hp0.2 hp1.2
        have ev : v0 = v1 := by rw [hp0.1, hp1.1, a1]
        refine j_iceq 350 dL_law_106 (by decide) (fun c => ?_) (fun c => ?_)
        · exact done u' t' _ _ hI'
        · exact absurd ev c
      | 1, _ =>
        refine j_tabIn 111 dL_law_32 (by decide) (by decide) (show _ = some (79) from by decide) (by decide) ?_
        refine j_ald1 dL_law_111 ?_
        refine j_ald0 dL_law_112 ?_
        refine j_ild3 dL_law_113 ?_
        refine j_iconst (nI 1) dL_law_114 (by decide) ?_
        first | refine j_iaddN dL_law_115 ?_ | refine j_iadd dL_law_115 ?_
        refine j_sld hX dL_law_116 (by omega) ?_
        refine cL0_i (k_rule (o0, ad0, cI, cZ) u a2 b2 a4 (xs (i + 1))) hR (lw_V q89 q90 q91 q18 q92) rfl rfl hd_X0_rule ⟨by decide, by decide⟩ ⟨by decide, by decide⟩ rfl rfl (Nat.le_of_ble_eq_true rfl) dL_law_117 (fun v0 u' hp0 => ?_)
        refine j_ald2 dL_law_120 ?_
        refine j_ald0 dL_law_121 ?_
        refine j_ild3 dL_law_122 ?_
        refine j_iconst (nI 1) dL_law_123 (by decide) ?_
        first | refine j_iaddN dL_law_124 ?_ | refine j_iadd dL_law_124 ?_
        refine j_sld hX dL_law_125 (by omega) ?_
        refine cL1_i (x_rule (o1, ad1, cI, cZ) t (by omega) (by omega) (xs (i + 1))) hR (lw_V q218 q219 q220 q19 q221) rfl rfl hd_X1_rule ⟨by decide, by decide⟩ ⟨by decide, by decide⟩ rfl rfl (Nat.le_of_ble_eq_true rfl) dL_law_126 (fun v1 t' hp1 => ?_)
        obtain ⟨ev, len', hI'⟩ := INV_rule hI hp0 hp1
        refine j_iceq 350 dL_law_129 (by decide) (fun c => ?_) (fun c => ?_)
        · exact done u' t' _ _ hI'
        · exact absurd ev c
      | 2, _ =>
        refine j_tabIn 134 dL_law_32 (by decide) (by decide) (show _ = some (102) from by decide) (by decide) ?_
        refine j_ald1 dL_law_134 ?_
        refine cL0_i (k_dropRule (o0, ad0, cI, cZ) u b2) hR (lw_V q109 q110 q111 q18 q112) rfl rfl hd_X0_dropRule ⟨by decide, by decide⟩ ⟨by decide, by decide⟩ rfl rfl (Nat.le_of_ble_eq_true rfl) dL_law_135 (fun v0 u' hp0 => ?_)
        refine j_ald2 dL_law_138 ?_
        refine cL1_i (x_dropRule (o1, ad1, cI, cZ) t (by omega)) hR (lw_V q226 q227 q228 q19 q229) rfl rfl hd_X1_dropRule ⟨by decide, by decide⟩ ⟨by decide, by decide⟩ rfl rfl (Nat.le_of_ble_eq_true rfl) dL_law_139 (fun v1 t' hp1 => ?_)
        obtain ⟨ev, hI'⟩ := INV_drop hI hp0 hp1
        refine j_iceq 350 dL_law_142 (by decide) (fun c => ?_) (fun c => ?_)
        · exact done u' t' _ _ hI'
        · exact absurd ev c
      | 3, _ =>
        refine j_tabIn 147 dL_law_32 (by decide) (by decide) (show _ = some (115) from by decide) (by decide) ?_
        refine j_ald1 dL_law_147 ?_
        refine j_ald0 dL_law_148 ?_
        refine j_ild3 dL_law_149 ?_
        refine j_iconst (nI 1) dL_law_150 (by decide) ?_
        first | refine j_iaddN dL_law_151 ?_ | refine j_iadd dL_law_151 ?_
        refine j_sld hX dL_law_152 (by omega) ?_
        refine cL0_i (k_path (o0, ad0, cI, cZ) u d2 d3 (sz (u.1 12 - 1)) (d6 _ (by omega)).2.1 (d6 _ (by omega)).1 (xs (i + 1))) hR (lw_V q113 q114 q115 q18 q116) rfl rfl hd_X0_path ⟨by decide, by decide⟩ ⟨by decide, by decide⟩ rfl rfl (Nat.le_of_ble_eq_true rfl) dL_law_153 (fun v0 u' hp0 => ?_)
        refine j_ald2 dL_law_156 ?_
        refine j_ald0 dL_law_157 ?_
        refine j_ild3 dL_law_158 ?_
        refine j_iconst (nI 1) dL_law_159 (by decide) ?_
        first | refine j_iaddN dL_law_160 ?_ | refine j_iadd dL_law_160 ?_
        refine j_sld hX dL_law_161 (by omega) ?_
        refine cL1_i (x_path (o1, ad1, cI, cZ) t (by omega) (by omega) (sz (t.1 8 - 1)) (by rw [← d1]; exact (d6 _ (by omega)).2.1) (by rw [← d1, ← d4]; exact (d6 _ (by omega)).1) (xs (i + 1))) hR (lw_V q230 q231 q232 q19 q233) rfl rfl hd_X1_path ⟨by decide, by decide⟩ ⟨by decide, by decide⟩ rfl rfl (Nat.le_of_ble_eq_true rfl) dL_law_162 (fun v1 t' hp1 => ?_)
        obtain ⟨sz', hI'⟩ := INV_path hI (xs (i + 1))
        rw [← hp0.2, ← hp1.2] at hI'
        have ev : v0 = v1 := by rw [hp0.1, hp1.1, d1]
        refine j_iceq 350 dL_law_165 (by decide) (fun c => ?_) (fun c => ?_)
        · exact done u' t' _ _ hI'
        · exact absurd ev c
      | 4, _ =>
        refine j_tabIn 170 dL_law_32 (by decide) (by decide) (show _ = some (138) from by decide) (by decide) ?_
        refine j_ald1 dL_law_170 ?_
        refine cL0_v (k_clearPath (o0, ad0, cI, cZ) u) hR (lw_V q117 q118 q119 q18 q120) rfl rfl hd_X0_clearPath ⟨by decide, by decide⟩ ⟨by decide, by decide⟩ rfl rfl (Nat.le_of_ble_eq_true rfl) dL_law_171 (fun u' hp0 => ?_)
        refine j_ald2 dL_law_174 ?_
        refine cL1_v (x_clearPath (o1, ad1, cI, cZ) t) hR (lw_V q234 q235 q236 q19 q237) rfl rfl hd_X1_clearPath ⟨by decide, by decide⟩ ⟨by decide, by decide⟩ rfl rfl (Nat.le_of_ble_eq_true rfl) dL_law_175 (fun t' hp1 => ?_)
        refine j_goto 350 dL_law_178 (by decide) ?_
        have hI' := INV_clear hI
        rw [← hp0, ← hp1] at hI'
        exact done u' t' _ _ hI'
      | 5, _ =>
        refine j_tabIn 181 dL_law_32 (by decide) (by decide) (show _ = some (149) from by decide) (by decide) ?_
        have call0 : ∀ fo : Bool, fo = decide (¬ xs (i + 1) = 0) → jJ X cI cZ R_law code 4 27 772 (w0 (o0, ad0, cI, cZ) u ++ w1 (o1, ad1, cI, cZ) t) 195 [some (.ref b), some (.ref o0), some (.ref o1), some (.int (nI i))] [.int (jb fo), .ref o0] := by
          intro fo hfo
          refine cL0_i (k_ignored (o0, ad0, cI, cZ) u (lnF t len) (fdF t) (ngF t) sz hW0 fo) hR (lw_V q121 q122 q123 q18 q124) rfl rfl hd_X0_ignored ⟨by decide, by decide⟩ ⟨by decide, by decide⟩ rfl rfl (Nat.le_of_ble_eq_true rfl) dL_law_195 (fun v0 u' hp0 => ?_)
          have call1 : jJ X cI cZ R_law code 4 27 772 (w1 (o1, ad1, cI, cZ) t ++ w0 (o0, ad0, cI, cZ) u') 212 [some (.ref b), some (.ref o0), some (.ref o1), some (.int (nI i))] [.int (jb fo), .ref o1, .int v0] := by
            refine cL1_i (x_ignored (o1, ad1, cI, cZ) t len sz hW1 fo) hR (lw_V q238 q239 q240 q19 q241) rfl rfl hd_X1_ignored ⟨by decide, by decide⟩ ⟨by decide, by decide⟩ rfl rfl (Nat.le_of_ble_eq_true rfl) dL_law_212 (fun v1 t' hp1 => ?_)
            have hI' := INV_sm hI hp0.1 hp1.1
            have ev : v0 = v1 := by rw [hp0.2, hp1.2, q_cut hI fo]
            refine j_iceq 350 dL_law_215 (by decide) (fun c => ?_) (fun c => ?_)
            · exact done u' t' _ _ hI'
            · exact absurd ev c
          refine j_ald2 dL_law_198 ?_
          refine j_ald0 dL_law_199 ?_
          refine j_ild3 dL_law_200 ?_
          refine j_iconst (nI 1) dL_law_201 (by decide) ?_
          first | refine j_iaddN dL_law_202 ?_ | refine j_iadd dL_law_202 ?_
          refine j_sld hX dL_law_203 (by omega) ?_
          refine j_ifeq 211 dL_law_204 (by decide) (fun z => ?_) (fun z => ?_)
          · refine j_iconst (nI 0) dL_law_211 (by decide) ?_
            refine j_top (jb fo) (by rw [hfo, decide_eq_false (fun q => q z)]; decide) ?_
            exact call1
          · refine j_iconst (nI 1) dL_law_207 (by decide) ?_
            refine j_goto 212 dL_law_208 (by decide) ?_
            refine j_top (jb fo) (by rw [hfo, decide_eq_true z]; decide) ?_
            exact call1
        refine j_ald1 dL_law_181 ?_
        refine j_ald0 dL_law_182 ?_
        refine j_ild3 dL_law_183 ?_
        refine j_iconst (nI 1) dL_law_184 (by decide) ?_
        first | refine j_iaddN dL_law_185 ?_ | refine j_iadd dL_law_185 ?_
        refine j_sld hX dL_law_186 (by omega) ?_
        refine j_ifeq 194 dL_law_187 (by decide) (fun z => ?_) (fun z => ?_)
        · refine j_iconst (nI 0) dL_law_194 (by decide) ?_
          refine j_top (jb false) jb_f.symm ?_
          exact call0 false (decide_eq_false (fun q => q z)).symm
        · refine j_iconst (nI 1) dL_law_190 (by decide) ?_
          refine j_goto 195 dL_law_191 (by decide) ?_
          refine j_top (jb true) jb_t.symm ?_
          exact call0 true (decide_eq_true z).symm
      | 6, _ =>
        refine j_tabIn 220 dL_law_32 (by decide) (by decide) (show _ = some (188) from by decide) (by decide) ?_
        have call0 : ∀ fo : Bool, fo = decide (¬ xs (i + 1) = 0) → jJ X cI cZ R_law code 4 27 772 (w0 (o0, ad0, cI, cZ) u ++ w1 (o1, ad1, cI, cZ) t) 234 [some (.ref b), some (.ref o0), some (.ref o1), some (.int (nI i))] [.int (jb fo), .ref o0] := by
          intro fo hfo
          refine cL0_i (k_lastMatch (o0, ad0, cI, cZ) u (lnF t len) (fdF t) (ngF t) sz hW0 fo) hR (lw_V q149 q150 q151 q18 q152) rfl rfl hd_X0_lastMatch ⟨by decide, by decide⟩ ⟨by decide, by decide⟩ rfl rfl (Nat.le_of_ble_eq_true rfl) dL_law_234 (fun v0 u' hp0 => ?_)
          have call1 : jJ X cI cZ R_law code 4 27 772 (w1 (o1, ad1, cI, cZ) t ++ w0 (o0, ad0, cI, cZ) u') 251 [some (.ref b), some (.ref o0), some (.ref o1), some (.int (nI i))] [.int (jb fo), .ref o1, .int v0] := by
            refine cL1_i (x_lastMatch (o1, ad1, cI, cZ) t len sz hW1 fo) hR (lw_V q270 q271 q272 q19 q273) rfl rfl hd_X1_lastMatch ⟨by decide, by decide⟩ ⟨by decide, by decide⟩ rfl rfl (Nat.le_of_ble_eq_true rfl) dL_law_251 (fun v1 t' hp1 => ?_)
            have hI' := INV_sm hI hp0.1 hp1.1
            have ev : v0 = v1 := by rw [hp0.2, hp1.2]; exact q_last hI fo
            refine j_iceq 350 dL_law_254 (by decide) (fun c => ?_) (fun c => ?_)
            · exact done u' t' _ _ hI'
            · exact absurd ev c
          refine j_ald2 dL_law_237 ?_
          refine j_ald0 dL_law_238 ?_
          refine j_ild3 dL_law_239 ?_
          refine j_iconst (nI 1) dL_law_240 (by decide) ?_
          first | refine j_iaddN dL_law_241 ?_ | refine j_iadd dL_law_241 ?_
          refine j_sld hX dL_law_242 (by omega) ?_
          refine j_ifeq 250 dL_law_243 (by decide) (fun z => ?_) (fun z => ?_)
          · refine j_iconst (nI 0) dL_law_250 (by decide) ?_
            refine j_top (jb fo) (by rw [hfo, decide_eq_false (fun q => q z)]; decide) ?_
            exact call1
          · refine j_iconst (nI 1) dL_law_246 (by decide) ?_
            refine j_goto 251 dL_law_247 (by decide) ?_
            refine j_top (jb fo) (by rw [hfo, decide_eq_true z]; decide) ?_
            exact call1
        refine j_ald1 dL_law_220 ?_
        refine j_ald0 dL_law_221 ?_
        refine j_ild3 dL_law_222 ?_
        refine j_iconst (nI 1) dL_law_223 (by decide) ?_
        first | refine j_iaddN dL_law_224 ?_ | refine j_iadd dL_law_224 ?_
        refine j_sld hX dL_law_225 (by omega) ?_
        refine j_ifeq 233 dL_law_226 (by decide) (fun z => ?_) (fun z => ?_)
        · refine j_iconst (nI 0) dL_law_233 (by decide) ?_
          refine j_top (jb false) jb_f.symm ?_
          exact call0 false (decide_eq_false (fun q => q z)).symm
        · refine j_iconst (nI 1) dL_law_229 (by decide) ?_
          refine j_goto 234 dL_law_230 (by decide) ?_
          refine j_top (jb true) jb_t.symm ?_
          exact call0 true (decide_eq_true z).symm
      | 7, _ =>
        refine j_tabIn 259 dL_law_32 (by decide) (by decide) (show _ = some (227) from by decide) (by decide) ?_
        have call0 : ∀ fo : Bool, fo = decide (¬ xs (i + 1) = 0) → jJ X cI cZ R_law code 4 27 772 (w0 (o0, ad0, cI, cZ) u ++ w1 (o1, ad1, cI, cZ) t) 273 [some (.ref b), some (.ref o0), some (.ref o1), some (.int (nI i))] [.int (jb fo), .ref o0] := by
          intro fo hfo
          refine cL0_i (k_matches (o0, ad0, cI, cZ) u (lnF t len) (fdF t) (ngF t) sz hW0 fo) hR (lw_V q153 q154 q155 q18 q156) rfl rfl hd_X0_matches ⟨by decide, by decide⟩ ⟨by decide, by decide⟩ rfl rfl (Nat.le_of_ble_eq_true rfl) dL_law_273 (fun v0 u' hp0 => ?_)
          have call1 : jJ X cI cZ R_law code 4 27 772 (w1 (o1, ad1, cI, cZ) t ++ w0 (o0, ad0, cI, cZ) u') 290 [some (.ref b), some (.ref o0), some (.ref o1), some (.int (nI i))] [.int (jb fo), .ref o1, .int v0] := by
            refine cL1_i (x_matches (o1, ad1, cI, cZ) t len sz hW1 fo) hR (lw_V q274 q275 q276 q19 q277) rfl rfl hd_X1_matches ⟨by decide, by decide⟩ ⟨by decide, by decide⟩ rfl rfl (Nat.le_of_ble_eq_true rfl) dL_law_290 (fun v1 t' hp1 => ?_)
            have hI' := INV_sm hI hp0.1 hp1.1
            have ev : v0 = v1 := by rw [hp0.2, hp1.2]; exact q_cnt hI fo
            refine j_iceq 350 dL_law_293 (by decide) (fun c => ?_) (fun c => ?_)
            · exact done u' t' _ _ hI'
            · exact absurd ev c
          refine j_ald2 dL_law_276 ?_
          refine j_ald0 dL_law_277 ?_
          refine j_ild3 dL_law_278 ?_
          refine j_iconst (nI 1) dL_law_279 (by decide) ?_
          first | refine j_iaddN dL_law_280 ?_ | refine j_iadd dL_law_280 ?_
          refine j_sld hX dL_law_281 (by omega) ?_
          refine j_ifeq 289 dL_law_282 (by decide) (fun z => ?_) (fun z => ?_)
          · refine j_iconst (nI 0) dL_law_289 (by decide) ?_
            refine j_top (jb fo) (by rw [hfo, decide_eq_false (fun q => q z)]; decide) ?_
            exact call1
          · refine j_iconst (nI 1) dL_law_285 (by decide) ?_
            refine j_goto 290 dL_law_286 (by decide) ?_
            refine j_top (jb fo) (by rw [hfo, decide_eq_true z]; decide) ?_
            exact call1
        refine j_ald1 dL_law_259 ?_
        refine j_ald0 dL_law_260 ?_
        refine j_ild3 dL_law_261 ?_
        refine j_iconst (nI 1) dL_law_262 (by decide) ?_
        first | refine j_iaddN dL_law_263 ?_ | refine j_iadd dL_law_263 ?_
        refine j_sld hX dL_law_264 (by omega) ?_
        refine j_ifeq 272 dL_law_265 (by decide) (fun z => ?_) (fun z => ?_)
        · refine j_iconst (nI 0) dL_law_272 (by decide) ?_
          refine j_top (jb false) jb_f.symm ?_
          exact call0 false (decide_eq_false (fun q => q z)).symm
        · refine j_iconst (nI 1) dL_law_268 (by decide) ?_
          refine j_goto 273 dL_law_269 (by decide) ?_
          refine j_top (jb true) jb_t.symm ?_
          exact call0 true (decide_eq_true z).symm
      | 8, _ =>
        refine j_tabIn 298 dL_law_32 (by decide) (by decide) (show _ = some (266) from by decide) (by decide) ?_
        have call0 : ∀ fo : Bool, fo = decide (¬ xs (i + 1) = 0) → jJ X cI cZ R_law code 4 27 772 (w0 (o0, ad0, cI, cZ) u ++ w1 (o1, ad1, cI, cZ) t) 312 [some (.ref b), some (.ref o0), some (.ref o1), some (.int (nI i))] [.int (jb fo), .ref o0] := by
          intro fo hfo
          refine cL0_i (k_cutAt (o0, ad0, cI, cZ) u (lnF t len) (fdF t) (ngF t) sz hW0 fo) hR (lw_V q157 q158 q159 q18 q160) rfl rfl hd_X0_cutAt ⟨by decide, by decide⟩ ⟨by decide, by decide⟩ rfl rfl (Nat.le_of_ble_eq_true rfl) dL_law_312 (fun v0 u' hp0 => ?_)
          have call1 : jJ X cI cZ R_law code 4 27 772 (w1 (o1, ad1, cI, cZ) t ++ w0 (o0, ad0, cI, cZ) u') 329 [some (.ref b), some (.ref o0), some (.ref o1), some (.int (nI i))] [.int (jb fo), .ref o1, .int v0] := by
            refine cL1_i (x_cutAt (o1, ad1, cI, cZ) t len sz hW1 fo) hR (lw_V q278 q243 q244 q19 q245) rfl rfl hd_X1_cutAt ⟨by decide, by decide⟩ ⟨by decide, by decide⟩ rfl rfl (Nat.le_of_ble_eq_true rfl) dL_law_329 (fun v1 t' hp1 => ?_)
            have hI' := INV_sm hI hp0.1 hp1.1
            have ev : v0 = v1 := by rw [hp0.2, hp1.2, q_cut hI fo]
            refine j_iceq 350 dL_law_332 (by decide) (fun c => ?_) (fun c => ?_)
            · exact done u' t' _ _ hI'
            · exact absurd ev c
          refine j_ald2 dL_law_315 ?_
          refine j_ald0 dL_law_316 ?_
          refine j_ild3 dL_law_317 ?_
          refine j_iconst (nI 1) dL_law_318 (by decide) ?_
          first | refine j_iaddN dL_law_319 ?_ | refine j_iadd dL_law_319 ?_
          refine j_sld hX dL_law_320 (by omega) ?_
          refine j_ifeq 328 dL_law_321 (by decide) (fun z => ?_) (fun z => ?_)
          · refine j_iconst (nI 0) dL_law_328 (by decide) ?_
            refine j_top (jb fo) (by rw [hfo, decide_eq_false (fun q => q z)]; decide) ?_
            exact call1
          · refine j_iconst (nI 1) dL_law_324 (by decide) ?_
            refine j_goto 329 dL_law_325 (by decide) ?_
            refine j_top (jb fo) (by rw [hfo, decide_eq_true z]; decide) ?_
            exact call1
        refine j_ald1 dL_law_298 ?_
        refine j_ald0 dL_law_299 ?_
        refine j_ild3 dL_law_300 ?_
        refine j_iconst (nI 1) dL_law_301 (by decide) ?_
        first | refine j_iaddN dL_law_302 ?_ | refine j_iadd dL_law_302 ?_
        refine j_sld hX dL_law_303 (by omega) ?_
        refine j_ifeq 311 dL_law_304 (by decide) (fun z => ?_) (fun z => ?_)
        · refine j_iconst (nI 0) dL_law_311 (by decide) ?_
          refine j_top (jb false) jb_f.symm ?_
          exact call0 false (decide_eq_false (fun q => q z)).symm
        · refine j_iconst (nI 1) dL_law_307 (by decide) ?_
          refine j_goto 312 dL_law_308 (by decide) ?_
          refine j_top (jb true) jb_t.symm ?_
          exact call0 true (decide_eq_true z).symm
      | 9, _ =>
        refine j_tabIn 337 dL_law_32 (by decide) (by decide) (show _ = some (305) from by decide) (by decide) ?_
        refine j_ald1 dL_law_337 ?_
        refine cL0_i (k_rules (o0, ad0, cI, cZ) u) hR (lw_V q161 q162 q163 q18 q164) rfl rfl hd_X0_rules ⟨by decide, by decide⟩ ⟨by decide, by decide⟩ rfl rfl (Nat.le_of_ble_eq_true rfl) dL_law_338 (fun v0 u' hp0 => ?_)
        obtain ⟨rfl, hp0⟩ := hp0
        refine j_ald2 dL_law_341 ?_
        refine cL1_i (x_rules (o1, ad1, cI, cZ) t) hR (lw_V q279 q280 q281 q19 q282) rfl rfl hd_X1_rules ⟨by decide, by decide⟩ ⟨by decide, by decide⟩ rfl rfl (Nat.le_of_ble_eq_true rfl) dL_law_342 (fun v1 t' hp1 => ?_)
        obtain ⟨rfl, hp1⟩ := hp1
        refine j_iceq 350 dL_law_345 (by decide) (fun c => ?_) (fun c => ?_)
        · exact done u t _ _ hI
        · exact absurd (by rw [hp0, hp1, b1]) c
      | j + 10, hj =>
        refine j_tabOut 350 dL_law_32 (Or.inr (by rw [nI_toInt (by omega)]; omega)) (by decide) ?_
        exact done u t _ _ hI
set_option maxHeartbeats 8000000 in
/-- THE LAW, from its entry -/
theorem whole_start {p : Program} {e : Env} {s : State} {m : MethodId} {below : List Frame} {meth : Method} {c : Code} (l : Launch) {b L : Nat} {xs : Nat → Int32} (hL : L ≤ 128) (C0 : lw_At p s m meth c b L xs) : W p l e room_1 s m #[Value.ref b] below meth c s.heap [] 0 0 (lw_Z below #[Value.ref b] s) (entryFrame m ([Value.ref b] : List Value).toArray 4) := by
  obtain ⟨hx, hb, hr, hml, hown, hts0, hX, hbl, hlocks, hgv⟩ := id C0
  have hts : ∀ w ∈ lw_all, w.before #[Value.ref b] s = true := fun w h => hts0 w (lw_all_tbl h)
  have hA : ∀ q : Nat, s.heap.size ≤ q → (fun q : Nat => s.heap.size ≤ q) q := fun _ h => h
  have hbA : ¬ (fun q : Nat => s.heap.size ≤ q) b := Nat.not_le.mpr hbl
  obtain ⟨c0, iS0, hKn0⟩ := u_known (C := RX0) (T := TX0) (N := 18) (n := 18) hts in_X0 (hts _ q21)
  obtain ⟨c1, iS1, hKn1⟩ := u_known (C := RX1) (T := TX1) (N := 14) (n := 14) hts in_X1 (hts _ q166)
  obtain ⟨dC, dI, hKc⟩ : ∃ (dC : Nat → ClassId) (dI : Nat → Nat → Nat), ∀ (k : Nat) (q : vw_C), vwCl[k]? = some q → u_Kn s q.1 q.2.1 q.2.2 (dC k) (dI k) := by
    refine ⟨fun k => if k = 0 then c0 else c1, fun k => if k = 0 then iS0 else iS1, ?_⟩
    intro k q hq
    match k, hq with
    | 0, hq => cases hq; exact hKn0
    | 1, hq => cases hq; exact hKn1
    | k + 2, hq => simp [vwCl] at hq
  obtain ⟨cI, kI, cmI, i1, i2, i3⟩ := Cond.arrayClass_spec (hts _ q83)
  obtain ⟨cZ, kZ, cmZ, z1, z2, z3⟩ := Cond.arrayClass_spec (hts _ q84)
  have hK : va_K (dC, dI) vwCl [(cI, .int), (cZ, .boolean)] s := by
    refine ⟨hKc, fun k q h => ?_⟩
    match k, h with
    | 0, h => cases h; exact ⟨fun n z => ⟨fun k h => (by cases h), kI, i2, cmI, i3⟩, i1⟩
    | 1, h => cases h; exact ⟨fun n z => ⟨fun k h => (by cases h), kZ, z2, cmZ, z3⟩, z1⟩
    | k + 2, h => simp at h
  have hP : va_P (dC, dI) vwCl [] s.heap := fun k q h => by simp at h
  have hD : va_D (fun q : Nat => s.heap.size ≤ q) [] := ⟨fun i j p q h => by simp at h, fun k q h => by simp at h⟩
  have hl := lv_entry ([.ref b]) (n := 4) (Nat.le_of_ble_eq_true rfl)
  rw [lg_entry_eq]
  have hE : jE (p, l, e, room_1, s, m, #[Value.ref b], below, meth, c, lw_Z below #[Value.ref b] s, (fun q : Nat => s.heap.size ≤ q), (dC, dI)) R_law code 4 := ⟨hx, hb, hml, hown, hts, hlocks, hA⟩
  have hXX : jX (p, l, e, room_1, s, m, #[Value.ref b], below, meth, c, lw_Z below #[Value.ref b] s, (fun q : Nat => s.heap.size ≤ q), (dC, dI)) b L xs ∧ L < 2 ^ 31 := ⟨⟨hX, hbl, hbA⟩, by omega⟩
  have retL : ∀ (w : va_W) (pc : Nat) (L : List (Option Value)), decode code pc = .ok (.ireturn, 1) → jJ (p, l, e, room_1, s, m, #[Value.ref b], below, meth, c, lw_Z below #[Value.ref b] s, (fun q : Nat => s.heap.size ≤ q), (dC, dI)) cI cZ R_law code 4 27 772 w pc L [.int (nI 1)] := by
    intro w pc L d E H locs ls hK hP hD hS hl
    refine va_forget (fun q hq => hS.2.2 q hq) ?_
    refine W.widen (k := 600000) (n := 7290000) (by decide) (by decide) ?_
    exact lw_ret hx hb hr hlocks d
  have hRR : jR (p, l, e, room_1, s, m, #[Value.ref b], below, meth, c, lw_Z below #[Value.ref b] s, (fun q : Nat => s.heap.size ≤ q), (dC, dI)) = room_1 := rfl
  have main : jJ (p, l, e, room_1, s, m, #[Value.ref b], below, meth, c, lw_Z below #[Value.ref b] s, (fun q : Nat => s.heap.size ≤ q), (dC, dI)) cI cZ R_law code 4 0 0 [] 0 [some (.ref b), none, none, none] [] := by
    revert hXX retL hRR
    generalize (p, l, e, room_1, s, m, #[Value.ref b], below, meth, c, lw_Z below #[Value.ref b] s, (fun q : Nat => s.heap.size ≤ q), (dC, dI)) = X
    intro hX retL hR
    refine j_newO0 hR ⟨by decide, by decide⟩ dL_law_0 (fun o0 => ?_)
    refine j_dup rfl dL_law_3 ?_
    refine jcall_c (wr := []) (wb := [(o0, .inr (0, fs0))]) (k_init0 o0 cI cZ) hR [0] [] rfl (by decide) rfl rfl (fun _ h => absurd h List.not_mem_nil) (lw_meth q24) rfl rfl q18 q22 q23 rfl (by decide +kernel) ⟨by decide, by decide⟩ ⟨by decide, by decide⟩ (Nat.le_of_ble_eq_true rfl) dL_law_4 (fun ad0 => ?_)
    refine j_ast1 (by decide) dL_law_7 ?_
    refine j_newO1 hR ⟨by decide, by decide⟩ dL_law_8 (fun o1 => ?_)
    refine j_dup rfl dL_law_11 ?_
    refine jcall_c (wr := w0 (o0, ad0, cI, cZ) in0) (wb := [(o1, .inr (1, fs1))]) (k_init1 o1 cI cZ) hR [16] [0, 1, 2, 3, 4, 5, 6, 7, 8, 9, 10, 11, 12, 13, 14, 15] rfl (by decide) rfl (by decide) (by decide) (lw_meth q169) rfl rfl q19 q167 q168 rfl (by decide +kernel) ⟨by decide, by decide⟩ ⟨by decide, by decide⟩ (Nat.le_of_ble_eq_true rfl) dL_law_12 (fun ad1 => ?_)
    refine j_ast2 (by decide) dL_law_15 ?_
    refine j_iconst (nI 0) dL_law_16 (by decide) ?_
    refine j_ist3 (by decide) dL_law_17 ?_
    exact law_loop hR hX hL retL L 0 (by omega) (by omega) in0 in1 _ _ INV_0
  exact main hE s.heap [] _ hK hP hD va_S.rf (jL_entry (k := 3) (by simp [Value.category]) hl)
end
section
set_option maxRecDepth 100000
set_option maxHeartbeats 4000000 in
theorem lw_walk (l : Launch) (b : Addr) (xs : List Int32) : MetFree l x (headSpec (Jvm.Cond.code x code maxLocals ret :: tables_1) room_1) (lw_P b xs) (fun _ _ _ _ _ => True) lw_Q := by
  refine MetFree.of_bodyS (code := code) (maxLocals := maxLocals) (ret := ret) (by decide) ?_ ?_
  · intro args s m h hn
    obtain ⟨meth, c, h1, h2, h3, h4, h5, h6, -, -⟩ := Cond.code_spec hn (atoms_spec (ws := Jvm.Cond.code x code maxLocals ret :: tables_1) h _ List.mem_cons_self)
    exact ⟨meth, c, h1, h2, h3, h4, h5, h6⟩
  · intro p e s m args below meth c s₁ B hml0 hP _
    obtain ⟨rfl, hx, hbd, hgv⟩ := hP
    obtain ⟨scr, harrAt, hlist, hof, hsmall⟩ := hx
    obtain ⟨hcb, hkn, -, -⟩ := State.arrayAt?_spec harrAt
    have hown : s.vm.findClass R_law = some m.cls := findClass_of_methodNamed B.named
    have hts0 : ∀ c ∈ (Jvm.Cond.code x code maxLocals ret :: tables_1), c.before #[Value.ref b] s = true := atoms_spec (ws := Jvm.Cond.code x code maxLocals ret :: tables_1) B.pre
    have hts : ∀ w ∈ lw_tbl, w.before #[Value.ref b] s = true := k2_hts_sels lw_privs (fun w hw => hts0 w (List.mem_cons_of_mem _ hw)) lw_privs_ok
    have hml : c.maxLocals = 4 := B.maxLocals_eq (hts0 _ List.mem_cons_self)
    have X₀ : Stand p l e room_1 s m #[Value.ref b] below meth c s₁ [] 0 0 := Stand.of_body B
    have hh0 : s₁.heap = s.heap := by rw [B.state]; rfl
    have hsz : scr.slots.size = xs.length := by rw [← Array.length_toList, hlist, List.length_map]
    have hval : ∀ j : Nat, j < xs.length → scr.slots[j]? = some (.int (xs.getD j 0)) := fun j hj => by
      rw [← Array.getElem?_toList, hlist]
      simp [hj]
    have hbl : b < s.heap.size := (Array.getElem?_eq_some_iff.mp hcb).1
    have hX : va_X b xs.length (fun j => xs.getD j 0) s s.heap := ⟨scr, hcb, hof, hkn, hsz, hval⟩
    have K : W p l e room_1 s m #[Value.ref b] below meth c s₁.heap [] 0 0 (lw_Z below #[Value.ref b] s) (entryFrame m ([Value.ref b] : List Value).toArray 4) := by
      rw [hh0]
      exact whole_start l hbd ⟨B.exec, B.bytes, B.returns, hml, hown, hts, hX, hbl, B.notSynchronized, hgv⟩
    obtain ⟨t, a1, o, b1, b2, b3⟩ := K s₁ rfl X₀
    exact ⟨t, o, a1, b1, b2, b3⟩
theorem lw_pre_spec {args : Array Value} {s : State} (h : (Jvm.Cond.and given_1 narrow_1).before args s = true) (hr : rest_1_c.before args s = true) : ∃ (b : Addr) (xs : List Int32), lw_P b xs args s := by
  have hs := flat_of_before _ h
  have hq := flat_of_before _ hr
  have hc : (Cond.count 1).before args s = true := hs _ (by decide +kernel)
  have harr : (Cond.arrayOf (.arg 0) .int).before args s = true := hs _ (by decide +kernel)
  have hle : (Cond.le (.length (.arg 0)) (.int 128)).before args s = true := hs _ (by decide +kernel)
  have hlen : (Cond.isInt (.length (.arg 0))).before args s = true := hq _ (by decide +kernel)
  have hall : (Cond.all (.arg 0) (.isInt (.elem (.arg 0) (.index 0)))).before args s = true := hq _ (by decide +kernel)
  obtain ⟨b, xs, hb, hx⟩ := State.ints_of_pre rfl harr hlen hall
  have hsm : xs.length < 2 ^ 31 := hx.choose_spec.2.2.2
  have hev : (Term.length (.arg 0)).eval args s none [] s = some (.int xs.length.toInt32) := hx.length_eval hb
  have hv := Cond.le_ints hev (show (Term.int 128).eval args s none [] s = some (.int 128) from rfl)
  have hd : xs.length.toInt32 ≤ 128 := by
    simpa [Cond.before, Cond.holds, hv] using hle
  have hN : xs.length ≤ 128 := (Int32.ofNat_le_ofNat hsm (by decide)).mp (show Int32.ofNat xs.length ≤ Int32.ofNat 128 from hd)
  exact ⟨b, xs, Cond.one_arg hc (show args[0]? = some (.ref b) from hb), hx, hN, h⟩
theorem lw_comes (l : Launch) : Comes l x (Jvm.Cond.code x code maxLocals ret :: tables_1) room_1 (fun tb e args s => Calls_1 tb e args s ∧ rest_1 tb e args s ∧ Pre_1 tb e args s)
    (fun _ _ args s o t => lw_Q args s o t) := by
  intro p e ha hc hk s m args below hf hfit hheap happ hpre
  obtain ⟨b, xs, hP⟩ := lw_pre_spec hpre.2.2 hpre.2.1
  obtain ⟨k, o, h1, h2, h3, hQ⟩ := lw_walk l b xs p e ha hc hk s m args below hf ((Spec.applies_iff_loose hf).mp happ).1 hP trivial
  exact ⟨k, o, h1, h2, h3, hQ⟩
theorem lw_frame {s t : State} {o : Outcome} {args : Array Value} (h : Framed s o t [] 600000 7290000) :
    Framed s o t (fieldLocs frame_1_writes args s ++ arrayLocs frame_1_arrays args s ++ staticLocs frame_1_statics s) 600000 7290000 := h
theorem lw_limb (L : Cond) (hL : ∀ (args : Array Value) (s t : State), L.after args s (.returned (some (.int 1))) t = true) :
    ArmFor flags0 classFile x code maxLocals ret World_1 tables_1 room_1 Calls_1 rest_1 Pre_1
      (fun tb e a s o t => postC L tb e a s o t ∧ Framed s o t (fieldLocs frame_1_writes a s ++ arrayLocs frame_1_arrays a s ++ staticLocs frame_1_statics s) 600000 7290000) := by
  intro l _ _ _ p e ha hc hk s m args below hf hfit hheap happ hpre
  obtain ⟨k, o, h1, h2, h3, rfl, hF⟩ := lw_comes l p e ha hc hk s m args below hf hfit hheap happ hpre
  exact ⟨k, _, h1, h2, h3, hL args s _, lw_frame hF⟩
theorem i_vc : Claimed_1_1 ∧ Claimed_1_2 := ⟨lw_limb limb_1_1 (fun args s t => by simp [limb_1_1, Cond.after, Cond.holds, Cond.value]), lw_limb limb_1_2 (fun args s t => Cond.after_iff.mpr (by
  first | (rw [show limb_1_2 = Cond.eq .result (.int 1) from rfl, Cond.eq_ints (x := 1) (y := 1) rfl rfl]; simp; done) | (simp [limb_1_2, Cond.value, Term.eval]; done)))⟩
end
