section
-- ===== PART A: goes FIRST, ahead of the names: the tables' words, and 'selects' of the private methods out of them =====
/-- a private method of a class that the tables say can be made, by its rows of tables_1 -/
def lw_okq (q : MethodName × Nat) : Prop := (q.1.cls ≠ "java/lang/invoke/MethodHandle" ∧ q.1.cls ≠ "java/lang/invoke/VarHandle") ∧ Cond.instantiable q.1.cls q.2 ∈ tables_1 ∧ Cond.privateMethod q.1 ∈ tables_1 ∧ Cond.instanceMethod q.1 ∈ tables_1
set_option maxRecDepth 100000
theorem lw_t1 {w : Cond} (h : w ∈ tables_1_1) : w ∈ tables_1 := List.mem_append_left _ h
theorem lw_t2 {w : Cond} (h : w ∈ tables_1_2) : w ∈ tables_1 := List.mem_append_right _ h
theorem lw_p0 : lw_okq (⟨"TabledRules", "turnPair", "(IIIZ)V"⟩, 10) := ⟨⟨by decide +kernel, by decide +kernel⟩, lw_t1 (List.mem_of_getElem? (i := 4) rfl), lw_t1 (List.mem_of_getElem? (i := 51) rfl), lw_t1 (List.mem_of_getElem? (i := 52) rfl)⟩
theorem lw_p1 : lw_okq (⟨"TabledRules", "forget", "()V"⟩, 10) := ⟨⟨by decide +kernel, by decide +kernel⟩, lw_t1 (List.mem_of_getElem? (i := 4) rfl), lw_t1 (List.mem_of_getElem? (i := 55) rfl), lw_t1 (List.mem_of_getElem? (i := 56) rfl)⟩
theorem lw_p2 : lw_okq (⟨"TabledRules", "has", "(I)Z"⟩, 10) := ⟨⟨by decide +kernel, by decide +kernel⟩, lw_t1 (List.mem_of_getElem? (i := 4) rfl), lw_t1 (List.mem_of_getElem? (i := 66) rfl), lw_t1 (List.mem_of_getElem? (i := 67) rfl)⟩
theorem lw_p3 : lw_okq (⟨"TabledRules", "settle", "(II)I"⟩, 10) := ⟨⟨by decide +kernel, by decide +kernel⟩, lw_t1 (List.mem_of_getElem? (i := 4) rfl), lw_t1 (List.mem_of_getElem? (i := 82) rfl), lw_t1 (List.mem_of_getElem? (i := 83) rfl)⟩
theorem lw_p4 : lw_okq (⟨"TabledRules", "ask", "(II)I"⟩, 10) := ⟨⟨by decide +kernel, by decide +kernel⟩, lw_t1 (List.mem_of_getElem? (i := 4) rfl), lw_t1 (List.mem_of_getElem? (i := 86) rfl), lw_t1 (List.mem_of_getElem? (i := 87) rfl)⟩
theorem lw_p5 : lw_okq (⟨"TabledRules", "work", "(I)V"⟩, 10) := ⟨⟨by decide +kernel, by decide +kernel⟩, lw_t1 (List.mem_of_getElem? (i := 4) rfl), lw_t1 (List.mem_of_getElem? (i := 90) rfl), lw_t1 (List.mem_of_getElem? (i := 91) rfl)⟩
theorem lw_p6 : lw_okq (⟨"TabledRules", "bring", "(II)I"⟩, 10) := ⟨⟨by decide +kernel, by decide +kernel⟩, lw_t1 (List.mem_of_getElem? (i := 4) rfl), lw_t1 (List.mem_of_getElem? (i := 94) rfl), lw_t1 (List.mem_of_getElem? (i := 95) rfl)⟩
theorem lw_p7 : lw_okq (⟨"TabledRules", "turned", "(II)I"⟩, 10) := ⟨⟨by decide +kernel, by decide +kernel⟩, lw_t1 (List.mem_of_getElem? (i := 4) rfl), lw_t1 (List.mem_of_getElem? (i := 98) rfl), lw_t1 (List.mem_of_getElem? (i := 99) rfl)⟩
theorem lw_p8 : lw_okq (⟨"TabledRules", "joined", "(II)I"⟩, 10) := ⟨⟨by decide +kernel, by decide +kernel⟩, lw_t1 (List.mem_of_getElem? (i := 4) rfl), lw_t1 (List.mem_of_getElem? (i := 102) rfl), lw_t1 (List.mem_of_getElem? (i := 103) rfl)⟩
theorem lw_p9 : lw_okq (⟨"TabledRules", "keepCounts", "()V"⟩, 10) := ⟨⟨by decide +kernel, by decide +kernel⟩, lw_t1 (List.mem_of_getElem? (i := 4) rfl), lw_t1 (List.mem_of_getElem? (i := 130) rfl), lw_t1 (List.mem_of_getElem? (i := 131) rfl)⟩
theorem lw_p10 : lw_okq (⟨"TabledRules", "countsDiffer", "()Z"⟩, 10) := ⟨⟨by decide +kernel, by decide +kernel⟩, lw_t1 (List.mem_of_getElem? (i := 4) rfl), lw_t1 (List.mem_of_getElem? (i := 135) rfl), lw_t1 (List.mem_of_getElem? (i := 136) rfl)⟩
theorem lw_p11 : lw_okq (⟨"TabledRulesModel", "five", "(I)Z"⟩, 6) := ⟨⟨by decide +kernel, by decide +kernel⟩, lw_t1 (List.mem_of_getElem? (i := 147) rfl), lw_t1 (List.mem_of_getElem? (i := 178) rfl), lw_t1 (List.mem_of_getElem? (i := 179) rfl)⟩
theorem lw_p12 : lw_okq (⟨"TabledRulesModel", "is", "(I)Z"⟩, 6) := ⟨⟨by decide +kernel, by decide +kernel⟩, lw_t1 (List.mem_of_getElem? (i := 147) rfl), lw_t1 (List.mem_of_getElem? (i := 190) rfl), lw_t1 (List.mem_of_getElem? (i := 191) rfl)⟩
theorem lw_p13 : lw_okq (⟨"TabledRulesModel", "work", "()V"⟩, 6) := ⟨⟨by decide +kernel, by decide +kernel⟩, lw_t1 (List.mem_of_getElem? (i := 147) rfl), lw_t1 (List.mem_of_getElem? (i := 202) rfl), lw_t1 (List.mem_of_getElem? (i := 203) rfl)⟩
theorem lw_p14 : lw_okq (⟨"TabledRulesModel", "use", "(I)Z"⟩, 6) := ⟨⟨by decide +kernel, by decide +kernel⟩, lw_t1 (List.mem_of_getElem? (i := 147) rfl), lw_t1 (List.mem_of_getElem? (i := 206) rfl), lw_t1 (List.mem_of_getElem? (i := 207) rfl)⟩
theorem lw_p15 : lw_okq (⟨"TabledRulesModel", "says", "(III)Z"⟩, 6) := ⟨⟨by decide +kernel, by decide +kernel⟩, lw_t1 (List.mem_of_getElem? (i := 147) rfl), lw_t1 (List.mem_of_getElem? (i := 210) rfl), lw_t1 (List.mem_of_getElem? (i := 211) rfl)⟩
def lw_privs_1 : List (MethodName × Nat) := [(⟨"TabledRules", "turnPair", "(IIIZ)V"⟩, 10), (⟨"TabledRules", "forget", "()V"⟩, 10), (⟨"TabledRules", "has", "(I)Z"⟩, 10), (⟨"TabledRules", "settle", "(II)I"⟩, 10), (⟨"TabledRules", "ask", "(II)I"⟩, 10), (⟨"TabledRules", "work", "(I)V"⟩, 10), (⟨"TabledRules", "bring", "(II)I"⟩, 10), (⟨"TabledRules", "turned", "(II)I"⟩, 10), (⟨"TabledRules", "joined", "(II)I"⟩, 10), (⟨"TabledRules", "keepCounts", "()V"⟩, 10), (⟨"TabledRules", "countsDiffer", "()Z"⟩, 10), (⟨"TabledRulesModel", "five", "(I)Z"⟩, 6), (⟨"TabledRulesModel", "is", "(I)Z"⟩, 6), (⟨"TabledRulesModel", "work", "()V"⟩, 6), (⟨"TabledRulesModel", "use", "(I)Z"⟩, 6), (⟨"TabledRulesModel", "says", "(III)Z"⟩, 6)]
theorem lw_r1 : ∀ q ∈ lw_privs_1, lw_okq q := List.forall_mem_cons.mpr ⟨lw_p0, List.forall_mem_cons.mpr ⟨lw_p1, List.forall_mem_cons.mpr ⟨lw_p2, List.forall_mem_cons.mpr ⟨lw_p3, List.forall_mem_cons.mpr ⟨lw_p4, List.forall_mem_cons.mpr ⟨lw_p5, List.forall_mem_cons.mpr ⟨lw_p6, List.forall_mem_cons.mpr ⟨lw_p7, List.forall_mem_cons.mpr ⟨lw_p8, List.forall_mem_cons.mpr ⟨lw_p9, List.forall_mem_cons.mpr ⟨lw_p10, List.forall_mem_cons.mpr ⟨lw_p11, List.forall_mem_cons.mpr ⟨lw_p12, List.forall_mem_cons.mpr ⟨lw_p13, List.forall_mem_cons.mpr ⟨lw_p14, List.forall_mem_cons.mpr ⟨lw_p15, fun _ h => absurd h List.not_mem_nil⟩⟩⟩⟩⟩⟩⟩⟩⟩⟩⟩⟩⟩⟩⟩⟩
theorem lw_p16 : lw_okq (⟨"TabledRulesModel", "in", "(III)Z"⟩, 6) := ⟨⟨by decide +kernel, by decide +kernel⟩, lw_t1 (List.mem_of_getElem? (i := 147) rfl), lw_t1 (List.mem_of_getElem? (i := 214) rfl), lw_t1 (List.mem_of_getElem? (i := 215) rfl)⟩
theorem lw_p17 : lw_okq (⟨"TabledRulesModel", "ones", "(I)I"⟩, 6) := ⟨⟨by decide +kernel, by decide +kernel⟩, lw_t1 (List.mem_of_getElem? (i := 147) rfl), lw_t1 (List.mem_of_getElem? (i := 230) rfl), lw_t1 (List.mem_of_getElem? (i := 231) rfl)⟩
def lw_privs_2 : List (MethodName × Nat) := [(⟨"TabledRulesModel", "in", "(III)Z"⟩, 6), (⟨"TabledRulesModel", "ones", "(I)I"⟩, 6)]
theorem lw_r2 : ∀ q ∈ lw_privs_2, lw_okq q := List.forall_mem_cons.mpr ⟨lw_p16, List.forall_mem_cons.mpr ⟨lw_p17, fun _ h => absurd h List.not_mem_nil⟩⟩
def lw_privs : List (MethodName × Nat) := lw_privs_1 ++ (lw_privs_2)
def lw_tbl : List Cond := k2_sels lw_privs ++ tables_1
theorem lw_privs_ok : ∀ q ∈ lw_privs, lw_okq q := by
  show ∀ q ∈ lw_privs_1 ++ (lw_privs_2), lw_okq q
  exact List.forall_mem_append.mpr ⟨lw_r1, lw_r2⟩
-- ===== ONE list of words for every method: the tables' words that hold all through a run =====
def lw_all : List Cond := lw_tbl.filter goodWord
/-- a word of the tables by its place: claim/WORDS.tsv -/
theorem lw_w {w : Cond} (i : Nat) (h : lw_tbl[i]? = some w) (g : goodWord w = true) : w ∈ lw_all := List.mem_filter.mpr ⟨List.mem_of_getElem? h, g⟩
theorem lw_all_tbl {w : Cond} (h : w ∈ lw_all) : w ∈ lw_tbl := (List.mem_filter.mp h).1
theorem lw_self : GoodIn lw_all lw_all := fun w h => ⟨h, good_of_word (List.mem_filter.mp h).2⟩
/-- a class's field words, by their places -/
theorem lw_in (ws : List Cond) (ps : List Nat) (hp : ws = ps.filterMap (fun i => lw_tbl[i]?)) (hg : ws.all goodWord = true) : ∀ w ∈ ws, w ∈ lw_all := by
  intro w h
  have h1 := List.all_eq_true.mp hg w h
  rw [hp] at h
  obtain ⟨i, -, hi⟩ := List.mem_filterMap.mp h
  exact lw_w i hi h1
/-- the words of a contract for the method y with code b, L locals, answer r -/
abbrev ws_ (y : MethodName) (b : ByteArray) (L : Nat) (r : Option FieldType) : List Cond := Cond.code y b L r :: lw_all
theorem lw_meth {y : MethodName} {b : ByteArray} {L : Nat} {r : Option FieldType} (h : Cond.code y b L r ∈ lw_all) : GoodIn lw_all (ws_ y b L r) := by
  intro w hw
  rcases List.mem_cons.mp hw with e | e
  · rw [e]
    exact lw_self _ h
  · exact lw_self _ e
theorem lw_app {a c : List Cond} (ha : ∀ w ∈ a, w ∈ lw_all) (hc : GoodIn lw_all c) : GoodIn lw_all (a ++ c) := by
  intro w hw
  rcases List.mem_append.mp hw with e | e
  · exact lw_self w (ha w e)
  · exact hc w e
/-- what a call through an object asks: cwV n hts (lw_V ..) -/
theorem lw_V {own : String} {idx : Nat} {C : String} {y : MethodName} {b : ByteArray} {L : Nat} {r : Option FieldType} (h1 : Cond.methodLink own idx y ∈ lw_all) (h2 : Cond.instanceMethod y ∈ lw_all) (h3 : Cond.selects C y y ∈ lw_all) (h4 : Cond.initialized C ∈ lw_all) (h5 : Cond.code y b L r ∈ lw_all) : GoodIn lw_all (wsV own idx C y (ws_ y b L r)) := by
  refine lw_app ?_ (lw_meth h5)
  intro w hw
  simp only [List.mem_cons, List.not_mem_nil, or_false] at hw
  rcases hw with e | e | e | e
  · rw [e]; exact h1
  · rw [e]; exact h2
  · rw [e]; exact h3
  · rw [e]; exact h4
/-- what a static call asks: va_cwS n hts (lw_S ..) -/
theorem lw_S {own : String} {idx : Nat} {y : MethodName} {b : ByteArray} {L : Nat} {r : Option FieldType} (h1 : Cond.methodLink own idx y ∈ lw_all) (h2 : Cond.static y ∈ lw_all) (h3 : Cond.initialized y.cls ∈ lw_all) (h4 : Cond.code y b L r ∈ lw_all) : GoodIn lw_all (va_wsS own idx y (ws_ y b L r)) := by
  refine lw_app ?_ (lw_meth h4)
  intro w hw
  simp only [List.mem_cons, List.not_mem_nil, or_false] at hw
  rcases hw with e | e | e
  · rw [e]; exact h1
  · rw [e]; exact h2
  · rw [e]; exact h3
/-- the words of a contract for a method WITH HANDLERS (hh: its table) -/
abbrev wsW_ (y : MethodName) (b : ByteArray) (L : Nat) (r : Option FieldType) (hh : List (Nat × Nat × Nat × Nat)) : List Cond := Cond.codeWith y b L r hh :: lw_all
theorem lw_methW {y : MethodName} {b : ByteArray} {L : Nat} {r : Option FieldType} {hh : List (Nat × Nat × Nat × Nat)} (h : Cond.codeWith y b L r hh ∈ lw_all) : GoodIn lw_all (wsW_ y b L r hh) := by
  intro w hw
  rcases List.mem_cons.mp hw with e | e
  · rw [e]
    exact lw_self _ h
  · exact lw_self _ e
/-- any list of words by their places (lw_in), good -/
theorem lw_good {ws : List Cond} (h : ∀ w ∈ ws, w ∈ lw_all) : GoodIn lw_all ws := fun w hw => lw_self w (h w hw)
/-- what a call of a method with handlers asks: vx_cwVW n hts (lw_VW ..), vx_cwSW n hts (lw_SW ..) -/
theorem lw_VW {own : String} {idx : Nat} {C : String} {y : MethodName} {b : ByteArray} {L : Nat} {r : Option FieldType} {hh : List (Nat × Nat × Nat × Nat)} (h1 : Cond.methodLink own idx y ∈ lw_all) (h2 : Cond.instanceMethod y ∈ lw_all) (h3 : Cond.selects C y y ∈ lw_all) (h4 : Cond.initialized C ∈ lw_all) (h5 : Cond.codeWith y b L r hh ∈ lw_all) : GoodIn lw_all (wsV own idx C y (wsW_ y b L r hh)) := by
  refine lw_app ?_ (lw_methW h5)
  intro w hw
  simp only [List.mem_cons, List.not_mem_nil, or_false] at hw
  rcases hw with e | e | e | e
  · rw [e]; exact h1
  · rw [e]; exact h2
  · rw [e]; exact h3
  · rw [e]; exact h4
theorem lw_SW {own : String} {idx : Nat} {y : MethodName} {b : ByteArray} {L : Nat} {r : Option FieldType} {hh : List (Nat × Nat × Nat × Nat)} (h1 : Cond.methodLink own idx y ∈ lw_all) (h2 : Cond.static y ∈ lw_all) (h3 : Cond.initialized y.cls ∈ lw_all) (h4 : Cond.codeWith y b L r hh ∈ lw_all) : GoodIn lw_all (va_wsS own idx y (wsW_ y b L r hh)) := by
  refine lw_app ?_ (lw_methW h4)
  intro w hw
  simp only [List.mem_cons, List.not_mem_nil, or_false] at hw
  rcases hw with e | e | e
  · rw [e]; exact h1
  · rw [e]; exact h2
  · rw [e]; exact h3
/-- a word by its place in its run of the tables -/
theorem lw_at {r : List Cond} (hr : ∀ w ∈ r, w ∈ lw_tbl) {w : Cond} (i : Nat) (h : r[i]? = some w) : w ∈ lw_tbl := hr w (List.mem_of_getElem? h)
theorem lw_g {w : Cond} (h : w ∈ lw_tbl) (g : goodWord w = true) : w ∈ lw_all := List.mem_filter.mpr ⟨h, g⟩
theorem lw_ms : ∀ w ∈ k2_sels lw_privs, w ∈ lw_tbl := fun w h => show w ∈ k2_sels lw_privs ++ tables_1 from List.mem_append_left _ h
theorem lw_m1 : ∀ w ∈ tables_1_1, w ∈ lw_tbl := fun w h => show w ∈ k2_sels lw_privs ++ tables_1 from List.mem_append_right (k2_sels lw_privs) (show w ∈ tables_1 from List.mem_append_left _ h)
theorem lw_m2 : ∀ w ∈ tables_1_2, w ∈ lw_tbl := fun w h => show w ∈ k2_sels lw_privs ++ tables_1 from List.mem_append_right (k2_sels lw_privs) (show w ∈ tables_1 from List.mem_append_right _ h)
theorem qs0 : (Cond.selects "TabledRules" ⟨"TabledRules", "turnPair", "(IIIZ)V"⟩ ⟨"TabledRules", "turnPair", "(IIIZ)V"⟩) ∈ lw_all := lw_g (lw_at lw_ms 0 rfl) rfl
theorem qs1 : (Cond.selects "TabledRules" ⟨"TabledRules", "forget", "()V"⟩ ⟨"TabledRules", "forget", "()V"⟩) ∈ lw_all := lw_g (lw_at lw_ms 1 rfl) rfl
theorem qs2 : (Cond.selects "TabledRules" ⟨"TabledRules", "has", "(I)Z"⟩ ⟨"TabledRules", "has", "(I)Z"⟩) ∈ lw_all := lw_g (lw_at lw_ms 2 rfl) rfl
theorem qs3 : (Cond.selects "TabledRules" ⟨"TabledRules", "settle", "(II)I"⟩ ⟨"TabledRules", "settle", "(II)I"⟩) ∈ lw_all := lw_g (lw_at lw_ms 3 rfl) rfl
theorem qs4 : (Cond.selects "TabledRules" ⟨"TabledRules", "ask", "(II)I"⟩ ⟨"TabledRules", "ask", "(II)I"⟩) ∈ lw_all := lw_g (lw_at lw_ms 4 rfl) rfl
theorem qs5 : (Cond.selects "TabledRules" ⟨"TabledRules", "work", "(I)V"⟩ ⟨"TabledRules", "work", "(I)V"⟩) ∈ lw_all := lw_g (lw_at lw_ms 5 rfl) rfl
theorem qs6 : (Cond.selects "TabledRules" ⟨"TabledRules", "bring", "(II)I"⟩ ⟨"TabledRules", "bring", "(II)I"⟩) ∈ lw_all := lw_g (lw_at lw_ms 6 rfl) rfl
theorem qs7 : (Cond.selects "TabledRules" ⟨"TabledRules", "turned", "(II)I"⟩ ⟨"TabledRules", "turned", "(II)I"⟩) ∈ lw_all := lw_g (lw_at lw_ms 7 rfl) rfl
theorem qs8 : (Cond.selects "TabledRules" ⟨"TabledRules", "joined", "(II)I"⟩ ⟨"TabledRules", "joined", "(II)I"⟩) ∈ lw_all := lw_g (lw_at lw_ms 8 rfl) rfl
theorem qs9 : (Cond.selects "TabledRules" ⟨"TabledRules", "keepCounts", "()V"⟩ ⟨"TabledRules", "keepCounts", "()V"⟩) ∈ lw_all := lw_g (lw_at lw_ms 9 rfl) rfl
theorem qs10 : (Cond.selects "TabledRules" ⟨"TabledRules", "countsDiffer", "()Z"⟩ ⟨"TabledRules", "countsDiffer", "()Z"⟩) ∈ lw_all := lw_g (lw_at lw_ms 10 rfl) rfl
theorem qs11 : (Cond.selects "TabledRulesModel" ⟨"TabledRulesModel", "five", "(I)Z"⟩ ⟨"TabledRulesModel", "five", "(I)Z"⟩) ∈ lw_all := lw_g (lw_at lw_ms 11 rfl) rfl
theorem qs12 : (Cond.selects "TabledRulesModel" ⟨"TabledRulesModel", "is", "(I)Z"⟩ ⟨"TabledRulesModel", "is", "(I)Z"⟩) ∈ lw_all := lw_g (lw_at lw_ms 12 rfl) rfl
theorem qs13 : (Cond.selects "TabledRulesModel" ⟨"TabledRulesModel", "work", "()V"⟩ ⟨"TabledRulesModel", "work", "()V"⟩) ∈ lw_all := lw_g (lw_at lw_ms 13 rfl) rfl
theorem qs14 : (Cond.selects "TabledRulesModel" ⟨"TabledRulesModel", "use", "(I)Z"⟩ ⟨"TabledRulesModel", "use", "(I)Z"⟩) ∈ lw_all := lw_g (lw_at lw_ms 14 rfl) rfl
theorem qs15 : (Cond.selects "TabledRulesModel" ⟨"TabledRulesModel", "says", "(III)Z"⟩ ⟨"TabledRulesModel", "says", "(III)Z"⟩) ∈ lw_all := lw_g (lw_at lw_ms 15 rfl) rfl
theorem qs16 : (Cond.selects "TabledRulesModel" ⟨"TabledRulesModel", "in", "(III)Z"⟩ ⟨"TabledRulesModel", "in", "(III)Z"⟩) ∈ lw_all := lw_g (lw_at lw_ms 16 rfl) rfl
theorem qs17 : (Cond.selects "TabledRulesModel" ⟨"TabledRulesModel", "ones", "(I)I"⟩ ⟨"TabledRulesModel", "ones", "(I)I"⟩) ∈ lw_all := lw_g (lw_at lw_ms 17 rfl) rfl
end
section
/-! TabledRules -/
set_option maxRecDepth 100000
def RX0 : String := "TabledRules"
def TX0 : u_T := fun k => match k with
  | 0 => ("TabledRules", "given", "[B", true)
  | 1 => ("TabledRules", "present", "I", false)
  | 2 => ("TabledRules", "forms", "[B", true)
  | 3 => ("TabledRules", "heads", "[B", true)
  | 4 => ("TabledRules", "firsts", "[B", true)
  | 5 => ("TabledRules", "seconds", "[B", true)
  | 6 => ("TabledRules", "asked", "I", false)
  | 7 => ("TabledRules", "answers", "[B", true)
  | 8 => ("TabledRules", "fresh", "Z", false)
  | _ => ("TabledRules", "counts", "[B", true)
def tyX0 : Nat → FieldType := fun k => match k with
  | 0 => .array .byte
  | 1 => .int
  | 2 => .array .byte
  | 3 => .array .byte
  | 4 => .array .byte
  | 5 => .array .byte
  | 6 => .int
  | 7 => .array .byte
  | 8 => .boolean
  | _ => .array .byte
abbrev wsX00 : List Cond := u_ws RX0 TX0 10
theorem nmX0 : ∀ a, a < 10 → ∀ b, b < 10 → a ≠ b → (TX0 a).2.1 ≠ (TX0 b).2.1 := by decide +kernel
theorem tyX0_ok : ∀ k, k < 10 → parseFieldDescriptor (TX0 k).2.2.1 = some (tyX0 k) := by decide +kernel
abbrev cX0_init : ByteArray := prog_1_method_1_code
def yX0_init : MethodName := ⟨RX0, "<init>", "()V"⟩
theorem dX0_init_0 : decode cX0_init 0 = .ok (.aload_n 0, 1) := by decide +kernel
theorem dX0_init_1 : decode cX0_init 1 = .ok (.invokespecial 1, 3) := by decide +kernel
theorem dX0_init_4 : decode cX0_init 4 = .ok (.aload_n 0, 1) := by decide +kernel
theorem dX0_init_5 : decode cX0_init 5 = .ok (.bipush 10, 2) := by decide +kernel
theorem dX0_init_7 : decode cX0_init 7 = .ok (.newarray .byte, 2) := by decide +kernel
theorem dX0_init_9 : decode cX0_init 9 = .ok (.putfield 7, 3) := by decide +kernel
theorem dX0_init_12 : decode cX0_init 12 = .ok (.aload_n 0, 1) := by decide +kernel
theorem dX0_init_13 : decode cX0_init 13 = .ok (.bipush 8, 2) := by decide +kernel
theorem dX0_init_15 : decode cX0_init 15 = .ok (.newarray .byte, 2) := by decide +kernel
theorem dX0_init_17 : decode cX0_init 17 = .ok (.putfield 13, 3) := by decide +kernel
theorem dX0_init_20 : decode cX0_init 20 = .ok (.aload_n 0, 1) := by decide +kernel
theorem dX0_init_21 : decode cX0_init 21 = .ok (.bipush 8, 2) := by decide +kernel
theorem dX0_init_23 : decode cX0_init 23 = .ok (.newarray .byte, 2) := by decide +kernel
theorem dX0_init_25 : decode cX0_init 25 = .ok (.putfield 16, 3) := by decide +kernel
theorem dX0_init_28 : decode cX0_init 28 = .ok (.aload_n 0, 1) := by decide +kernel
theorem dX0_init_29 : decode cX0_init 29 = .ok (.bipush 8, 2) := by decide +kernel
theorem dX0_init_31 : decode cX0_init 31 = .ok (.newarray .byte, 2) := by decide +kernel
theorem dX0_init_33 : decode cX0_init 33 = .ok (.putfield 19, 3) := by decide +kernel
theorem dX0_init_36 : decode cX0_init 36 = .ok (.aload_n 0, 1) := by decide +kernel
theorem dX0_init_37 : decode cX0_init 37 = .ok (.bipush 8, 2) := by decide +kernel
theorem dX0_init_39 : decode cX0_init 39 = .ok (.newarray .byte, 2) := by decide +kernel
theorem dX0_init_41 : decode cX0_init 41 = .ok (.putfield 22, 3) := by decide +kernel
theorem dX0_init_44 : decode cX0_init 44 = .ok (.aload_n 0, 1) := by decide +kernel
theorem dX0_init_45 : decode cX0_init 45 = .ok (.bipush 25, 2) := by decide +kernel
theorem dX0_init_47 : decode cX0_init 47 = .ok (.newarray .byte, 2) := by decide +kernel
theorem dX0_init_49 : decode cX0_init 49 = .ok (.putfield 25, 3) := by decide +kernel
theorem dX0_init_52 : decode cX0_init 52 = .ok (.aload_n 0, 1) := by decide +kernel
theorem dX0_init_53 : decode cX0_init 53 = .ok (.iconst 5, 1) := by decide +kernel
theorem dX0_init_54 : decode cX0_init 54 = .ok (.newarray .byte, 2) := by decide +kernel
theorem dX0_init_56 : decode cX0_init 56 = .ok (.putfield 28, 3) := by decide +kernel
theorem dX0_init_59 : decode cX0_init 59 = .ok (.return_, 1) := by decide +kernel
abbrev cX0_give : ByteArray := prog_1_method_6_code
def yX0_give : MethodName := ⟨RX0, "give", "(IIIZ)Z"⟩
theorem dX0_give_0 : decode cX0_give 0 = .ok (.iload_n 1, 1) := by decide +kernel
theorem dX0_give_1 : decode cX0_give 1 = .ok (.ifCond .lt 22, 3) := by decide +kernel
theorem dX0_give_4 : decode cX0_give 4 = .ok (.iload_n 1, 1) := by decide +kernel
theorem dX0_give_5 : decode cX0_give 5 = .ok (.iconst 1, 1) := by decide +kernel
theorem dX0_give_6 : decode cX0_give 6 = .ok (.if_icmp .gt 17, 3) := by decide +kernel
theorem dX0_give_9 : decode cX0_give 9 = .ok (.iload_n 2, 1) := by decide +kernel
theorem dX0_give_10 : decode cX0_give 10 = .ok (.invokestatic 38, 3) := by decide +kernel
theorem dX0_give_13 : decode cX0_give 13 = .ok (.ifCond .eq 10, 3) := by decide +kernel
theorem dX0_give_16 : decode cX0_give 16 = .ok (.iload_n 3, 1) := by decide +kernel
theorem dX0_give_17 : decode cX0_give 17 = .ok (.invokestatic 38, 3) := by decide +kernel
theorem dX0_give_20 : decode cX0_give 20 = .ok (.ifCond .ne 5, 3) := by decide +kernel
theorem dX0_give_23 : decode cX0_give 23 = .ok (.iconst 0, 1) := by decide +kernel
theorem dX0_give_24 : decode cX0_give 24 = .ok (.ireturn, 1) := by decide +kernel
theorem dX0_give_25 : decode cX0_give 25 = .ok (.aload_n 0, 1) := by decide +kernel
theorem dX0_give_26 : decode cX0_give 26 = .ok (.iload_n 1, 1) := by decide +kernel
theorem dX0_give_27 : decode cX0_give 27 = .ok (.iload_n 2, 1) := by decide +kernel
theorem dX0_give_28 : decode cX0_give 28 = .ok (.iload_n 3, 1) := by decide +kernel
theorem dX0_give_29 : decode cX0_give 29 = .ok (.iload 4, 2) := by decide +kernel
theorem dX0_give_31 : decode cX0_give 31 = .ok (.invokevirtual 42, 3) := by decide +kernel
theorem dX0_give_34 : decode cX0_give 34 = .ok (.iconst 1, 1) := by decide +kernel
theorem dX0_give_35 : decode cX0_give 35 = .ok (.ireturn, 1) := by decide +kernel
abbrev cX0_isThing : ByteArray := prog_1_method_2_code
def yX0_isThing : MethodName := ⟨RX0, "isThing", "(I)Z"⟩
theorem dX0_isThing_0 : decode cX0_isThing 0 = .ok (.iload_n 0, 1) := by decide +kernel
theorem dX0_isThing_1 : decode cX0_isThing 1 = .ok (.ifCond .lt 12, 3) := by decide +kernel
theorem dX0_isThing_4 : decode cX0_isThing 4 = .ok (.iload_n 0, 1) := by decide +kernel
theorem dX0_isThing_5 : decode cX0_isThing 5 = .ok (.iconst 5, 1) := by decide +kernel
theorem dX0_isThing_6 : decode cX0_isThing 6 = .ok (.if_icmp .ge 7, 3) := by decide +kernel
theorem dX0_isThing_9 : decode cX0_isThing 9 = .ok (.iconst 1, 1) := by decide +kernel
theorem dX0_isThing_10 : decode cX0_isThing 10 = .ok (.goto 4, 3) := by decide +kernel
theorem dX0_isThing_13 : decode cX0_isThing 13 = .ok (.iconst 0, 1) := by decide +kernel
theorem dX0_isThing_14 : decode cX0_isThing 14 = .ok (.ireturn, 1) := by decide +kernel
abbrev cX0_turnPair : ByteArray := prog_1_method_7_code
def yX0_turnPair : MethodName := ⟨RX0, "turnPair", "(IIIZ)V"⟩
theorem dX0_turnPair_0 : decode cX0_turnPair 0 = .ok (.iload_n 1, 1) := by decide +kernel
theorem dX0_turnPair_1 : decode cX0_turnPair 1 = .ok (.iconst 5, 1) := by decide +kernel
theorem dX0_turnPair_2 : decode cX0_turnPair 2 = .ok (.imul, 1) := by decide +kernel
theorem dX0_turnPair_3 : decode cX0_turnPair 3 = .ok (.iload_n 2, 1) := by decide +kernel
theorem dX0_turnPair_4 : decode cX0_turnPair 4 = .ok (.iadd, 1) := by decide +kernel
theorem dX0_turnPair_5 : decode cX0_turnPair 5 = .ok (.istore 5, 2) := by decide +kernel
theorem dX0_turnPair_7 : decode cX0_turnPair 7 = .ok (.aload_n 0, 1) := by decide +kernel
theorem dX0_turnPair_8 : decode cX0_turnPair 8 = .ok (.getfield 7, 3) := by decide +kernel
theorem dX0_turnPair_11 : decode cX0_turnPair 11 = .ok (.iload 5, 2) := by decide +kernel
theorem dX0_turnPair_13 : decode cX0_turnPair 13 = .ok (.iload 4, 2) := by decide +kernel
theorem dX0_turnPair_15 : decode cX0_turnPair 15 = .ok (.ifCond .eq 17, 3) := by decide +kernel
theorem dX0_turnPair_18 : decode cX0_turnPair 18 = .ok (.aload_n 0, 1) := by decide +kernel
theorem dX0_turnPair_19 : decode cX0_turnPair 19 = .ok (.getfield 7, 3) := by decide +kernel
theorem dX0_turnPair_22 : decode cX0_turnPair 22 = .ok (.iload 5, 2) := by decide +kernel
theorem dX0_turnPair_24 : decode cX0_turnPair 24 = .ok (.baload, 1) := by decide +kernel
theorem dX0_turnPair_25 : decode cX0_turnPair 25 = .ok (.iconst 1, 1) := by decide +kernel
theorem dX0_turnPair_26 : decode cX0_turnPair 26 = .ok (.iload_n 3, 1) := by decide +kernel
theorem dX0_turnPair_27 : decode cX0_turnPair 27 = .ok (.ishl, 1) := by decide +kernel
theorem dX0_turnPair_28 : decode cX0_turnPair 28 = .ok (.ior, 1) := by decide +kernel
theorem dX0_turnPair_29 : decode cX0_turnPair 29 = .ok (.goto 16, 3) := by decide +kernel
theorem dX0_turnPair_32 : decode cX0_turnPair 32 = .ok (.aload_n 0, 1) := by decide +kernel
theorem dX0_turnPair_33 : decode cX0_turnPair 33 = .ok (.getfield 7, 3) := by decide +kernel
theorem dX0_turnPair_36 : decode cX0_turnPair 36 = .ok (.iload 5, 2) := by decide +kernel
theorem dX0_turnPair_38 : decode cX0_turnPair 38 = .ok (.baload, 1) := by decide +kernel
theorem dX0_turnPair_39 : decode cX0_turnPair 39 = .ok (.iconst 1, 1) := by decide +kernel
theorem dX0_turnPair_40 : decode cX0_turnPair 40 = .ok (.iload_n 3, 1) := by decide +kernel
theorem dX0_turnPair_41 : decode cX0_turnPair 41 = .ok (.ishl, 1) := by decide +kernel
theorem dX0_turnPair_42 : decode cX0_turnPair 42 = .ok (.iconst (-1), 1) := by decide +kernel
theorem dX0_turnPair_43 : decode cX0_turnPair 43 = .ok (.ixor, 1) := by decide +kernel
theorem dX0_turnPair_44 : decode cX0_turnPair 44 = .ok (.iand, 1) := by decide +kernel
theorem dX0_turnPair_45 : decode cX0_turnPair 45 = .ok (.i2b, 1) := by decide +kernel
theorem dX0_turnPair_46 : decode cX0_turnPair 46 = .ok (.bastore, 1) := by decide +kernel
theorem dX0_turnPair_47 : decode cX0_turnPair 47 = .ok (.aload_n 0, 1) := by decide +kernel
theorem dX0_turnPair_48 : decode cX0_turnPair 48 = .ok (.invokevirtual 46, 3) := by decide +kernel
theorem dX0_turnPair_51 : decode cX0_turnPair 51 = .ok (.return_, 1) := by decide +kernel
abbrev cX0_forget : ByteArray := prog_1_method_5_code
def yX0_forget : MethodName := ⟨RX0, "forget", "()V"⟩
theorem dX0_forget_0 : decode cX0_forget 0 = .ok (.aload_n 0, 1) := by decide +kernel
theorem dX0_forget_1 : decode cX0_forget 1 = .ok (.iconst 0, 1) := by decide +kernel
theorem dX0_forget_2 : decode cX0_forget 2 = .ok (.putfield 35, 3) := by decide +kernel
theorem dX0_forget_5 : decode cX0_forget 5 = .ok (.iconst 0, 1) := by decide +kernel
theorem dX0_forget_6 : decode cX0_forget 6 = .ok (.istore_n 1, 1) := by decide +kernel
theorem dX0_forget_7 : decode cX0_forget 7 = .ok (.iload_n 1, 1) := by decide +kernel
theorem dX0_forget_8 : decode cX0_forget 8 = .ok (.bipush 25, 2) := by decide +kernel
theorem dX0_forget_10 : decode cX0_forget 10 = .ok (.if_icmp .ge 16, 3) := by decide +kernel
theorem dX0_forget_13 : decode cX0_forget 13 = .ok (.aload_n 0, 1) := by decide +kernel
theorem dX0_forget_14 : decode cX0_forget 14 = .ok (.getfield 25, 3) := by decide +kernel
theorem dX0_forget_17 : decode cX0_forget 17 = .ok (.iload_n 1, 1) := by decide +kernel
theorem dX0_forget_18 : decode cX0_forget 18 = .ok (.iconst 0, 1) := by decide +kernel
theorem dX0_forget_19 : decode cX0_forget 19 = .ok (.bastore, 1) := by decide +kernel
theorem dX0_forget_20 : decode cX0_forget 20 = .ok (.iinc 1 1, 3) := by decide +kernel
theorem dX0_forget_23 : decode cX0_forget 23 = .ok (.goto (-16), 3) := by decide +kernel
theorem dX0_forget_26 : decode cX0_forget 26 = .ok (.return_, 1) := by decide +kernel
abbrev cX0_rule : ByteArray := prog_1_method_8_code
def yX0_rule : MethodName := ⟨RX0, "rule", "(III)I"⟩
theorem dX0_rule_0 : decode cX0_rule 0 = .ok (.iload_n 3, 1) := by decide +kernel
theorem dX0_rule_1 : decode cX0_rule 1 = .ok (.bipush 7, 2) := by decide +kernel
theorem dX0_rule_3 : decode cX0_rule 3 = .ok (.iand, 1) := by decide +kernel
theorem dX0_rule_4 : decode cX0_rule 4 = .ok (.istore 4, 2) := by decide +kernel
theorem dX0_rule_6 : decode cX0_rule 6 = .ok (.iload_n 3, 1) := by decide +kernel
theorem dX0_rule_7 : decode cX0_rule 7 = .ok (.iconst 3, 1) := by decide +kernel
theorem dX0_rule_8 : decode cX0_rule 8 = .ok (.ishr, 1) := by decide +kernel
theorem dX0_rule_9 : decode cX0_rule 9 = .ok (.istore 5, 2) := by decide +kernel
theorem dX0_rule_11 : decode cX0_rule 11 = .ok (.iload_n 1, 1) := by decide +kernel
theorem dX0_rule_12 : decode cX0_rule 12 = .ok (.ifCond .lt 34, 3) := by decide +kernel
theorem dX0_rule_15 : decode cX0_rule 15 = .ok (.iload_n 1, 1) := by decide +kernel
theorem dX0_rule_16 : decode cX0_rule 16 = .ok (.iconst 4, 1) := by decide +kernel
theorem dX0_rule_17 : decode cX0_rule 17 = .ok (.if_icmp .gt 29, 3) := by decide +kernel
theorem dX0_rule_20 : decode cX0_rule 20 = .ok (.iload_n 2, 1) := by decide +kernel
theorem dX0_rule_21 : decode cX0_rule 21 = .ok (.iconst 2, 1) := by decide +kernel
theorem dX0_rule_22 : decode cX0_rule 22 = .ok (.if_icmp .lt 24, 3) := by decide +kernel
theorem dX0_rule_25 : decode cX0_rule 25 = .ok (.iload_n 2, 1) := by decide +kernel
theorem dX0_rule_26 : decode cX0_rule 26 = .ok (.iconst 4, 1) := by decide +kernel
theorem dX0_rule_27 : decode cX0_rule 27 = .ok (.if_icmp .gt 19, 3) := by decide +kernel
theorem dX0_rule_30 : decode cX0_rule 30 = .ok (.iload 4, 2) := by decide +kernel
theorem dX0_rule_32 : decode cX0_rule 32 = .ok (.invokestatic 49, 3) := by decide +kernel
theorem dX0_rule_35 : decode cX0_rule 35 = .ok (.ifCond .eq 11, 3) := by decide +kernel
theorem dX0_rule_38 : decode cX0_rule 38 = .ok (.iload 5, 2) := by decide +kernel
theorem dX0_rule_40 : decode cX0_rule 40 = .ok (.invokestatic 49, 3) := by decide +kernel
theorem dX0_rule_43 : decode cX0_rule 43 = .ok (.ifCond .ne 5, 3) := by decide +kernel
theorem dX0_rule_46 : decode cX0_rule 46 = .ok (.iconst (-1), 1) := by decide +kernel
theorem dX0_rule_47 : decode cX0_rule 47 = .ok (.ireturn, 1) := by decide +kernel
theorem dX0_rule_48 : decode cX0_rule 48 = .ok (.iconst 0, 1) := by decide +kernel
theorem dX0_rule_49 : decode cX0_rule 49 = .ok (.istore 6, 2) := by decide +kernel
theorem dX0_rule_51 : decode cX0_rule 51 = .ok (.iload 6, 2) := by decide +kernel
theorem dX0_rule_53 : decode cX0_rule 53 = .ok (.bipush 8, 2) := by decide +kernel
theorem dX0_rule_55 : decode cX0_rule 55 = .ok (.if_icmp .ge 76, 3) := by decide +kernel
theorem dX0_rule_58 : decode cX0_rule 58 = .ok (.aload_n 0, 1) := by decide +kernel
theorem dX0_rule_59 : decode cX0_rule 59 = .ok (.iload 6, 2) := by decide +kernel
theorem dX0_rule_61 : decode cX0_rule 61 = .ok (.invokevirtual 52, 3) := by decide +kernel
theorem dX0_rule_64 : decode cX0_rule 64 = .ok (.ifCond .ne 61, 3) := by decide +kernel
theorem dX0_rule_67 : decode cX0_rule 67 = .ok (.aload_n 0, 1) := by decide +kernel
theorem dX0_rule_68 : decode cX0_rule 68 = .ok (.dup, 1) := by decide +kernel
theorem dX0_rule_69 : decode cX0_rule 69 = .ok (.getfield 31, 3) := by decide +kernel
theorem dX0_rule_72 : decode cX0_rule 72 = .ok (.iconst 1, 1) := by decide +kernel
theorem dX0_rule_73 : decode cX0_rule 73 = .ok (.iload 6, 2) := by decide +kernel
theorem dX0_rule_75 : decode cX0_rule 75 = .ok (.ishl, 1) := by decide +kernel
theorem dX0_rule_76 : decode cX0_rule 76 = .ok (.ior, 1) := by decide +kernel
theorem dX0_rule_77 : decode cX0_rule 77 = .ok (.putfield 31, 3) := by decide +kernel
theorem dX0_rule_80 : decode cX0_rule 80 = .ok (.aload_n 0, 1) := by decide +kernel
theorem dX0_rule_81 : decode cX0_rule 81 = .ok (.getfield 13, 3) := by decide +kernel
theorem dX0_rule_84 : decode cX0_rule 84 = .ok (.iload 6, 2) := by decide +kernel
theorem dX0_rule_86 : decode cX0_rule 86 = .ok (.iload_n 1, 1) := by decide +kernel
theorem dX0_rule_87 : decode cX0_rule 87 = .ok (.i2b, 1) := by decide +kernel
theorem dX0_rule_88 : decode cX0_rule 88 = .ok (.bastore, 1) := by decide +kernel
theorem dX0_rule_89 : decode cX0_rule 89 = .ok (.aload_n 0, 1) := by decide +kernel
theorem dX0_rule_90 : decode cX0_rule 90 = .ok (.getfield 16, 3) := by decide +kernel
theorem dX0_rule_93 : decode cX0_rule 93 = .ok (.iload 6, 2) := by decide +kernel
theorem dX0_rule_95 : decode cX0_rule 95 = .ok (.iload_n 2, 1) := by decide +kernel
theorem dX0_rule_96 : decode cX0_rule 96 = .ok (.i2b, 1) := by decide +kernel
theorem dX0_rule_97 : decode cX0_rule 97 = .ok (.bastore, 1) := by decide +kernel
theorem dX0_rule_98 : decode cX0_rule 98 = .ok (.aload_n 0, 1) := by decide +kernel
theorem dX0_rule_99 : decode cX0_rule 99 = .ok (.getfield 19, 3) := by decide +kernel
theorem dX0_rule_102 : decode cX0_rule 102 = .ok (.iload 6, 2) := by decide +kernel
theorem dX0_rule_104 : decode cX0_rule 104 = .ok (.iload 4, 2) := by decide +kernel
theorem dX0_rule_106 : decode cX0_rule 106 = .ok (.i2b, 1) := by decide +kernel
theorem dX0_rule_107 : decode cX0_rule 107 = .ok (.bastore, 1) := by decide +kernel
theorem dX0_rule_108 : decode cX0_rule 108 = .ok (.aload_n 0, 1) := by decide +kernel
theorem dX0_rule_109 : decode cX0_rule 109 = .ok (.getfield 22, 3) := by decide +kernel
theorem dX0_rule_112 : decode cX0_rule 112 = .ok (.iload 6, 2) := by decide +kernel
theorem dX0_rule_114 : decode cX0_rule 114 = .ok (.iload 5, 2) := by decide +kernel
theorem dX0_rule_116 : decode cX0_rule 116 = .ok (.i2b, 1) := by decide +kernel
theorem dX0_rule_117 : decode cX0_rule 117 = .ok (.bastore, 1) := by decide +kernel
theorem dX0_rule_118 : decode cX0_rule 118 = .ok (.aload_n 0, 1) := by decide +kernel
theorem dX0_rule_119 : decode cX0_rule 119 = .ok (.invokevirtual 46, 3) := by decide +kernel
theorem dX0_rule_122 : decode cX0_rule 122 = .ok (.iload 6, 2) := by decide +kernel
theorem dX0_rule_124 : decode cX0_rule 124 = .ok (.ireturn, 1) := by decide +kernel
theorem dX0_rule_125 : decode cX0_rule 125 = .ok (.iinc 6 1, 3) := by decide +kernel
theorem dX0_rule_128 : decode cX0_rule 128 = .ok (.goto (-77), 3) := by decide +kernel
theorem dX0_rule_131 : decode cX0_rule 131 = .ok (.bipush (-2), 2) := by decide +kernel
theorem dX0_rule_133 : decode cX0_rule 133 = .ok (.ireturn, 1) := by decide +kernel
abbrev cX0_isRelation : ByteArray := prog_1_method_3_code
def yX0_isRelation : MethodName := ⟨RX0, "isRelation", "(I)Z"⟩
theorem dX0_isRelation_0 : decode cX0_isRelation 0 = .ok (.iload_n 0, 1) := by decide +kernel
theorem dX0_isRelation_1 : decode cX0_isRelation 1 = .ok (.ifCond .lt 12, 3) := by decide +kernel
theorem dX0_isRelation_4 : decode cX0_isRelation 4 = .ok (.iload_n 0, 1) := by decide +kernel
theorem dX0_isRelation_5 : decode cX0_isRelation 5 = .ok (.iconst 5, 1) := by decide +kernel
theorem dX0_isRelation_6 : decode cX0_isRelation 6 = .ok (.if_icmp .ge 7, 3) := by decide +kernel
theorem dX0_isRelation_9 : decode cX0_isRelation 9 = .ok (.iconst 1, 1) := by decide +kernel
theorem dX0_isRelation_10 : decode cX0_isRelation 10 = .ok (.goto 4, 3) := by decide +kernel
theorem dX0_isRelation_13 : decode cX0_isRelation 13 = .ok (.iconst 0, 1) := by decide +kernel
theorem dX0_isRelation_14 : decode cX0_isRelation 14 = .ok (.ireturn, 1) := by decide +kernel
abbrev cX0_has : ByteArray := prog_1_method_4_code
def yX0_has : MethodName := ⟨RX0, "has", "(I)Z"⟩
theorem dX0_has_0 : decode cX0_has 0 = .ok (.iload_n 1, 1) := by decide +kernel
theorem dX0_has_1 : decode cX0_has 1 = .ok (.ifCond .lt 24, 3) := by decide +kernel
theorem dX0_has_4 : decode cX0_has 4 = .ok (.iload_n 1, 1) := by decide +kernel
theorem dX0_has_5 : decode cX0_has 5 = .ok (.bipush 8, 2) := by decide +kernel
theorem dX0_has_7 : decode cX0_has 7 = .ok (.if_icmp .ge 18, 3) := by decide +kernel
theorem dX0_has_10 : decode cX0_has 10 = .ok (.aload_n 0, 1) := by decide +kernel
theorem dX0_has_11 : decode cX0_has 11 = .ok (.getfield 31, 3) := by decide +kernel
theorem dX0_has_14 : decode cX0_has 14 = .ok (.iload_n 1, 1) := by decide +kernel
theorem dX0_has_15 : decode cX0_has 15 = .ok (.ishr, 1) := by decide +kernel
theorem dX0_has_16 : decode cX0_has 16 = .ok (.iconst 1, 1) := by decide +kernel
theorem dX0_has_17 : decode cX0_has 17 = .ok (.iand, 1) := by decide +kernel
theorem dX0_has_18 : decode cX0_has 18 = .ok (.ifCond .eq 7, 3) := by decide +kernel
theorem dX0_has_21 : decode cX0_has 21 = .ok (.iconst 1, 1) := by decide +kernel
theorem dX0_has_22 : decode cX0_has 22 = .ok (.goto 4, 3) := by decide +kernel
theorem dX0_has_25 : decode cX0_has 25 = .ok (.iconst 0, 1) := by decide +kernel
theorem dX0_has_26 : decode cX0_has 26 = .ok (.ireturn, 1) := by decide +kernel
abbrev cX0_drop : ByteArray := prog_1_method_9_code
def yX0_drop : MethodName := ⟨RX0, "drop", "(I)Z"⟩
theorem dX0_drop_0 : decode cX0_drop 0 = .ok (.aload_n 0, 1) := by decide +kernel
theorem dX0_drop_1 : decode cX0_drop 1 = .ok (.iload_n 1, 1) := by decide +kernel
theorem dX0_drop_2 : decode cX0_drop 2 = .ok (.invokevirtual 52, 3) := by decide +kernel
theorem dX0_drop_5 : decode cX0_drop 5 = .ok (.ifCond .ne 5, 3) := by decide +kernel
theorem dX0_drop_8 : decode cX0_drop 8 = .ok (.iconst 0, 1) := by decide +kernel
theorem dX0_drop_9 : decode cX0_drop 9 = .ok (.ireturn, 1) := by decide +kernel
theorem dX0_drop_10 : decode cX0_drop 10 = .ok (.aload_n 0, 1) := by decide +kernel
theorem dX0_drop_11 : decode cX0_drop 11 = .ok (.dup, 1) := by decide +kernel
theorem dX0_drop_12 : decode cX0_drop 12 = .ok (.getfield 31, 3) := by decide +kernel
theorem dX0_drop_15 : decode cX0_drop 15 = .ok (.iconst 1, 1) := by decide +kernel
theorem dX0_drop_16 : decode cX0_drop 16 = .ok (.iload_n 1, 1) := by decide +kernel
theorem dX0_drop_17 : decode cX0_drop 17 = .ok (.ishl, 1) := by decide +kernel
theorem dX0_drop_18 : decode cX0_drop 18 = .ok (.iconst (-1), 1) := by decide +kernel
theorem dX0_drop_19 : decode cX0_drop 19 = .ok (.ixor, 1) := by decide +kernel
theorem dX0_drop_20 : decode cX0_drop 20 = .ok (.iand, 1) := by decide +kernel
theorem dX0_drop_21 : decode cX0_drop 21 = .ok (.putfield 31, 3) := by decide +kernel
theorem dX0_drop_24 : decode cX0_drop 24 = .ok (.aload_n 0, 1) := by decide +kernel
theorem dX0_drop_25 : decode cX0_drop 25 = .ok (.invokevirtual 46, 3) := by decide +kernel
theorem dX0_drop_28 : decode cX0_drop 28 = .ok (.iconst 1, 1) := by decide +kernel
theorem dX0_drop_29 : decode cX0_drop 29 = .ok (.ireturn, 1) := by decide +kernel
abbrev cX0_rules : ByteArray := prog_1_method_10_code
def yX0_rules : MethodName := ⟨RX0, "rules", "()I"⟩
theorem dX0_rules_0 : decode cX0_rules 0 = .ok (.aload_n 0, 1) := by decide +kernel
theorem dX0_rules_1 : decode cX0_rules 1 = .ok (.getfield 31, 3) := by decide +kernel
theorem dX0_rules_4 : decode cX0_rules 4 = .ok (.ireturn, 1) := by decide +kernel
abbrev cX0_holds : ByteArray := prog_1_method_17_code
def yX0_holds : MethodName := ⟨RX0, "holds", "(III)Z"⟩
theorem dX0_holds_0 : decode cX0_holds 0 = .ok (.iload_n 1, 1) := by decide +kernel
theorem dX0_holds_1 : decode cX0_holds 1 = .ok (.invokestatic 49, 3) := by decide +kernel
theorem dX0_holds_4 : decode cX0_holds 4 = .ok (.ifCond .eq 17, 3) := by decide +kernel
theorem dX0_holds_7 : decode cX0_holds 7 = .ok (.iload_n 2, 1) := by decide +kernel
theorem dX0_holds_8 : decode cX0_holds 8 = .ok (.invokestatic 38, 3) := by decide +kernel
theorem dX0_holds_11 : decode cX0_holds 11 = .ok (.ifCond .eq 10, 3) := by decide +kernel
theorem dX0_holds_14 : decode cX0_holds 14 = .ok (.iload_n 3, 1) := by decide +kernel
theorem dX0_holds_15 : decode cX0_holds 15 = .ok (.invokestatic 38, 3) := by decide +kernel
theorem dX0_holds_18 : decode cX0_holds 18 = .ok (.ifCond .ne 5, 3) := by decide +kernel
theorem dX0_holds_21 : decode cX0_holds 21 = .ok (.iconst 0, 1) := by decide +kernel
theorem dX0_holds_22 : decode cX0_holds 22 = .ok (.ireturn, 1) := by decide +kernel
theorem dX0_holds_23 : decode cX0_holds 23 = .ok (.aload_n 0, 1) := by decide +kernel
theorem dX0_holds_24 : decode cX0_holds 24 = .ok (.iload_n 1, 1) := by decide +kernel
theorem dX0_holds_25 : decode cX0_holds 25 = .ok (.iload_n 2, 1) := by decide +kernel
theorem dX0_holds_26 : decode cX0_holds 26 = .ok (.invokevirtual 76, 3) := by decide +kernel
theorem dX0_holds_29 : decode cX0_holds 29 = .ok (.istore 4, 2) := by decide +kernel
theorem dX0_holds_31 : decode cX0_holds 31 = .ok (.iload 4, 2) := by decide +kernel
theorem dX0_holds_33 : decode cX0_holds 33 = .ok (.iload_n 3, 1) := by decide +kernel
theorem dX0_holds_34 : decode cX0_holds 34 = .ok (.ishr, 1) := by decide +kernel
theorem dX0_holds_35 : decode cX0_holds 35 = .ok (.iconst 1, 1) := by decide +kernel
theorem dX0_holds_36 : decode cX0_holds 36 = .ok (.iand, 1) := by decide +kernel
theorem dX0_holds_37 : decode cX0_holds 37 = .ok (.ifCond .eq 7, 3) := by decide +kernel
theorem dX0_holds_40 : decode cX0_holds 40 = .ok (.iconst 1, 1) := by decide +kernel
theorem dX0_holds_41 : decode cX0_holds 41 = .ok (.goto 4, 3) := by decide +kernel
theorem dX0_holds_44 : decode cX0_holds 44 = .ok (.iconst 0, 1) := by decide +kernel
theorem dX0_holds_45 : decode cX0_holds 45 = .ok (.ireturn, 1) := by decide +kernel
abbrev cX0_settle : ByteArray := prog_1_method_12_code
def yX0_settle : MethodName := ⟨RX0, "settle", "(II)I"⟩
theorem dX0_settle_0 : decode cX0_settle 0 = .ok (.aload_n 0, 1) := by decide +kernel
theorem dX0_settle_1 : decode cX0_settle 1 = .ok (.iload_n 1, 1) := by decide +kernel
theorem dX0_settle_2 : decode cX0_settle 2 = .ok (.iload_n 2, 1) := by decide +kernel
theorem dX0_settle_3 : decode cX0_settle 3 = .ok (.invokevirtual 59, 3) := by decide +kernel
theorem dX0_settle_6 : decode cX0_settle 6 = .ok (.pop, 1) := by decide +kernel
theorem dX0_settle_7 : decode cX0_settle 7 = .ok (.aload_n 0, 1) := by decide +kernel
theorem dX0_settle_8 : decode cX0_settle 8 = .ok (.iconst 1, 1) := by decide +kernel
theorem dX0_settle_9 : decode cX0_settle 9 = .ok (.putfield 55, 3) := by decide +kernel
theorem dX0_settle_12 : decode cX0_settle 12 = .ok (.iconst 0, 1) := by decide +kernel
theorem dX0_settle_13 : decode cX0_settle 13 = .ok (.istore_n 3, 1) := by decide +kernel
theorem dX0_settle_14 : decode cX0_settle 14 = .ok (.iload_n 3, 1) := by decide +kernel
theorem dX0_settle_15 : decode cX0_settle 15 = .ok (.bipush 100, 2) := by decide +kernel
theorem dX0_settle_17 : decode cX0_settle 17 = .ok (.if_icmp .ge 56, 3) := by decide +kernel
theorem dX0_settle_20 : decode cX0_settle 20 = .ok (.aload_n 0, 1) := by decide +kernel
theorem dX0_settle_21 : decode cX0_settle 21 = .ok (.getfield 55, 3) := by decide +kernel
theorem dX0_settle_24 : decode cX0_settle 24 = .ok (.ifCond .eq 49, 3) := by decide +kernel
theorem dX0_settle_27 : decode cX0_settle 27 = .ok (.aload_n 0, 1) := by decide +kernel
theorem dX0_settle_28 : decode cX0_settle 28 = .ok (.iconst 0, 1) := by decide +kernel
theorem dX0_settle_29 : decode cX0_settle 29 = .ok (.putfield 55, 3) := by decide +kernel
theorem dX0_settle_32 : decode cX0_settle 32 = .ok (.bipush 10, 2) := by decide +kernel
theorem dX0_settle_34 : decode cX0_settle 34 = .ok (.istore 4, 2) := by decide +kernel
theorem dX0_settle_36 : decode cX0_settle 36 = .ok (.iload 4, 2) := by decide +kernel
theorem dX0_settle_38 : decode cX0_settle 38 = .ok (.bipush 25, 2) := by decide +kernel
theorem dX0_settle_40 : decode cX0_settle 40 = .ok (.if_icmp .ge 27, 3) := by decide +kernel
theorem dX0_settle_43 : decode cX0_settle 43 = .ok (.aload_n 0, 1) := by decide +kernel
theorem dX0_settle_44 : decode cX0_settle 44 = .ok (.getfield 35, 3) := by decide +kernel
theorem dX0_settle_47 : decode cX0_settle 47 = .ok (.iload 4, 2) := by decide +kernel
theorem dX0_settle_49 : decode cX0_settle 49 = .ok (.ishr, 1) := by decide +kernel
theorem dX0_settle_50 : decode cX0_settle 50 = .ok (.iconst 1, 1) := by decide +kernel
theorem dX0_settle_51 : decode cX0_settle 51 = .ok (.iand, 1) := by decide +kernel
theorem dX0_settle_52 : decode cX0_settle 52 = .ok (.ifCond .eq 9, 3) := by decide +kernel
theorem dX0_settle_55 : decode cX0_settle 55 = .ok (.aload_n 0, 1) := by decide +kernel
theorem dX0_settle_56 : decode cX0_settle 56 = .ok (.iload 4, 2) := by decide +kernel
theorem dX0_settle_58 : decode cX0_settle 58 = .ok (.invokevirtual 63, 3) := by decide +kernel
theorem dX0_settle_61 : decode cX0_settle 61 = .ok (.iinc 4 1, 3) := by decide +kernel
theorem dX0_settle_64 : decode cX0_settle 64 = .ok (.goto (-28), 3) := by decide +kernel
theorem dX0_settle_67 : decode cX0_settle 67 = .ok (.iinc 3 1, 3) := by decide +kernel
theorem dX0_settle_70 : decode cX0_settle 70 = .ok (.goto (-56), 3) := by decide +kernel
theorem dX0_settle_73 : decode cX0_settle 73 = .ok (.aload_n 0, 1) := by decide +kernel
theorem dX0_settle_74 : decode cX0_settle 74 = .ok (.iload_n 1, 1) := by decide +kernel
theorem dX0_settle_75 : decode cX0_settle 75 = .ok (.iload_n 2, 1) := by decide +kernel
theorem dX0_settle_76 : decode cX0_settle 76 = .ok (.invokevirtual 59, 3) := by decide +kernel
theorem dX0_settle_79 : decode cX0_settle 79 = .ok (.ireturn, 1) := by decide +kernel
end
section
set_option maxRecDepth 100000
abbrev cX0_ask : ByteArray := prog_1_method_11_code
def yX0_ask : MethodName := ⟨RX0, "ask", "(II)I"⟩
theorem dX0_ask_0 : decode cX0_ask 0 = .ok (.iload_n 1, 1) := by decide +kernel
theorem dX0_ask_1 : decode cX0_ask 1 = .ok (.iconst 2, 1) := by decide +kernel
theorem dX0_ask_2 : decode cX0_ask 2 = .ok (.if_icmp .ge 14, 3) := by decide +kernel
theorem dX0_ask_5 : decode cX0_ask 5 = .ok (.aload_n 0, 1) := by decide +kernel
theorem dX0_ask_6 : decode cX0_ask 6 = .ok (.getfield 7, 3) := by decide +kernel
theorem dX0_ask_9 : decode cX0_ask 9 = .ok (.iload_n 1, 1) := by decide +kernel
theorem dX0_ask_10 : decode cX0_ask 10 = .ok (.iconst 5, 1) := by decide +kernel
theorem dX0_ask_11 : decode cX0_ask 11 = .ok (.imul, 1) := by decide +kernel
theorem dX0_ask_12 : decode cX0_ask 12 = .ok (.iload_n 2, 1) := by decide +kernel
theorem dX0_ask_13 : decode cX0_ask 13 = .ok (.iadd, 1) := by decide +kernel
theorem dX0_ask_14 : decode cX0_ask 14 = .ok (.baload, 1) := by decide +kernel
theorem dX0_ask_15 : decode cX0_ask 15 = .ok (.ireturn, 1) := by decide +kernel
theorem dX0_ask_16 : decode cX0_ask 16 = .ok (.iload_n 1, 1) := by decide +kernel
theorem dX0_ask_17 : decode cX0_ask 17 = .ok (.iconst 5, 1) := by decide +kernel
theorem dX0_ask_18 : decode cX0_ask 18 = .ok (.imul, 1) := by decide +kernel
theorem dX0_ask_19 : decode cX0_ask 19 = .ok (.iload_n 2, 1) := by decide +kernel
theorem dX0_ask_20 : decode cX0_ask 20 = .ok (.iadd, 1) := by decide +kernel
theorem dX0_ask_21 : decode cX0_ask 21 = .ok (.istore_n 3, 1) := by decide +kernel
theorem dX0_ask_22 : decode cX0_ask 22 = .ok (.aload_n 0, 1) := by decide +kernel
theorem dX0_ask_23 : decode cX0_ask 23 = .ok (.getfield 35, 3) := by decide +kernel
theorem dX0_ask_26 : decode cX0_ask 26 = .ok (.iload_n 3, 1) := by decide +kernel
theorem dX0_ask_27 : decode cX0_ask 27 = .ok (.ishr, 1) := by decide +kernel
theorem dX0_ask_28 : decode cX0_ask 28 = .ok (.iconst 1, 1) := by decide +kernel
theorem dX0_ask_29 : decode cX0_ask 29 = .ok (.iand, 1) := by decide +kernel
theorem dX0_ask_30 : decode cX0_ask 30 = .ok (.ifCond .ne 20, 3) := by decide +kernel
theorem dX0_ask_33 : decode cX0_ask 33 = .ok (.aload_n 0, 1) := by decide +kernel
theorem dX0_ask_34 : decode cX0_ask 34 = .ok (.dup, 1) := by decide +kernel
theorem dX0_ask_35 : decode cX0_ask 35 = .ok (.getfield 35, 3) := by decide +kernel
theorem dX0_ask_38 : decode cX0_ask 38 = .ok (.iconst 1, 1) := by decide +kernel
theorem dX0_ask_39 : decode cX0_ask 39 = .ok (.iload_n 3, 1) := by decide +kernel
theorem dX0_ask_40 : decode cX0_ask 40 = .ok (.ishl, 1) := by decide +kernel
theorem dX0_ask_41 : decode cX0_ask 41 = .ok (.ior, 1) := by decide +kernel
theorem dX0_ask_42 : decode cX0_ask 42 = .ok (.putfield 35, 3) := by decide +kernel
theorem dX0_ask_45 : decode cX0_ask 45 = .ok (.aload_n 0, 1) := by decide +kernel
theorem dX0_ask_46 : decode cX0_ask 46 = .ok (.iconst 1, 1) := by decide +kernel
theorem dX0_ask_47 : decode cX0_ask 47 = .ok (.putfield 55, 3) := by decide +kernel
theorem dX0_ask_50 : decode cX0_ask 50 = .ok (.aload_n 0, 1) := by decide +kernel
theorem dX0_ask_51 : decode cX0_ask 51 = .ok (.getfield 25, 3) := by decide +kernel
theorem dX0_ask_54 : decode cX0_ask 54 = .ok (.iload_n 3, 1) := by decide +kernel
theorem dX0_ask_55 : decode cX0_ask 55 = .ok (.baload, 1) := by decide +kernel
theorem dX0_ask_56 : decode cX0_ask 56 = .ok (.ireturn, 1) := by decide +kernel
abbrev cX0_work : ByteArray := prog_1_method_13_code
def yX0_work : MethodName := ⟨RX0, "work", "(I)V"⟩
theorem dX0_work_0 : decode cX0_work 0 = .ok (.iload_n 1, 1) := by decide +kernel
theorem dX0_work_1 : decode cX0_work 1 = .ok (.iconst 5, 1) := by decide +kernel
theorem dX0_work_2 : decode cX0_work 2 = .ok (.idiv, 1) := by decide +kernel
theorem dX0_work_3 : decode cX0_work 3 = .ok (.istore_n 2, 1) := by decide +kernel
theorem dX0_work_4 : decode cX0_work 4 = .ok (.iload_n 1, 1) := by decide +kernel
theorem dX0_work_5 : decode cX0_work 5 = .ok (.iconst 5, 1) := by decide +kernel
theorem dX0_work_6 : decode cX0_work 6 = .ok (.irem, 1) := by decide +kernel
theorem dX0_work_7 : decode cX0_work 7 = .ok (.istore_n 3, 1) := by decide +kernel
theorem dX0_work_8 : decode cX0_work 8 = .ok (.aload_n 0, 1) := by decide +kernel
theorem dX0_work_9 : decode cX0_work 9 = .ok (.getfield 25, 3) := by decide +kernel
theorem dX0_work_12 : decode cX0_work 12 = .ok (.iload_n 1, 1) := by decide +kernel
theorem dX0_work_13 : decode cX0_work 13 = .ok (.baload, 1) := by decide +kernel
theorem dX0_work_14 : decode cX0_work 14 = .ok (.istore 4, 2) := by decide +kernel
theorem dX0_work_16 : decode cX0_work 16 = .ok (.iconst 0, 1) := by decide +kernel
theorem dX0_work_17 : decode cX0_work 17 = .ok (.istore 5, 2) := by decide +kernel
theorem dX0_work_19 : decode cX0_work 19 = .ok (.iload 5, 2) := by decide +kernel
theorem dX0_work_21 : decode cX0_work 21 = .ok (.bipush 8, 2) := by decide +kernel
theorem dX0_work_23 : decode cX0_work 23 = .ok (.if_icmp .ge 41, 3) := by decide +kernel
theorem dX0_work_26 : decode cX0_work 26 = .ok (.aload_n 0, 1) := by decide +kernel
theorem dX0_work_27 : decode cX0_work 27 = .ok (.iload 5, 2) := by decide +kernel
theorem dX0_work_29 : decode cX0_work 29 = .ok (.invokevirtual 52, 3) := by decide +kernel
theorem dX0_work_32 : decode cX0_work 32 = .ok (.ifCond .eq 26, 3) := by decide +kernel
theorem dX0_work_35 : decode cX0_work 35 = .ok (.aload_n 0, 1) := by decide +kernel
theorem dX0_work_36 : decode cX0_work 36 = .ok (.getfield 16, 3) := by decide +kernel
theorem dX0_work_39 : decode cX0_work 39 = .ok (.iload 5, 2) := by decide +kernel
theorem dX0_work_41 : decode cX0_work 41 = .ok (.baload, 1) := by decide +kernel
theorem dX0_work_42 : decode cX0_work 42 = .ok (.iload_n 2, 1) := by decide +kernel
theorem dX0_work_43 : decode cX0_work 43 = .ok (.if_icmp .ne 15, 3) := by decide +kernel
theorem dX0_work_46 : decode cX0_work 46 = .ok (.iload 4, 2) := by decide +kernel
theorem dX0_work_48 : decode cX0_work 48 = .ok (.aload_n 0, 1) := by decide +kernel
theorem dX0_work_49 : decode cX0_work 49 = .ok (.iload 5, 2) := by decide +kernel
theorem dX0_work_51 : decode cX0_work 51 = .ok (.iload_n 3, 1) := by decide +kernel
theorem dX0_work_52 : decode cX0_work 52 = .ok (.invokevirtual 67, 3) := by decide +kernel
theorem dX0_work_55 : decode cX0_work 55 = .ok (.ior, 1) := by decide +kernel
theorem dX0_work_56 : decode cX0_work 56 = .ok (.istore 4, 2) := by decide +kernel
theorem dX0_work_58 : decode cX0_work 58 = .ok (.iinc 5 1, 3) := by decide +kernel
theorem dX0_work_61 : decode cX0_work 61 = .ok (.goto (-42), 3) := by decide +kernel
theorem dX0_work_64 : decode cX0_work 64 = .ok (.iload 4, 2) := by decide +kernel
theorem dX0_work_66 : decode cX0_work 66 = .ok (.aload_n 0, 1) := by decide +kernel
theorem dX0_work_67 : decode cX0_work 67 = .ok (.getfield 25, 3) := by decide +kernel
theorem dX0_work_70 : decode cX0_work 70 = .ok (.iload_n 1, 1) := by decide +kernel
theorem dX0_work_71 : decode cX0_work 71 = .ok (.baload, 1) := by decide +kernel
theorem dX0_work_72 : decode cX0_work 72 = .ok (.if_icmp .eq 17, 3) := by decide +kernel
theorem dX0_work_75 : decode cX0_work 75 = .ok (.aload_n 0, 1) := by decide +kernel
theorem dX0_work_76 : decode cX0_work 76 = .ok (.getfield 25, 3) := by decide +kernel
theorem dX0_work_79 : decode cX0_work 79 = .ok (.iload_n 1, 1) := by decide +kernel
theorem dX0_work_80 : decode cX0_work 80 = .ok (.iload 4, 2) := by decide +kernel
theorem dX0_work_82 : decode cX0_work 82 = .ok (.i2b, 1) := by decide +kernel
theorem dX0_work_83 : decode cX0_work 83 = .ok (.bastore, 1) := by decide +kernel
theorem dX0_work_84 : decode cX0_work 84 = .ok (.aload_n 0, 1) := by decide +kernel
theorem dX0_work_85 : decode cX0_work 85 = .ok (.iconst 1, 1) := by decide +kernel
theorem dX0_work_86 : decode cX0_work 86 = .ok (.putfield 55, 3) := by decide +kernel
theorem dX0_work_89 : decode cX0_work 89 = .ok (.return_, 1) := by decide +kernel
abbrev cX0_bring : ByteArray := prog_1_method_14_code
def yX0_bring : MethodName := ⟨RX0, "bring", "(II)I"⟩
theorem dX0_bring_0 : decode cX0_bring 0 = .ok (.aload_n 0, 1) := by decide +kernel
theorem dX0_bring_1 : decode cX0_bring 1 = .ok (.getfield 13, 3) := by decide +kernel
theorem dX0_bring_4 : decode cX0_bring 4 = .ok (.iload_n 1, 1) := by decide +kernel
theorem dX0_bring_5 : decode cX0_bring 5 = .ok (.baload, 1) := by decide +kernel
theorem dX0_bring_6 : decode cX0_bring 6 = .ok (.istore_n 3, 1) := by decide +kernel
theorem dX0_bring_7 : decode cX0_bring 7 = .ok (.aload_n 0, 1) := by decide +kernel
theorem dX0_bring_8 : decode cX0_bring 8 = .ok (.getfield 19, 3) := by decide +kernel
theorem dX0_bring_11 : decode cX0_bring 11 = .ok (.iload_n 1, 1) := by decide +kernel
theorem dX0_bring_12 : decode cX0_bring 12 = .ok (.baload, 1) := by decide +kernel
theorem dX0_bring_13 : decode cX0_bring 13 = .ok (.istore 4, 2) := by decide +kernel
theorem dX0_bring_15 : decode cX0_bring 15 = .ok (.aload_n 0, 1) := by decide +kernel
theorem dX0_bring_16 : decode cX0_bring 16 = .ok (.getfield 22, 3) := by decide +kernel
theorem dX0_bring_19 : decode cX0_bring 19 = .ok (.iload_n 1, 1) := by decide +kernel
theorem dX0_bring_20 : decode cX0_bring 20 = .ok (.baload, 1) := by decide +kernel
theorem dX0_bring_21 : decode cX0_bring 21 = .ok (.istore 5, 2) := by decide +kernel
theorem dX0_bring_23 : decode cX0_bring 23 = .ok (.iload_n 3, 1) := by decide +kernel
theorem dX0_bring_24 : decode cX0_bring 24 = .ok (.iconst 1, 1) := by decide +kernel
theorem dX0_bring_25 : decode cX0_bring 25 = .ok (.if_icmp .ne 11, 3) := by decide +kernel
theorem dX0_bring_28 : decode cX0_bring 28 = .ok (.aload_n 0, 1) := by decide +kernel
theorem dX0_bring_29 : decode cX0_bring 29 = .ok (.iload 4, 2) := by decide +kernel
theorem dX0_bring_31 : decode cX0_bring 31 = .ok (.iload_n 2, 1) := by decide +kernel
theorem dX0_bring_32 : decode cX0_bring 32 = .ok (.invokevirtual 70, 3) := by decide +kernel
theorem dX0_bring_35 : decode cX0_bring 35 = .ok (.ireturn, 1) := by decide +kernel
theorem dX0_bring_36 : decode cX0_bring 36 = .ok (.aload_n 0, 1) := by decide +kernel
theorem dX0_bring_37 : decode cX0_bring 37 = .ok (.iload 4, 2) := by decide +kernel
theorem dX0_bring_39 : decode cX0_bring 39 = .ok (.iload_n 2, 1) := by decide +kernel
theorem dX0_bring_40 : decode cX0_bring 40 = .ok (.invokevirtual 59, 3) := by decide +kernel
theorem dX0_bring_43 : decode cX0_bring 43 = .ok (.istore 6, 2) := by decide +kernel
theorem dX0_bring_45 : decode cX0_bring 45 = .ok (.iload_n 3, 1) := by decide +kernel
theorem dX0_bring_46 : decode cX0_bring 46 = .ok (.ifCond .eq 8, 3) := by decide +kernel
theorem dX0_bring_49 : decode cX0_bring 49 = .ok (.iload 6, 2) := by decide +kernel
theorem dX0_bring_51 : decode cX0_bring 51 = .ok (.ifCond .ne 6, 3) := by decide +kernel
theorem dX0_bring_54 : decode cX0_bring 54 = .ok (.iload 6, 2) := by decide +kernel
theorem dX0_bring_56 : decode cX0_bring 56 = .ok (.ireturn, 1) := by decide +kernel
theorem dX0_bring_57 : decode cX0_bring 57 = .ok (.iload_n 3, 1) := by decide +kernel
theorem dX0_bring_58 : decode cX0_bring 58 = .ok (.iconst 2, 1) := by decide +kernel
theorem dX0_bring_59 : decode cX0_bring 59 = .ok (.if_icmp .ne 12, 3) := by decide +kernel
theorem dX0_bring_62 : decode cX0_bring 62 = .ok (.aload_n 0, 1) := by decide +kernel
theorem dX0_bring_63 : decode cX0_bring 63 = .ok (.iload 6, 2) := by decide +kernel
theorem dX0_bring_65 : decode cX0_bring 65 = .ok (.iload 5, 2) := by decide +kernel
theorem dX0_bring_67 : decode cX0_bring 67 = .ok (.invokevirtual 73, 3) := by decide +kernel
theorem dX0_bring_70 : decode cX0_bring 70 = .ok (.ireturn, 1) := by decide +kernel
theorem dX0_bring_71 : decode cX0_bring 71 = .ok (.aload_n 0, 1) := by decide +kernel
theorem dX0_bring_72 : decode cX0_bring 72 = .ok (.iload 5, 2) := by decide +kernel
theorem dX0_bring_74 : decode cX0_bring 74 = .ok (.iload_n 2, 1) := by decide +kernel
theorem dX0_bring_75 : decode cX0_bring 75 = .ok (.invokevirtual 59, 3) := by decide +kernel
theorem dX0_bring_78 : decode cX0_bring 78 = .ok (.istore 7, 2) := by decide +kernel
theorem dX0_bring_80 : decode cX0_bring 80 = .ok (.iload_n 3, 1) := by decide +kernel
theorem dX0_bring_81 : decode cX0_bring 81 = .ok (.iconst 3, 1) := by decide +kernel
theorem dX0_bring_82 : decode cX0_bring 82 = .ok (.if_icmp .ne 11, 3) := by decide +kernel
theorem dX0_bring_85 : decode cX0_bring 85 = .ok (.iload 6, 2) := by decide +kernel
theorem dX0_bring_87 : decode cX0_bring 87 = .ok (.iload 7, 2) := by decide +kernel
theorem dX0_bring_89 : decode cX0_bring 89 = .ok (.iand, 1) := by decide +kernel
theorem dX0_bring_90 : decode cX0_bring 90 = .ok (.goto 14, 3) := by decide +kernel
theorem dX0_bring_93 : decode cX0_bring 93 = .ok (.iload 7, 2) := by decide +kernel
theorem dX0_bring_95 : decode cX0_bring 95 = .ok (.ifCond .eq 8, 3) := by decide +kernel
theorem dX0_bring_98 : decode cX0_bring 98 = .ok (.iload 6, 2) := by decide +kernel
theorem dX0_bring_100 : decode cX0_bring 100 = .ok (.goto 4, 3) := by decide +kernel
theorem dX0_bring_103 : decode cX0_bring 103 = .ok (.iconst 0, 1) := by decide +kernel
theorem dX0_bring_104 : decode cX0_bring 104 = .ok (.ireturn, 1) := by decide +kernel
abbrev cX0_turned : ByteArray := prog_1_method_15_code
def yX0_turned : MethodName := ⟨RX0, "turned", "(II)I"⟩
theorem dX0_turned_0 : decode cX0_turned 0 = .ok (.iconst 0, 1) := by decide +kernel
theorem dX0_turned_1 : decode cX0_turned 1 = .ok (.istore_n 3, 1) := by decide +kernel
theorem dX0_turned_2 : decode cX0_turned 2 = .ok (.iconst 0, 1) := by decide +kernel
theorem dX0_turned_3 : decode cX0_turned 3 = .ok (.istore 4, 2) := by decide +kernel
theorem dX0_turned_5 : decode cX0_turned 5 = .ok (.iload 4, 2) := by decide +kernel
theorem dX0_turned_7 : decode cX0_turned 7 = .ok (.iconst 5, 1) := by decide +kernel
theorem dX0_turned_8 : decode cX0_turned 8 = .ok (.if_icmp .ge 30, 3) := by decide +kernel
theorem dX0_turned_11 : decode cX0_turned 11 = .ok (.aload_n 0, 1) := by decide +kernel
theorem dX0_turned_12 : decode cX0_turned 12 = .ok (.iload_n 1, 1) := by decide +kernel
theorem dX0_turned_13 : decode cX0_turned 13 = .ok (.iload 4, 2) := by decide +kernel
theorem dX0_turned_15 : decode cX0_turned 15 = .ok (.invokevirtual 59, 3) := by decide +kernel
theorem dX0_turned_18 : decode cX0_turned 18 = .ok (.istore 5, 2) := by decide +kernel
theorem dX0_turned_20 : decode cX0_turned 20 = .ok (.iload_n 3, 1) := by decide +kernel
theorem dX0_turned_21 : decode cX0_turned 21 = .ok (.iload 5, 2) := by decide +kernel
theorem dX0_turned_23 : decode cX0_turned 23 = .ok (.iload_n 2, 1) := by decide +kernel
theorem dX0_turned_24 : decode cX0_turned 24 = .ok (.ishr, 1) := by decide +kernel
theorem dX0_turned_25 : decode cX0_turned 25 = .ok (.iconst 1, 1) := by decide +kernel
theorem dX0_turned_26 : decode cX0_turned 26 = .ok (.iand, 1) := by decide +kernel
theorem dX0_turned_27 : decode cX0_turned 27 = .ok (.iload 4, 2) := by decide +kernel
theorem dX0_turned_29 : decode cX0_turned 29 = .ok (.ishl, 1) := by decide +kernel
theorem dX0_turned_30 : decode cX0_turned 30 = .ok (.ior, 1) := by decide +kernel
theorem dX0_turned_31 : decode cX0_turned 31 = .ok (.istore_n 3, 1) := by decide +kernel
theorem dX0_turned_32 : decode cX0_turned 32 = .ok (.iinc 4 1, 3) := by decide +kernel
theorem dX0_turned_35 : decode cX0_turned 35 = .ok (.goto (-30), 3) := by decide +kernel
theorem dX0_turned_38 : decode cX0_turned 38 = .ok (.iload_n 3, 1) := by decide +kernel
theorem dX0_turned_39 : decode cX0_turned 39 = .ok (.ireturn, 1) := by decide +kernel
abbrev cX0_joined : ByteArray := prog_1_method_16_code
def yX0_joined : MethodName := ⟨RX0, "joined", "(II)I"⟩
theorem dX0_joined_0 : decode cX0_joined 0 = .ok (.iconst 0, 1) := by decide +kernel
theorem dX0_joined_1 : decode cX0_joined 1 = .ok (.istore_n 3, 1) := by decide +kernel
theorem dX0_joined_2 : decode cX0_joined 2 = .ok (.iconst 0, 1) := by decide +kernel
theorem dX0_joined_3 : decode cX0_joined 3 = .ok (.istore 4, 2) := by decide +kernel
theorem dX0_joined_5 : decode cX0_joined 5 = .ok (.iload 4, 2) := by decide +kernel
theorem dX0_joined_7 : decode cX0_joined 7 = .ok (.iconst 5, 1) := by decide +kernel
theorem dX0_joined_8 : decode cX0_joined 8 = .ok (.if_icmp .ge 28, 3) := by decide +kernel
theorem dX0_joined_11 : decode cX0_joined 11 = .ok (.iload_n 1, 1) := by decide +kernel
theorem dX0_joined_12 : decode cX0_joined 12 = .ok (.iload 4, 2) := by decide +kernel
theorem dX0_joined_14 : decode cX0_joined 14 = .ok (.ishr, 1) := by decide +kernel
theorem dX0_joined_15 : decode cX0_joined 15 = .ok (.iconst 1, 1) := by decide +kernel
theorem dX0_joined_16 : decode cX0_joined 16 = .ok (.iand, 1) := by decide +kernel
theorem dX0_joined_17 : decode cX0_joined 17 = .ok (.ifCond .eq 13, 3) := by decide +kernel
theorem dX0_joined_20 : decode cX0_joined 20 = .ok (.iload_n 3, 1) := by decide +kernel
theorem dX0_joined_21 : decode cX0_joined 21 = .ok (.aload_n 0, 1) := by decide +kernel
theorem dX0_joined_22 : decode cX0_joined 22 = .ok (.iload_n 2, 1) := by decide +kernel
theorem dX0_joined_23 : decode cX0_joined 23 = .ok (.iload 4, 2) := by decide +kernel
theorem dX0_joined_25 : decode cX0_joined 25 = .ok (.invokevirtual 59, 3) := by decide +kernel
theorem dX0_joined_28 : decode cX0_joined 28 = .ok (.ior, 1) := by decide +kernel
theorem dX0_joined_29 : decode cX0_joined 29 = .ok (.istore_n 3, 1) := by decide +kernel
theorem dX0_joined_30 : decode cX0_joined 30 = .ok (.iinc 4 1, 3) := by decide +kernel
theorem dX0_joined_33 : decode cX0_joined 33 = .ok (.goto (-28), 3) := by decide +kernel
theorem dX0_joined_36 : decode cX0_joined 36 = .ok (.iload_n 3, 1) := by decide +kernel
theorem dX0_joined_37 : decode cX0_joined 37 = .ok (.ireturn, 1) := by decide +kernel
abbrev cX0_from : ByteArray := prog_1_method_18_code
def yX0_from : MethodName := ⟨RX0, "from", "(II)I"⟩
theorem dX0_from_0 : decode cX0_from 0 = .ok (.iload_n 1, 1) := by decide +kernel
theorem dX0_from_1 : decode cX0_from 1 = .ok (.invokestatic 49, 3) := by decide +kernel
theorem dX0_from_4 : decode cX0_from 4 = .ok (.ifCond .eq 19, 3) := by decide +kernel
theorem dX0_from_7 : decode cX0_from 7 = .ok (.iload_n 2, 1) := by decide +kernel
theorem dX0_from_8 : decode cX0_from 8 = .ok (.invokestatic 38, 3) := by decide +kernel
theorem dX0_from_11 : decode cX0_from 11 = .ok (.ifCond .eq 12, 3) := by decide +kernel
theorem dX0_from_14 : decode cX0_from 14 = .ok (.aload_n 0, 1) := by decide +kernel
theorem dX0_from_15 : decode cX0_from 15 = .ok (.iload_n 1, 1) := by decide +kernel
theorem dX0_from_16 : decode cX0_from 16 = .ok (.iload_n 2, 1) := by decide +kernel
theorem dX0_from_17 : decode cX0_from 17 = .ok (.invokevirtual 76, 3) := by decide +kernel
theorem dX0_from_20 : decode cX0_from 20 = .ok (.goto 4, 3) := by decide +kernel
theorem dX0_from_23 : decode cX0_from 23 = .ok (.iconst 0, 1) := by decide +kernel
theorem dX0_from_24 : decode cX0_from 24 = .ok (.ireturn, 1) := by decide +kernel
abbrev cX0_to : ByteArray := prog_1_method_19_code
def yX0_to : MethodName := ⟨RX0, "to", "(II)I"⟩
theorem dX0_to_0 : decode cX0_to 0 = .ok (.iconst 0, 1) := by decide +kernel
theorem dX0_to_1 : decode cX0_to 1 = .ok (.istore_n 3, 1) := by decide +kernel
theorem dX0_to_2 : decode cX0_to 2 = .ok (.iconst 0, 1) := by decide +kernel
theorem dX0_to_3 : decode cX0_to 3 = .ok (.istore 4, 2) := by decide +kernel
theorem dX0_to_5 : decode cX0_to 5 = .ok (.iload 4, 2) := by decide +kernel
theorem dX0_to_7 : decode cX0_to 7 = .ok (.iconst 5, 1) := by decide +kernel
theorem dX0_to_8 : decode cX0_to 8 = .ok (.if_icmp .ge 31, 3) := by decide +kernel
theorem dX0_to_11 : decode cX0_to 11 = .ok (.iload_n 3, 1) := by decide +kernel
theorem dX0_to_12 : decode cX0_to 12 = .ok (.aload_n 0, 1) := by decide +kernel
theorem dX0_to_13 : decode cX0_to 13 = .ok (.iload_n 1, 1) := by decide +kernel
theorem dX0_to_14 : decode cX0_to 14 = .ok (.iload 4, 2) := by decide +kernel
theorem dX0_to_16 : decode cX0_to 16 = .ok (.iload_n 2, 1) := by decide +kernel
theorem dX0_to_17 : decode cX0_to 17 = .ok (.invokevirtual 79, 3) := by decide +kernel
theorem dX0_to_20 : decode cX0_to 20 = .ok (.ifCond .eq 10, 3) := by decide +kernel
theorem dX0_to_23 : decode cX0_to 23 = .ok (.iconst 1, 1) := by decide +kernel
theorem dX0_to_24 : decode cX0_to 24 = .ok (.iload 4, 2) := by decide +kernel
theorem dX0_to_26 : decode cX0_to 26 = .ok (.ishl, 1) := by decide +kernel
theorem dX0_to_27 : decode cX0_to 27 = .ok (.goto 4, 3) := by decide +kernel
theorem dX0_to_30 : decode cX0_to 30 = .ok (.iconst 0, 1) := by decide +kernel
theorem dX0_to_31 : decode cX0_to 31 = .ok (.ior, 1) := by decide +kernel
theorem dX0_to_32 : decode cX0_to 32 = .ok (.istore_n 3, 1) := by decide +kernel
theorem dX0_to_33 : decode cX0_to 33 = .ok (.iinc 4 1, 3) := by decide +kernel
theorem dX0_to_36 : decode cX0_to 36 = .ok (.goto (-31), 3) := by decide +kernel
theorem dX0_to_39 : decode cX0_to 39 = .ok (.iload_n 3, 1) := by decide +kernel
theorem dX0_to_40 : decode cX0_to 40 = .ok (.ireturn, 1) := by decide +kernel
abbrev cX0_count : ByteArray := prog_1_method_21_code
def yX0_count : MethodName := ⟨RX0, "count", "(I)I"⟩
theorem dX0_count_0 : decode cX0_count 0 = .ok (.iload_n 1, 1) := by decide +kernel
theorem dX0_count_1 : decode cX0_count 1 = .ok (.invokestatic 49, 3) := by decide +kernel
theorem dX0_count_4 : decode cX0_count 4 = .ok (.ifCond .ne 5, 3) := by decide +kernel
theorem dX0_count_7 : decode cX0_count 7 = .ok (.iconst (-1), 1) := by decide +kernel
theorem dX0_count_8 : decode cX0_count 8 = .ok (.ireturn, 1) := by decide +kernel
theorem dX0_count_9 : decode cX0_count 9 = .ok (.iconst 0, 1) := by decide +kernel
theorem dX0_count_10 : decode cX0_count 10 = .ok (.istore_n 2, 1) := by decide +kernel
theorem dX0_count_11 : decode cX0_count 11 = .ok (.iconst 0, 1) := by decide +kernel
theorem dX0_count_12 : decode cX0_count 12 = .ok (.istore_n 3, 1) := by decide +kernel
theorem dX0_count_13 : decode cX0_count 13 = .ok (.iload_n 3, 1) := by decide +kernel
theorem dX0_count_14 : decode cX0_count 14 = .ok (.iconst 5, 1) := by decide +kernel
theorem dX0_count_15 : decode cX0_count 15 = .ok (.if_icmp .ge 25, 3) := by decide +kernel
theorem dX0_count_18 : decode cX0_count 18 = .ok (.aload_n 0, 1) := by decide +kernel
theorem dX0_count_19 : decode cX0_count 19 = .ok (.iload_n 1, 1) := by decide +kernel
theorem dX0_count_20 : decode cX0_count 20 = .ok (.iload_n 3, 1) := by decide +kernel
theorem dX0_count_21 : decode cX0_count 21 = .ok (.invokevirtual 76, 3) := by decide +kernel
theorem dX0_count_24 : decode cX0_count 24 = .ok (.istore 4, 2) := by decide +kernel
theorem dX0_count_26 : decode cX0_count 26 = .ok (.iload_n 2, 1) := by decide +kernel
theorem dX0_count_27 : decode cX0_count 27 = .ok (.iload 4, 2) := by decide +kernel
theorem dX0_count_29 : decode cX0_count 29 = .ok (.invokestatic 83, 3) := by decide +kernel
theorem dX0_count_32 : decode cX0_count 32 = .ok (.iadd, 1) := by decide +kernel
theorem dX0_count_33 : decode cX0_count 33 = .ok (.istore_n 2, 1) := by decide +kernel
theorem dX0_count_34 : decode cX0_count 34 = .ok (.iinc 3 1, 3) := by decide +kernel
theorem dX0_count_37 : decode cX0_count 37 = .ok (.goto (-24), 3) := by decide +kernel
theorem dX0_count_40 : decode cX0_count 40 = .ok (.iload_n 2, 1) := by decide +kernel
theorem dX0_count_41 : decode cX0_count 41 = .ok (.ireturn, 1) := by decide +kernel
abbrev cX0_ones : ByteArray := prog_1_method_20_code
def yX0_ones : MethodName := ⟨RX0, "ones", "(I)I"⟩
theorem dX0_ones_0 : decode cX0_ones 0 = .ok (.iconst 0, 1) := by decide +kernel
theorem dX0_ones_1 : decode cX0_ones 1 = .ok (.istore_n 1, 1) := by decide +kernel
theorem dX0_ones_2 : decode cX0_ones 2 = .ok (.iconst 0, 1) := by decide +kernel
theorem dX0_ones_3 : decode cX0_ones 3 = .ok (.istore_n 2, 1) := by decide +kernel
theorem dX0_ones_4 : decode cX0_ones 4 = .ok (.iload_n 2, 1) := by decide +kernel
theorem dX0_ones_5 : decode cX0_ones 5 = .ok (.iconst 5, 1) := by decide +kernel
theorem dX0_ones_6 : decode cX0_ones 6 = .ok (.if_icmp .ge 17, 3) := by decide +kernel
theorem dX0_ones_9 : decode cX0_ones 9 = .ok (.iload_n 1, 1) := by decide +kernel
theorem dX0_ones_10 : decode cX0_ones 10 = .ok (.iload_n 0, 1) := by decide +kernel
theorem dX0_ones_11 : decode cX0_ones 11 = .ok (.iload_n 2, 1) := by decide +kernel
theorem dX0_ones_12 : decode cX0_ones 12 = .ok (.ishr, 1) := by decide +kernel
theorem dX0_ones_13 : decode cX0_ones 13 = .ok (.iconst 1, 1) := by decide +kernel
theorem dX0_ones_14 : decode cX0_ones 14 = .ok (.iand, 1) := by decide +kernel
theorem dX0_ones_15 : decode cX0_ones 15 = .ok (.iadd, 1) := by decide +kernel
theorem dX0_ones_16 : decode cX0_ones 16 = .ok (.istore_n 1, 1) := by decide +kernel
theorem dX0_ones_17 : decode cX0_ones 17 = .ok (.iinc 2 1, 3) := by decide +kernel
theorem dX0_ones_20 : decode cX0_ones 20 = .ok (.goto (-16), 3) := by decide +kernel
theorem dX0_ones_23 : decode cX0_ones 23 = .ok (.iload_n 1, 1) := by decide +kernel
theorem dX0_ones_24 : decode cX0_ones 24 = .ok (.ireturn, 1) := by decide +kernel
end
section
set_option maxRecDepth 100000
abbrev cX0_within : ByteArray := prog_1_method_22_code
def yX0_within : MethodName := ⟨RX0, "within", "(II)Z"⟩
theorem dX0_within_0 : decode cX0_within 0 = .ok (.iload_n 1, 1) := by decide +kernel
theorem dX0_within_1 : decode cX0_within 1 = .ok (.invokestatic 49, 3) := by decide +kernel
theorem dX0_within_4 : decode cX0_within 4 = .ok (.ifCond .eq 10, 3) := by decide +kernel
theorem dX0_within_7 : decode cX0_within 7 = .ok (.iload_n 2, 1) := by decide +kernel
theorem dX0_within_8 : decode cX0_within 8 = .ok (.invokestatic 49, 3) := by decide +kernel
theorem dX0_within_11 : decode cX0_within 11 = .ok (.ifCond .ne 5, 3) := by decide +kernel
theorem dX0_within_14 : decode cX0_within 14 = .ok (.iconst 0, 1) := by decide +kernel
theorem dX0_within_15 : decode cX0_within 15 = .ok (.ireturn, 1) := by decide +kernel
theorem dX0_within_16 : decode cX0_within 16 = .ok (.iconst 0, 1) := by decide +kernel
theorem dX0_within_17 : decode cX0_within 17 = .ok (.istore_n 3, 1) := by decide +kernel
theorem dX0_within_18 : decode cX0_within 18 = .ok (.iload_n 3, 1) := by decide +kernel
theorem dX0_within_19 : decode cX0_within 19 = .ok (.iconst 5, 1) := by decide +kernel
theorem dX0_within_20 : decode cX0_within 20 = .ok (.if_icmp .ge 37, 3) := by decide +kernel
theorem dX0_within_23 : decode cX0_within 23 = .ok (.aload_n 0, 1) := by decide +kernel
theorem dX0_within_24 : decode cX0_within 24 = .ok (.iload_n 1, 1) := by decide +kernel
theorem dX0_within_25 : decode cX0_within 25 = .ok (.iload_n 3, 1) := by decide +kernel
theorem dX0_within_26 : decode cX0_within 26 = .ok (.invokevirtual 76, 3) := by decide +kernel
theorem dX0_within_29 : decode cX0_within 29 = .ok (.istore 4, 2) := by decide +kernel
theorem dX0_within_31 : decode cX0_within 31 = .ok (.aload_n 0, 1) := by decide +kernel
theorem dX0_within_32 : decode cX0_within 32 = .ok (.iload_n 2, 1) := by decide +kernel
theorem dX0_within_33 : decode cX0_within 33 = .ok (.iload_n 3, 1) := by decide +kernel
theorem dX0_within_34 : decode cX0_within 34 = .ok (.invokevirtual 76, 3) := by decide +kernel
theorem dX0_within_37 : decode cX0_within 37 = .ok (.istore 5, 2) := by decide +kernel
theorem dX0_within_39 : decode cX0_within 39 = .ok (.iload 4, 2) := by decide +kernel
theorem dX0_within_41 : decode cX0_within 41 = .ok (.iload 5, 2) := by decide +kernel
theorem dX0_within_43 : decode cX0_within 43 = .ok (.iconst (-1), 1) := by decide +kernel
theorem dX0_within_44 : decode cX0_within 44 = .ok (.ixor, 1) := by decide +kernel
theorem dX0_within_45 : decode cX0_within 45 = .ok (.iand, 1) := by decide +kernel
theorem dX0_within_46 : decode cX0_within 46 = .ok (.ifCond .eq 5, 3) := by decide +kernel
theorem dX0_within_49 : decode cX0_within 49 = .ok (.iconst 0, 1) := by decide +kernel
theorem dX0_within_50 : decode cX0_within 50 = .ok (.ireturn, 1) := by decide +kernel
theorem dX0_within_51 : decode cX0_within 51 = .ok (.iinc 3 1, 3) := by decide +kernel
theorem dX0_within_54 : decode cX0_within 54 = .ok (.goto (-36), 3) := by decide +kernel
theorem dX0_within_57 : decode cX0_within 57 = .ok (.iconst 1, 1) := by decide +kernel
theorem dX0_within_58 : decode cX0_within 58 = .ok (.ireturn, 1) := by decide +kernel
abbrev cX0_redundant : ByteArray := prog_1_method_25_code
def yX0_redundant : MethodName := ⟨RX0, "redundant", "(I)Z"⟩
theorem dX0_redundant_0 : decode cX0_redundant 0 = .ok (.aload_n 0, 1) := by decide +kernel
theorem dX0_redundant_1 : decode cX0_redundant 1 = .ok (.iload_n 1, 1) := by decide +kernel
theorem dX0_redundant_2 : decode cX0_redundant 2 = .ok (.invokevirtual 52, 3) := by decide +kernel
theorem dX0_redundant_5 : decode cX0_redundant 5 = .ok (.ifCond .ne 5, 3) := by decide +kernel
theorem dX0_redundant_8 : decode cX0_redundant 8 = .ok (.iconst 0, 1) := by decide +kernel
theorem dX0_redundant_9 : decode cX0_redundant 9 = .ok (.ireturn, 1) := by decide +kernel
theorem dX0_redundant_10 : decode cX0_redundant 10 = .ok (.aload_n 0, 1) := by decide +kernel
theorem dX0_redundant_11 : decode cX0_redundant 11 = .ok (.invokevirtual 90, 3) := by decide +kernel
theorem dX0_redundant_14 : decode cX0_redundant 14 = .ok (.aload_n 0, 1) := by decide +kernel
theorem dX0_redundant_15 : decode cX0_redundant 15 = .ok (.dup, 1) := by decide +kernel
theorem dX0_redundant_16 : decode cX0_redundant 16 = .ok (.getfield 31, 3) := by decide +kernel
theorem dX0_redundant_19 : decode cX0_redundant 19 = .ok (.iconst 1, 1) := by decide +kernel
theorem dX0_redundant_20 : decode cX0_redundant 20 = .ok (.iload_n 1, 1) := by decide +kernel
theorem dX0_redundant_21 : decode cX0_redundant 21 = .ok (.ishl, 1) := by decide +kernel
theorem dX0_redundant_22 : decode cX0_redundant 22 = .ok (.iconst (-1), 1) := by decide +kernel
theorem dX0_redundant_23 : decode cX0_redundant 23 = .ok (.ixor, 1) := by decide +kernel
theorem dX0_redundant_24 : decode cX0_redundant 24 = .ok (.iand, 1) := by decide +kernel
theorem dX0_redundant_25 : decode cX0_redundant 25 = .ok (.putfield 31, 3) := by decide +kernel
theorem dX0_redundant_28 : decode cX0_redundant 28 = .ok (.aload_n 0, 1) := by decide +kernel
theorem dX0_redundant_29 : decode cX0_redundant 29 = .ok (.invokevirtual 46, 3) := by decide +kernel
theorem dX0_redundant_32 : decode cX0_redundant 32 = .ok (.aload_n 0, 1) := by decide +kernel
theorem dX0_redundant_33 : decode cX0_redundant 33 = .ok (.invokevirtual 93, 3) := by decide +kernel
theorem dX0_redundant_36 : decode cX0_redundant 36 = .ok (.istore_n 2, 1) := by decide +kernel
theorem dX0_redundant_37 : decode cX0_redundant 37 = .ok (.aload_n 0, 1) := by decide +kernel
theorem dX0_redundant_38 : decode cX0_redundant 38 = .ok (.dup, 1) := by decide +kernel
theorem dX0_redundant_39 : decode cX0_redundant 39 = .ok (.getfield 31, 3) := by decide +kernel
theorem dX0_redundant_42 : decode cX0_redundant 42 = .ok (.iconst 1, 1) := by decide +kernel
theorem dX0_redundant_43 : decode cX0_redundant 43 = .ok (.iload_n 1, 1) := by decide +kernel
theorem dX0_redundant_44 : decode cX0_redundant 44 = .ok (.ishl, 1) := by decide +kernel
theorem dX0_redundant_45 : decode cX0_redundant 45 = .ok (.ior, 1) := by decide +kernel
theorem dX0_redundant_46 : decode cX0_redundant 46 = .ok (.putfield 31, 3) := by decide +kernel
theorem dX0_redundant_49 : decode cX0_redundant 49 = .ok (.aload_n 0, 1) := by decide +kernel
theorem dX0_redundant_50 : decode cX0_redundant 50 = .ok (.invokevirtual 46, 3) := by decide +kernel
theorem dX0_redundant_53 : decode cX0_redundant 53 = .ok (.iload_n 2, 1) := by decide +kernel
theorem dX0_redundant_54 : decode cX0_redundant 54 = .ok (.ifCond .ne 7, 3) := by decide +kernel
theorem dX0_redundant_57 : decode cX0_redundant 57 = .ok (.iconst 1, 1) := by decide +kernel
theorem dX0_redundant_58 : decode cX0_redundant 58 = .ok (.goto 4, 3) := by decide +kernel
theorem dX0_redundant_61 : decode cX0_redundant 61 = .ok (.iconst 0, 1) := by decide +kernel
theorem dX0_redundant_62 : decode cX0_redundant 62 = .ok (.ireturn, 1) := by decide +kernel
abbrev cX0_keepCounts : ByteArray := prog_1_method_23_code
def yX0_keepCounts : MethodName := ⟨RX0, "keepCounts", "()V"⟩
theorem dX0_keepCounts_0 : decode cX0_keepCounts 0 = .ok (.iconst 0, 1) := by decide +kernel
theorem dX0_keepCounts_1 : decode cX0_keepCounts 1 = .ok (.istore_n 1, 1) := by decide +kernel
theorem dX0_keepCounts_2 : decode cX0_keepCounts 2 = .ok (.iload_n 1, 1) := by decide +kernel
theorem dX0_keepCounts_3 : decode cX0_keepCounts 3 = .ok (.iconst 5, 1) := by decide +kernel
theorem dX0_keepCounts_4 : decode cX0_keepCounts 4 = .ok (.if_icmp .ge 21, 3) := by decide +kernel
theorem dX0_keepCounts_7 : decode cX0_keepCounts 7 = .ok (.aload_n 0, 1) := by decide +kernel
theorem dX0_keepCounts_8 : decode cX0_keepCounts 8 = .ok (.getfield 28, 3) := by decide +kernel
theorem dX0_keepCounts_11 : decode cX0_keepCounts 11 = .ok (.iload_n 1, 1) := by decide +kernel
theorem dX0_keepCounts_12 : decode cX0_keepCounts 12 = .ok (.aload_n 0, 1) := by decide +kernel
theorem dX0_keepCounts_13 : decode cX0_keepCounts 13 = .ok (.iload_n 1, 1) := by decide +kernel
theorem dX0_keepCounts_14 : decode cX0_keepCounts 14 = .ok (.invokevirtual 87, 3) := by decide +kernel
theorem dX0_keepCounts_17 : decode cX0_keepCounts 17 = .ok (.i2b, 1) := by decide +kernel
theorem dX0_keepCounts_18 : decode cX0_keepCounts 18 = .ok (.bastore, 1) := by decide +kernel
theorem dX0_keepCounts_19 : decode cX0_keepCounts 19 = .ok (.iinc 1 1, 3) := by decide +kernel
theorem dX0_keepCounts_22 : decode cX0_keepCounts 22 = .ok (.goto (-20), 3) := by decide +kernel
theorem dX0_keepCounts_25 : decode cX0_keepCounts 25 = .ok (.return_, 1) := by decide +kernel
abbrev cX0_countsDiffer : ByteArray := prog_1_method_24_code
def yX0_countsDiffer : MethodName := ⟨RX0, "countsDiffer", "()Z"⟩
theorem dX0_countsDiffer_0 : decode cX0_countsDiffer 0 = .ok (.iconst 0, 1) := by decide +kernel
theorem dX0_countsDiffer_1 : decode cX0_countsDiffer 1 = .ok (.istore_n 1, 1) := by decide +kernel
theorem dX0_countsDiffer_2 : decode cX0_countsDiffer 2 = .ok (.iload_n 1, 1) := by decide +kernel
theorem dX0_countsDiffer_3 : decode cX0_countsDiffer 3 = .ok (.iconst 5, 1) := by decide +kernel
theorem dX0_countsDiffer_4 : decode cX0_countsDiffer 4 = .ok (.if_icmp .ge 27, 3) := by decide +kernel
theorem dX0_countsDiffer_7 : decode cX0_countsDiffer 7 = .ok (.aload_n 0, 1) := by decide +kernel
theorem dX0_countsDiffer_8 : decode cX0_countsDiffer 8 = .ok (.iload_n 1, 1) := by decide +kernel
theorem dX0_countsDiffer_9 : decode cX0_countsDiffer 9 = .ok (.invokevirtual 87, 3) := by decide +kernel
theorem dX0_countsDiffer_12 : decode cX0_countsDiffer 12 = .ok (.istore_n 2, 1) := by decide +kernel
theorem dX0_countsDiffer_13 : decode cX0_countsDiffer 13 = .ok (.iload_n 2, 1) := by decide +kernel
theorem dX0_countsDiffer_14 : decode cX0_countsDiffer 14 = .ok (.aload_n 0, 1) := by decide +kernel
theorem dX0_countsDiffer_15 : decode cX0_countsDiffer 15 = .ok (.getfield 28, 3) := by decide +kernel
theorem dX0_countsDiffer_18 : decode cX0_countsDiffer 18 = .ok (.iload_n 1, 1) := by decide +kernel
theorem dX0_countsDiffer_19 : decode cX0_countsDiffer 19 = .ok (.baload, 1) := by decide +kernel
theorem dX0_countsDiffer_20 : decode cX0_countsDiffer 20 = .ok (.if_icmp .eq 5, 3) := by decide +kernel
theorem dX0_countsDiffer_23 : decode cX0_countsDiffer 23 = .ok (.iconst 1, 1) := by decide +kernel
theorem dX0_countsDiffer_24 : decode cX0_countsDiffer 24 = .ok (.ireturn, 1) := by decide +kernel
theorem dX0_countsDiffer_25 : decode cX0_countsDiffer 25 = .ok (.iinc 1 1, 3) := by decide +kernel
theorem dX0_countsDiffer_28 : decode cX0_countsDiffer 28 = .ok (.goto (-26), 3) := by decide +kernel
theorem dX0_countsDiffer_31 : decode cX0_countsDiffer 31 = .ok (.iconst 0, 1) := by decide +kernel
theorem dX0_countsDiffer_32 : decode cX0_countsDiffer 32 = .ok (.ireturn, 1) := by decide +kernel
abbrev cX0_loss : ByteArray := prog_1_method_26_code
def yX0_loss : MethodName := ⟨RX0, "loss", "(IIII)I"⟩
theorem dX0_loss_0 : decode cX0_loss 0 = .ok (.iload_n 1, 1) := by decide +kernel
theorem dX0_loss_1 : decode cX0_loss 1 = .ok (.invokestatic 49, 3) := by decide +kernel
theorem dX0_loss_4 : decode cX0_loss 4 = .ok (.ifCond .eq 27, 3) := by decide +kernel
theorem dX0_loss_7 : decode cX0_loss 7 = .ok (.iload_n 2, 1) := by decide +kernel
theorem dX0_loss_8 : decode cX0_loss 8 = .ok (.ifCond .lt 23, 3) := by decide +kernel
theorem dX0_loss_11 : decode cX0_loss 11 = .ok (.iload_n 2, 1) := by decide +kernel
theorem dX0_loss_12 : decode cX0_loss 12 = .ok (.iconst 1, 1) := by decide +kernel
theorem dX0_loss_13 : decode cX0_loss 13 = .ok (.if_icmp .gt 18, 3) := by decide +kernel
theorem dX0_loss_16 : decode cX0_loss 16 = .ok (.iload_n 3, 1) := by decide +kernel
theorem dX0_loss_17 : decode cX0_loss 17 = .ok (.invokestatic 38, 3) := by decide +kernel
theorem dX0_loss_20 : decode cX0_loss 20 = .ok (.ifCond .eq 11, 3) := by decide +kernel
theorem dX0_loss_23 : decode cX0_loss 23 = .ok (.iload 4, 2) := by decide +kernel
theorem dX0_loss_25 : decode cX0_loss 25 = .ok (.invokestatic 38, 3) := by decide +kernel
theorem dX0_loss_28 : decode cX0_loss 28 = .ok (.ifCond .ne 5, 3) := by decide +kernel
theorem dX0_loss_31 : decode cX0_loss 31 = .ok (.iconst (-1), 1) := by decide +kernel
theorem dX0_loss_32 : decode cX0_loss 32 = .ok (.ireturn, 1) := by decide +kernel
theorem dX0_loss_33 : decode cX0_loss 33 = .ok (.aload_n 0, 1) := by decide +kernel
theorem dX0_loss_34 : decode cX0_loss 34 = .ok (.getfield 7, 3) := by decide +kernel
theorem dX0_loss_37 : decode cX0_loss 37 = .ok (.iload_n 2, 1) := by decide +kernel
theorem dX0_loss_38 : decode cX0_loss 38 = .ok (.iconst 5, 1) := by decide +kernel
theorem dX0_loss_39 : decode cX0_loss 39 = .ok (.imul, 1) := by decide +kernel
theorem dX0_loss_40 : decode cX0_loss 40 = .ok (.iload_n 3, 1) := by decide +kernel
theorem dX0_loss_41 : decode cX0_loss 41 = .ok (.iadd, 1) := by decide +kernel
theorem dX0_loss_42 : decode cX0_loss 42 = .ok (.baload, 1) := by decide +kernel
theorem dX0_loss_43 : decode cX0_loss 43 = .ok (.iload 4, 2) := by decide +kernel
theorem dX0_loss_45 : decode cX0_loss 45 = .ok (.ishr, 1) := by decide +kernel
theorem dX0_loss_46 : decode cX0_loss 46 = .ok (.iconst 1, 1) := by decide +kernel
theorem dX0_loss_47 : decode cX0_loss 47 = .ok (.iand, 1) := by decide +kernel
theorem dX0_loss_48 : decode cX0_loss 48 = .ok (.ifCond .ne 5, 3) := by decide +kernel
theorem dX0_loss_51 : decode cX0_loss 51 = .ok (.iconst 0, 1) := by decide +kernel
theorem dX0_loss_52 : decode cX0_loss 52 = .ok (.ireturn, 1) := by decide +kernel
theorem dX0_loss_53 : decode cX0_loss 53 = .ok (.aload_n 0, 1) := by decide +kernel
theorem dX0_loss_54 : decode cX0_loss 54 = .ok (.iload_n 1, 1) := by decide +kernel
theorem dX0_loss_55 : decode cX0_loss 55 = .ok (.invokevirtual 87, 3) := by decide +kernel
theorem dX0_loss_58 : decode cX0_loss 58 = .ok (.istore 5, 2) := by decide +kernel
theorem dX0_loss_60 : decode cX0_loss 60 = .ok (.aload_n 0, 1) := by decide +kernel
theorem dX0_loss_61 : decode cX0_loss 61 = .ok (.iload_n 2, 1) := by decide +kernel
theorem dX0_loss_62 : decode cX0_loss 62 = .ok (.iload_n 3, 1) := by decide +kernel
theorem dX0_loss_63 : decode cX0_loss 63 = .ok (.iload 4, 2) := by decide +kernel
theorem dX0_loss_65 : decode cX0_loss 65 = .ok (.iconst 0, 1) := by decide +kernel
theorem dX0_loss_66 : decode cX0_loss 66 = .ok (.invokevirtual 42, 3) := by decide +kernel
theorem dX0_loss_69 : decode cX0_loss 69 = .ok (.aload_n 0, 1) := by decide +kernel
theorem dX0_loss_70 : decode cX0_loss 70 = .ok (.iload_n 1, 1) := by decide +kernel
theorem dX0_loss_71 : decode cX0_loss 71 = .ok (.invokevirtual 87, 3) := by decide +kernel
theorem dX0_loss_74 : decode cX0_loss 74 = .ok (.istore 6, 2) := by decide +kernel
theorem dX0_loss_76 : decode cX0_loss 76 = .ok (.aload_n 0, 1) := by decide +kernel
theorem dX0_loss_77 : decode cX0_loss 77 = .ok (.iload_n 2, 1) := by decide +kernel
theorem dX0_loss_78 : decode cX0_loss 78 = .ok (.iload_n 3, 1) := by decide +kernel
theorem dX0_loss_79 : decode cX0_loss 79 = .ok (.iload 4, 2) := by decide +kernel
theorem dX0_loss_81 : decode cX0_loss 81 = .ok (.iconst 1, 1) := by decide +kernel
theorem dX0_loss_82 : decode cX0_loss 82 = .ok (.invokevirtual 42, 3) := by decide +kernel
theorem dX0_loss_85 : decode cX0_loss 85 = .ok (.iload 5, 2) := by decide +kernel
theorem dX0_loss_87 : decode cX0_loss 87 = .ok (.iload 6, 2) := by decide +kernel
theorem dX0_loss_89 : decode cX0_loss 89 = .ok (.isub, 1) := by decide +kernel
theorem dX0_loss_90 : decode cX0_loss 90 = .ok (.ireturn, 1) := by decide +kernel
abbrev cX0_transitive : ByteArray := prog_1_method_27_code
def yX0_transitive : MethodName := ⟨RX0, "transitive", "(I)Z"⟩
theorem dX0_transitive_0 : decode cX0_transitive 0 = .ok (.iload_n 1, 1) := by decide +kernel
theorem dX0_transitive_1 : decode cX0_transitive 1 = .ok (.invokestatic 49, 3) := by decide +kernel
theorem dX0_transitive_4 : decode cX0_transitive 4 = .ok (.ifCond .ne 5, 3) := by decide +kernel
theorem dX0_transitive_7 : decode cX0_transitive 7 = .ok (.iconst 0, 1) := by decide +kernel
theorem dX0_transitive_8 : decode cX0_transitive 8 = .ok (.ireturn, 1) := by decide +kernel
theorem dX0_transitive_9 : decode cX0_transitive 9 = .ok (.iconst 0, 1) := by decide +kernel
theorem dX0_transitive_10 : decode cX0_transitive 10 = .ok (.istore_n 2, 1) := by decide +kernel
theorem dX0_transitive_11 : decode cX0_transitive 11 = .ok (.iload_n 2, 1) := by decide +kernel
theorem dX0_transitive_12 : decode cX0_transitive 12 = .ok (.iconst 5, 1) := by decide +kernel
theorem dX0_transitive_13 : decode cX0_transitive 13 = .ok (.if_icmp .ge 60, 3) := by decide +kernel
theorem dX0_transitive_16 : decode cX0_transitive 16 = .ok (.aload_n 0, 1) := by decide +kernel
theorem dX0_transitive_17 : decode cX0_transitive 17 = .ok (.iload_n 1, 1) := by decide +kernel
theorem dX0_transitive_18 : decode cX0_transitive 18 = .ok (.iload_n 2, 1) := by decide +kernel
theorem dX0_transitive_19 : decode cX0_transitive 19 = .ok (.invokevirtual 76, 3) := by decide +kernel
theorem dX0_transitive_22 : decode cX0_transitive 22 = .ok (.istore_n 3, 1) := by decide +kernel
theorem dX0_transitive_23 : decode cX0_transitive 23 = .ok (.iconst 0, 1) := by decide +kernel
theorem dX0_transitive_24 : decode cX0_transitive 24 = .ok (.istore 4, 2) := by decide +kernel
theorem dX0_transitive_26 : decode cX0_transitive 26 = .ok (.iload 4, 2) := by decide +kernel
theorem dX0_transitive_28 : decode cX0_transitive 28 = .ok (.iconst 5, 1) := by decide +kernel
theorem dX0_transitive_29 : decode cX0_transitive 29 = .ok (.if_icmp .ge 38, 3) := by decide +kernel
theorem dX0_transitive_32 : decode cX0_transitive 32 = .ok (.aload_n 0, 1) := by decide +kernel
theorem dX0_transitive_33 : decode cX0_transitive 33 = .ok (.iload_n 1, 1) := by decide +kernel
theorem dX0_transitive_34 : decode cX0_transitive 34 = .ok (.iload 4, 2) := by decide +kernel
theorem dX0_transitive_36 : decode cX0_transitive 36 = .ok (.invokevirtual 76, 3) := by decide +kernel
theorem dX0_transitive_39 : decode cX0_transitive 39 = .ok (.istore 5, 2) := by decide +kernel
theorem dX0_transitive_41 : decode cX0_transitive 41 = .ok (.iload_n 3, 1) := by decide +kernel
theorem dX0_transitive_42 : decode cX0_transitive 42 = .ok (.iload 4, 2) := by decide +kernel
theorem dX0_transitive_44 : decode cX0_transitive 44 = .ok (.ishr, 1) := by decide +kernel
theorem dX0_transitive_45 : decode cX0_transitive 45 = .ok (.iconst 1, 1) := by decide +kernel
theorem dX0_transitive_46 : decode cX0_transitive 46 = .ok (.iand, 1) := by decide +kernel
theorem dX0_transitive_47 : decode cX0_transitive 47 = .ok (.ifCond .eq 14, 3) := by decide +kernel
theorem dX0_transitive_50 : decode cX0_transitive 50 = .ok (.iload 5, 2) := by decide +kernel
theorem dX0_transitive_52 : decode cX0_transitive 52 = .ok (.iload_n 3, 1) := by decide +kernel
theorem dX0_transitive_53 : decode cX0_transitive 53 = .ok (.iconst (-1), 1) := by decide +kernel
theorem dX0_transitive_54 : decode cX0_transitive 54 = .ok (.ixor, 1) := by decide +kernel
theorem dX0_transitive_55 : decode cX0_transitive 55 = .ok (.iand, 1) := by decide +kernel
theorem dX0_transitive_56 : decode cX0_transitive 56 = .ok (.ifCond .eq 5, 3) := by decide +kernel
theorem dX0_transitive_59 : decode cX0_transitive 59 = .ok (.iconst 0, 1) := by decide +kernel
theorem dX0_transitive_60 : decode cX0_transitive 60 = .ok (.ireturn, 1) := by decide +kernel
theorem dX0_transitive_61 : decode cX0_transitive 61 = .ok (.iinc 4 1, 3) := by decide +kernel
theorem dX0_transitive_64 : decode cX0_transitive 64 = .ok (.goto (-38), 3) := by decide +kernel
theorem dX0_transitive_67 : decode cX0_transitive 67 = .ok (.iinc 2 1, 3) := by decide +kernel
theorem dX0_transitive_70 : decode cX0_transitive 70 = .ok (.goto (-59), 3) := by decide +kernel
theorem dX0_transitive_73 : decode cX0_transitive 73 = .ok (.iconst 1, 1) := by decide +kernel
theorem dX0_transitive_74 : decode cX0_transitive 74 = .ok (.ireturn, 1) := by decide +kernel
theorem q19 : (Jvm.Cond.initialized "TabledRules") ∈ lw_all := lw_g (lw_at lw_m1 1 rfl) rfl
theorem q22 : (Jvm.Cond.instantiable "TabledRules" (10 : Nat)) ∈ lw_all := lw_g (lw_at lw_m1 4 rfl) rfl
theorem q24 : (Jvm.Cond.instanceMethod ({ cls := "TabledRules", name := "<init>", desc := "()V" } : Jvm.MethodName)) ∈ lw_all := lw_g (lw_at lw_m1 6 rfl) rfl
theorem q25 : (Jvm.Cond.code ({ cls := "TabledRules", name := "<init>", desc := "()V" } : Jvm.MethodName) prog_1_method_1_code (1 : Nat) (Option.none : Option Jvm.ClassFile.FieldType)) ∈ lw_all := lw_g (lw_at lw_m1 7 rfl) rfl
theorem q26 : (Jvm.Cond.methodLink "TabledRules" (1 : Nat) ({ cls := "java/lang/Object", name := "<init>", desc := "()V" } : Jvm.MethodName)) ∈ lw_all := lw_g (lw_at lw_m1 8 rfl) rfl
theorem q29 : (Jvm.Cond.fieldLink "TabledRules" (7 : Nat) "TabledRules" "given" "[B") ∈ lw_all := lw_g (lw_at lw_m1 11 rfl) rfl
theorem q30 : (Jvm.Cond.fieldLink "TabledRules" (31 : Nat) "TabledRules" "present" "I") ∈ lw_all := lw_g (lw_at lw_m1 12 rfl) rfl
theorem q31 : (Jvm.Cond.fieldLink "TabledRules" (13 : Nat) "TabledRules" "forms" "[B") ∈ lw_all := lw_g (lw_at lw_m1 13 rfl) rfl
theorem q32 : (Jvm.Cond.fieldLink "TabledRules" (16 : Nat) "TabledRules" "heads" "[B") ∈ lw_all := lw_g (lw_at lw_m1 14 rfl) rfl
theorem q33 : (Jvm.Cond.fieldLink "TabledRules" (19 : Nat) "TabledRules" "firsts" "[B") ∈ lw_all := lw_g (lw_at lw_m1 15 rfl) rfl
theorem q34 : (Jvm.Cond.fieldLink "TabledRules" (22 : Nat) "TabledRules" "seconds" "[B") ∈ lw_all := lw_g (lw_at lw_m1 16 rfl) rfl
theorem q35 : (Jvm.Cond.fieldLink "TabledRules" (35 : Nat) "TabledRules" "asked" "I") ∈ lw_all := lw_g (lw_at lw_m1 17 rfl) rfl
theorem q36 : (Jvm.Cond.fieldLink "TabledRules" (25 : Nat) "TabledRules" "answers" "[B") ∈ lw_all := lw_g (lw_at lw_m1 18 rfl) rfl
theorem q37 : (Jvm.Cond.fieldLink "TabledRules" (55 : Nat) "TabledRules" "fresh" "Z") ∈ lw_all := lw_g (lw_at lw_m1 19 rfl) rfl
theorem q38 : (Jvm.Cond.fieldLink "TabledRules" (28 : Nat) "TabledRules" "counts" "[B") ∈ lw_all := lw_g (lw_at lw_m1 20 rfl) rfl
theorem q39 : (Jvm.Cond.laysFinal "TabledRules" "TabledRules" "given" "[B") ∈ lw_all := lw_g (lw_at lw_m1 21 rfl) rfl
theorem q40 : (Jvm.Cond.soleField "TabledRules" "given") ∈ lw_all := lw_g (lw_at lw_m1 22 rfl) rfl
theorem q41 : (Jvm.Cond.lays "TabledRules" "TabledRules" "present" "I") ∈ lw_all := lw_g (lw_at lw_m1 23 rfl) rfl
theorem q42 : (Jvm.Cond.soleField "TabledRules" "present") ∈ lw_all := lw_g (lw_at lw_m1 24 rfl) rfl
theorem q43 : (Jvm.Cond.laysFinal "TabledRules" "TabledRules" "forms" "[B") ∈ lw_all := lw_g (lw_at lw_m1 25 rfl) rfl
theorem q44 : (Jvm.Cond.soleField "TabledRules" "forms") ∈ lw_all := lw_g (lw_at lw_m1 26 rfl) rfl
theorem q45 : (Jvm.Cond.laysFinal "TabledRules" "TabledRules" "heads" "[B") ∈ lw_all := lw_g (lw_at lw_m1 27 rfl) rfl
theorem q46 : (Jvm.Cond.soleField "TabledRules" "heads") ∈ lw_all := lw_g (lw_at lw_m1 28 rfl) rfl
theorem q47 : (Jvm.Cond.laysFinal "TabledRules" "TabledRules" "firsts" "[B") ∈ lw_all := lw_g (lw_at lw_m1 29 rfl) rfl
theorem q48 : (Jvm.Cond.soleField "TabledRules" "firsts") ∈ lw_all := lw_g (lw_at lw_m1 30 rfl) rfl
theorem q49 : (Jvm.Cond.laysFinal "TabledRules" "TabledRules" "seconds" "[B") ∈ lw_all := lw_g (lw_at lw_m1 31 rfl) rfl
theorem q50 : (Jvm.Cond.soleField "TabledRules" "seconds") ∈ lw_all := lw_g (lw_at lw_m1 32 rfl) rfl
theorem q51 : (Jvm.Cond.lays "TabledRules" "TabledRules" "asked" "I") ∈ lw_all := lw_g (lw_at lw_m1 33 rfl) rfl
theorem q52 : (Jvm.Cond.soleField "TabledRules" "asked") ∈ lw_all := lw_g (lw_at lw_m1 34 rfl) rfl
theorem q53 : (Jvm.Cond.laysFinal "TabledRules" "TabledRules" "answers" "[B") ∈ lw_all := lw_g (lw_at lw_m1 35 rfl) rfl
theorem q54 : (Jvm.Cond.soleField "TabledRules" "answers") ∈ lw_all := lw_g (lw_at lw_m1 36 rfl) rfl
theorem q55 : (Jvm.Cond.lays "TabledRules" "TabledRules" "fresh" "Z") ∈ lw_all := lw_g (lw_at lw_m1 37 rfl) rfl
theorem q56 : (Jvm.Cond.soleField "TabledRules" "fresh") ∈ lw_all := lw_g (lw_at lw_m1 38 rfl) rfl
theorem q57 : (Jvm.Cond.laysFinal "TabledRules" "TabledRules" "counts" "[B") ∈ lw_all := lw_g (lw_at lw_m1 39 rfl) rfl
theorem q58 : (Jvm.Cond.soleField "TabledRules" "counts") ∈ lw_all := lw_g (lw_at lw_m1 40 rfl) rfl
theorem q59 : (Jvm.Cond.superclass "TabledRules" "java/lang/Object") ∈ lw_all := lw_g (lw_at lw_m1 41 rfl) rfl
theorem q62 : (Jvm.Cond.instanceMethod ({ cls := "TabledRules", name := "give", desc := "(IIIZ)Z" } : Jvm.MethodName)) ∈ lw_all := lw_g (lw_at lw_m1 44 rfl) rfl
theorem q63 : (Jvm.Cond.selects "TabledRules" ({ cls := "TabledRules", name := "give", desc := "(IIIZ)Z" } : Jvm.MethodName) ({ cls := "TabledRules", name := "give", desc := "(IIIZ)Z" } : Jvm.MethodName)) ∈ lw_all := lw_g (lw_at lw_m1 45 rfl) rfl
theorem q64 : (Jvm.Cond.code ({ cls := "TabledRules", name := "give", desc := "(IIIZ)Z" } : Jvm.MethodName) prog_1_method_6_code (5 : Nat) (Option.some Jvm.ClassFile.FieldType.boolean)) ∈ lw_all := lw_g (lw_at lw_m1 46 rfl) rfl
theorem q65 : (Jvm.Cond.methodLink "TabledRules" (38 : Nat) ({ cls := "TabledRules", name := "isThing", desc := "(I)Z" } : Jvm.MethodName)) ∈ lw_all := lw_g (lw_at lw_m1 47 rfl) rfl
theorem q66 : (Jvm.Cond.static ({ cls := "TabledRules", name := "isThing", desc := "(I)Z" } : Jvm.MethodName)) ∈ lw_all := lw_g (lw_at lw_m1 48 rfl) rfl
theorem q67 : (Jvm.Cond.code ({ cls := "TabledRules", name := "isThing", desc := "(I)Z" } : Jvm.MethodName) prog_1_method_2_code (1 : Nat) (Option.some Jvm.ClassFile.FieldType.boolean)) ∈ lw_all := lw_g (lw_at lw_m1 49 rfl) rfl
theorem q68 : (Jvm.Cond.methodLink "TabledRules" (42 : Nat) ({ cls := "TabledRules", name := "turnPair", desc := "(IIIZ)V" } : Jvm.MethodName)) ∈ lw_all := lw_g (lw_at lw_m1 50 rfl) rfl
theorem q69 : (Jvm.Cond.privateMethod ({ cls := "TabledRules", name := "turnPair", desc := "(IIIZ)V" } : Jvm.MethodName)) ∈ lw_tbl := lw_at lw_m1 51 rfl
theorem q70 : (Jvm.Cond.instanceMethod ({ cls := "TabledRules", name := "turnPair", desc := "(IIIZ)V" } : Jvm.MethodName)) ∈ lw_all := lw_g (lw_at lw_m1 52 rfl) rfl
theorem q71 : (Jvm.Cond.code ({ cls := "TabledRules", name := "turnPair", desc := "(IIIZ)V" } : Jvm.MethodName) prog_1_method_7_code (6 : Nat) (Option.none : Option Jvm.ClassFile.FieldType)) ∈ lw_all := lw_g (lw_at lw_m1 53 rfl) rfl
theorem q72 : (Jvm.Cond.methodLink "TabledRules" (46 : Nat) ({ cls := "TabledRules", name := "forget", desc := "()V" } : Jvm.MethodName)) ∈ lw_all := lw_g (lw_at lw_m1 54 rfl) rfl
theorem q73 : (Jvm.Cond.privateMethod ({ cls := "TabledRules", name := "forget", desc := "()V" } : Jvm.MethodName)) ∈ lw_tbl := lw_at lw_m1 55 rfl
theorem q74 : (Jvm.Cond.instanceMethod ({ cls := "TabledRules", name := "forget", desc := "()V" } : Jvm.MethodName)) ∈ lw_all := lw_g (lw_at lw_m1 56 rfl) rfl
theorem q75 : (Jvm.Cond.code ({ cls := "TabledRules", name := "forget", desc := "()V" } : Jvm.MethodName) prog_1_method_5_code (2 : Nat) (Option.none : Option Jvm.ClassFile.FieldType)) ∈ lw_all := lw_g (lw_at lw_m1 57 rfl) rfl
theorem q77 : (Jvm.Cond.instanceMethod ({ cls := "TabledRules", name := "rule", desc := "(III)I" } : Jvm.MethodName)) ∈ lw_all := lw_g (lw_at lw_m1 59 rfl) rfl
theorem q78 : (Jvm.Cond.selects "TabledRules" ({ cls := "TabledRules", name := "rule", desc := "(III)I" } : Jvm.MethodName) ({ cls := "TabledRules", name := "rule", desc := "(III)I" } : Jvm.MethodName)) ∈ lw_all := lw_g (lw_at lw_m1 60 rfl) rfl
theorem q79 : (Jvm.Cond.code ({ cls := "TabledRules", name := "rule", desc := "(III)I" } : Jvm.MethodName) prog_1_method_8_code (7 : Nat) (Option.some Jvm.ClassFile.FieldType.int)) ∈ lw_all := lw_g (lw_at lw_m1 61 rfl) rfl
theorem q80 : (Jvm.Cond.methodLink "TabledRules" (49 : Nat) ({ cls := "TabledRules", name := "isRelation", desc := "(I)Z" } : Jvm.MethodName)) ∈ lw_all := lw_g (lw_at lw_m1 62 rfl) rfl
theorem q81 : (Jvm.Cond.static ({ cls := "TabledRules", name := "isRelation", desc := "(I)Z" } : Jvm.MethodName)) ∈ lw_all := lw_g (lw_at lw_m1 63 rfl) rfl
theorem q82 : (Jvm.Cond.code ({ cls := "TabledRules", name := "isRelation", desc := "(I)Z" } : Jvm.MethodName) prog_1_method_3_code (1 : Nat) (Option.some Jvm.ClassFile.FieldType.boolean)) ∈ lw_all := lw_g (lw_at lw_m1 64 rfl) rfl
theorem q83 : (Jvm.Cond.methodLink "TabledRules" (52 : Nat) ({ cls := "TabledRules", name := "has", desc := "(I)Z" } : Jvm.MethodName)) ∈ lw_all := lw_g (lw_at lw_m1 65 rfl) rfl
theorem q84 : (Jvm.Cond.privateMethod ({ cls := "TabledRules", name := "has", desc := "(I)Z" } : Jvm.MethodName)) ∈ lw_tbl := lw_at lw_m1 66 rfl
theorem q85 : (Jvm.Cond.instanceMethod ({ cls := "TabledRules", name := "has", desc := "(I)Z" } : Jvm.MethodName)) ∈ lw_all := lw_g (lw_at lw_m1 67 rfl) rfl
theorem q86 : (Jvm.Cond.code ({ cls := "TabledRules", name := "has", desc := "(I)Z" } : Jvm.MethodName) prog_1_method_4_code (2 : Nat) (Option.some Jvm.ClassFile.FieldType.boolean)) ∈ lw_all := lw_g (lw_at lw_m1 68 rfl) rfl
theorem q88 : (Jvm.Cond.instanceMethod ({ cls := "TabledRules", name := "drop", desc := "(I)Z" } : Jvm.MethodName)) ∈ lw_all := lw_g (lw_at lw_m1 70 rfl) rfl
theorem q89 : (Jvm.Cond.selects "TabledRules" ({ cls := "TabledRules", name := "drop", desc := "(I)Z" } : Jvm.MethodName) ({ cls := "TabledRules", name := "drop", desc := "(I)Z" } : Jvm.MethodName)) ∈ lw_all := lw_g (lw_at lw_m1 71 rfl) rfl
theorem q90 : (Jvm.Cond.code ({ cls := "TabledRules", name := "drop", desc := "(I)Z" } : Jvm.MethodName) prog_1_method_9_code (2 : Nat) (Option.some Jvm.ClassFile.FieldType.boolean)) ∈ lw_all := lw_g (lw_at lw_m1 72 rfl) rfl
theorem q92 : (Jvm.Cond.instanceMethod ({ cls := "TabledRules", name := "rules", desc := "()I" } : Jvm.MethodName)) ∈ lw_all := lw_g (lw_at lw_m1 74 rfl) rfl
theorem q93 : (Jvm.Cond.selects "TabledRules" ({ cls := "TabledRules", name := "rules", desc := "()I" } : Jvm.MethodName) ({ cls := "TabledRules", name := "rules", desc := "()I" } : Jvm.MethodName)) ∈ lw_all := lw_g (lw_at lw_m1 75 rfl) rfl
theorem q94 : (Jvm.Cond.code ({ cls := "TabledRules", name := "rules", desc := "()I" } : Jvm.MethodName) prog_1_method_10_code (1 : Nat) (Option.some Jvm.ClassFile.FieldType.int)) ∈ lw_all := lw_g (lw_at lw_m1 76 rfl) rfl
theorem q96 : (Jvm.Cond.instanceMethod ({ cls := "TabledRules", name := "holds", desc := "(III)Z" } : Jvm.MethodName)) ∈ lw_all := lw_g (lw_at lw_m1 78 rfl) rfl
theorem q97 : (Jvm.Cond.selects "TabledRules" ({ cls := "TabledRules", name := "holds", desc := "(III)Z" } : Jvm.MethodName) ({ cls := "TabledRules", name := "holds", desc := "(III)Z" } : Jvm.MethodName)) ∈ lw_all := lw_g (lw_at lw_m1 79 rfl) rfl
theorem q98 : (Jvm.Cond.code ({ cls := "TabledRules", name := "holds", desc := "(III)Z" } : Jvm.MethodName) prog_1_method_17_code (5 : Nat) (Option.some Jvm.ClassFile.FieldType.boolean)) ∈ lw_all := lw_g (lw_at lw_m1 80 rfl) rfl
theorem q99 : (Jvm.Cond.methodLink "TabledRules" (76 : Nat) ({ cls := "TabledRules", name := "settle", desc := "(II)I" } : Jvm.MethodName)) ∈ lw_all := lw_g (lw_at lw_m1 81 rfl) rfl
theorem q100 : (Jvm.Cond.privateMethod ({ cls := "TabledRules", name := "settle", desc := "(II)I" } : Jvm.MethodName)) ∈ lw_tbl := lw_at lw_m1 82 rfl
theorem q101 : (Jvm.Cond.instanceMethod ({ cls := "TabledRules", name := "settle", desc := "(II)I" } : Jvm.MethodName)) ∈ lw_all := lw_g (lw_at lw_m1 83 rfl) rfl
theorem q102 : (Jvm.Cond.code ({ cls := "TabledRules", name := "settle", desc := "(II)I" } : Jvm.MethodName) prog_1_method_12_code (5 : Nat) (Option.some Jvm.ClassFile.FieldType.int)) ∈ lw_all := lw_g (lw_at lw_m1 84 rfl) rfl
theorem q103 : (Jvm.Cond.methodLink "TabledRules" (59 : Nat) ({ cls := "TabledRules", name := "ask", desc := "(II)I" } : Jvm.MethodName)) ∈ lw_all := lw_g (lw_at lw_m1 85 rfl) rfl
theorem q104 : (Jvm.Cond.privateMethod ({ cls := "TabledRules", name := "ask", desc := "(II)I" } : Jvm.MethodName)) ∈ lw_tbl := lw_at lw_m1 86 rfl
theorem q105 : (Jvm.Cond.instanceMethod ({ cls := "TabledRules", name := "ask", desc := "(II)I" } : Jvm.MethodName)) ∈ lw_all := lw_g (lw_at lw_m1 87 rfl) rfl
theorem q106 : (Jvm.Cond.code ({ cls := "TabledRules", name := "ask", desc := "(II)I" } : Jvm.MethodName) prog_1_method_11_code (4 : Nat) (Option.some Jvm.ClassFile.FieldType.int)) ∈ lw_all := lw_g (lw_at lw_m1 88 rfl) rfl
theorem q107 : (Jvm.Cond.methodLink "TabledRules" (63 : Nat) ({ cls := "TabledRules", name := "work", desc := "(I)V" } : Jvm.MethodName)) ∈ lw_all := lw_g (lw_at lw_m1 89 rfl) rfl
theorem q108 : (Jvm.Cond.privateMethod ({ cls := "TabledRules", name := "work", desc := "(I)V" } : Jvm.MethodName)) ∈ lw_tbl := lw_at lw_m1 90 rfl
theorem q109 : (Jvm.Cond.instanceMethod ({ cls := "TabledRules", name := "work", desc := "(I)V" } : Jvm.MethodName)) ∈ lw_all := lw_g (lw_at lw_m1 91 rfl) rfl
theorem q110 : (Jvm.Cond.code ({ cls := "TabledRules", name := "work", desc := "(I)V" } : Jvm.MethodName) prog_1_method_13_code (6 : Nat) (Option.none : Option Jvm.ClassFile.FieldType)) ∈ lw_all := lw_g (lw_at lw_m1 92 rfl) rfl
theorem q111 : (Jvm.Cond.methodLink "TabledRules" (67 : Nat) ({ cls := "TabledRules", name := "bring", desc := "(II)I" } : Jvm.MethodName)) ∈ lw_all := lw_g (lw_at lw_m1 93 rfl) rfl
theorem q112 : (Jvm.Cond.privateMethod ({ cls := "TabledRules", name := "bring", desc := "(II)I" } : Jvm.MethodName)) ∈ lw_tbl := lw_at lw_m1 94 rfl
theorem q113 : (Jvm.Cond.instanceMethod ({ cls := "TabledRules", name := "bring", desc := "(II)I" } : Jvm.MethodName)) ∈ lw_all := lw_g (lw_at lw_m1 95 rfl) rfl
theorem q114 : (Jvm.Cond.code ({ cls := "TabledRules", name := "bring", desc := "(II)I" } : Jvm.MethodName) prog_1_method_14_code (8 : Nat) (Option.some Jvm.ClassFile.FieldType.int)) ∈ lw_all := lw_g (lw_at lw_m1 96 rfl) rfl
theorem q115 : (Jvm.Cond.methodLink "TabledRules" (70 : Nat) ({ cls := "TabledRules", name := "turned", desc := "(II)I" } : Jvm.MethodName)) ∈ lw_all := lw_g (lw_at lw_m1 97 rfl) rfl
theorem q116 : (Jvm.Cond.privateMethod ({ cls := "TabledRules", name := "turned", desc := "(II)I" } : Jvm.MethodName)) ∈ lw_tbl := lw_at lw_m1 98 rfl
theorem q117 : (Jvm.Cond.instanceMethod ({ cls := "TabledRules", name := "turned", desc := "(II)I" } : Jvm.MethodName)) ∈ lw_all := lw_g (lw_at lw_m1 99 rfl) rfl
theorem q118 : (Jvm.Cond.code ({ cls := "TabledRules", name := "turned", desc := "(II)I" } : Jvm.MethodName) prog_1_method_15_code (6 : Nat) (Option.some Jvm.ClassFile.FieldType.int)) ∈ lw_all := lw_g (lw_at lw_m1 100 rfl) rfl
theorem q119 : (Jvm.Cond.methodLink "TabledRules" (73 : Nat) ({ cls := "TabledRules", name := "joined", desc := "(II)I" } : Jvm.MethodName)) ∈ lw_all := lw_g (lw_at lw_m1 101 rfl) rfl
theorem q120 : (Jvm.Cond.privateMethod ({ cls := "TabledRules", name := "joined", desc := "(II)I" } : Jvm.MethodName)) ∈ lw_tbl := lw_at lw_m1 102 rfl
theorem q121 : (Jvm.Cond.instanceMethod ({ cls := "TabledRules", name := "joined", desc := "(II)I" } : Jvm.MethodName)) ∈ lw_all := lw_g (lw_at lw_m1 103 rfl) rfl
theorem q122 : (Jvm.Cond.code ({ cls := "TabledRules", name := "joined", desc := "(II)I" } : Jvm.MethodName) prog_1_method_16_code (5 : Nat) (Option.some Jvm.ClassFile.FieldType.int)) ∈ lw_all := lw_g (lw_at lw_m1 104 rfl) rfl
theorem q124 : (Jvm.Cond.instanceMethod ({ cls := "TabledRules", name := "from", desc := "(II)I" } : Jvm.MethodName)) ∈ lw_all := lw_g (lw_at lw_m1 106 rfl) rfl
theorem q125 : (Jvm.Cond.selects "TabledRules" ({ cls := "TabledRules", name := "from", desc := "(II)I" } : Jvm.MethodName) ({ cls := "TabledRules", name := "from", desc := "(II)I" } : Jvm.MethodName)) ∈ lw_all := lw_g (lw_at lw_m1 107 rfl) rfl
theorem q126 : (Jvm.Cond.code ({ cls := "TabledRules", name := "from", desc := "(II)I" } : Jvm.MethodName) prog_1_method_18_code (3 : Nat) (Option.some Jvm.ClassFile.FieldType.int)) ∈ lw_all := lw_g (lw_at lw_m1 108 rfl) rfl
theorem q128 : (Jvm.Cond.instanceMethod ({ cls := "TabledRules", name := "to", desc := "(II)I" } : Jvm.MethodName)) ∈ lw_all := lw_g (lw_at lw_m1 110 rfl) rfl
theorem q129 : (Jvm.Cond.selects "TabledRules" ({ cls := "TabledRules", name := "to", desc := "(II)I" } : Jvm.MethodName) ({ cls := "TabledRules", name := "to", desc := "(II)I" } : Jvm.MethodName)) ∈ lw_all := lw_g (lw_at lw_m1 111 rfl) rfl
theorem q130 : (Jvm.Cond.code ({ cls := "TabledRules", name := "to", desc := "(II)I" } : Jvm.MethodName) prog_1_method_19_code (5 : Nat) (Option.some Jvm.ClassFile.FieldType.int)) ∈ lw_all := lw_g (lw_at lw_m1 112 rfl) rfl
theorem q131 : (Jvm.Cond.methodLink "TabledRules" (79 : Nat) ({ cls := "TabledRules", name := "holds", desc := "(III)Z" } : Jvm.MethodName)) ∈ lw_all := lw_g (lw_at lw_m1 113 rfl) rfl
theorem q133 : (Jvm.Cond.instanceMethod ({ cls := "TabledRules", name := "count", desc := "(I)I" } : Jvm.MethodName)) ∈ lw_all := lw_g (lw_at lw_m1 115 rfl) rfl
theorem q134 : (Jvm.Cond.selects "TabledRules" ({ cls := "TabledRules", name := "count", desc := "(I)I" } : Jvm.MethodName) ({ cls := "TabledRules", name := "count", desc := "(I)I" } : Jvm.MethodName)) ∈ lw_all := lw_g (lw_at lw_m1 116 rfl) rfl
theorem q135 : (Jvm.Cond.code ({ cls := "TabledRules", name := "count", desc := "(I)I" } : Jvm.MethodName) prog_1_method_21_code (5 : Nat) (Option.some Jvm.ClassFile.FieldType.int)) ∈ lw_all := lw_g (lw_at lw_m1 117 rfl) rfl
theorem q136 : (Jvm.Cond.methodLink "TabledRules" (83 : Nat) ({ cls := "TabledRules", name := "ones", desc := "(I)I" } : Jvm.MethodName)) ∈ lw_all := lw_g (lw_at lw_m1 118 rfl) rfl
theorem q137 : (Jvm.Cond.static ({ cls := "TabledRules", name := "ones", desc := "(I)I" } : Jvm.MethodName)) ∈ lw_all := lw_g (lw_at lw_m1 119 rfl) rfl
theorem q138 : (Jvm.Cond.code ({ cls := "TabledRules", name := "ones", desc := "(I)I" } : Jvm.MethodName) prog_1_method_20_code (3 : Nat) (Option.some Jvm.ClassFile.FieldType.int)) ∈ lw_all := lw_g (lw_at lw_m1 120 rfl) rfl
theorem q140 : (Jvm.Cond.instanceMethod ({ cls := "TabledRules", name := "within", desc := "(II)Z" } : Jvm.MethodName)) ∈ lw_all := lw_g (lw_at lw_m1 122 rfl) rfl
theorem q141 : (Jvm.Cond.selects "TabledRules" ({ cls := "TabledRules", name := "within", desc := "(II)Z" } : Jvm.MethodName) ({ cls := "TabledRules", name := "within", desc := "(II)Z" } : Jvm.MethodName)) ∈ lw_all := lw_g (lw_at lw_m1 123 rfl) rfl
theorem q142 : (Jvm.Cond.code ({ cls := "TabledRules", name := "within", desc := "(II)Z" } : Jvm.MethodName) prog_1_method_22_code (6 : Nat) (Option.some Jvm.ClassFile.FieldType.boolean)) ∈ lw_all := lw_g (lw_at lw_m1 124 rfl) rfl
theorem q144 : (Jvm.Cond.instanceMethod ({ cls := "TabledRules", name := "redundant", desc := "(I)Z" } : Jvm.MethodName)) ∈ lw_all := lw_g (lw_at lw_m1 126 rfl) rfl
theorem q145 : (Jvm.Cond.selects "TabledRules" ({ cls := "TabledRules", name := "redundant", desc := "(I)Z" } : Jvm.MethodName) ({ cls := "TabledRules", name := "redundant", desc := "(I)Z" } : Jvm.MethodName)) ∈ lw_all := lw_g (lw_at lw_m1 127 rfl) rfl
theorem q146 : (Jvm.Cond.code ({ cls := "TabledRules", name := "redundant", desc := "(I)Z" } : Jvm.MethodName) prog_1_method_25_code (3 : Nat) (Option.some Jvm.ClassFile.FieldType.boolean)) ∈ lw_all := lw_g (lw_at lw_m1 128 rfl) rfl
theorem q147 : (Jvm.Cond.methodLink "TabledRules" (90 : Nat) ({ cls := "TabledRules", name := "keepCounts", desc := "()V" } : Jvm.MethodName)) ∈ lw_all := lw_g (lw_at lw_m1 129 rfl) rfl
theorem q148 : (Jvm.Cond.privateMethod ({ cls := "TabledRules", name := "keepCounts", desc := "()V" } : Jvm.MethodName)) ∈ lw_tbl := lw_at lw_m1 130 rfl
theorem q149 : (Jvm.Cond.instanceMethod ({ cls := "TabledRules", name := "keepCounts", desc := "()V" } : Jvm.MethodName)) ∈ lw_all := lw_g (lw_at lw_m1 131 rfl) rfl
theorem q150 : (Jvm.Cond.code ({ cls := "TabledRules", name := "keepCounts", desc := "()V" } : Jvm.MethodName) prog_1_method_23_code (2 : Nat) (Option.none : Option Jvm.ClassFile.FieldType)) ∈ lw_all := lw_g (lw_at lw_m1 132 rfl) rfl
theorem q151 : (Jvm.Cond.methodLink "TabledRules" (87 : Nat) ({ cls := "TabledRules", name := "count", desc := "(I)I" } : Jvm.MethodName)) ∈ lw_all := lw_g (lw_at lw_m1 133 rfl) rfl
theorem q152 : (Jvm.Cond.methodLink "TabledRules" (93 : Nat) ({ cls := "TabledRules", name := "countsDiffer", desc := "()Z" } : Jvm.MethodName)) ∈ lw_all := lw_g (lw_at lw_m1 134 rfl) rfl
theorem q153 : (Jvm.Cond.privateMethod ({ cls := "TabledRules", name := "countsDiffer", desc := "()Z" } : Jvm.MethodName)) ∈ lw_tbl := lw_at lw_m1 135 rfl
theorem q154 : (Jvm.Cond.instanceMethod ({ cls := "TabledRules", name := "countsDiffer", desc := "()Z" } : Jvm.MethodName)) ∈ lw_all := lw_g (lw_at lw_m1 136 rfl) rfl
theorem q155 : (Jvm.Cond.code ({ cls := "TabledRules", name := "countsDiffer", desc := "()Z" } : Jvm.MethodName) prog_1_method_24_code (3 : Nat) (Option.some Jvm.ClassFile.FieldType.boolean)) ∈ lw_all := lw_g (lw_at lw_m1 137 rfl) rfl
theorem q157 : (Jvm.Cond.instanceMethod ({ cls := "TabledRules", name := "loss", desc := "(IIII)I" } : Jvm.MethodName)) ∈ lw_all := lw_g (lw_at lw_m1 139 rfl) rfl
theorem q158 : (Jvm.Cond.selects "TabledRules" ({ cls := "TabledRules", name := "loss", desc := "(IIII)I" } : Jvm.MethodName) ({ cls := "TabledRules", name := "loss", desc := "(IIII)I" } : Jvm.MethodName)) ∈ lw_all := lw_g (lw_at lw_m1 140 rfl) rfl
theorem q159 : (Jvm.Cond.code ({ cls := "TabledRules", name := "loss", desc := "(IIII)I" } : Jvm.MethodName) prog_1_method_26_code (7 : Nat) (Option.some Jvm.ClassFile.FieldType.int)) ∈ lw_all := lw_g (lw_at lw_m1 141 rfl) rfl
theorem q161 : (Jvm.Cond.instanceMethod ({ cls := "TabledRules", name := "transitive", desc := "(I)Z" } : Jvm.MethodName)) ∈ lw_all := lw_g (lw_at lw_m1 143 rfl) rfl
theorem q162 : (Jvm.Cond.selects "TabledRules" ({ cls := "TabledRules", name := "transitive", desc := "(I)Z" } : Jvm.MethodName) ({ cls := "TabledRules", name := "transitive", desc := "(I)Z" } : Jvm.MethodName)) ∈ lw_all := lw_g (lw_at lw_m1 144 rfl) rfl
theorem q163 : (Jvm.Cond.code ({ cls := "TabledRules", name := "transitive", desc := "(I)Z" } : Jvm.MethodName) prog_1_method_27_code (6 : Nat) (Option.some Jvm.ClassFile.FieldType.boolean)) ∈ lw_all := lw_g (lw_at lw_m1 145 rfl) rfl
theorem in_X0 : ∀ w ∈ wsX00, w ∈ lw_all := lw_in wsX00 [39, 41, 43, 45, 47, 49, 51, 53, 55, 57] (by decide +kernel) (by decide +kernel)
end
section
/-! TabledRulesModel -/
set_option maxRecDepth 100000
def RX1 : String := "TabledRulesModel"
def TX1 : u_T := fun k => match k with
  | 0 => ("TabledRulesModel", "there", "[Z", false)
  | 1 => ("TabledRulesModel", "forms", "[I", false)
  | 2 => ("TabledRulesModel", "heads", "[I", false)
  | 3 => ("TabledRulesModel", "qs", "[I", false)
  | 4 => ("TabledRulesModel", "rs", "[I", false)
  | _ => ("TabledRulesModel", "pairs", "[I", false)
def tyX1 : Nat → FieldType := fun k => match k with
  | 0 => .array .boolean
  | 1 => .array .int
  | 2 => .array .int
  | 3 => .array .int
  | 4 => .array .int
  | _ => .array .int
abbrev wsX10 : List Cond := u_ws RX1 TX1 6
theorem nmX1 : ∀ a, a < 6 → ∀ b, b < 6 → a ≠ b → (TX1 a).2.1 ≠ (TX1 b).2.1 := by decide +kernel
theorem tyX1_ok : ∀ k, k < 6 → parseFieldDescriptor (TX1 k).2.2.1 = some (tyX1 k) := by decide +kernel
abbrev cX1_init : ByteArray := prog_3_method_1_code
def yX1_init : MethodName := ⟨RX1, "<init>", "()V"⟩
theorem dX1_init_0 : decode cX1_init 0 = .ok (.aload_n 0, 1) := by decide +kernel
theorem dX1_init_1 : decode cX1_init 1 = .ok (.invokespecial 1, 3) := by decide +kernel
theorem dX1_init_4 : decode cX1_init 4 = .ok (.aload_n 0, 1) := by decide +kernel
theorem dX1_init_5 : decode cX1_init 5 = .ok (.bipush 8, 2) := by decide +kernel
theorem dX1_init_7 : decode cX1_init 7 = .ok (.newarray .boolean, 2) := by decide +kernel
theorem dX1_init_9 : decode cX1_init 9 = .ok (.putfield 7, 3) := by decide +kernel
theorem dX1_init_12 : decode cX1_init 12 = .ok (.aload_n 0, 1) := by decide +kernel
theorem dX1_init_13 : decode cX1_init 13 = .ok (.bipush 8, 2) := by decide +kernel
theorem dX1_init_15 : decode cX1_init 15 = .ok (.newarray .int, 2) := by decide +kernel
theorem dX1_init_17 : decode cX1_init 17 = .ok (.putfield 13, 3) := by decide +kernel
theorem dX1_init_20 : decode cX1_init 20 = .ok (.aload_n 0, 1) := by decide +kernel
theorem dX1_init_21 : decode cX1_init 21 = .ok (.bipush 8, 2) := by decide +kernel
theorem dX1_init_23 : decode cX1_init 23 = .ok (.newarray .int, 2) := by decide +kernel
theorem dX1_init_25 : decode cX1_init 25 = .ok (.putfield 17, 3) := by decide +kernel
theorem dX1_init_28 : decode cX1_init 28 = .ok (.aload_n 0, 1) := by decide +kernel
theorem dX1_init_29 : decode cX1_init 29 = .ok (.bipush 8, 2) := by decide +kernel
theorem dX1_init_31 : decode cX1_init 31 = .ok (.newarray .int, 2) := by decide +kernel
theorem dX1_init_33 : decode cX1_init 33 = .ok (.putfield 20, 3) := by decide +kernel
theorem dX1_init_36 : decode cX1_init 36 = .ok (.aload_n 0, 1) := by decide +kernel
theorem dX1_init_37 : decode cX1_init 37 = .ok (.bipush 8, 2) := by decide +kernel
theorem dX1_init_39 : decode cX1_init 39 = .ok (.newarray .int, 2) := by decide +kernel
theorem dX1_init_41 : decode cX1_init 41 = .ok (.putfield 23, 3) := by decide +kernel
theorem dX1_init_44 : decode cX1_init 44 = .ok (.aload_n 0, 1) := by decide +kernel
theorem dX1_init_45 : decode cX1_init 45 = .ok (.iconst 5, 1) := by decide +kernel
theorem dX1_init_46 : decode cX1_init 46 = .ok (.newarray .int, 2) := by decide +kernel
theorem dX1_init_48 : decode cX1_init 48 = .ok (.putfield 26, 3) := by decide +kernel
theorem dX1_init_51 : decode cX1_init 51 = .ok (.return_, 1) := by decide +kernel
abbrev cX1_give : ByteArray := prog_3_method_3_code
def yX1_give : MethodName := ⟨RX1, "give", "(IIIZ)Z"⟩
theorem dX1_give_0 : decode cX1_give 0 = .ok (.iload_n 1, 1) := by decide +kernel
theorem dX1_give_1 : decode cX1_give 1 = .ok (.ifCond .eq 8, 3) := by decide +kernel
theorem dX1_give_4 : decode cX1_give 4 = .ok (.iload_n 1, 1) := by decide +kernel
theorem dX1_give_5 : decode cX1_give 5 = .ok (.iconst 1, 1) := by decide +kernel
theorem dX1_give_6 : decode cX1_give 6 = .ok (.if_icmp .ne 19, 3) := by decide +kernel
theorem dX1_give_9 : decode cX1_give 9 = .ok (.aload_n 0, 1) := by decide +kernel
theorem dX1_give_10 : decode cX1_give 10 = .ok (.iload_n 2, 1) := by decide +kernel
theorem dX1_give_11 : decode cX1_give 11 = .ok (.invokevirtual 29, 3) := by decide +kernel
theorem dX1_give_14 : decode cX1_give 14 = .ok (.ifCond .eq 11, 3) := by decide +kernel
theorem dX1_give_17 : decode cX1_give 17 = .ok (.aload_n 0, 1) := by decide +kernel
theorem dX1_give_18 : decode cX1_give 18 = .ok (.iload_n 3, 1) := by decide +kernel
theorem dX1_give_19 : decode cX1_give 19 = .ok (.invokevirtual 29, 3) := by decide +kernel
theorem dX1_give_22 : decode cX1_give 22 = .ok (.ifCond .ne 5, 3) := by decide +kernel
theorem dX1_give_25 : decode cX1_give 25 = .ok (.iconst 0, 1) := by decide +kernel
theorem dX1_give_26 : decode cX1_give 26 = .ok (.ireturn, 1) := by decide +kernel
theorem dX1_give_27 : decode cX1_give 27 = .ok (.iconst 1, 1) := by decide +kernel
theorem dX1_give_28 : decode cX1_give 28 = .ok (.iconst 5, 1) := by decide +kernel
theorem dX1_give_29 : decode cX1_give 29 = .ok (.iload_n 2, 1) := by decide +kernel
theorem dX1_give_30 : decode cX1_give 30 = .ok (.imul, 1) := by decide +kernel
theorem dX1_give_31 : decode cX1_give 31 = .ok (.iload_n 3, 1) := by decide +kernel
theorem dX1_give_32 : decode cX1_give 32 = .ok (.iadd, 1) := by decide +kernel
theorem dX1_give_33 : decode cX1_give 33 = .ok (.ishl, 1) := by decide +kernel
theorem dX1_give_34 : decode cX1_give 34 = .ok (.istore 5, 2) := by decide +kernel
theorem dX1_give_36 : decode cX1_give 36 = .ok (.aload_n 0, 1) := by decide +kernel
theorem dX1_give_37 : decode cX1_give 37 = .ok (.getfield 26, 3) := by decide +kernel
theorem dX1_give_40 : decode cX1_give 40 = .ok (.iload_n 1, 1) := by decide +kernel
theorem dX1_give_41 : decode cX1_give 41 = .ok (.iload 4, 2) := by decide +kernel
theorem dX1_give_43 : decode cX1_give 43 = .ok (.ifCond .eq 15, 3) := by decide +kernel
theorem dX1_give_46 : decode cX1_give 46 = .ok (.aload_n 0, 1) := by decide +kernel
theorem dX1_give_47 : decode cX1_give 47 = .ok (.getfield 26, 3) := by decide +kernel
theorem dX1_give_50 : decode cX1_give 50 = .ok (.iload_n 1, 1) := by decide +kernel
theorem dX1_give_51 : decode cX1_give 51 = .ok (.iaload, 1) := by decide +kernel
theorem dX1_give_52 : decode cX1_give 52 = .ok (.iload 5, 2) := by decide +kernel
theorem dX1_give_54 : decode cX1_give 54 = .ok (.ior, 1) := by decide +kernel
theorem dX1_give_55 : decode cX1_give 55 = .ok (.goto 14, 3) := by decide +kernel
theorem dX1_give_58 : decode cX1_give 58 = .ok (.aload_n 0, 1) := by decide +kernel
theorem dX1_give_59 : decode cX1_give 59 = .ok (.getfield 26, 3) := by decide +kernel
theorem dX1_give_62 : decode cX1_give 62 = .ok (.iload_n 1, 1) := by decide +kernel
theorem dX1_give_63 : decode cX1_give 63 = .ok (.iaload, 1) := by decide +kernel
theorem dX1_give_64 : decode cX1_give 64 = .ok (.iload 5, 2) := by decide +kernel
theorem dX1_give_66 : decode cX1_give 66 = .ok (.iconst (-1), 1) := by decide +kernel
theorem dX1_give_67 : decode cX1_give 67 = .ok (.ixor, 1) := by decide +kernel
theorem dX1_give_68 : decode cX1_give 68 = .ok (.iand, 1) := by decide +kernel
theorem dX1_give_69 : decode cX1_give 69 = .ok (.iastore, 1) := by decide +kernel
theorem dX1_give_70 : decode cX1_give 70 = .ok (.iconst 1, 1) := by decide +kernel
theorem dX1_give_71 : decode cX1_give 71 = .ok (.ireturn, 1) := by decide +kernel
abbrev cX1_five : ByteArray := prog_3_method_2_code
def yX1_five : MethodName := ⟨RX1, "five", "(I)Z"⟩
theorem dX1_five_0 : decode cX1_five 0 = .ok (.iload_n 1, 1) := by decide +kernel
theorem dX1_five_1 : decode cX1_five 1 = .ok (.ifCond .lt 12, 3) := by decide +kernel
theorem dX1_five_4 : decode cX1_five 4 = .ok (.iload_n 1, 1) := by decide +kernel
theorem dX1_five_5 : decode cX1_five 5 = .ok (.iconst 4, 1) := by decide +kernel
theorem dX1_five_6 : decode cX1_five 6 = .ok (.if_icmp .gt 7, 3) := by decide +kernel
theorem dX1_five_9 : decode cX1_five 9 = .ok (.iconst 1, 1) := by decide +kernel
theorem dX1_five_10 : decode cX1_five 10 = .ok (.goto 4, 3) := by decide +kernel
theorem dX1_five_13 : decode cX1_five 13 = .ok (.iconst 0, 1) := by decide +kernel
theorem dX1_five_14 : decode cX1_five 14 = .ok (.ireturn, 1) := by decide +kernel
abbrev cX1_rule : ByteArray := prog_3_method_4_code
def yX1_rule : MethodName := ⟨RX1, "rule", "(III)I"⟩
theorem dX1_rule_0 : decode cX1_rule 0 = .ok (.iload_n 1, 1) := by decide +kernel
theorem dX1_rule_1 : decode cX1_rule 1 = .ok (.ifCond .lt 39, 3) := by decide +kernel
theorem dX1_rule_4 : decode cX1_rule 4 = .ok (.iload_n 1, 1) := by decide +kernel
theorem dX1_rule_5 : decode cX1_rule 5 = .ok (.iconst 4, 1) := by decide +kernel
theorem dX1_rule_6 : decode cX1_rule 6 = .ok (.if_icmp .gt 34, 3) := by decide +kernel
theorem dX1_rule_9 : decode cX1_rule 9 = .ok (.iload_n 2, 1) := by decide +kernel
theorem dX1_rule_10 : decode cX1_rule 10 = .ok (.iconst 2, 1) := by decide +kernel
theorem dX1_rule_11 : decode cX1_rule 11 = .ok (.if_icmp .lt 29, 3) := by decide +kernel
theorem dX1_rule_14 : decode cX1_rule 14 = .ok (.iload_n 2, 1) := by decide +kernel
theorem dX1_rule_15 : decode cX1_rule 15 = .ok (.iconst 4, 1) := by decide +kernel
theorem dX1_rule_16 : decode cX1_rule 16 = .ok (.if_icmp .gt 24, 3) := by decide +kernel
theorem dX1_rule_19 : decode cX1_rule 19 = .ok (.aload_n 0, 1) := by decide +kernel
theorem dX1_rule_20 : decode cX1_rule 20 = .ok (.iload_n 3, 1) := by decide +kernel
theorem dX1_rule_21 : decode cX1_rule 21 = .ok (.bipush 7, 2) := by decide +kernel
theorem dX1_rule_23 : decode cX1_rule 23 = .ok (.iand, 1) := by decide +kernel
theorem dX1_rule_24 : decode cX1_rule 24 = .ok (.invokevirtual 29, 3) := by decide +kernel
theorem dX1_rule_27 : decode cX1_rule 27 = .ok (.ifCond .eq 13, 3) := by decide +kernel
theorem dX1_rule_30 : decode cX1_rule 30 = .ok (.aload_n 0, 1) := by decide +kernel
theorem dX1_rule_31 : decode cX1_rule 31 = .ok (.iload_n 3, 1) := by decide +kernel
theorem dX1_rule_32 : decode cX1_rule 32 = .ok (.iconst 3, 1) := by decide +kernel
theorem dX1_rule_33 : decode cX1_rule 33 = .ok (.ishr, 1) := by decide +kernel
theorem dX1_rule_34 : decode cX1_rule 34 = .ok (.invokevirtual 29, 3) := by decide +kernel
theorem dX1_rule_37 : decode cX1_rule 37 = .ok (.ifCond .ne 5, 3) := by decide +kernel
theorem dX1_rule_40 : decode cX1_rule 40 = .ok (.iconst (-1), 1) := by decide +kernel
theorem dX1_rule_41 : decode cX1_rule 41 = .ok (.ireturn, 1) := by decide +kernel
theorem dX1_rule_42 : decode cX1_rule 42 = .ok (.iconst 0, 1) := by decide +kernel
theorem dX1_rule_43 : decode cX1_rule 43 = .ok (.istore 4, 2) := by decide +kernel
theorem dX1_rule_45 : decode cX1_rule 45 = .ok (.iload 4, 2) := by decide +kernel
theorem dX1_rule_47 : decode cX1_rule 47 = .ok (.bipush 8, 2) := by decide +kernel
theorem dX1_rule_49 : decode cX1_rule 49 = .ok (.if_icmp .ge 67, 3) := by decide +kernel
theorem dX1_rule_52 : decode cX1_rule 52 = .ok (.aload_n 0, 1) := by decide +kernel
theorem dX1_rule_53 : decode cX1_rule 53 = .ok (.getfield 7, 3) := by decide +kernel
theorem dX1_rule_56 : decode cX1_rule 56 = .ok (.iload 4, 2) := by decide +kernel
theorem dX1_rule_58 : decode cX1_rule 58 = .ok (.baload, 1) := by decide +kernel
theorem dX1_rule_59 : decode cX1_rule 59 = .ok (.ifCond .ne 51, 3) := by decide +kernel
theorem dX1_rule_62 : decode cX1_rule 62 = .ok (.aload_n 0, 1) := by decide +kernel
theorem dX1_rule_63 : decode cX1_rule 63 = .ok (.getfield 7, 3) := by decide +kernel
theorem dX1_rule_66 : decode cX1_rule 66 = .ok (.iload 4, 2) := by decide +kernel
theorem dX1_rule_68 : decode cX1_rule 68 = .ok (.iconst 1, 1) := by decide +kernel
theorem dX1_rule_69 : decode cX1_rule 69 = .ok (.bastore, 1) := by decide +kernel
theorem dX1_rule_70 : decode cX1_rule 70 = .ok (.aload_n 0, 1) := by decide +kernel
theorem dX1_rule_71 : decode cX1_rule 71 = .ok (.getfield 13, 3) := by decide +kernel
theorem dX1_rule_74 : decode cX1_rule 74 = .ok (.iload 4, 2) := by decide +kernel
theorem dX1_rule_76 : decode cX1_rule 76 = .ok (.iload_n 1, 1) := by decide +kernel
theorem dX1_rule_77 : decode cX1_rule 77 = .ok (.iastore, 1) := by decide +kernel
theorem dX1_rule_78 : decode cX1_rule 78 = .ok (.aload_n 0, 1) := by decide +kernel
theorem dX1_rule_79 : decode cX1_rule 79 = .ok (.getfield 17, 3) := by decide +kernel
theorem dX1_rule_82 : decode cX1_rule 82 = .ok (.iload 4, 2) := by decide +kernel
theorem dX1_rule_84 : decode cX1_rule 84 = .ok (.iload_n 2, 1) := by decide +kernel
theorem dX1_rule_85 : decode cX1_rule 85 = .ok (.iastore, 1) := by decide +kernel
theorem dX1_rule_86 : decode cX1_rule 86 = .ok (.aload_n 0, 1) := by decide +kernel
theorem dX1_rule_87 : decode cX1_rule 87 = .ok (.getfield 20, 3) := by decide +kernel
theorem dX1_rule_90 : decode cX1_rule 90 = .ok (.iload 4, 2) := by decide +kernel
theorem dX1_rule_92 : decode cX1_rule 92 = .ok (.iload_n 3, 1) := by decide +kernel
theorem dX1_rule_93 : decode cX1_rule 93 = .ok (.bipush 7, 2) := by decide +kernel
theorem dX1_rule_95 : decode cX1_rule 95 = .ok (.iand, 1) := by decide +kernel
theorem dX1_rule_96 : decode cX1_rule 96 = .ok (.iastore, 1) := by decide +kernel
theorem dX1_rule_97 : decode cX1_rule 97 = .ok (.aload_n 0, 1) := by decide +kernel
theorem dX1_rule_98 : decode cX1_rule 98 = .ok (.getfield 23, 3) := by decide +kernel
theorem dX1_rule_101 : decode cX1_rule 101 = .ok (.iload 4, 2) := by decide +kernel
theorem dX1_rule_103 : decode cX1_rule 103 = .ok (.iload_n 3, 1) := by decide +kernel
theorem dX1_rule_104 : decode cX1_rule 104 = .ok (.iconst 3, 1) := by decide +kernel
theorem dX1_rule_105 : decode cX1_rule 105 = .ok (.ishr, 1) := by decide +kernel
theorem dX1_rule_106 : decode cX1_rule 106 = .ok (.iastore, 1) := by decide +kernel
theorem dX1_rule_107 : decode cX1_rule 107 = .ok (.iload 4, 2) := by decide +kernel
theorem dX1_rule_109 : decode cX1_rule 109 = .ok (.ireturn, 1) := by decide +kernel
theorem dX1_rule_110 : decode cX1_rule 110 = .ok (.iinc 4 1, 3) := by decide +kernel
theorem dX1_rule_113 : decode cX1_rule 113 = .ok (.goto (-68), 3) := by decide +kernel
theorem dX1_rule_116 : decode cX1_rule 116 = .ok (.bipush (-2), 2) := by decide +kernel
theorem dX1_rule_118 : decode cX1_rule 118 = .ok (.ireturn, 1) := by decide +kernel
abbrev cX1_drop : ByteArray := prog_3_method_6_code
def yX1_drop : MethodName := ⟨RX1, "drop", "(I)Z"⟩
theorem dX1_drop_0 : decode cX1_drop 0 = .ok (.aload_n 0, 1) := by decide +kernel
theorem dX1_drop_1 : decode cX1_drop 1 = .ok (.iload_n 1, 1) := by decide +kernel
theorem dX1_drop_2 : decode cX1_drop 2 = .ok (.invokevirtual 33, 3) := by decide +kernel
theorem dX1_drop_5 : decode cX1_drop 5 = .ok (.ifCond .ne 5, 3) := by decide +kernel
theorem dX1_drop_8 : decode cX1_drop 8 = .ok (.iconst 0, 1) := by decide +kernel
theorem dX1_drop_9 : decode cX1_drop 9 = .ok (.ireturn, 1) := by decide +kernel
theorem dX1_drop_10 : decode cX1_drop 10 = .ok (.aload_n 0, 1) := by decide +kernel
theorem dX1_drop_11 : decode cX1_drop 11 = .ok (.getfield 7, 3) := by decide +kernel
theorem dX1_drop_14 : decode cX1_drop 14 = .ok (.iload_n 1, 1) := by decide +kernel
theorem dX1_drop_15 : decode cX1_drop 15 = .ok (.iconst 0, 1) := by decide +kernel
theorem dX1_drop_16 : decode cX1_drop 16 = .ok (.bastore, 1) := by decide +kernel
theorem dX1_drop_17 : decode cX1_drop 17 = .ok (.iconst 1, 1) := by decide +kernel
theorem dX1_drop_18 : decode cX1_drop 18 = .ok (.ireturn, 1) := by decide +kernel
abbrev cX1_is : ByteArray := prog_3_method_5_code
def yX1_is : MethodName := ⟨RX1, "is", "(I)Z"⟩
theorem dX1_is_0 : decode cX1_is 0 = .ok (.iload_n 1, 1) := by decide +kernel
theorem dX1_is_1 : decode cX1_is 1 = .ok (.ifCond .lt 22, 3) := by decide +kernel
theorem dX1_is_4 : decode cX1_is 4 = .ok (.iload_n 1, 1) := by decide +kernel
theorem dX1_is_5 : decode cX1_is 5 = .ok (.bipush 7, 2) := by decide +kernel
theorem dX1_is_7 : decode cX1_is 7 = .ok (.if_icmp .gt 16, 3) := by decide +kernel
theorem dX1_is_10 : decode cX1_is 10 = .ok (.aload_n 0, 1) := by decide +kernel
theorem dX1_is_11 : decode cX1_is 11 = .ok (.getfield 7, 3) := by decide +kernel
theorem dX1_is_14 : decode cX1_is 14 = .ok (.iload_n 1, 1) := by decide +kernel
theorem dX1_is_15 : decode cX1_is 15 = .ok (.baload, 1) := by decide +kernel
theorem dX1_is_16 : decode cX1_is 16 = .ok (.ifCond .eq 7, 3) := by decide +kernel
theorem dX1_is_19 : decode cX1_is 19 = .ok (.iconst 1, 1) := by decide +kernel
theorem dX1_is_20 : decode cX1_is 20 = .ok (.goto 4, 3) := by decide +kernel
theorem dX1_is_23 : decode cX1_is 23 = .ok (.iconst 0, 1) := by decide +kernel
theorem dX1_is_24 : decode cX1_is 24 = .ok (.ireturn, 1) := by decide +kernel
abbrev cX1_rules : ByteArray := prog_3_method_7_code
def yX1_rules : MethodName := ⟨RX1, "rules", "()I"⟩
theorem dX1_rules_0 : decode cX1_rules 0 = .ok (.iconst 0, 1) := by decide +kernel
theorem dX1_rules_1 : decode cX1_rules 1 = .ok (.istore_n 1, 1) := by decide +kernel
theorem dX1_rules_2 : decode cX1_rules 2 = .ok (.iconst 0, 1) := by decide +kernel
theorem dX1_rules_3 : decode cX1_rules 3 = .ok (.istore_n 2, 1) := by decide +kernel
theorem dX1_rules_4 : decode cX1_rules 4 = .ok (.iload_n 2, 1) := by decide +kernel
theorem dX1_rules_5 : decode cX1_rules 5 = .ok (.bipush 8, 2) := by decide +kernel
theorem dX1_rules_7 : decode cX1_rules 7 = .ok (.if_icmp .ge 28, 3) := by decide +kernel
theorem dX1_rules_10 : decode cX1_rules 10 = .ok (.aload_n 0, 1) := by decide +kernel
theorem dX1_rules_11 : decode cX1_rules 11 = .ok (.getfield 7, 3) := by decide +kernel
theorem dX1_rules_14 : decode cX1_rules 14 = .ok (.iload_n 2, 1) := by decide +kernel
theorem dX1_rules_15 : decode cX1_rules 15 = .ok (.baload, 1) := by decide +kernel
theorem dX1_rules_16 : decode cX1_rules 16 = .ok (.ifCond .eq 11, 3) := by decide +kernel
theorem dX1_rules_19 : decode cX1_rules 19 = .ok (.iload_n 1, 1) := by decide +kernel
theorem dX1_rules_20 : decode cX1_rules 20 = .ok (.iconst 1, 1) := by decide +kernel
theorem dX1_rules_21 : decode cX1_rules 21 = .ok (.iload_n 2, 1) := by decide +kernel
theorem dX1_rules_22 : decode cX1_rules 22 = .ok (.ishl, 1) := by decide +kernel
theorem dX1_rules_23 : decode cX1_rules 23 = .ok (.ior, 1) := by decide +kernel
theorem dX1_rules_24 : decode cX1_rules 24 = .ok (.goto 4, 3) := by decide +kernel
theorem dX1_rules_27 : decode cX1_rules 27 = .ok (.iload_n 1, 1) := by decide +kernel
theorem dX1_rules_28 : decode cX1_rules 28 = .ok (.istore_n 1, 1) := by decide +kernel
theorem dX1_rules_29 : decode cX1_rules 29 = .ok (.iinc 2 1, 3) := by decide +kernel
theorem dX1_rules_32 : decode cX1_rules 32 = .ok (.goto (-28), 3) := by decide +kernel
theorem dX1_rules_35 : decode cX1_rules 35 = .ok (.iload_n 1, 1) := by decide +kernel
theorem dX1_rules_36 : decode cX1_rules 36 = .ok (.ireturn, 1) := by decide +kernel
abbrev cX1_holds : ByteArray := prog_3_method_12_code
def yX1_holds : MethodName := ⟨RX1, "holds", "(III)Z"⟩
theorem dX1_holds_0 : decode cX1_holds 0 = .ok (.aload_n 0, 1) := by decide +kernel
theorem dX1_holds_1 : decode cX1_holds 1 = .ok (.invokevirtual 46, 3) := by decide +kernel
theorem dX1_holds_4 : decode cX1_holds 4 = .ok (.aload_n 0, 1) := by decide +kernel
theorem dX1_holds_5 : decode cX1_holds 5 = .ok (.iload_n 1, 1) := by decide +kernel
theorem dX1_holds_6 : decode cX1_holds 6 = .ok (.invokevirtual 29, 3) := by decide +kernel
theorem dX1_holds_9 : decode cX1_holds 9 = .ok (.ifCond .eq 33, 3) := by decide +kernel
theorem dX1_holds_12 : decode cX1_holds 12 = .ok (.aload_n 0, 1) := by decide +kernel
theorem dX1_holds_13 : decode cX1_holds 13 = .ok (.iload_n 2, 1) := by decide +kernel
theorem dX1_holds_14 : decode cX1_holds 14 = .ok (.invokevirtual 29, 3) := by decide +kernel
theorem dX1_holds_17 : decode cX1_holds 17 = .ok (.ifCond .eq 25, 3) := by decide +kernel
theorem dX1_holds_20 : decode cX1_holds 20 = .ok (.aload_n 0, 1) := by decide +kernel
theorem dX1_holds_21 : decode cX1_holds 21 = .ok (.iload_n 3, 1) := by decide +kernel
theorem dX1_holds_22 : decode cX1_holds 22 = .ok (.invokevirtual 29, 3) := by decide +kernel
theorem dX1_holds_25 : decode cX1_holds 25 = .ok (.ifCond .eq 17, 3) := by decide +kernel
theorem dX1_holds_28 : decode cX1_holds 28 = .ok (.aload_n 0, 1) := by decide +kernel
theorem dX1_holds_29 : decode cX1_holds 29 = .ok (.iload_n 1, 1) := by decide +kernel
theorem dX1_holds_30 : decode cX1_holds 30 = .ok (.iload_n 2, 1) := by decide +kernel
theorem dX1_holds_31 : decode cX1_holds 31 = .ok (.iload_n 3, 1) := by decide +kernel
theorem dX1_holds_32 : decode cX1_holds 32 = .ok (.invokevirtual 36, 3) := by decide +kernel
theorem dX1_holds_35 : decode cX1_holds 35 = .ok (.ifCond .eq 7, 3) := by decide +kernel
theorem dX1_holds_38 : decode cX1_holds 38 = .ok (.iconst 1, 1) := by decide +kernel
theorem dX1_holds_39 : decode cX1_holds 39 = .ok (.goto 4, 3) := by decide +kernel
theorem dX1_holds_42 : decode cX1_holds 42 = .ok (.iconst 0, 1) := by decide +kernel
theorem dX1_holds_43 : decode cX1_holds 43 = .ok (.ireturn, 1) := by decide +kernel
abbrev cX1_work : ByteArray := prog_3_method_10_code
def yX1_work : MethodName := ⟨RX1, "work", "()V"⟩
theorem dX1_work_0 : decode cX1_work 0 = .ok (.aload_n 0, 1) := by decide +kernel
theorem dX1_work_1 : decode cX1_work 1 = .ok (.getfield 26, 3) := by decide +kernel
theorem dX1_work_4 : decode cX1_work 4 = .ok (.iconst 2, 1) := by decide +kernel
theorem dX1_work_5 : decode cX1_work 5 = .ok (.iconst 0, 1) := by decide +kernel
theorem dX1_work_6 : decode cX1_work 6 = .ok (.iastore, 1) := by decide +kernel
theorem dX1_work_7 : decode cX1_work 7 = .ok (.aload_n 0, 1) := by decide +kernel
theorem dX1_work_8 : decode cX1_work 8 = .ok (.getfield 26, 3) := by decide +kernel
theorem dX1_work_11 : decode cX1_work 11 = .ok (.iconst 3, 1) := by decide +kernel
theorem dX1_work_12 : decode cX1_work 12 = .ok (.iconst 0, 1) := by decide +kernel
theorem dX1_work_13 : decode cX1_work 13 = .ok (.iastore, 1) := by decide +kernel
theorem dX1_work_14 : decode cX1_work 14 = .ok (.aload_n 0, 1) := by decide +kernel
theorem dX1_work_15 : decode cX1_work 15 = .ok (.getfield 26, 3) := by decide +kernel
theorem dX1_work_18 : decode cX1_work 18 = .ok (.iconst 4, 1) := by decide +kernel
theorem dX1_work_19 : decode cX1_work 19 = .ok (.iconst 0, 1) := by decide +kernel
theorem dX1_work_20 : decode cX1_work 20 = .ok (.iastore, 1) := by decide +kernel
theorem dX1_work_21 : decode cX1_work 21 = .ok (.iconst 1, 1) := by decide +kernel
theorem dX1_work_22 : decode cX1_work 22 = .ok (.istore_n 1, 1) := by decide +kernel
theorem dX1_work_23 : decode cX1_work 23 = .ok (.iconst 0, 1) := by decide +kernel
theorem dX1_work_24 : decode cX1_work 24 = .ok (.istore_n 2, 1) := by decide +kernel
theorem dX1_work_25 : decode cX1_work 25 = .ok (.iload_n 2, 1) := by decide +kernel
theorem dX1_work_26 : decode cX1_work 26 = .ok (.bipush 76, 2) := by decide +kernel
theorem dX1_work_28 : decode cX1_work 28 = .ok (.if_icmp .ge 56, 3) := by decide +kernel
theorem dX1_work_31 : decode cX1_work 31 = .ok (.iload_n 1, 1) := by decide +kernel
theorem dX1_work_32 : decode cX1_work 32 = .ok (.ifCond .eq 52, 3) := by decide +kernel
theorem dX1_work_35 : decode cX1_work 35 = .ok (.iconst 0, 1) := by decide +kernel
theorem dX1_work_36 : decode cX1_work 36 = .ok (.istore_n 1, 1) := by decide +kernel
theorem dX1_work_37 : decode cX1_work 37 = .ok (.iconst 0, 1) := by decide +kernel
theorem dX1_work_38 : decode cX1_work 38 = .ok (.istore_n 3, 1) := by decide +kernel
theorem dX1_work_39 : decode cX1_work 39 = .ok (.iload_n 3, 1) := by decide +kernel
theorem dX1_work_40 : decode cX1_work 40 = .ok (.bipush 8, 2) := by decide +kernel
theorem dX1_work_42 : decode cX1_work 42 = .ok (.if_icmp .ge 36, 3) := by decide +kernel
theorem dX1_work_45 : decode cX1_work 45 = .ok (.aload_n 0, 1) := by decide +kernel
theorem dX1_work_46 : decode cX1_work 46 = .ok (.getfield 7, 3) := by decide +kernel
theorem dX1_work_49 : decode cX1_work 49 = .ok (.iload_n 3, 1) := by decide +kernel
theorem dX1_work_50 : decode cX1_work 50 = .ok (.baload, 1) := by decide +kernel
theorem dX1_work_51 : decode cX1_work 51 = .ok (.ifCond .eq 11, 3) := by decide +kernel
theorem dX1_work_54 : decode cX1_work 54 = .ok (.aload_n 0, 1) := by decide +kernel
theorem dX1_work_55 : decode cX1_work 55 = .ok (.iload_n 3, 1) := by decide +kernel
theorem dX1_work_56 : decode cX1_work 56 = .ok (.invokevirtual 40, 3) := by decide +kernel
theorem dX1_work_59 : decode cX1_work 59 = .ok (.ifCond .ne 7, 3) := by decide +kernel
theorem dX1_work_62 : decode cX1_work 62 = .ok (.iload_n 1, 1) := by decide +kernel
theorem dX1_work_63 : decode cX1_work 63 = .ok (.ifCond .eq 7, 3) := by decide +kernel
theorem dX1_work_66 : decode cX1_work 66 = .ok (.iconst 1, 1) := by decide +kernel
theorem dX1_work_67 : decode cX1_work 67 = .ok (.goto 4, 3) := by decide +kernel
theorem dX1_work_70 : decode cX1_work 70 = .ok (.iconst 0, 1) := by decide +kernel
theorem dX1_work_71 : decode cX1_work 71 = .ok (.istore_n 1, 1) := by decide +kernel
theorem dX1_work_72 : decode cX1_work 72 = .ok (.iinc 3 1, 3) := by decide +kernel
theorem dX1_work_75 : decode cX1_work 75 = .ok (.goto (-36), 3) := by decide +kernel
theorem dX1_work_78 : decode cX1_work 78 = .ok (.iinc 2 1, 3) := by decide +kernel
theorem dX1_work_81 : decode cX1_work 81 = .ok (.goto (-56), 3) := by decide +kernel
theorem dX1_work_84 : decode cX1_work 84 = .ok (.return_, 1) := by decide +kernel
end
section
set_option maxRecDepth 100000
abbrev cX1_use : ByteArray := prog_3_method_11_code
def yX1_use : MethodName := ⟨RX1, "use", "(I)Z"⟩
theorem dX1_use_0 : decode cX1_use 0 = .ok (.aload_n 0, 1) := by decide +kernel
theorem dX1_use_1 : decode cX1_use 1 = .ok (.getfield 26, 3) := by decide +kernel
theorem dX1_use_4 : decode cX1_use 4 = .ok (.aload_n 0, 1) := by decide +kernel
theorem dX1_use_5 : decode cX1_use 5 = .ok (.getfield 17, 3) := by decide +kernel
theorem dX1_use_8 : decode cX1_use 8 = .ok (.iload_n 1, 1) := by decide +kernel
theorem dX1_use_9 : decode cX1_use 9 = .ok (.iaload, 1) := by decide +kernel
theorem dX1_use_10 : decode cX1_use 10 = .ok (.iaload, 1) := by decide +kernel
theorem dX1_use_11 : decode cX1_use 11 = .ok (.istore_n 2, 1) := by decide +kernel
theorem dX1_use_12 : decode cX1_use 12 = .ok (.iload_n 2, 1) := by decide +kernel
theorem dX1_use_13 : decode cX1_use 13 = .ok (.istore_n 3, 1) := by decide +kernel
theorem dX1_use_14 : decode cX1_use 14 = .ok (.iconst 0, 1) := by decide +kernel
theorem dX1_use_15 : decode cX1_use 15 = .ok (.istore 4, 2) := by decide +kernel
theorem dX1_use_17 : decode cX1_use 17 = .ok (.iload 4, 2) := by decide +kernel
theorem dX1_use_19 : decode cX1_use 19 = .ok (.bipush 25, 2) := by decide +kernel
theorem dX1_use_21 : decode cX1_use 21 = .ok (.if_icmp .ge 36, 3) := by decide +kernel
theorem dX1_use_24 : decode cX1_use 24 = .ok (.aload_n 0, 1) := by decide +kernel
theorem dX1_use_25 : decode cX1_use 25 = .ok (.iload_n 1, 1) := by decide +kernel
theorem dX1_use_26 : decode cX1_use 26 = .ok (.iload 4, 2) := by decide +kernel
theorem dX1_use_28 : decode cX1_use 28 = .ok (.iconst 5, 1) := by decide +kernel
theorem dX1_use_29 : decode cX1_use 29 = .ok (.idiv, 1) := by decide +kernel
theorem dX1_use_30 : decode cX1_use 30 = .ok (.iload 4, 2) := by decide +kernel
theorem dX1_use_32 : decode cX1_use 32 = .ok (.iconst 5, 1) := by decide +kernel
theorem dX1_use_33 : decode cX1_use 33 = .ok (.irem, 1) := by decide +kernel
theorem dX1_use_34 : decode cX1_use 34 = .ok (.invokevirtual 43, 3) := by decide +kernel
theorem dX1_use_37 : decode cX1_use 37 = .ok (.ifCond .eq 12, 3) := by decide +kernel
theorem dX1_use_40 : decode cX1_use 40 = .ok (.iload_n 3, 1) := by decide +kernel
theorem dX1_use_41 : decode cX1_use 41 = .ok (.iconst 1, 1) := by decide +kernel
theorem dX1_use_42 : decode cX1_use 42 = .ok (.iload 4, 2) := by decide +kernel
theorem dX1_use_44 : decode cX1_use 44 = .ok (.ishl, 1) := by decide +kernel
theorem dX1_use_45 : decode cX1_use 45 = .ok (.ior, 1) := by decide +kernel
theorem dX1_use_46 : decode cX1_use 46 = .ok (.goto 4, 3) := by decide +kernel
theorem dX1_use_49 : decode cX1_use 49 = .ok (.iload_n 3, 1) := by decide +kernel
theorem dX1_use_50 : decode cX1_use 50 = .ok (.istore_n 3, 1) := by decide +kernel
theorem dX1_use_51 : decode cX1_use 51 = .ok (.iinc 4 1, 3) := by decide +kernel
theorem dX1_use_54 : decode cX1_use 54 = .ok (.goto (-37), 3) := by decide +kernel
theorem dX1_use_57 : decode cX1_use 57 = .ok (.aload_n 0, 1) := by decide +kernel
theorem dX1_use_58 : decode cX1_use 58 = .ok (.getfield 26, 3) := by decide +kernel
theorem dX1_use_61 : decode cX1_use 61 = .ok (.aload_n 0, 1) := by decide +kernel
theorem dX1_use_62 : decode cX1_use 62 = .ok (.getfield 17, 3) := by decide +kernel
theorem dX1_use_65 : decode cX1_use 65 = .ok (.iload_n 1, 1) := by decide +kernel
theorem dX1_use_66 : decode cX1_use 66 = .ok (.iaload, 1) := by decide +kernel
theorem dX1_use_67 : decode cX1_use 67 = .ok (.iload_n 3, 1) := by decide +kernel
theorem dX1_use_68 : decode cX1_use 68 = .ok (.iastore, 1) := by decide +kernel
theorem dX1_use_69 : decode cX1_use 69 = .ok (.iload_n 3, 1) := by decide +kernel
theorem dX1_use_70 : decode cX1_use 70 = .ok (.iload_n 2, 1) := by decide +kernel
theorem dX1_use_71 : decode cX1_use 71 = .ok (.if_icmp .eq 7, 3) := by decide +kernel
theorem dX1_use_74 : decode cX1_use 74 = .ok (.iconst 1, 1) := by decide +kernel
theorem dX1_use_75 : decode cX1_use 75 = .ok (.goto 4, 3) := by decide +kernel
theorem dX1_use_78 : decode cX1_use 78 = .ok (.iconst 0, 1) := by decide +kernel
theorem dX1_use_79 : decode cX1_use 79 = .ok (.ireturn, 1) := by decide +kernel
abbrev cX1_says : ByteArray := prog_3_method_9_code
def yX1_says : MethodName := ⟨RX1, "says", "(III)Z"⟩
theorem dX1_says_0 : decode cX1_says 0 = .ok (.aload_n 0, 1) := by decide +kernel
theorem dX1_says_1 : decode cX1_says 1 = .ok (.getfield 20, 3) := by decide +kernel
theorem dX1_says_4 : decode cX1_says 4 = .ok (.iload_n 1, 1) := by decide +kernel
theorem dX1_says_5 : decode cX1_says 5 = .ok (.iaload, 1) := by decide +kernel
theorem dX1_says_6 : decode cX1_says 6 = .ok (.istore 4, 2) := by decide +kernel
theorem dX1_says_8 : decode cX1_says 8 = .ok (.aload_n 0, 1) := by decide +kernel
theorem dX1_says_9 : decode cX1_says 9 = .ok (.getfield 23, 3) := by decide +kernel
theorem dX1_says_12 : decode cX1_says 12 = .ok (.iload_n 1, 1) := by decide +kernel
theorem dX1_says_13 : decode cX1_says 13 = .ok (.iaload, 1) := by decide +kernel
theorem dX1_says_14 : decode cX1_says 14 = .ok (.istore 5, 2) := by decide +kernel
theorem dX1_says_16 : decode cX1_says 16 = .ok (.aload_n 0, 1) := by decide +kernel
theorem dX1_says_17 : decode cX1_says 17 = .ok (.getfield 13, 3) := by decide +kernel
theorem dX1_says_20 : decode cX1_says 20 = .ok (.iload_n 1, 1) := by decide +kernel
theorem dX1_says_21 : decode cX1_says 21 = .ok (.iaload, 1) := by decide +kernel
theorem dX1_says_22 : decode cX1_says 22 = .ok (.ifCond .eq 13, 3) := by decide +kernel
theorem dX1_says_25 : decode cX1_says 25 = .ok (.aload_n 0, 1) := by decide +kernel
theorem dX1_says_26 : decode cX1_says 26 = .ok (.getfield 13, 3) := by decide +kernel
theorem dX1_says_29 : decode cX1_says 29 = .ok (.iload_n 1, 1) := by decide +kernel
theorem dX1_says_30 : decode cX1_says 30 = .ok (.iaload, 1) := by decide +kernel
theorem dX1_says_31 : decode cX1_says 31 = .ok (.iconst 1, 1) := by decide +kernel
theorem dX1_says_32 : decode cX1_says 32 = .ok (.if_icmp .ne 32, 3) := by decide +kernel
theorem dX1_says_35 : decode cX1_says 35 = .ok (.aload_n 0, 1) := by decide +kernel
theorem dX1_says_36 : decode cX1_says 36 = .ok (.getfield 13, 3) := by decide +kernel
theorem dX1_says_39 : decode cX1_says 39 = .ok (.iload_n 1, 1) := by decide +kernel
theorem dX1_says_40 : decode cX1_says 40 = .ok (.iaload, 1) := by decide +kernel
theorem dX1_says_41 : decode cX1_says 41 = .ok (.ifCond .ne 14, 3) := by decide +kernel
theorem dX1_says_44 : decode cX1_says 44 = .ok (.aload_n 0, 1) := by decide +kernel
theorem dX1_says_45 : decode cX1_says 45 = .ok (.iload 4, 2) := by decide +kernel
theorem dX1_says_47 : decode cX1_says 47 = .ok (.iload_n 2, 1) := by decide +kernel
theorem dX1_says_48 : decode cX1_says 48 = .ok (.iload_n 3, 1) := by decide +kernel
theorem dX1_says_49 : decode cX1_says 49 = .ok (.invokevirtual 36, 3) := by decide +kernel
theorem dX1_says_52 : decode cX1_says 52 = .ok (.goto 11, 3) := by decide +kernel
theorem dX1_says_55 : decode cX1_says 55 = .ok (.aload_n 0, 1) := by decide +kernel
theorem dX1_says_56 : decode cX1_says 56 = .ok (.iload 4, 2) := by decide +kernel
theorem dX1_says_58 : decode cX1_says 58 = .ok (.iload_n 3, 1) := by decide +kernel
theorem dX1_says_59 : decode cX1_says 59 = .ok (.iload_n 2, 1) := by decide +kernel
theorem dX1_says_60 : decode cX1_says 60 = .ok (.invokevirtual 36, 3) := by decide +kernel
theorem dX1_says_63 : decode cX1_says 63 = .ok (.ireturn, 1) := by decide +kernel
theorem dX1_says_64 : decode cX1_says 64 = .ok (.aload_n 0, 1) := by decide +kernel
theorem dX1_says_65 : decode cX1_says 65 = .ok (.getfield 13, 3) := by decide +kernel
theorem dX1_says_68 : decode cX1_says 68 = .ok (.iload_n 1, 1) := by decide +kernel
theorem dX1_says_69 : decode cX1_says 69 = .ok (.iaload, 1) := by decide +kernel
theorem dX1_says_70 : decode cX1_says 70 = .ok (.iconst 3, 1) := by decide +kernel
theorem dX1_says_71 : decode cX1_says 71 = .ok (.if_icmp .ne 31, 3) := by decide +kernel
theorem dX1_says_74 : decode cX1_says 74 = .ok (.aload_n 0, 1) := by decide +kernel
theorem dX1_says_75 : decode cX1_says 75 = .ok (.iload 4, 2) := by decide +kernel
theorem dX1_says_77 : decode cX1_says 77 = .ok (.iload_n 2, 1) := by decide +kernel
theorem dX1_says_78 : decode cX1_says 78 = .ok (.iload_n 3, 1) := by decide +kernel
theorem dX1_says_79 : decode cX1_says 79 = .ok (.invokevirtual 36, 3) := by decide +kernel
theorem dX1_says_82 : decode cX1_says 82 = .ok (.ifCond .eq 18, 3) := by decide +kernel
theorem dX1_says_85 : decode cX1_says 85 = .ok (.aload_n 0, 1) := by decide +kernel
theorem dX1_says_86 : decode cX1_says 86 = .ok (.iload 5, 2) := by decide +kernel
theorem dX1_says_88 : decode cX1_says 88 = .ok (.iload_n 2, 1) := by decide +kernel
theorem dX1_says_89 : decode cX1_says 89 = .ok (.iload_n 3, 1) := by decide +kernel
theorem dX1_says_90 : decode cX1_says 90 = .ok (.invokevirtual 36, 3) := by decide +kernel
theorem dX1_says_93 : decode cX1_says 93 = .ok (.ifCond .eq 7, 3) := by decide +kernel
theorem dX1_says_96 : decode cX1_says 96 = .ok (.iconst 1, 1) := by decide +kernel
theorem dX1_says_97 : decode cX1_says 97 = .ok (.goto 4, 3) := by decide +kernel
theorem dX1_says_100 : decode cX1_says 100 = .ok (.iconst 0, 1) := by decide +kernel
theorem dX1_says_101 : decode cX1_says 101 = .ok (.ireturn, 1) := by decide +kernel
theorem dX1_says_102 : decode cX1_says 102 = .ok (.iconst 0, 1) := by decide +kernel
theorem dX1_says_103 : decode cX1_says 103 = .ok (.istore 6, 2) := by decide +kernel
theorem dX1_says_105 : decode cX1_says 105 = .ok (.iconst 0, 1) := by decide +kernel
theorem dX1_says_106 : decode cX1_says 106 = .ok (.istore 7, 2) := by decide +kernel
theorem dX1_says_108 : decode cX1_says 108 = .ok (.iload 7, 2) := by decide +kernel
theorem dX1_says_110 : decode cX1_says 110 = .ok (.iconst 5, 1) := by decide +kernel
theorem dX1_says_111 : decode cX1_says 111 = .ok (.if_icmp .ge 81, 3) := by decide +kernel
theorem dX1_says_114 : decode cX1_says 114 = .ok (.iload 6, 2) := by decide +kernel
theorem dX1_says_116 : decode cX1_says 116 = .ok (.ifCond .ne 63, 3) := by decide +kernel
theorem dX1_says_119 : decode cX1_says 119 = .ok (.aload_n 0, 1) := by decide +kernel
theorem dX1_says_120 : decode cX1_says 120 = .ok (.getfield 13, 3) := by decide +kernel
theorem dX1_says_123 : decode cX1_says 123 = .ok (.iload_n 1, 1) := by decide +kernel
theorem dX1_says_124 : decode cX1_says 124 = .ok (.iaload, 1) := by decide +kernel
theorem dX1_says_125 : decode cX1_says 125 = .ok (.iconst 2, 1) := by decide +kernel
theorem dX1_says_126 : decode cX1_says 126 = .ok (.if_icmp .ne 30, 3) := by decide +kernel
theorem dX1_says_129 : decode cX1_says 129 = .ok (.aload_n 0, 1) := by decide +kernel
theorem dX1_says_130 : decode cX1_says 130 = .ok (.iload 4, 2) := by decide +kernel
theorem dX1_says_132 : decode cX1_says 132 = .ok (.iload_n 2, 1) := by decide +kernel
theorem dX1_says_133 : decode cX1_says 133 = .ok (.iload 7, 2) := by decide +kernel
theorem dX1_says_135 : decode cX1_says 135 = .ok (.invokevirtual 36, 3) := by decide +kernel
theorem dX1_says_138 : decode cX1_says 138 = .ok (.ifCond .eq 45, 3) := by decide +kernel
theorem dX1_says_141 : decode cX1_says 141 = .ok (.aload_n 0, 1) := by decide +kernel
theorem dX1_says_142 : decode cX1_says 142 = .ok (.iload 5, 2) := by decide +kernel
theorem dX1_says_144 : decode cX1_says 144 = .ok (.iload 7, 2) := by decide +kernel
theorem dX1_says_146 : decode cX1_says 146 = .ok (.iload_n 3, 1) := by decide +kernel
theorem dX1_says_147 : decode cX1_says 147 = .ok (.invokevirtual 36, 3) := by decide +kernel
theorem dX1_says_150 : decode cX1_says 150 = .ok (.ifCond .eq 33, 3) := by decide +kernel
theorem dX1_says_153 : decode cX1_says 153 = .ok (.goto 26, 3) := by decide +kernel
theorem dX1_says_156 : decode cX1_says 156 = .ok (.aload_n 0, 1) := by decide +kernel
theorem dX1_says_157 : decode cX1_says 157 = .ok (.iload 4, 2) := by decide +kernel
theorem dX1_says_159 : decode cX1_says 159 = .ok (.iload_n 2, 1) := by decide +kernel
theorem dX1_says_160 : decode cX1_says 160 = .ok (.iload_n 3, 1) := by decide +kernel
theorem dX1_says_161 : decode cX1_says 161 = .ok (.invokevirtual 36, 3) := by decide +kernel
theorem dX1_says_164 : decode cX1_says 164 = .ok (.ifCond .eq 19, 3) := by decide +kernel
theorem dX1_says_167 : decode cX1_says 167 = .ok (.aload_n 0, 1) := by decide +kernel
theorem dX1_says_168 : decode cX1_says 168 = .ok (.iload 5, 2) := by decide +kernel
theorem dX1_says_170 : decode cX1_says 170 = .ok (.iload_n 2, 1) := by decide +kernel
theorem dX1_says_171 : decode cX1_says 171 = .ok (.iload 7, 2) := by decide +kernel
theorem dX1_says_173 : decode cX1_says 173 = .ok (.invokevirtual 36, 3) := by decide +kernel
theorem dX1_says_176 : decode cX1_says 176 = .ok (.ifCond .eq 7, 3) := by decide +kernel
theorem dX1_says_179 : decode cX1_says 179 = .ok (.iconst 1, 1) := by decide +kernel
theorem dX1_says_180 : decode cX1_says 180 = .ok (.goto 4, 3) := by decide +kernel
theorem dX1_says_183 : decode cX1_says 183 = .ok (.iconst 0, 1) := by decide +kernel
theorem dX1_says_184 : decode cX1_says 184 = .ok (.istore 6, 2) := by decide +kernel
theorem dX1_says_186 : decode cX1_says 186 = .ok (.iinc 7 1, 3) := by decide +kernel
theorem dX1_says_189 : decode cX1_says 189 = .ok (.goto (-81), 3) := by decide +kernel
theorem dX1_says_192 : decode cX1_says 192 = .ok (.iload 6, 2) := by decide +kernel
theorem dX1_says_194 : decode cX1_says 194 = .ok (.ireturn, 1) := by decide +kernel
abbrev cX1_in : ByteArray := prog_3_method_8_code
def yX1_in : MethodName := ⟨RX1, "in", "(III)Z"⟩
theorem dX1_in_0 : decode cX1_in 0 = .ok (.aload_n 0, 1) := by decide +kernel
theorem dX1_in_1 : decode cX1_in 1 = .ok (.getfield 26, 3) := by decide +kernel
theorem dX1_in_4 : decode cX1_in 4 = .ok (.iload_n 1, 1) := by decide +kernel
theorem dX1_in_5 : decode cX1_in 5 = .ok (.iaload, 1) := by decide +kernel
theorem dX1_in_6 : decode cX1_in 6 = .ok (.iconst 5, 1) := by decide +kernel
theorem dX1_in_7 : decode cX1_in 7 = .ok (.iload_n 2, 1) := by decide +kernel
theorem dX1_in_8 : decode cX1_in 8 = .ok (.imul, 1) := by decide +kernel
theorem dX1_in_9 : decode cX1_in 9 = .ok (.iload_n 3, 1) := by decide +kernel
theorem dX1_in_10 : decode cX1_in 10 = .ok (.iadd, 1) := by decide +kernel
theorem dX1_in_11 : decode cX1_in 11 = .ok (.ishr, 1) := by decide +kernel
theorem dX1_in_12 : decode cX1_in 12 = .ok (.iconst 1, 1) := by decide +kernel
theorem dX1_in_13 : decode cX1_in 13 = .ok (.iand, 1) := by decide +kernel
theorem dX1_in_14 : decode cX1_in 14 = .ok (.iconst 1, 1) := by decide +kernel
theorem dX1_in_15 : decode cX1_in 15 = .ok (.if_icmp .ne 7, 3) := by decide +kernel
theorem dX1_in_18 : decode cX1_in 18 = .ok (.iconst 1, 1) := by decide +kernel
theorem dX1_in_19 : decode cX1_in 19 = .ok (.goto 4, 3) := by decide +kernel
theorem dX1_in_22 : decode cX1_in 22 = .ok (.iconst 0, 1) := by decide +kernel
theorem dX1_in_23 : decode cX1_in 23 = .ok (.ireturn, 1) := by decide +kernel
abbrev cX1_from : ByteArray := prog_3_method_13_code
def yX1_from : MethodName := ⟨RX1, "from", "(II)I"⟩
theorem dX1_from_0 : decode cX1_from 0 = .ok (.aload_n 0, 1) := by decide +kernel
theorem dX1_from_1 : decode cX1_from 1 = .ok (.invokevirtual 46, 3) := by decide +kernel
theorem dX1_from_4 : decode cX1_from 4 = .ok (.aload_n 0, 1) := by decide +kernel
theorem dX1_from_5 : decode cX1_from 5 = .ok (.iload_n 1, 1) := by decide +kernel
theorem dX1_from_6 : decode cX1_from 6 = .ok (.invokevirtual 29, 3) := by decide +kernel
theorem dX1_from_9 : decode cX1_from 9 = .ok (.ifCond .eq 27, 3) := by decide +kernel
theorem dX1_from_12 : decode cX1_from 12 = .ok (.aload_n 0, 1) := by decide +kernel
theorem dX1_from_13 : decode cX1_from 13 = .ok (.iload_n 2, 1) := by decide +kernel
theorem dX1_from_14 : decode cX1_from 14 = .ok (.invokevirtual 29, 3) := by decide +kernel
theorem dX1_from_17 : decode cX1_from 17 = .ok (.ifCond .eq 19, 3) := by decide +kernel
theorem dX1_from_20 : decode cX1_from 20 = .ok (.aload_n 0, 1) := by decide +kernel
theorem dX1_from_21 : decode cX1_from 21 = .ok (.getfield 26, 3) := by decide +kernel
theorem dX1_from_24 : decode cX1_from 24 = .ok (.iload_n 1, 1) := by decide +kernel
theorem dX1_from_25 : decode cX1_from 25 = .ok (.iaload, 1) := by decide +kernel
theorem dX1_from_26 : decode cX1_from 26 = .ok (.iconst 5, 1) := by decide +kernel
theorem dX1_from_27 : decode cX1_from 27 = .ok (.iload_n 2, 1) := by decide +kernel
theorem dX1_from_28 : decode cX1_from 28 = .ok (.imul, 1) := by decide +kernel
theorem dX1_from_29 : decode cX1_from 29 = .ok (.ishr, 1) := by decide +kernel
theorem dX1_from_30 : decode cX1_from 30 = .ok (.bipush 31, 2) := by decide +kernel
theorem dX1_from_32 : decode cX1_from 32 = .ok (.iand, 1) := by decide +kernel
theorem dX1_from_33 : decode cX1_from 33 = .ok (.goto 4, 3) := by decide +kernel
theorem dX1_from_36 : decode cX1_from 36 = .ok (.iconst 0, 1) := by decide +kernel
theorem dX1_from_37 : decode cX1_from 37 = .ok (.ireturn, 1) := by decide +kernel
abbrev cX1_to : ByteArray := prog_3_method_14_code
def yX1_to : MethodName := ⟨RX1, "to", "(II)I"⟩
theorem dX1_to_0 : decode cX1_to 0 = .ok (.aload_n 0, 1) := by decide +kernel
theorem dX1_to_1 : decode cX1_to 1 = .ok (.invokevirtual 46, 3) := by decide +kernel
theorem dX1_to_4 : decode cX1_to 4 = .ok (.iconst 0, 1) := by decide +kernel
theorem dX1_to_5 : decode cX1_to 5 = .ok (.istore_n 3, 1) := by decide +kernel
theorem dX1_to_6 : decode cX1_to 6 = .ok (.iconst 0, 1) := by decide +kernel
theorem dX1_to_7 : decode cX1_to 7 = .ok (.istore 4, 2) := by decide +kernel
theorem dX1_to_9 : decode cX1_to 9 = .ok (.iload 4, 2) := by decide +kernel
theorem dX1_to_11 : decode cX1_to 11 = .ok (.iconst 5, 1) := by decide +kernel
theorem dX1_to_12 : decode cX1_to 12 = .ok (.if_icmp .ge 47, 3) := by decide +kernel
theorem dX1_to_15 : decode cX1_to 15 = .ok (.aload_n 0, 1) := by decide +kernel
theorem dX1_to_16 : decode cX1_to 16 = .ok (.iload_n 1, 1) := by decide +kernel
theorem dX1_to_17 : decode cX1_to 17 = .ok (.invokevirtual 29, 3) := by decide +kernel
theorem dX1_to_20 : decode cX1_to 20 = .ok (.ifCond .eq 39, 3) := by decide +kernel
theorem dX1_to_23 : decode cX1_to 23 = .ok (.aload_n 0, 1) := by decide +kernel
theorem dX1_to_24 : decode cX1_to 24 = .ok (.iload_n 2, 1) := by decide +kernel
theorem dX1_to_25 : decode cX1_to 25 = .ok (.invokevirtual 29, 3) := by decide +kernel
theorem dX1_to_28 : decode cX1_to 28 = .ok (.ifCond .eq 31, 3) := by decide +kernel
theorem dX1_to_31 : decode cX1_to 31 = .ok (.aload_n 0, 1) := by decide +kernel
theorem dX1_to_32 : decode cX1_to 32 = .ok (.iload_n 1, 1) := by decide +kernel
theorem dX1_to_33 : decode cX1_to 33 = .ok (.iload 4, 2) := by decide +kernel
theorem dX1_to_35 : decode cX1_to 35 = .ok (.iload_n 2, 1) := by decide +kernel
theorem dX1_to_36 : decode cX1_to 36 = .ok (.invokevirtual 36, 3) := by decide +kernel
theorem dX1_to_39 : decode cX1_to 39 = .ok (.ifCond .eq 12, 3) := by decide +kernel
theorem dX1_to_42 : decode cX1_to 42 = .ok (.iload_n 3, 1) := by decide +kernel
theorem dX1_to_43 : decode cX1_to 43 = .ok (.iconst 1, 1) := by decide +kernel
theorem dX1_to_44 : decode cX1_to 44 = .ok (.iload 4, 2) := by decide +kernel
theorem dX1_to_46 : decode cX1_to 46 = .ok (.ishl, 1) := by decide +kernel
theorem dX1_to_47 : decode cX1_to 47 = .ok (.ior, 1) := by decide +kernel
theorem dX1_to_48 : decode cX1_to 48 = .ok (.goto 4, 3) := by decide +kernel
theorem dX1_to_51 : decode cX1_to 51 = .ok (.iload_n 3, 1) := by decide +kernel
theorem dX1_to_52 : decode cX1_to 52 = .ok (.istore_n 3, 1) := by decide +kernel
theorem dX1_to_53 : decode cX1_to 53 = .ok (.iinc 4 1, 3) := by decide +kernel
theorem dX1_to_56 : decode cX1_to 56 = .ok (.goto (-47), 3) := by decide +kernel
theorem dX1_to_59 : decode cX1_to 59 = .ok (.iload_n 3, 1) := by decide +kernel
theorem dX1_to_60 : decode cX1_to 60 = .ok (.ireturn, 1) := by decide +kernel
abbrev cX1_count : ByteArray := prog_3_method_16_code
def yX1_count : MethodName := ⟨RX1, "count", "(I)I"⟩
theorem dX1_count_0 : decode cX1_count 0 = .ok (.aload_n 0, 1) := by decide +kernel
theorem dX1_count_1 : decode cX1_count 1 = .ok (.invokevirtual 46, 3) := by decide +kernel
theorem dX1_count_4 : decode cX1_count 4 = .ok (.aload_n 0, 1) := by decide +kernel
theorem dX1_count_5 : decode cX1_count 5 = .ok (.iload_n 1, 1) := by decide +kernel
theorem dX1_count_6 : decode cX1_count 6 = .ok (.invokevirtual 29, 3) := by decide +kernel
theorem dX1_count_9 : decode cX1_count 9 = .ok (.ifCond .eq 16, 3) := by decide +kernel
theorem dX1_count_12 : decode cX1_count 12 = .ok (.aload_n 0, 1) := by decide +kernel
theorem dX1_count_13 : decode cX1_count 13 = .ok (.aload_n 0, 1) := by decide +kernel
theorem dX1_count_14 : decode cX1_count 14 = .ok (.getfield 26, 3) := by decide +kernel
theorem dX1_count_17 : decode cX1_count 17 = .ok (.iload_n 1, 1) := by decide +kernel
theorem dX1_count_18 : decode cX1_count 18 = .ok (.iaload, 1) := by decide +kernel
theorem dX1_count_19 : decode cX1_count 19 = .ok (.invokevirtual 49, 3) := by decide +kernel
theorem dX1_count_22 : decode cX1_count 22 = .ok (.goto 4, 3) := by decide +kernel
theorem dX1_count_25 : decode cX1_count 25 = .ok (.iconst (-1), 1) := by decide +kernel
theorem dX1_count_26 : decode cX1_count 26 = .ok (.ireturn, 1) := by decide +kernel
abbrev cX1_ones : ByteArray := prog_3_method_15_code
def yX1_ones : MethodName := ⟨RX1, "ones", "(I)I"⟩
theorem dX1_ones_0 : decode cX1_ones 0 = .ok (.iconst 0, 1) := by decide +kernel
theorem dX1_ones_1 : decode cX1_ones 1 = .ok (.istore_n 2, 1) := by decide +kernel
theorem dX1_ones_2 : decode cX1_ones 2 = .ok (.iconst 0, 1) := by decide +kernel
theorem dX1_ones_3 : decode cX1_ones 3 = .ok (.istore_n 3, 1) := by decide +kernel
theorem dX1_ones_4 : decode cX1_ones 4 = .ok (.iload_n 3, 1) := by decide +kernel
theorem dX1_ones_5 : decode cX1_ones 5 = .ok (.bipush 25, 2) := by decide +kernel
theorem dX1_ones_7 : decode cX1_ones 7 = .ok (.if_icmp .ge 17, 3) := by decide +kernel
theorem dX1_ones_10 : decode cX1_ones 10 = .ok (.iload_n 2, 1) := by decide +kernel
theorem dX1_ones_11 : decode cX1_ones 11 = .ok (.iload_n 1, 1) := by decide +kernel
theorem dX1_ones_12 : decode cX1_ones 12 = .ok (.iload_n 3, 1) := by decide +kernel
theorem dX1_ones_13 : decode cX1_ones 13 = .ok (.ishr, 1) := by decide +kernel
theorem dX1_ones_14 : decode cX1_ones 14 = .ok (.iconst 1, 1) := by decide +kernel
theorem dX1_ones_15 : decode cX1_ones 15 = .ok (.iand, 1) := by decide +kernel
theorem dX1_ones_16 : decode cX1_ones 16 = .ok (.iadd, 1) := by decide +kernel
theorem dX1_ones_17 : decode cX1_ones 17 = .ok (.istore_n 2, 1) := by decide +kernel
theorem dX1_ones_18 : decode cX1_ones 18 = .ok (.iinc 3 1, 3) := by decide +kernel
theorem dX1_ones_21 : decode cX1_ones 21 = .ok (.goto (-17), 3) := by decide +kernel
theorem dX1_ones_24 : decode cX1_ones 24 = .ok (.iload_n 2, 1) := by decide +kernel
theorem dX1_ones_25 : decode cX1_ones 25 = .ok (.ireturn, 1) := by decide +kernel
end
section
set_option maxRecDepth 100000
abbrev cX1_within : ByteArray := prog_3_method_17_code
def yX1_within : MethodName := ⟨RX1, "within", "(II)Z"⟩
theorem dX1_within_0 : decode cX1_within 0 = .ok (.aload_n 0, 1) := by decide +kernel
theorem dX1_within_1 : decode cX1_within 1 = .ok (.invokevirtual 46, 3) := by decide +kernel
theorem dX1_within_4 : decode cX1_within 4 = .ok (.aload_n 0, 1) := by decide +kernel
theorem dX1_within_5 : decode cX1_within 5 = .ok (.iload_n 1, 1) := by decide +kernel
theorem dX1_within_6 : decode cX1_within 6 = .ok (.invokevirtual 29, 3) := by decide +kernel
theorem dX1_within_9 : decode cX1_within 9 = .ok (.ifCond .eq 33, 3) := by decide +kernel
theorem dX1_within_12 : decode cX1_within 12 = .ok (.aload_n 0, 1) := by decide +kernel
theorem dX1_within_13 : decode cX1_within 13 = .ok (.iload_n 2, 1) := by decide +kernel
theorem dX1_within_14 : decode cX1_within 14 = .ok (.invokevirtual 29, 3) := by decide +kernel
theorem dX1_within_17 : decode cX1_within 17 = .ok (.ifCond .eq 25, 3) := by decide +kernel
theorem dX1_within_20 : decode cX1_within 20 = .ok (.aload_n 0, 1) := by decide +kernel
theorem dX1_within_21 : decode cX1_within 21 = .ok (.getfield 26, 3) := by decide +kernel
theorem dX1_within_24 : decode cX1_within 24 = .ok (.iload_n 1, 1) := by decide +kernel
theorem dX1_within_25 : decode cX1_within 25 = .ok (.iaload, 1) := by decide +kernel
theorem dX1_within_26 : decode cX1_within 26 = .ok (.aload_n 0, 1) := by decide +kernel
theorem dX1_within_27 : decode cX1_within 27 = .ok (.getfield 26, 3) := by decide +kernel
theorem dX1_within_30 : decode cX1_within 30 = .ok (.iload_n 2, 1) := by decide +kernel
theorem dX1_within_31 : decode cX1_within 31 = .ok (.iaload, 1) := by decide +kernel
theorem dX1_within_32 : decode cX1_within 32 = .ok (.iconst (-1), 1) := by decide +kernel
theorem dX1_within_33 : decode cX1_within 33 = .ok (.ixor, 1) := by decide +kernel
theorem dX1_within_34 : decode cX1_within 34 = .ok (.iand, 1) := by decide +kernel
theorem dX1_within_35 : decode cX1_within 35 = .ok (.ifCond .ne 7, 3) := by decide +kernel
theorem dX1_within_38 : decode cX1_within 38 = .ok (.iconst 1, 1) := by decide +kernel
theorem dX1_within_39 : decode cX1_within 39 = .ok (.goto 4, 3) := by decide +kernel
theorem dX1_within_42 : decode cX1_within 42 = .ok (.iconst 0, 1) := by decide +kernel
theorem dX1_within_43 : decode cX1_within 43 = .ok (.ireturn, 1) := by decide +kernel
abbrev cX1_redundant : ByteArray := prog_3_method_18_code
def yX1_redundant : MethodName := ⟨RX1, "redundant", "(I)Z"⟩
theorem dX1_redundant_0 : decode cX1_redundant 0 = .ok (.aload_n 0, 1) := by decide +kernel
theorem dX1_redundant_1 : decode cX1_redundant 1 = .ok (.iload_n 1, 1) := by decide +kernel
theorem dX1_redundant_2 : decode cX1_redundant 2 = .ok (.invokevirtual 33, 3) := by decide +kernel
theorem dX1_redundant_5 : decode cX1_redundant 5 = .ok (.ifCond .ne 5, 3) := by decide +kernel
theorem dX1_redundant_8 : decode cX1_redundant 8 = .ok (.iconst 0, 1) := by decide +kernel
theorem dX1_redundant_9 : decode cX1_redundant 9 = .ok (.ireturn, 1) := by decide +kernel
theorem dX1_redundant_10 : decode cX1_redundant 10 = .ok (.aload_n 0, 1) := by decide +kernel
theorem dX1_redundant_11 : decode cX1_redundant 11 = .ok (.invokevirtual 46, 3) := by decide +kernel
theorem dX1_redundant_14 : decode cX1_redundant 14 = .ok (.aload_n 0, 1) := by decide +kernel
theorem dX1_redundant_15 : decode cX1_redundant 15 = .ok (.getfield 26, 3) := by decide +kernel
theorem dX1_redundant_18 : decode cX1_redundant 18 = .ok (.iconst 2, 1) := by decide +kernel
theorem dX1_redundant_19 : decode cX1_redundant 19 = .ok (.iaload, 1) := by decide +kernel
theorem dX1_redundant_20 : decode cX1_redundant 20 = .ok (.istore_n 2, 1) := by decide +kernel
theorem dX1_redundant_21 : decode cX1_redundant 21 = .ok (.aload_n 0, 1) := by decide +kernel
theorem dX1_redundant_22 : decode cX1_redundant 22 = .ok (.getfield 26, 3) := by decide +kernel
theorem dX1_redundant_25 : decode cX1_redundant 25 = .ok (.iconst 3, 1) := by decide +kernel
theorem dX1_redundant_26 : decode cX1_redundant 26 = .ok (.iaload, 1) := by decide +kernel
theorem dX1_redundant_27 : decode cX1_redundant 27 = .ok (.istore_n 3, 1) := by decide +kernel
theorem dX1_redundant_28 : decode cX1_redundant 28 = .ok (.aload_n 0, 1) := by decide +kernel
theorem dX1_redundant_29 : decode cX1_redundant 29 = .ok (.getfield 26, 3) := by decide +kernel
theorem dX1_redundant_32 : decode cX1_redundant 32 = .ok (.iconst 4, 1) := by decide +kernel
theorem dX1_redundant_33 : decode cX1_redundant 33 = .ok (.iaload, 1) := by decide +kernel
theorem dX1_redundant_34 : decode cX1_redundant 34 = .ok (.istore 4, 2) := by decide +kernel
theorem dX1_redundant_36 : decode cX1_redundant 36 = .ok (.aload_n 0, 1) := by decide +kernel
theorem dX1_redundant_37 : decode cX1_redundant 37 = .ok (.getfield 7, 3) := by decide +kernel
theorem dX1_redundant_40 : decode cX1_redundant 40 = .ok (.iload_n 1, 1) := by decide +kernel
theorem dX1_redundant_41 : decode cX1_redundant 41 = .ok (.iconst 0, 1) := by decide +kernel
theorem dX1_redundant_42 : decode cX1_redundant 42 = .ok (.bastore, 1) := by decide +kernel
theorem dX1_redundant_43 : decode cX1_redundant 43 = .ok (.aload_n 0, 1) := by decide +kernel
theorem dX1_redundant_44 : decode cX1_redundant 44 = .ok (.invokevirtual 46, 3) := by decide +kernel
theorem dX1_redundant_47 : decode cX1_redundant 47 = .ok (.aload_n 0, 1) := by decide +kernel
theorem dX1_redundant_48 : decode cX1_redundant 48 = .ok (.getfield 7, 3) := by decide +kernel
theorem dX1_redundant_51 : decode cX1_redundant 51 = .ok (.iload_n 1, 1) := by decide +kernel
theorem dX1_redundant_52 : decode cX1_redundant 52 = .ok (.iconst 1, 1) := by decide +kernel
theorem dX1_redundant_53 : decode cX1_redundant 53 = .ok (.bastore, 1) := by decide +kernel
theorem dX1_redundant_54 : decode cX1_redundant 54 = .ok (.iload_n 2, 1) := by decide +kernel
theorem dX1_redundant_55 : decode cX1_redundant 55 = .ok (.aload_n 0, 1) := by decide +kernel
theorem dX1_redundant_56 : decode cX1_redundant 56 = .ok (.getfield 26, 3) := by decide +kernel
theorem dX1_redundant_59 : decode cX1_redundant 59 = .ok (.iconst 2, 1) := by decide +kernel
theorem dX1_redundant_60 : decode cX1_redundant 60 = .ok (.iaload, 1) := by decide +kernel
theorem dX1_redundant_61 : decode cX1_redundant 61 = .ok (.if_icmp .ne 28, 3) := by decide +kernel
theorem dX1_redundant_64 : decode cX1_redundant 64 = .ok (.iload_n 3, 1) := by decide +kernel
theorem dX1_redundant_65 : decode cX1_redundant 65 = .ok (.aload_n 0, 1) := by decide +kernel
theorem dX1_redundant_66 : decode cX1_redundant 66 = .ok (.getfield 26, 3) := by decide +kernel
theorem dX1_redundant_69 : decode cX1_redundant 69 = .ok (.iconst 3, 1) := by decide +kernel
theorem dX1_redundant_70 : decode cX1_redundant 70 = .ok (.iaload, 1) := by decide +kernel
theorem dX1_redundant_71 : decode cX1_redundant 71 = .ok (.if_icmp .ne 18, 3) := by decide +kernel
theorem dX1_redundant_74 : decode cX1_redundant 74 = .ok (.iload 4, 2) := by decide +kernel
theorem dX1_redundant_76 : decode cX1_redundant 76 = .ok (.aload_n 0, 1) := by decide +kernel
theorem dX1_redundant_77 : decode cX1_redundant 77 = .ok (.getfield 26, 3) := by decide +kernel
theorem dX1_redundant_80 : decode cX1_redundant 80 = .ok (.iconst 4, 1) := by decide +kernel
theorem dX1_redundant_81 : decode cX1_redundant 81 = .ok (.iaload, 1) := by decide +kernel
theorem dX1_redundant_82 : decode cX1_redundant 82 = .ok (.if_icmp .ne 7, 3) := by decide +kernel
theorem dX1_redundant_85 : decode cX1_redundant 85 = .ok (.iconst 1, 1) := by decide +kernel
theorem dX1_redundant_86 : decode cX1_redundant 86 = .ok (.goto 4, 3) := by decide +kernel
theorem dX1_redundant_89 : decode cX1_redundant 89 = .ok (.iconst 0, 1) := by decide +kernel
theorem dX1_redundant_90 : decode cX1_redundant 90 = .ok (.ireturn, 1) := by decide +kernel
abbrev cX1_loss : ByteArray := prog_3_method_19_code
def yX1_loss : MethodName := ⟨RX1, "loss", "(IIII)I"⟩
theorem dX1_loss_0 : decode cX1_loss 0 = .ok (.iload_n 2, 1) := by decide +kernel
theorem dX1_loss_1 : decode cX1_loss 1 = .ok (.ifCond .eq 8, 3) := by decide +kernel
theorem dX1_loss_4 : decode cX1_loss 4 = .ok (.iload_n 2, 1) := by decide +kernel
theorem dX1_loss_5 : decode cX1_loss 5 = .ok (.iconst 1, 1) := by decide +kernel
theorem dX1_loss_6 : decode cX1_loss 6 = .ok (.if_icmp .ne 28, 3) := by decide +kernel
theorem dX1_loss_9 : decode cX1_loss 9 = .ok (.aload_n 0, 1) := by decide +kernel
theorem dX1_loss_10 : decode cX1_loss 10 = .ok (.iload_n 1, 1) := by decide +kernel
theorem dX1_loss_11 : decode cX1_loss 11 = .ok (.invokevirtual 29, 3) := by decide +kernel
theorem dX1_loss_14 : decode cX1_loss 14 = .ok (.ifCond .eq 20, 3) := by decide +kernel
theorem dX1_loss_17 : decode cX1_loss 17 = .ok (.aload_n 0, 1) := by decide +kernel
theorem dX1_loss_18 : decode cX1_loss 18 = .ok (.iload_n 3, 1) := by decide +kernel
theorem dX1_loss_19 : decode cX1_loss 19 = .ok (.invokevirtual 29, 3) := by decide +kernel
theorem dX1_loss_22 : decode cX1_loss 22 = .ok (.ifCond .eq 12, 3) := by decide +kernel
theorem dX1_loss_25 : decode cX1_loss 25 = .ok (.aload_n 0, 1) := by decide +kernel
theorem dX1_loss_26 : decode cX1_loss 26 = .ok (.iload 4, 2) := by decide +kernel
theorem dX1_loss_28 : decode cX1_loss 28 = .ok (.invokevirtual 29, 3) := by decide +kernel
theorem dX1_loss_31 : decode cX1_loss 31 = .ok (.ifCond .ne 5, 3) := by decide +kernel
theorem dX1_loss_34 : decode cX1_loss 34 = .ok (.iconst (-1), 1) := by decide +kernel
theorem dX1_loss_35 : decode cX1_loss 35 = .ok (.ireturn, 1) := by decide +kernel
theorem dX1_loss_36 : decode cX1_loss 36 = .ok (.aload_n 0, 1) := by decide +kernel
theorem dX1_loss_37 : decode cX1_loss 37 = .ok (.iload_n 2, 1) := by decide +kernel
theorem dX1_loss_38 : decode cX1_loss 38 = .ok (.iload_n 3, 1) := by decide +kernel
theorem dX1_loss_39 : decode cX1_loss 39 = .ok (.iload 4, 2) := by decide +kernel
theorem dX1_loss_41 : decode cX1_loss 41 = .ok (.invokevirtual 36, 3) := by decide +kernel
theorem dX1_loss_44 : decode cX1_loss 44 = .ok (.ifCond .ne 5, 3) := by decide +kernel
theorem dX1_loss_47 : decode cX1_loss 47 = .ok (.iconst 0, 1) := by decide +kernel
theorem dX1_loss_48 : decode cX1_loss 48 = .ok (.ireturn, 1) := by decide +kernel
theorem dX1_loss_49 : decode cX1_loss 49 = .ok (.aload_n 0, 1) := by decide +kernel
theorem dX1_loss_50 : decode cX1_loss 50 = .ok (.iload_n 1, 1) := by decide +kernel
theorem dX1_loss_51 : decode cX1_loss 51 = .ok (.invokevirtual 53, 3) := by decide +kernel
theorem dX1_loss_54 : decode cX1_loss 54 = .ok (.istore 5, 2) := by decide +kernel
theorem dX1_loss_56 : decode cX1_loss 56 = .ok (.aload_n 0, 1) := by decide +kernel
theorem dX1_loss_57 : decode cX1_loss 57 = .ok (.iload_n 2, 1) := by decide +kernel
theorem dX1_loss_58 : decode cX1_loss 58 = .ok (.iload_n 3, 1) := by decide +kernel
theorem dX1_loss_59 : decode cX1_loss 59 = .ok (.iload 4, 2) := by decide +kernel
theorem dX1_loss_61 : decode cX1_loss 61 = .ok (.iconst 0, 1) := by decide +kernel
theorem dX1_loss_62 : decode cX1_loss 62 = .ok (.invokevirtual 56, 3) := by decide +kernel
theorem dX1_loss_65 : decode cX1_loss 65 = .ok (.pop, 1) := by decide +kernel
theorem dX1_loss_66 : decode cX1_loss 66 = .ok (.aload_n 0, 1) := by decide +kernel
theorem dX1_loss_67 : decode cX1_loss 67 = .ok (.iload_n 1, 1) := by decide +kernel
theorem dX1_loss_68 : decode cX1_loss 68 = .ok (.invokevirtual 53, 3) := by decide +kernel
theorem dX1_loss_71 : decode cX1_loss 71 = .ok (.istore 6, 2) := by decide +kernel
theorem dX1_loss_73 : decode cX1_loss 73 = .ok (.aload_n 0, 1) := by decide +kernel
theorem dX1_loss_74 : decode cX1_loss 74 = .ok (.iload_n 2, 1) := by decide +kernel
theorem dX1_loss_75 : decode cX1_loss 75 = .ok (.iload_n 3, 1) := by decide +kernel
theorem dX1_loss_76 : decode cX1_loss 76 = .ok (.iload 4, 2) := by decide +kernel
theorem dX1_loss_78 : decode cX1_loss 78 = .ok (.iconst 1, 1) := by decide +kernel
theorem dX1_loss_79 : decode cX1_loss 79 = .ok (.invokevirtual 56, 3) := by decide +kernel
theorem dX1_loss_82 : decode cX1_loss 82 = .ok (.pop, 1) := by decide +kernel
theorem dX1_loss_83 : decode cX1_loss 83 = .ok (.iload 5, 2) := by decide +kernel
theorem dX1_loss_85 : decode cX1_loss 85 = .ok (.iload 6, 2) := by decide +kernel
theorem dX1_loss_87 : decode cX1_loss 87 = .ok (.isub, 1) := by decide +kernel
theorem dX1_loss_88 : decode cX1_loss 88 = .ok (.ireturn, 1) := by decide +kernel
abbrev cX1_transitive : ByteArray := prog_3_method_20_code
def yX1_transitive : MethodName := ⟨RX1, "transitive", "(I)Z"⟩
theorem dX1_transitive_0 : decode cX1_transitive 0 = .ok (.aload_n 0, 1) := by decide +kernel
theorem dX1_transitive_1 : decode cX1_transitive 1 = .ok (.invokevirtual 46, 3) := by decide +kernel
theorem dX1_transitive_4 : decode cX1_transitive 4 = .ok (.aload_n 0, 1) := by decide +kernel
theorem dX1_transitive_5 : decode cX1_transitive 5 = .ok (.iload_n 1, 1) := by decide +kernel
theorem dX1_transitive_6 : decode cX1_transitive 6 = .ok (.invokevirtual 29, 3) := by decide +kernel
theorem dX1_transitive_9 : decode cX1_transitive 9 = .ok (.istore_n 2, 1) := by decide +kernel
theorem dX1_transitive_10 : decode cX1_transitive 10 = .ok (.iconst 0, 1) := by decide +kernel
theorem dX1_transitive_11 : decode cX1_transitive 11 = .ok (.istore_n 3, 1) := by decide +kernel
theorem dX1_transitive_12 : decode cX1_transitive 12 = .ok (.iload_n 3, 1) := by decide +kernel
theorem dX1_transitive_13 : decode cX1_transitive 13 = .ok (.bipush 125, 2) := by decide +kernel
theorem dX1_transitive_15 : decode cX1_transitive 15 = .ok (.if_icmp .ge 73, 3) := by decide +kernel
theorem dX1_transitive_18 : decode cX1_transitive 18 = .ok (.iload_n 2, 1) := by decide +kernel
theorem dX1_transitive_19 : decode cX1_transitive 19 = .ok (.ifCond .eq 69, 3) := by decide +kernel
theorem dX1_transitive_22 : decode cX1_transitive 22 = .ok (.iload_n 3, 1) := by decide +kernel
theorem dX1_transitive_23 : decode cX1_transitive 23 = .ok (.bipush 25, 2) := by decide +kernel
theorem dX1_transitive_25 : decode cX1_transitive 25 = .ok (.idiv, 1) := by decide +kernel
theorem dX1_transitive_26 : decode cX1_transitive 26 = .ok (.istore 4, 2) := by decide +kernel
theorem dX1_transitive_28 : decode cX1_transitive 28 = .ok (.iload_n 3, 1) := by decide +kernel
theorem dX1_transitive_29 : decode cX1_transitive 29 = .ok (.iconst 5, 1) := by decide +kernel
theorem dX1_transitive_30 : decode cX1_transitive 30 = .ok (.idiv, 1) := by decide +kernel
theorem dX1_transitive_31 : decode cX1_transitive 31 = .ok (.iconst 5, 1) := by decide +kernel
theorem dX1_transitive_32 : decode cX1_transitive 32 = .ok (.irem, 1) := by decide +kernel
theorem dX1_transitive_33 : decode cX1_transitive 33 = .ok (.istore 5, 2) := by decide +kernel
theorem dX1_transitive_35 : decode cX1_transitive 35 = .ok (.iload_n 3, 1) := by decide +kernel
theorem dX1_transitive_36 : decode cX1_transitive 36 = .ok (.iconst 5, 1) := by decide +kernel
theorem dX1_transitive_37 : decode cX1_transitive 37 = .ok (.irem, 1) := by decide +kernel
theorem dX1_transitive_38 : decode cX1_transitive 38 = .ok (.istore 6, 2) := by decide +kernel
theorem dX1_transitive_40 : decode cX1_transitive 40 = .ok (.aload_n 0, 1) := by decide +kernel
theorem dX1_transitive_41 : decode cX1_transitive 41 = .ok (.iload_n 1, 1) := by decide +kernel
theorem dX1_transitive_42 : decode cX1_transitive 42 = .ok (.iload 4, 2) := by decide +kernel
theorem dX1_transitive_44 : decode cX1_transitive 44 = .ok (.iload 5, 2) := by decide +kernel
theorem dX1_transitive_46 : decode cX1_transitive 46 = .ok (.invokevirtual 36, 3) := by decide +kernel
theorem dX1_transitive_49 : decode cX1_transitive 49 = .ok (.ifCond .eq 27, 3) := by decide +kernel
theorem dX1_transitive_52 : decode cX1_transitive 52 = .ok (.aload_n 0, 1) := by decide +kernel
theorem dX1_transitive_53 : decode cX1_transitive 53 = .ok (.iload_n 1, 1) := by decide +kernel
theorem dX1_transitive_54 : decode cX1_transitive 54 = .ok (.iload 5, 2) := by decide +kernel
theorem dX1_transitive_56 : decode cX1_transitive 56 = .ok (.iload 6, 2) := by decide +kernel
theorem dX1_transitive_58 : decode cX1_transitive 58 = .ok (.invokevirtual 36, 3) := by decide +kernel
theorem dX1_transitive_61 : decode cX1_transitive 61 = .ok (.ifCond .eq 15, 3) := by decide +kernel
theorem dX1_transitive_64 : decode cX1_transitive 64 = .ok (.aload_n 0, 1) := by decide +kernel
theorem dX1_transitive_65 : decode cX1_transitive 65 = .ok (.iload_n 1, 1) := by decide +kernel
theorem dX1_transitive_66 : decode cX1_transitive 66 = .ok (.iload 4, 2) := by decide +kernel
theorem dX1_transitive_68 : decode cX1_transitive 68 = .ok (.iload 6, 2) := by decide +kernel
theorem dX1_transitive_70 : decode cX1_transitive 70 = .ok (.invokevirtual 36, 3) := by decide +kernel
theorem dX1_transitive_73 : decode cX1_transitive 73 = .ok (.ifCond .eq 7, 3) := by decide +kernel
theorem dX1_transitive_76 : decode cX1_transitive 76 = .ok (.iconst 1, 1) := by decide +kernel
theorem dX1_transitive_77 : decode cX1_transitive 77 = .ok (.goto 4, 3) := by decide +kernel
theorem dX1_transitive_80 : decode cX1_transitive 80 = .ok (.iconst 0, 1) := by decide +kernel
theorem dX1_transitive_81 : decode cX1_transitive 81 = .ok (.istore_n 2, 1) := by decide +kernel
theorem dX1_transitive_82 : decode cX1_transitive 82 = .ok (.iinc 3 1, 3) := by decide +kernel
theorem dX1_transitive_85 : decode cX1_transitive 85 = .ok (.goto (-73), 3) := by decide +kernel
theorem dX1_transitive_88 : decode cX1_transitive 88 = .ok (.iload_n 2, 1) := by decide +kernel
theorem dX1_transitive_89 : decode cX1_transitive 89 = .ok (.ireturn, 1) := by decide +kernel
theorem q20 : (Jvm.Cond.initialized "TabledRulesModel") ∈ lw_all := lw_g (lw_at lw_m1 2 rfl) rfl
theorem q165 : (Jvm.Cond.instantiable "TabledRulesModel" (6 : Nat)) ∈ lw_all := lw_g (lw_at lw_m1 147 rfl) rfl
theorem q167 : (Jvm.Cond.instanceMethod ({ cls := "TabledRulesModel", name := "<init>", desc := "()V" } : Jvm.MethodName)) ∈ lw_all := lw_g (lw_at lw_m1 149 rfl) rfl
theorem q168 : (Jvm.Cond.code ({ cls := "TabledRulesModel", name := "<init>", desc := "()V" } : Jvm.MethodName) prog_3_method_1_code (1 : Nat) (Option.none : Option Jvm.ClassFile.FieldType)) ∈ lw_all := lw_g (lw_at lw_m1 150 rfl) rfl
theorem q169 : (Jvm.Cond.methodLink "TabledRulesModel" (1 : Nat) ({ cls := "java/lang/Object", name := "<init>", desc := "()V" } : Jvm.MethodName)) ∈ lw_all := lw_g (lw_at lw_m1 151 rfl) rfl
theorem q170 : (Jvm.Cond.fieldLink "TabledRulesModel" (7 : Nat) "TabledRulesModel" "there" "[Z") ∈ lw_all := lw_g (lw_at lw_m1 152 rfl) rfl
theorem q171 : (Jvm.Cond.fieldLink "TabledRulesModel" (13 : Nat) "TabledRulesModel" "forms" "[I") ∈ lw_all := lw_g (lw_at lw_m1 153 rfl) rfl
theorem q172 : (Jvm.Cond.fieldLink "TabledRulesModel" (17 : Nat) "TabledRulesModel" "heads" "[I") ∈ lw_all := lw_g (lw_at lw_m1 154 rfl) rfl
theorem q173 : (Jvm.Cond.fieldLink "TabledRulesModel" (20 : Nat) "TabledRulesModel" "qs" "[I") ∈ lw_all := lw_g (lw_at lw_m1 155 rfl) rfl
theorem q174 : (Jvm.Cond.fieldLink "TabledRulesModel" (23 : Nat) "TabledRulesModel" "rs" "[I") ∈ lw_all := lw_g (lw_at lw_m1 156 rfl) rfl
theorem q175 : (Jvm.Cond.fieldLink "TabledRulesModel" (26 : Nat) "TabledRulesModel" "pairs" "[I") ∈ lw_all := lw_g (lw_at lw_m1 157 rfl) rfl
theorem q176 : (Jvm.Cond.lays "TabledRulesModel" "TabledRulesModel" "there" "[Z") ∈ lw_all := lw_g (lw_at lw_m1 158 rfl) rfl
theorem q177 : (Jvm.Cond.soleField "TabledRulesModel" "there") ∈ lw_all := lw_g (lw_at lw_m1 159 rfl) rfl
theorem q178 : (Jvm.Cond.lays "TabledRulesModel" "TabledRulesModel" "forms" "[I") ∈ lw_all := lw_g (lw_at lw_m1 160 rfl) rfl
theorem q179 : (Jvm.Cond.soleField "TabledRulesModel" "forms") ∈ lw_all := lw_g (lw_at lw_m1 161 rfl) rfl
theorem q180 : (Jvm.Cond.lays "TabledRulesModel" "TabledRulesModel" "heads" "[I") ∈ lw_all := lw_g (lw_at lw_m1 162 rfl) rfl
theorem q181 : (Jvm.Cond.soleField "TabledRulesModel" "heads") ∈ lw_all := lw_g (lw_at lw_m1 163 rfl) rfl
theorem q182 : (Jvm.Cond.lays "TabledRulesModel" "TabledRulesModel" "qs" "[I") ∈ lw_all := lw_g (lw_at lw_m1 164 rfl) rfl
theorem q183 : (Jvm.Cond.soleField "TabledRulesModel" "qs") ∈ lw_all := lw_g (lw_at lw_m1 165 rfl) rfl
theorem q184 : (Jvm.Cond.lays "TabledRulesModel" "TabledRulesModel" "rs" "[I") ∈ lw_all := lw_g (lw_at lw_m1 166 rfl) rfl
theorem q185 : (Jvm.Cond.soleField "TabledRulesModel" "rs") ∈ lw_all := lw_g (lw_at lw_m1 167 rfl) rfl
theorem q186 : (Jvm.Cond.lays "TabledRulesModel" "TabledRulesModel" "pairs" "[I") ∈ lw_all := lw_g (lw_at lw_m1 168 rfl) rfl
theorem q187 : (Jvm.Cond.soleField "TabledRulesModel" "pairs") ∈ lw_all := lw_g (lw_at lw_m1 169 rfl) rfl
theorem q188 : (Jvm.Cond.superclass "TabledRulesModel" "java/lang/Object") ∈ lw_all := lw_g (lw_at lw_m1 170 rfl) rfl
theorem q192 : (Jvm.Cond.instanceMethod ({ cls := "TabledRulesModel", name := "give", desc := "(IIIZ)Z" } : Jvm.MethodName)) ∈ lw_all := lw_g (lw_at lw_m1 174 rfl) rfl
theorem q193 : (Jvm.Cond.selects "TabledRulesModel" ({ cls := "TabledRulesModel", name := "give", desc := "(IIIZ)Z" } : Jvm.MethodName) ({ cls := "TabledRulesModel", name := "give", desc := "(IIIZ)Z" } : Jvm.MethodName)) ∈ lw_all := lw_g (lw_at lw_m1 175 rfl) rfl
theorem q194 : (Jvm.Cond.code ({ cls := "TabledRulesModel", name := "give", desc := "(IIIZ)Z" } : Jvm.MethodName) prog_3_method_3_code (6 : Nat) (Option.some Jvm.ClassFile.FieldType.boolean)) ∈ lw_all := lw_g (lw_at lw_m1 176 rfl) rfl
theorem q195 : (Jvm.Cond.methodLink "TabledRulesModel" (29 : Nat) ({ cls := "TabledRulesModel", name := "five", desc := "(I)Z" } : Jvm.MethodName)) ∈ lw_all := lw_g (lw_at lw_m1 177 rfl) rfl
theorem q196 : (Jvm.Cond.privateMethod ({ cls := "TabledRulesModel", name := "five", desc := "(I)Z" } : Jvm.MethodName)) ∈ lw_tbl := lw_at lw_m1 178 rfl
theorem q197 : (Jvm.Cond.instanceMethod ({ cls := "TabledRulesModel", name := "five", desc := "(I)Z" } : Jvm.MethodName)) ∈ lw_all := lw_g (lw_at lw_m1 179 rfl) rfl
theorem q198 : (Jvm.Cond.code ({ cls := "TabledRulesModel", name := "five", desc := "(I)Z" } : Jvm.MethodName) prog_3_method_2_code (2 : Nat) (Option.some Jvm.ClassFile.FieldType.boolean)) ∈ lw_all := lw_g (lw_at lw_m1 180 rfl) rfl
theorem q200 : (Jvm.Cond.instanceMethod ({ cls := "TabledRulesModel", name := "rule", desc := "(III)I" } : Jvm.MethodName)) ∈ lw_all := lw_g (lw_at lw_m1 182 rfl) rfl
theorem q201 : (Jvm.Cond.selects "TabledRulesModel" ({ cls := "TabledRulesModel", name := "rule", desc := "(III)I" } : Jvm.MethodName) ({ cls := "TabledRulesModel", name := "rule", desc := "(III)I" } : Jvm.MethodName)) ∈ lw_all := lw_g (lw_at lw_m1 183 rfl) rfl
theorem q202 : (Jvm.Cond.code ({ cls := "TabledRulesModel", name := "rule", desc := "(III)I" } : Jvm.MethodName) prog_3_method_4_code (5 : Nat) (Option.some Jvm.ClassFile.FieldType.int)) ∈ lw_all := lw_g (lw_at lw_m1 184 rfl) rfl
theorem q204 : (Jvm.Cond.instanceMethod ({ cls := "TabledRulesModel", name := "drop", desc := "(I)Z" } : Jvm.MethodName)) ∈ lw_all := lw_g (lw_at lw_m1 186 rfl) rfl
theorem q205 : (Jvm.Cond.selects "TabledRulesModel" ({ cls := "TabledRulesModel", name := "drop", desc := "(I)Z" } : Jvm.MethodName) ({ cls := "TabledRulesModel", name := "drop", desc := "(I)Z" } : Jvm.MethodName)) ∈ lw_all := lw_g (lw_at lw_m1 187 rfl) rfl
theorem q206 : (Jvm.Cond.code ({ cls := "TabledRulesModel", name := "drop", desc := "(I)Z" } : Jvm.MethodName) prog_3_method_6_code (2 : Nat) (Option.some Jvm.ClassFile.FieldType.boolean)) ∈ lw_all := lw_g (lw_at lw_m1 188 rfl) rfl
theorem q207 : (Jvm.Cond.methodLink "TabledRulesModel" (33 : Nat) ({ cls := "TabledRulesModel", name := "is", desc := "(I)Z" } : Jvm.MethodName)) ∈ lw_all := lw_g (lw_at lw_m1 189 rfl) rfl
theorem q208 : (Jvm.Cond.privateMethod ({ cls := "TabledRulesModel", name := "is", desc := "(I)Z" } : Jvm.MethodName)) ∈ lw_tbl := lw_at lw_m1 190 rfl
theorem q209 : (Jvm.Cond.instanceMethod ({ cls := "TabledRulesModel", name := "is", desc := "(I)Z" } : Jvm.MethodName)) ∈ lw_all := lw_g (lw_at lw_m1 191 rfl) rfl
theorem q210 : (Jvm.Cond.code ({ cls := "TabledRulesModel", name := "is", desc := "(I)Z" } : Jvm.MethodName) prog_3_method_5_code (2 : Nat) (Option.some Jvm.ClassFile.FieldType.boolean)) ∈ lw_all := lw_g (lw_at lw_m1 192 rfl) rfl
theorem q212 : (Jvm.Cond.instanceMethod ({ cls := "TabledRulesModel", name := "rules", desc := "()I" } : Jvm.MethodName)) ∈ lw_all := lw_g (lw_at lw_m1 194 rfl) rfl
theorem q213 : (Jvm.Cond.selects "TabledRulesModel" ({ cls := "TabledRulesModel", name := "rules", desc := "()I" } : Jvm.MethodName) ({ cls := "TabledRulesModel", name := "rules", desc := "()I" } : Jvm.MethodName)) ∈ lw_all := lw_g (lw_at lw_m1 195 rfl) rfl
theorem q214 : (Jvm.Cond.code ({ cls := "TabledRulesModel", name := "rules", desc := "()I" } : Jvm.MethodName) prog_3_method_7_code (3 : Nat) (Option.some Jvm.ClassFile.FieldType.int)) ∈ lw_all := lw_g (lw_at lw_m1 196 rfl) rfl
theorem q216 : (Jvm.Cond.instanceMethod ({ cls := "TabledRulesModel", name := "holds", desc := "(III)Z" } : Jvm.MethodName)) ∈ lw_all := lw_g (lw_at lw_m1 198 rfl) rfl
theorem q217 : (Jvm.Cond.selects "TabledRulesModel" ({ cls := "TabledRulesModel", name := "holds", desc := "(III)Z" } : Jvm.MethodName) ({ cls := "TabledRulesModel", name := "holds", desc := "(III)Z" } : Jvm.MethodName)) ∈ lw_all := lw_g (lw_at lw_m1 199 rfl) rfl
theorem q218 : (Jvm.Cond.code ({ cls := "TabledRulesModel", name := "holds", desc := "(III)Z" } : Jvm.MethodName) prog_3_method_12_code (4 : Nat) (Option.some Jvm.ClassFile.FieldType.boolean)) ∈ lw_all := lw_g (lw_at lw_m1 200 rfl) rfl
theorem q219 : (Jvm.Cond.methodLink "TabledRulesModel" (46 : Nat) ({ cls := "TabledRulesModel", name := "work", desc := "()V" } : Jvm.MethodName)) ∈ lw_all := lw_g (lw_at lw_m1 201 rfl) rfl
theorem q220 : (Jvm.Cond.privateMethod ({ cls := "TabledRulesModel", name := "work", desc := "()V" } : Jvm.MethodName)) ∈ lw_tbl := lw_at lw_m1 202 rfl
theorem q221 : (Jvm.Cond.instanceMethod ({ cls := "TabledRulesModel", name := "work", desc := "()V" } : Jvm.MethodName)) ∈ lw_all := lw_g (lw_at lw_m1 203 rfl) rfl
theorem q222 : (Jvm.Cond.code ({ cls := "TabledRulesModel", name := "work", desc := "()V" } : Jvm.MethodName) prog_3_method_10_code (4 : Nat) (Option.none : Option Jvm.ClassFile.FieldType)) ∈ lw_all := lw_g (lw_at lw_m1 204 rfl) rfl
theorem q223 : (Jvm.Cond.methodLink "TabledRulesModel" (40 : Nat) ({ cls := "TabledRulesModel", name := "use", desc := "(I)Z" } : Jvm.MethodName)) ∈ lw_all := lw_g (lw_at lw_m1 205 rfl) rfl
theorem q224 : (Jvm.Cond.privateMethod ({ cls := "TabledRulesModel", name := "use", desc := "(I)Z" } : Jvm.MethodName)) ∈ lw_tbl := lw_at lw_m1 206 rfl
theorem q225 : (Jvm.Cond.instanceMethod ({ cls := "TabledRulesModel", name := "use", desc := "(I)Z" } : Jvm.MethodName)) ∈ lw_all := lw_g (lw_at lw_m1 207 rfl) rfl
theorem q226 : (Jvm.Cond.code ({ cls := "TabledRulesModel", name := "use", desc := "(I)Z" } : Jvm.MethodName) prog_3_method_11_code (5 : Nat) (Option.some Jvm.ClassFile.FieldType.boolean)) ∈ lw_all := lw_g (lw_at lw_m1 208 rfl) rfl
theorem q227 : (Jvm.Cond.methodLink "TabledRulesModel" (43 : Nat) ({ cls := "TabledRulesModel", name := "says", desc := "(III)Z" } : Jvm.MethodName)) ∈ lw_all := lw_g (lw_at lw_m1 209 rfl) rfl
theorem q228 : (Jvm.Cond.privateMethod ({ cls := "TabledRulesModel", name := "says", desc := "(III)Z" } : Jvm.MethodName)) ∈ lw_tbl := lw_at lw_m1 210 rfl
theorem q229 : (Jvm.Cond.instanceMethod ({ cls := "TabledRulesModel", name := "says", desc := "(III)Z" } : Jvm.MethodName)) ∈ lw_all := lw_g (lw_at lw_m1 211 rfl) rfl
theorem q230 : (Jvm.Cond.code ({ cls := "TabledRulesModel", name := "says", desc := "(III)Z" } : Jvm.MethodName) prog_3_method_9_code (8 : Nat) (Option.some Jvm.ClassFile.FieldType.boolean)) ∈ lw_all := lw_g (lw_at lw_m1 212 rfl) rfl
theorem q231 : (Jvm.Cond.methodLink "TabledRulesModel" (36 : Nat) ({ cls := "TabledRulesModel", name := "in", desc := "(III)Z" } : Jvm.MethodName)) ∈ lw_all := lw_g (lw_at lw_m1 213 rfl) rfl
theorem q232 : (Jvm.Cond.privateMethod ({ cls := "TabledRulesModel", name := "in", desc := "(III)Z" } : Jvm.MethodName)) ∈ lw_tbl := lw_at lw_m1 214 rfl
theorem q233 : (Jvm.Cond.instanceMethod ({ cls := "TabledRulesModel", name := "in", desc := "(III)Z" } : Jvm.MethodName)) ∈ lw_all := lw_g (lw_at lw_m1 215 rfl) rfl
theorem q234 : (Jvm.Cond.code ({ cls := "TabledRulesModel", name := "in", desc := "(III)Z" } : Jvm.MethodName) prog_3_method_8_code (4 : Nat) (Option.some Jvm.ClassFile.FieldType.boolean)) ∈ lw_all := lw_g (lw_at lw_m1 216 rfl) rfl
theorem q236 : (Jvm.Cond.instanceMethod ({ cls := "TabledRulesModel", name := "from", desc := "(II)I" } : Jvm.MethodName)) ∈ lw_all := lw_g (lw_at lw_m1 218 rfl) rfl
theorem q237 : (Jvm.Cond.selects "TabledRulesModel" ({ cls := "TabledRulesModel", name := "from", desc := "(II)I" } : Jvm.MethodName) ({ cls := "TabledRulesModel", name := "from", desc := "(II)I" } : Jvm.MethodName)) ∈ lw_all := lw_g (lw_at lw_m1 219 rfl) rfl
theorem q238 : (Jvm.Cond.code ({ cls := "TabledRulesModel", name := "from", desc := "(II)I" } : Jvm.MethodName) prog_3_method_13_code (3 : Nat) (Option.some Jvm.ClassFile.FieldType.int)) ∈ lw_all := lw_g (lw_at lw_m1 220 rfl) rfl
theorem q240 : (Jvm.Cond.instanceMethod ({ cls := "TabledRulesModel", name := "to", desc := "(II)I" } : Jvm.MethodName)) ∈ lw_all := lw_g (lw_at lw_m1 222 rfl) rfl
theorem q241 : (Jvm.Cond.selects "TabledRulesModel" ({ cls := "TabledRulesModel", name := "to", desc := "(II)I" } : Jvm.MethodName) ({ cls := "TabledRulesModel", name := "to", desc := "(II)I" } : Jvm.MethodName)) ∈ lw_all := lw_g (lw_at lw_m1 223 rfl) rfl
theorem q242 : (Jvm.Cond.code ({ cls := "TabledRulesModel", name := "to", desc := "(II)I" } : Jvm.MethodName) prog_3_method_14_code (5 : Nat) (Option.some Jvm.ClassFile.FieldType.int)) ∈ lw_all := lw_g (lw_at lw_m1 224 rfl) rfl
theorem q244 : (Jvm.Cond.instanceMethod ({ cls := "TabledRulesModel", name := "count", desc := "(I)I" } : Jvm.MethodName)) ∈ lw_all := lw_g (lw_at lw_m1 226 rfl) rfl
theorem q245 : (Jvm.Cond.selects "TabledRulesModel" ({ cls := "TabledRulesModel", name := "count", desc := "(I)I" } : Jvm.MethodName) ({ cls := "TabledRulesModel", name := "count", desc := "(I)I" } : Jvm.MethodName)) ∈ lw_all := lw_g (lw_at lw_m1 227 rfl) rfl
theorem q246 : (Jvm.Cond.code ({ cls := "TabledRulesModel", name := "count", desc := "(I)I" } : Jvm.MethodName) prog_3_method_16_code (2 : Nat) (Option.some Jvm.ClassFile.FieldType.int)) ∈ lw_all := lw_g (lw_at lw_m1 228 rfl) rfl
theorem q247 : (Jvm.Cond.methodLink "TabledRulesModel" (49 : Nat) ({ cls := "TabledRulesModel", name := "ones", desc := "(I)I" } : Jvm.MethodName)) ∈ lw_all := lw_g (lw_at lw_m1 229 rfl) rfl
theorem q248 : (Jvm.Cond.privateMethod ({ cls := "TabledRulesModel", name := "ones", desc := "(I)I" } : Jvm.MethodName)) ∈ lw_tbl := lw_at lw_m1 230 rfl
theorem q249 : (Jvm.Cond.instanceMethod ({ cls := "TabledRulesModel", name := "ones", desc := "(I)I" } : Jvm.MethodName)) ∈ lw_all := lw_g (lw_at lw_m1 231 rfl) rfl
theorem q250 : (Jvm.Cond.code ({ cls := "TabledRulesModel", name := "ones", desc := "(I)I" } : Jvm.MethodName) prog_3_method_15_code (4 : Nat) (Option.some Jvm.ClassFile.FieldType.int)) ∈ lw_all := lw_g (lw_at lw_m1 232 rfl) rfl
theorem q252 : (Jvm.Cond.instanceMethod ({ cls := "TabledRulesModel", name := "within", desc := "(II)Z" } : Jvm.MethodName)) ∈ lw_all := lw_g (lw_at lw_m1 234 rfl) rfl
theorem q253 : (Jvm.Cond.selects "TabledRulesModel" ({ cls := "TabledRulesModel", name := "within", desc := "(II)Z" } : Jvm.MethodName) ({ cls := "TabledRulesModel", name := "within", desc := "(II)Z" } : Jvm.MethodName)) ∈ lw_all := lw_g (lw_at lw_m1 235 rfl) rfl
theorem q254 : (Jvm.Cond.code ({ cls := "TabledRulesModel", name := "within", desc := "(II)Z" } : Jvm.MethodName) prog_3_method_17_code (3 : Nat) (Option.some Jvm.ClassFile.FieldType.boolean)) ∈ lw_all := lw_g (lw_at lw_m1 236 rfl) rfl
theorem q256 : (Jvm.Cond.instanceMethod ({ cls := "TabledRulesModel", name := "redundant", desc := "(I)Z" } : Jvm.MethodName)) ∈ lw_all := lw_g (lw_at lw_m1 238 rfl) rfl
theorem q257 : (Jvm.Cond.selects "TabledRulesModel" ({ cls := "TabledRulesModel", name := "redundant", desc := "(I)Z" } : Jvm.MethodName) ({ cls := "TabledRulesModel", name := "redundant", desc := "(I)Z" } : Jvm.MethodName)) ∈ lw_all := lw_g (lw_at lw_m1 239 rfl) rfl
theorem q258 : (Jvm.Cond.code ({ cls := "TabledRulesModel", name := "redundant", desc := "(I)Z" } : Jvm.MethodName) prog_3_method_18_code (5 : Nat) (Option.some Jvm.ClassFile.FieldType.boolean)) ∈ lw_all := lw_g (lw_at lw_m2 0 rfl) rfl
theorem q260 : (Jvm.Cond.instanceMethod ({ cls := "TabledRulesModel", name := "loss", desc := "(IIII)I" } : Jvm.MethodName)) ∈ lw_all := lw_g (lw_at lw_m2 2 rfl) rfl
theorem q261 : (Jvm.Cond.selects "TabledRulesModel" ({ cls := "TabledRulesModel", name := "loss", desc := "(IIII)I" } : Jvm.MethodName) ({ cls := "TabledRulesModel", name := "loss", desc := "(IIII)I" } : Jvm.MethodName)) ∈ lw_all := lw_g (lw_at lw_m2 3 rfl) rfl
theorem q262 : (Jvm.Cond.code ({ cls := "TabledRulesModel", name := "loss", desc := "(IIII)I" } : Jvm.MethodName) prog_3_method_19_code (7 : Nat) (Option.some Jvm.ClassFile.FieldType.int)) ∈ lw_all := lw_g (lw_at lw_m2 4 rfl) rfl
theorem q263 : (Jvm.Cond.methodLink "TabledRulesModel" (53 : Nat) ({ cls := "TabledRulesModel", name := "count", desc := "(I)I" } : Jvm.MethodName)) ∈ lw_all := lw_g (lw_at lw_m2 5 rfl) rfl
theorem q264 : (Jvm.Cond.methodLink "TabledRulesModel" (56 : Nat) ({ cls := "TabledRulesModel", name := "give", desc := "(IIIZ)Z" } : Jvm.MethodName)) ∈ lw_all := lw_g (lw_at lw_m2 6 rfl) rfl
theorem q266 : (Jvm.Cond.instanceMethod ({ cls := "TabledRulesModel", name := "transitive", desc := "(I)Z" } : Jvm.MethodName)) ∈ lw_all := lw_g (lw_at lw_m2 8 rfl) rfl
theorem q267 : (Jvm.Cond.selects "TabledRulesModel" ({ cls := "TabledRulesModel", name := "transitive", desc := "(I)Z" } : Jvm.MethodName) ({ cls := "TabledRulesModel", name := "transitive", desc := "(I)Z" } : Jvm.MethodName)) ∈ lw_all := lw_g (lw_at lw_m2 9 rfl) rfl
theorem q268 : (Jvm.Cond.code ({ cls := "TabledRulesModel", name := "transitive", desc := "(I)Z" } : Jvm.MethodName) prog_3_method_20_code (7 : Nat) (Option.some Jvm.ClassFile.FieldType.boolean)) ∈ lw_all := lw_g (lw_at lw_m2 10 rfl) rfl
theorem in_X1 : ∀ w ∈ wsX10, w ∈ lw_all := lw_in wsX10 [176, 178, 180, 182, 184, 186] (by decide +kernel) (by decide +kernel)
end
section
/-! java/lang/Object -/
set_option maxRecDepth 100000
def RJ0 : String := "java/lang/Object"
abbrev cJ0_init : ByteArray := object_method_1_code
def yJ0_init : MethodName := ⟨RJ0, "<init>", "()V"⟩
theorem dJ0_init_0 : decode cJ0_init 0 = .ok (.return_, 1) := by decide +kernel
theorem q27 : (Jvm.Cond.instanceMethod ({ cls := "java/lang/Object", name := "<init>", desc := "()V" } : Jvm.MethodName)) ∈ lw_all := lw_g (lw_at lw_m1 9 rfl) rfl
theorem q28 : (Jvm.Cond.code ({ cls := "java/lang/Object", name := "<init>", desc := "()V" } : Jvm.MethodName) object_method_1_code (1 : Nat) (Option.none : Option Jvm.ClassFile.FieldType)) ∈ lw_all := lw_g (lw_at lw_m1 10 rfl) rfl
theorem q60 : (Jvm.Cond.arrayClass Jvm.ClassFile.FieldType.byte) ∈ lw_all := lw_g (lw_at lw_m1 42 rfl) rfl
set_option maxRecDepth 100000
theorem q189 : (Jvm.Cond.arrayClass Jvm.ClassFile.FieldType.boolean) ∈ lw_all := lw_g (lw_at lw_m1 171 rfl) rfl
theorem q190 : (Jvm.Cond.arrayClass Jvm.ClassFile.FieldType.int) ∈ lw_all := lw_g (lw_at lw_m1 172 rfl) rfl
theorem q18 : (Jvm.Cond.initialized "TabledRulesLaw") ∈ lw_all := lw_g (lw_at lw_m1 0 rfl) rfl
set_option maxRecDepth 100000
theorem q21 : (Jvm.Cond.classLink "TabledRulesLaw" (7 : Nat) "TabledRules") ∈ lw_all := lw_g (lw_at lw_m1 3 rfl) rfl
theorem q23 : (Jvm.Cond.methodLink "TabledRulesLaw" (9 : Nat) ({ cls := "TabledRules", name := "<init>", desc := "()V" } : Jvm.MethodName)) ∈ lw_all := lw_g (lw_at lw_m1 5 rfl) rfl
theorem q61 : (Jvm.Cond.methodLink "TabledRulesLaw" (13 : Nat) ({ cls := "TabledRules", name := "give", desc := "(IIIZ)Z" } : Jvm.MethodName)) ∈ lw_all := lw_g (lw_at lw_m1 43 rfl) rfl
theorem q76 : (Jvm.Cond.methodLink "TabledRulesLaw" (18 : Nat) ({ cls := "TabledRules", name := "rule", desc := "(III)I" } : Jvm.MethodName)) ∈ lw_all := lw_g (lw_at lw_m1 58 rfl) rfl
theorem q87 : (Jvm.Cond.methodLink "TabledRulesLaw" (23 : Nat) ({ cls := "TabledRules", name := "drop", desc := "(I)Z" } : Jvm.MethodName)) ∈ lw_all := lw_g (lw_at lw_m1 69 rfl) rfl
theorem q91 : (Jvm.Cond.methodLink "TabledRulesLaw" (28 : Nat) ({ cls := "TabledRules", name := "rules", desc := "()I" } : Jvm.MethodName)) ∈ lw_all := lw_g (lw_at lw_m1 73 rfl) rfl
theorem q95 : (Jvm.Cond.methodLink "TabledRulesLaw" (33 : Nat) ({ cls := "TabledRules", name := "holds", desc := "(III)Z" } : Jvm.MethodName)) ∈ lw_all := lw_g (lw_at lw_m1 77 rfl) rfl
theorem q123 : (Jvm.Cond.methodLink "TabledRulesLaw" (38 : Nat) ({ cls := "TabledRules", name := "from", desc := "(II)I" } : Jvm.MethodName)) ∈ lw_all := lw_g (lw_at lw_m1 105 rfl) rfl
theorem q127 : (Jvm.Cond.methodLink "TabledRulesLaw" (43 : Nat) ({ cls := "TabledRules", name := "to", desc := "(II)I" } : Jvm.MethodName)) ∈ lw_all := lw_g (lw_at lw_m1 109 rfl) rfl
theorem q132 : (Jvm.Cond.methodLink "TabledRulesLaw" (47 : Nat) ({ cls := "TabledRules", name := "count", desc := "(I)I" } : Jvm.MethodName)) ∈ lw_all := lw_g (lw_at lw_m1 114 rfl) rfl
theorem q139 : (Jvm.Cond.methodLink "TabledRulesLaw" (52 : Nat) ({ cls := "TabledRules", name := "within", desc := "(II)Z" } : Jvm.MethodName)) ∈ lw_all := lw_g (lw_at lw_m1 121 rfl) rfl
theorem q143 : (Jvm.Cond.methodLink "TabledRulesLaw" (57 : Nat) ({ cls := "TabledRules", name := "redundant", desc := "(I)Z" } : Jvm.MethodName)) ∈ lw_all := lw_g (lw_at lw_m1 125 rfl) rfl
theorem q156 : (Jvm.Cond.methodLink "TabledRulesLaw" (61 : Nat) ({ cls := "TabledRules", name := "loss", desc := "(IIII)I" } : Jvm.MethodName)) ∈ lw_all := lw_g (lw_at lw_m1 138 rfl) rfl
theorem q160 : (Jvm.Cond.methodLink "TabledRulesLaw" (66 : Nat) ({ cls := "TabledRules", name := "transitive", desc := "(I)Z" } : Jvm.MethodName)) ∈ lw_all := lw_g (lw_at lw_m1 142 rfl) rfl
theorem q164 : (Jvm.Cond.classLink "TabledRulesLaw" (10 : Nat) "TabledRulesModel") ∈ lw_all := lw_g (lw_at lw_m1 146 rfl) rfl
theorem q166 : (Jvm.Cond.methodLink "TabledRulesLaw" (12 : Nat) ({ cls := "TabledRulesModel", name := "<init>", desc := "()V" } : Jvm.MethodName)) ∈ lw_all := lw_g (lw_at lw_m1 148 rfl) rfl
theorem q191 : (Jvm.Cond.methodLink "TabledRulesLaw" (17 : Nat) ({ cls := "TabledRulesModel", name := "give", desc := "(IIIZ)Z" } : Jvm.MethodName)) ∈ lw_all := lw_g (lw_at lw_m1 173 rfl) rfl
theorem q199 : (Jvm.Cond.methodLink "TabledRulesLaw" (22 : Nat) ({ cls := "TabledRulesModel", name := "rule", desc := "(III)I" } : Jvm.MethodName)) ∈ lw_all := lw_g (lw_at lw_m1 181 rfl) rfl
theorem q203 : (Jvm.Cond.methodLink "TabledRulesLaw" (27 : Nat) ({ cls := "TabledRulesModel", name := "drop", desc := "(I)Z" } : Jvm.MethodName)) ∈ lw_all := lw_g (lw_at lw_m1 185 rfl) rfl
theorem q211 : (Jvm.Cond.methodLink "TabledRulesLaw" (32 : Nat) ({ cls := "TabledRulesModel", name := "rules", desc := "()I" } : Jvm.MethodName)) ∈ lw_all := lw_g (lw_at lw_m1 193 rfl) rfl
theorem q215 : (Jvm.Cond.methodLink "TabledRulesLaw" (37 : Nat) ({ cls := "TabledRulesModel", name := "holds", desc := "(III)Z" } : Jvm.MethodName)) ∈ lw_all := lw_g (lw_at lw_m1 197 rfl) rfl
theorem q235 : (Jvm.Cond.methodLink "TabledRulesLaw" (42 : Nat) ({ cls := "TabledRulesModel", name := "from", desc := "(II)I" } : Jvm.MethodName)) ∈ lw_all := lw_g (lw_at lw_m1 217 rfl) rfl
theorem q239 : (Jvm.Cond.methodLink "TabledRulesLaw" (46 : Nat) ({ cls := "TabledRulesModel", name := "to", desc := "(II)I" } : Jvm.MethodName)) ∈ lw_all := lw_g (lw_at lw_m1 221 rfl) rfl
theorem q243 : (Jvm.Cond.methodLink "TabledRulesLaw" (51 : Nat) ({ cls := "TabledRulesModel", name := "count", desc := "(I)I" } : Jvm.MethodName)) ∈ lw_all := lw_g (lw_at lw_m1 225 rfl) rfl
theorem q251 : (Jvm.Cond.methodLink "TabledRulesLaw" (56 : Nat) ({ cls := "TabledRulesModel", name := "within", desc := "(II)Z" } : Jvm.MethodName)) ∈ lw_all := lw_g (lw_at lw_m1 233 rfl) rfl
theorem q255 : (Jvm.Cond.methodLink "TabledRulesLaw" (60 : Nat) ({ cls := "TabledRulesModel", name := "redundant", desc := "(I)Z" } : Jvm.MethodName)) ∈ lw_all := lw_g (lw_at lw_m1 237 rfl) rfl
theorem q259 : (Jvm.Cond.methodLink "TabledRulesLaw" (65 : Nat) ({ cls := "TabledRulesModel", name := "loss", desc := "(IIII)I" } : Jvm.MethodName)) ∈ lw_all := lw_g (lw_at lw_m2 1 rfl) rfl
theorem q265 : (Jvm.Cond.methodLink "TabledRulesLaw" (69 : Nat) ({ cls := "TabledRulesModel", name := "transitive", desc := "(I)Z" } : Jvm.MethodName)) ∈ lw_all := lw_g (lw_at lw_m2 7 rfl) rfl
end
section
/-! the law's own entry -/
set_option maxRecDepth 100000
abbrev cL_law : ByteArray := code
theorem dL_law_0 : decode cL_law 0 = .ok (.new 7, 3) := by decide +kernel
theorem dL_law_3 : decode cL_law 3 = .ok (.dup, 1) := by decide +kernel
theorem dL_law_4 : decode cL_law 4 = .ok (.invokespecial 9, 3) := by decide +kernel
theorem dL_law_7 : decode cL_law 7 = .ok (.astore_n 1, 1) := by decide +kernel
theorem dL_law_8 : decode cL_law 8 = .ok (.new 10, 3) := by decide +kernel
theorem dL_law_11 : decode cL_law 11 = .ok (.dup, 1) := by decide +kernel
theorem dL_law_12 : decode cL_law 12 = .ok (.invokespecial 12, 3) := by decide +kernel
theorem dL_law_15 : decode cL_law 15 = .ok (.astore_n 2, 1) := by decide +kernel
theorem dL_law_16 : decode cL_law 16 = .ok (.iconst 0, 1) := by decide +kernel
theorem dL_law_17 : decode cL_law 17 = .ok (.istore_n 3, 1) := by decide +kernel
theorem dL_law_18 : decode cL_law 18 = .ok (.iload_n 3, 1) := by decide +kernel
theorem dL_law_19 : decode cL_law 19 = .ok (.aload_n 0, 1) := by decide +kernel
theorem dL_law_20 : decode cL_law 20 = .ok (.arraylength, 1) := by decide +kernel
theorem dL_law_21 : decode cL_law 21 = .ok (.iconst 5, 1) := by decide +kernel
theorem dL_law_22 : decode cL_law 22 = .ok (.isub, 1) := by decide +kernel
theorem dL_law_23 : decode cL_law 23 = .ok (.if_icmp .gt 491, 3) := by decide +kernel
theorem dL_law_26 : decode cL_law 26 = .ok (.aload_n 0, 1) := by decide +kernel
theorem dL_law_27 : decode cL_law 27 = .ok (.iload_n 3, 1) := by decide +kernel
theorem dL_law_28 : decode cL_law 28 = .ok (.iaload, 1) := by decide +kernel
theorem dL_law_29 : decode cL_law 29 = .ok (.bipush 15, 2) := by decide +kernel
theorem dL_law_31 : decode cL_law 31 = .ok (.iand, 1) := by decide +kernel
theorem dL_law_32 : decode cL_law 32 = .ok (.tableswitch 476 0 11 #[64, 133, 176, 199, 212, 255, 288, 321, 344, 377, 400, 453], 64) := by decide +kernel
theorem dL_law_96 : decode cL_law 96 = .ok (.aload_n 1, 1) := by decide +kernel
theorem dL_law_97 : decode cL_law 97 = .ok (.aload_n 0, 1) := by decide +kernel
theorem dL_law_98 : decode cL_law 98 = .ok (.iload_n 3, 1) := by decide +kernel
theorem dL_law_99 : decode cL_law 99 = .ok (.iconst 1, 1) := by decide +kernel
theorem dL_law_100 : decode cL_law 100 = .ok (.iadd, 1) := by decide +kernel
theorem dL_law_101 : decode cL_law 101 = .ok (.iaload, 1) := by decide +kernel
theorem dL_law_102 : decode cL_law 102 = .ok (.aload_n 0, 1) := by decide +kernel
theorem dL_law_103 : decode cL_law 103 = .ok (.iload_n 3, 1) := by decide +kernel
theorem dL_law_104 : decode cL_law 104 = .ok (.iconst 2, 1) := by decide +kernel
theorem dL_law_105 : decode cL_law 105 = .ok (.iadd, 1) := by decide +kernel
theorem dL_law_106 : decode cL_law 106 = .ok (.iaload, 1) := by decide +kernel
theorem dL_law_107 : decode cL_law 107 = .ok (.aload_n 0, 1) := by decide +kernel
theorem dL_law_108 : decode cL_law 108 = .ok (.iload_n 3, 1) := by decide +kernel
theorem dL_law_109 : decode cL_law 109 = .ok (.iconst 3, 1) := by decide +kernel
theorem dL_law_110 : decode cL_law 110 = .ok (.iadd, 1) := by decide +kernel
theorem dL_law_111 : decode cL_law 111 = .ok (.iaload, 1) := by decide +kernel
theorem dL_law_112 : decode cL_law 112 = .ok (.aload_n 0, 1) := by decide +kernel
theorem dL_law_113 : decode cL_law 113 = .ok (.iload_n 3, 1) := by decide +kernel
theorem dL_law_114 : decode cL_law 114 = .ok (.iconst 4, 1) := by decide +kernel
theorem dL_law_115 : decode cL_law 115 = .ok (.iadd, 1) := by decide +kernel
theorem dL_law_116 : decode cL_law 116 = .ok (.iaload, 1) := by decide +kernel
theorem dL_law_117 : decode cL_law 117 = .ok (.ifCond .eq 7, 3) := by decide +kernel
theorem dL_law_120 : decode cL_law 120 = .ok (.iconst 1, 1) := by decide +kernel
theorem dL_law_121 : decode cL_law 121 = .ok (.goto 4, 3) := by decide +kernel
theorem dL_law_124 : decode cL_law 124 = .ok (.iconst 0, 1) := by decide +kernel
theorem dL_law_125 : decode cL_law 125 = .ok (.invokevirtual 13, 3) := by decide +kernel
theorem dL_law_128 : decode cL_law 128 = .ok (.aload_n 2, 1) := by decide +kernel
theorem dL_law_129 : decode cL_law 129 = .ok (.aload_n 0, 1) := by decide +kernel
theorem dL_law_130 : decode cL_law 130 = .ok (.iload_n 3, 1) := by decide +kernel
theorem dL_law_131 : decode cL_law 131 = .ok (.iconst 1, 1) := by decide +kernel
theorem dL_law_132 : decode cL_law 132 = .ok (.iadd, 1) := by decide +kernel
theorem dL_law_133 : decode cL_law 133 = .ok (.iaload, 1) := by decide +kernel
theorem dL_law_134 : decode cL_law 134 = .ok (.aload_n 0, 1) := by decide +kernel
theorem dL_law_135 : decode cL_law 135 = .ok (.iload_n 3, 1) := by decide +kernel
theorem dL_law_136 : decode cL_law 136 = .ok (.iconst 2, 1) := by decide +kernel
theorem dL_law_137 : decode cL_law 137 = .ok (.iadd, 1) := by decide +kernel
theorem dL_law_138 : decode cL_law 138 = .ok (.iaload, 1) := by decide +kernel
theorem dL_law_139 : decode cL_law 139 = .ok (.aload_n 0, 1) := by decide +kernel
theorem dL_law_140 : decode cL_law 140 = .ok (.iload_n 3, 1) := by decide +kernel
theorem dL_law_141 : decode cL_law 141 = .ok (.iconst 3, 1) := by decide +kernel
theorem dL_law_142 : decode cL_law 142 = .ok (.iadd, 1) := by decide +kernel
theorem dL_law_143 : decode cL_law 143 = .ok (.iaload, 1) := by decide +kernel
theorem dL_law_144 : decode cL_law 144 = .ok (.aload_n 0, 1) := by decide +kernel
theorem dL_law_145 : decode cL_law 145 = .ok (.iload_n 3, 1) := by decide +kernel
theorem dL_law_146 : decode cL_law 146 = .ok (.iconst 4, 1) := by decide +kernel
theorem dL_law_147 : decode cL_law 147 = .ok (.iadd, 1) := by decide +kernel
theorem dL_law_148 : decode cL_law 148 = .ok (.iaload, 1) := by decide +kernel
theorem dL_law_149 : decode cL_law 149 = .ok (.ifCond .eq 7, 3) := by decide +kernel
theorem dL_law_152 : decode cL_law 152 = .ok (.iconst 1, 1) := by decide +kernel
theorem dL_law_153 : decode cL_law 153 = .ok (.goto 4, 3) := by decide +kernel
theorem dL_law_156 : decode cL_law 156 = .ok (.iconst 0, 1) := by decide +kernel
theorem dL_law_157 : decode cL_law 157 = .ok (.invokevirtual 17, 3) := by decide +kernel
theorem dL_law_160 : decode cL_law 160 = .ok (.if_icmp .eq 348, 3) := by decide +kernel
theorem dL_law_163 : decode cL_law 163 = .ok (.iconst 0, 1) := by decide +kernel
theorem dL_law_164 : decode cL_law 164 = .ok (.ireturn, 1) := by decide +kernel
theorem dL_law_165 : decode cL_law 165 = .ok (.aload_n 1, 1) := by decide +kernel
theorem dL_law_166 : decode cL_law 166 = .ok (.aload_n 0, 1) := by decide +kernel
theorem dL_law_167 : decode cL_law 167 = .ok (.iload_n 3, 1) := by decide +kernel
theorem dL_law_168 : decode cL_law 168 = .ok (.iconst 1, 1) := by decide +kernel
theorem dL_law_169 : decode cL_law 169 = .ok (.iadd, 1) := by decide +kernel
theorem dL_law_170 : decode cL_law 170 = .ok (.iaload, 1) := by decide +kernel
theorem dL_law_171 : decode cL_law 171 = .ok (.aload_n 0, 1) := by decide +kernel
theorem dL_law_172 : decode cL_law 172 = .ok (.iload_n 3, 1) := by decide +kernel
theorem dL_law_173 : decode cL_law 173 = .ok (.iconst 2, 1) := by decide +kernel
theorem dL_law_174 : decode cL_law 174 = .ok (.iadd, 1) := by decide +kernel
theorem dL_law_175 : decode cL_law 175 = .ok (.iaload, 1) := by decide +kernel
theorem dL_law_176 : decode cL_law 176 = .ok (.aload_n 0, 1) := by decide +kernel
theorem dL_law_177 : decode cL_law 177 = .ok (.iload_n 3, 1) := by decide +kernel
theorem dL_law_178 : decode cL_law 178 = .ok (.iconst 3, 1) := by decide +kernel
theorem dL_law_179 : decode cL_law 179 = .ok (.iadd, 1) := by decide +kernel
theorem dL_law_180 : decode cL_law 180 = .ok (.iaload, 1) := by decide +kernel
theorem dL_law_181 : decode cL_law 181 = .ok (.invokevirtual 18, 3) := by decide +kernel
theorem dL_law_184 : decode cL_law 184 = .ok (.aload_n 2, 1) := by decide +kernel
theorem dL_law_185 : decode cL_law 185 = .ok (.aload_n 0, 1) := by decide +kernel
theorem dL_law_186 : decode cL_law 186 = .ok (.iload_n 3, 1) := by decide +kernel
theorem dL_law_187 : decode cL_law 187 = .ok (.iconst 1, 1) := by decide +kernel
theorem dL_law_188 : decode cL_law 188 = .ok (.iadd, 1) := by decide +kernel
theorem dL_law_189 : decode cL_law 189 = .ok (.iaload, 1) := by decide +kernel
theorem dL_law_190 : decode cL_law 190 = .ok (.aload_n 0, 1) := by decide +kernel
theorem dL_law_191 : decode cL_law 191 = .ok (.iload_n 3, 1) := by decide +kernel
theorem dL_law_192 : decode cL_law 192 = .ok (.iconst 2, 1) := by decide +kernel
theorem dL_law_193 : decode cL_law 193 = .ok (.iadd, 1) := by decide +kernel
theorem dL_law_194 : decode cL_law 194 = .ok (.iaload, 1) := by decide +kernel
theorem dL_law_195 : decode cL_law 195 = .ok (.aload_n 0, 1) := by decide +kernel
theorem dL_law_196 : decode cL_law 196 = .ok (.iload_n 3, 1) := by decide +kernel
theorem dL_law_197 : decode cL_law 197 = .ok (.iconst 3, 1) := by decide +kernel
theorem dL_law_198 : decode cL_law 198 = .ok (.iadd, 1) := by decide +kernel
theorem dL_law_199 : decode cL_law 199 = .ok (.iaload, 1) := by decide +kernel
theorem dL_law_200 : decode cL_law 200 = .ok (.invokevirtual 22, 3) := by decide +kernel
theorem dL_law_203 : decode cL_law 203 = .ok (.if_icmp .eq 305, 3) := by decide +kernel
theorem dL_law_206 : decode cL_law 206 = .ok (.iconst 0, 1) := by decide +kernel
theorem dL_law_207 : decode cL_law 207 = .ok (.ireturn, 1) := by decide +kernel
theorem dL_law_208 : decode cL_law 208 = .ok (.aload_n 1, 1) := by decide +kernel
theorem dL_law_209 : decode cL_law 209 = .ok (.aload_n 0, 1) := by decide +kernel
theorem dL_law_210 : decode cL_law 210 = .ok (.iload_n 3, 1) := by decide +kernel
theorem dL_law_211 : decode cL_law 211 = .ok (.iconst 1, 1) := by decide +kernel
theorem dL_law_212 : decode cL_law 212 = .ok (.iadd, 1) := by decide +kernel
theorem dL_law_213 : decode cL_law 213 = .ok (.iaload, 1) := by decide +kernel
theorem dL_law_214 : decode cL_law 214 = .ok (.invokevirtual 23, 3) := by decide +kernel
theorem dL_law_217 : decode cL_law 217 = .ok (.aload_n 2, 1) := by decide +kernel
theorem dL_law_218 : decode cL_law 218 = .ok (.aload_n 0, 1) := by decide +kernel
theorem dL_law_219 : decode cL_law 219 = .ok (.iload_n 3, 1) := by decide +kernel
theorem dL_law_220 : decode cL_law 220 = .ok (.iconst 1, 1) := by decide +kernel
theorem dL_law_221 : decode cL_law 221 = .ok (.iadd, 1) := by decide +kernel
theorem dL_law_222 : decode cL_law 222 = .ok (.iaload, 1) := by decide +kernel
theorem dL_law_223 : decode cL_law 223 = .ok (.invokevirtual 27, 3) := by decide +kernel
theorem dL_law_226 : decode cL_law 226 = .ok (.if_icmp .eq 282, 3) := by decide +kernel
theorem dL_law_229 : decode cL_law 229 = .ok (.iconst 0, 1) := by decide +kernel
theorem dL_law_230 : decode cL_law 230 = .ok (.ireturn, 1) := by decide +kernel
theorem dL_law_231 : decode cL_law 231 = .ok (.aload_n 1, 1) := by decide +kernel
theorem dL_law_232 : decode cL_law 232 = .ok (.invokevirtual 28, 3) := by decide +kernel
theorem dL_law_235 : decode cL_law 235 = .ok (.aload_n 2, 1) := by decide +kernel
theorem dL_law_236 : decode cL_law 236 = .ok (.invokevirtual 32, 3) := by decide +kernel
theorem dL_law_239 : decode cL_law 239 = .ok (.if_icmp .eq 269, 3) := by decide +kernel
theorem dL_law_242 : decode cL_law 242 = .ok (.iconst 0, 1) := by decide +kernel
theorem dL_law_243 : decode cL_law 243 = .ok (.ireturn, 1) := by decide +kernel
theorem dL_law_244 : decode cL_law 244 = .ok (.aload_n 1, 1) := by decide +kernel
theorem dL_law_245 : decode cL_law 245 = .ok (.aload_n 0, 1) := by decide +kernel
theorem dL_law_246 : decode cL_law 246 = .ok (.iload_n 3, 1) := by decide +kernel
theorem dL_law_247 : decode cL_law 247 = .ok (.iconst 1, 1) := by decide +kernel
theorem dL_law_248 : decode cL_law 248 = .ok (.iadd, 1) := by decide +kernel
theorem dL_law_249 : decode cL_law 249 = .ok (.iaload, 1) := by decide +kernel
theorem dL_law_250 : decode cL_law 250 = .ok (.aload_n 0, 1) := by decide +kernel
theorem dL_law_251 : decode cL_law 251 = .ok (.iload_n 3, 1) := by decide +kernel
theorem dL_law_252 : decode cL_law 252 = .ok (.iconst 2, 1) := by decide +kernel
theorem dL_law_253 : decode cL_law 253 = .ok (.iadd, 1) := by decide +kernel
theorem dL_law_254 : decode cL_law 254 = .ok (.iaload, 1) := by decide +kernel
theorem dL_law_255 : decode cL_law 255 = .ok (.aload_n 0, 1) := by decide +kernel
theorem dL_law_256 : decode cL_law 256 = .ok (.iload_n 3, 1) := by decide +kernel
theorem dL_law_257 : decode cL_law 257 = .ok (.iconst 3, 1) := by decide +kernel
theorem dL_law_258 : decode cL_law 258 = .ok (.iadd, 1) := by decide +kernel
theorem dL_law_259 : decode cL_law 259 = .ok (.iaload, 1) := by decide +kernel
theorem dL_law_260 : decode cL_law 260 = .ok (.invokevirtual 33, 3) := by decide +kernel
theorem dL_law_263 : decode cL_law 263 = .ok (.aload_n 2, 1) := by decide +kernel
theorem dL_law_264 : decode cL_law 264 = .ok (.aload_n 0, 1) := by decide +kernel
theorem dL_law_265 : decode cL_law 265 = .ok (.iload_n 3, 1) := by decide +kernel
theorem dL_law_266 : decode cL_law 266 = .ok (.iconst 1, 1) := by decide +kernel
theorem dL_law_267 : decode cL_law 267 = .ok (.iadd, 1) := by decide +kernel
theorem dL_law_268 : decode cL_law 268 = .ok (.iaload, 1) := by decide +kernel
theorem dL_law_269 : decode cL_law 269 = .ok (.aload_n 0, 1) := by decide +kernel
theorem dL_law_270 : decode cL_law 270 = .ok (.iload_n 3, 1) := by decide +kernel
theorem dL_law_271 : decode cL_law 271 = .ok (.iconst 2, 1) := by decide +kernel
theorem dL_law_272 : decode cL_law 272 = .ok (.iadd, 1) := by decide +kernel
theorem dL_law_273 : decode cL_law 273 = .ok (.iaload, 1) := by decide +kernel
theorem dL_law_274 : decode cL_law 274 = .ok (.aload_n 0, 1) := by decide +kernel
theorem dL_law_275 : decode cL_law 275 = .ok (.iload_n 3, 1) := by decide +kernel
theorem dL_law_276 : decode cL_law 276 = .ok (.iconst 3, 1) := by decide +kernel
theorem dL_law_277 : decode cL_law 277 = .ok (.iadd, 1) := by decide +kernel
theorem dL_law_278 : decode cL_law 278 = .ok (.iaload, 1) := by decide +kernel
theorem dL_law_279 : decode cL_law 279 = .ok (.invokevirtual 37, 3) := by decide +kernel
theorem dL_law_282 : decode cL_law 282 = .ok (.if_icmp .eq 226, 3) := by decide +kernel
theorem dL_law_285 : decode cL_law 285 = .ok (.iconst 0, 1) := by decide +kernel
theorem dL_law_286 : decode cL_law 286 = .ok (.ireturn, 1) := by decide +kernel
theorem dL_law_287 : decode cL_law 287 = .ok (.aload_n 1, 1) := by decide +kernel
theorem dL_law_288 : decode cL_law 288 = .ok (.aload_n 0, 1) := by decide +kernel
theorem dL_law_289 : decode cL_law 289 = .ok (.iload_n 3, 1) := by decide +kernel
theorem dL_law_290 : decode cL_law 290 = .ok (.iconst 1, 1) := by decide +kernel
theorem dL_law_291 : decode cL_law 291 = .ok (.iadd, 1) := by decide +kernel
theorem dL_law_292 : decode cL_law 292 = .ok (.iaload, 1) := by decide +kernel
theorem dL_law_293 : decode cL_law 293 = .ok (.aload_n 0, 1) := by decide +kernel
theorem dL_law_294 : decode cL_law 294 = .ok (.iload_n 3, 1) := by decide +kernel
theorem dL_law_295 : decode cL_law 295 = .ok (.iconst 2, 1) := by decide +kernel
theorem dL_law_296 : decode cL_law 296 = .ok (.iadd, 1) := by decide +kernel
theorem dL_law_297 : decode cL_law 297 = .ok (.iaload, 1) := by decide +kernel
theorem dL_law_298 : decode cL_law 298 = .ok (.invokevirtual 38, 3) := by decide +kernel
theorem dL_law_301 : decode cL_law 301 = .ok (.aload_n 2, 1) := by decide +kernel
theorem dL_law_302 : decode cL_law 302 = .ok (.aload_n 0, 1) := by decide +kernel
theorem dL_law_303 : decode cL_law 303 = .ok (.iload_n 3, 1) := by decide +kernel
theorem dL_law_304 : decode cL_law 304 = .ok (.iconst 1, 1) := by decide +kernel
theorem dL_law_305 : decode cL_law 305 = .ok (.iadd, 1) := by decide +kernel
theorem dL_law_306 : decode cL_law 306 = .ok (.iaload, 1) := by decide +kernel
theorem dL_law_307 : decode cL_law 307 = .ok (.aload_n 0, 1) := by decide +kernel
theorem dL_law_308 : decode cL_law 308 = .ok (.iload_n 3, 1) := by decide +kernel
theorem dL_law_309 : decode cL_law 309 = .ok (.iconst 2, 1) := by decide +kernel
theorem dL_law_310 : decode cL_law 310 = .ok (.iadd, 1) := by decide +kernel
theorem dL_law_311 : decode cL_law 311 = .ok (.iaload, 1) := by decide +kernel
theorem dL_law_312 : decode cL_law 312 = .ok (.invokevirtual 42, 3) := by decide +kernel
theorem dL_law_315 : decode cL_law 315 = .ok (.if_icmp .eq 193, 3) := by decide +kernel
theorem dL_law_318 : decode cL_law 318 = .ok (.iconst 0, 1) := by decide +kernel
theorem dL_law_319 : decode cL_law 319 = .ok (.ireturn, 1) := by decide +kernel
theorem dL_law_320 : decode cL_law 320 = .ok (.aload_n 1, 1) := by decide +kernel
theorem dL_law_321 : decode cL_law 321 = .ok (.aload_n 0, 1) := by decide +kernel
theorem dL_law_322 : decode cL_law 322 = .ok (.iload_n 3, 1) := by decide +kernel
theorem dL_law_323 : decode cL_law 323 = .ok (.iconst 1, 1) := by decide +kernel
theorem dL_law_324 : decode cL_law 324 = .ok (.iadd, 1) := by decide +kernel
theorem dL_law_325 : decode cL_law 325 = .ok (.iaload, 1) := by decide +kernel
theorem dL_law_326 : decode cL_law 326 = .ok (.aload_n 0, 1) := by decide +kernel
theorem dL_law_327 : decode cL_law 327 = .ok (.iload_n 3, 1) := by decide +kernel
theorem dL_law_328 : decode cL_law 328 = .ok (.iconst 2, 1) := by decide +kernel
theorem dL_law_329 : decode cL_law 329 = .ok (.iadd, 1) := by decide +kernel
theorem dL_law_330 : decode cL_law 330 = .ok (.iaload, 1) := by decide +kernel
theorem dL_law_331 : decode cL_law 331 = .ok (.invokevirtual 43, 3) := by decide +kernel
theorem dL_law_334 : decode cL_law 334 = .ok (.aload_n 2, 1) := by decide +kernel
theorem dL_law_335 : decode cL_law 335 = .ok (.aload_n 0, 1) := by decide +kernel
theorem dL_law_336 : decode cL_law 336 = .ok (.iload_n 3, 1) := by decide +kernel
theorem dL_law_337 : decode cL_law 337 = .ok (.iconst 1, 1) := by decide +kernel
theorem dL_law_338 : decode cL_law 338 = .ok (.iadd, 1) := by decide +kernel
theorem dL_law_339 : decode cL_law 339 = .ok (.iaload, 1) := by decide +kernel
theorem dL_law_340 : decode cL_law 340 = .ok (.aload_n 0, 1) := by decide +kernel
theorem dL_law_341 : decode cL_law 341 = .ok (.iload_n 3, 1) := by decide +kernel
theorem dL_law_342 : decode cL_law 342 = .ok (.iconst 2, 1) := by decide +kernel
theorem dL_law_343 : decode cL_law 343 = .ok (.iadd, 1) := by decide +kernel
theorem dL_law_344 : decode cL_law 344 = .ok (.iaload, 1) := by decide +kernel
theorem dL_law_345 : decode cL_law 345 = .ok (.invokevirtual 46, 3) := by decide +kernel
theorem dL_law_348 : decode cL_law 348 = .ok (.if_icmp .eq 160, 3) := by decide +kernel
theorem dL_law_351 : decode cL_law 351 = .ok (.iconst 0, 1) := by decide +kernel
theorem dL_law_352 : decode cL_law 352 = .ok (.ireturn, 1) := by decide +kernel
theorem dL_law_353 : decode cL_law 353 = .ok (.aload_n 1, 1) := by decide +kernel
theorem dL_law_354 : decode cL_law 354 = .ok (.aload_n 0, 1) := by decide +kernel
theorem dL_law_355 : decode cL_law 355 = .ok (.iload_n 3, 1) := by decide +kernel
theorem dL_law_356 : decode cL_law 356 = .ok (.iconst 1, 1) := by decide +kernel
theorem dL_law_357 : decode cL_law 357 = .ok (.iadd, 1) := by decide +kernel
theorem dL_law_358 : decode cL_law 358 = .ok (.iaload, 1) := by decide +kernel
theorem dL_law_359 : decode cL_law 359 = .ok (.invokevirtual 47, 3) := by decide +kernel
theorem dL_law_362 : decode cL_law 362 = .ok (.aload_n 2, 1) := by decide +kernel
theorem dL_law_363 : decode cL_law 363 = .ok (.aload_n 0, 1) := by decide +kernel
theorem dL_law_364 : decode cL_law 364 = .ok (.iload_n 3, 1) := by decide +kernel
theorem dL_law_365 : decode cL_law 365 = .ok (.iconst 1, 1) := by decide +kernel
theorem dL_law_366 : decode cL_law 366 = .ok (.iadd, 1) := by decide +kernel
theorem dL_law_367 : decode cL_law 367 = .ok (.iaload, 1) := by decide +kernel
theorem dL_law_368 : decode cL_law 368 = .ok (.invokevirtual 51, 3) := by decide +kernel
theorem dL_law_371 : decode cL_law 371 = .ok (.if_icmp .eq 137, 3) := by decide +kernel
theorem dL_law_374 : decode cL_law 374 = .ok (.iconst 0, 1) := by decide +kernel
theorem dL_law_375 : decode cL_law 375 = .ok (.ireturn, 1) := by decide +kernel
theorem dL_law_376 : decode cL_law 376 = .ok (.aload_n 1, 1) := by decide +kernel
theorem dL_law_377 : decode cL_law 377 = .ok (.aload_n 0, 1) := by decide +kernel
theorem dL_law_378 : decode cL_law 378 = .ok (.iload_n 3, 1) := by decide +kernel
theorem dL_law_379 : decode cL_law 379 = .ok (.iconst 1, 1) := by decide +kernel
theorem dL_law_380 : decode cL_law 380 = .ok (.iadd, 1) := by decide +kernel
theorem dL_law_381 : decode cL_law 381 = .ok (.iaload, 1) := by decide +kernel
theorem dL_law_382 : decode cL_law 382 = .ok (.aload_n 0, 1) := by decide +kernel
theorem dL_law_383 : decode cL_law 383 = .ok (.iload_n 3, 1) := by decide +kernel
theorem dL_law_384 : decode cL_law 384 = .ok (.iconst 2, 1) := by decide +kernel
theorem dL_law_385 : decode cL_law 385 = .ok (.iadd, 1) := by decide +kernel
theorem dL_law_386 : decode cL_law 386 = .ok (.iaload, 1) := by decide +kernel
theorem dL_law_387 : decode cL_law 387 = .ok (.invokevirtual 52, 3) := by decide +kernel
theorem dL_law_390 : decode cL_law 390 = .ok (.aload_n 2, 1) := by decide +kernel
theorem dL_law_391 : decode cL_law 391 = .ok (.aload_n 0, 1) := by decide +kernel
theorem dL_law_392 : decode cL_law 392 = .ok (.iload_n 3, 1) := by decide +kernel
theorem dL_law_393 : decode cL_law 393 = .ok (.iconst 1, 1) := by decide +kernel
theorem dL_law_394 : decode cL_law 394 = .ok (.iadd, 1) := by decide +kernel
theorem dL_law_395 : decode cL_law 395 = .ok (.iaload, 1) := by decide +kernel
theorem dL_law_396 : decode cL_law 396 = .ok (.aload_n 0, 1) := by decide +kernel
theorem dL_law_397 : decode cL_law 397 = .ok (.iload_n 3, 1) := by decide +kernel
theorem dL_law_398 : decode cL_law 398 = .ok (.iconst 2, 1) := by decide +kernel
theorem dL_law_399 : decode cL_law 399 = .ok (.iadd, 1) := by decide +kernel
theorem dL_law_400 : decode cL_law 400 = .ok (.iaload, 1) := by decide +kernel
theorem dL_law_401 : decode cL_law 401 = .ok (.invokevirtual 56, 3) := by decide +kernel
theorem dL_law_404 : decode cL_law 404 = .ok (.if_icmp .eq 104, 3) := by decide +kernel
theorem dL_law_407 : decode cL_law 407 = .ok (.iconst 0, 1) := by decide +kernel
theorem dL_law_408 : decode cL_law 408 = .ok (.ireturn, 1) := by decide +kernel
theorem dL_law_409 : decode cL_law 409 = .ok (.aload_n 1, 1) := by decide +kernel
theorem dL_law_410 : decode cL_law 410 = .ok (.aload_n 0, 1) := by decide +kernel
theorem dL_law_411 : decode cL_law 411 = .ok (.iload_n 3, 1) := by decide +kernel
theorem dL_law_412 : decode cL_law 412 = .ok (.iconst 1, 1) := by decide +kernel
theorem dL_law_413 : decode cL_law 413 = .ok (.iadd, 1) := by decide +kernel
theorem dL_law_414 : decode cL_law 414 = .ok (.iaload, 1) := by decide +kernel
theorem dL_law_415 : decode cL_law 415 = .ok (.invokevirtual 57, 3) := by decide +kernel
theorem dL_law_418 : decode cL_law 418 = .ok (.aload_n 2, 1) := by decide +kernel
theorem dL_law_419 : decode cL_law 419 = .ok (.aload_n 0, 1) := by decide +kernel
theorem dL_law_420 : decode cL_law 420 = .ok (.iload_n 3, 1) := by decide +kernel
theorem dL_law_421 : decode cL_law 421 = .ok (.iconst 1, 1) := by decide +kernel
theorem dL_law_422 : decode cL_law 422 = .ok (.iadd, 1) := by decide +kernel
theorem dL_law_423 : decode cL_law 423 = .ok (.iaload, 1) := by decide +kernel
theorem dL_law_424 : decode cL_law 424 = .ok (.invokevirtual 60, 3) := by decide +kernel
theorem dL_law_427 : decode cL_law 427 = .ok (.if_icmp .eq 81, 3) := by decide +kernel
theorem dL_law_430 : decode cL_law 430 = .ok (.iconst 0, 1) := by decide +kernel
theorem dL_law_431 : decode cL_law 431 = .ok (.ireturn, 1) := by decide +kernel
theorem dL_law_432 : decode cL_law 432 = .ok (.aload_n 1, 1) := by decide +kernel
theorem dL_law_433 : decode cL_law 433 = .ok (.aload_n 0, 1) := by decide +kernel
theorem dL_law_434 : decode cL_law 434 = .ok (.iload_n 3, 1) := by decide +kernel
theorem dL_law_435 : decode cL_law 435 = .ok (.iconst 1, 1) := by decide +kernel
theorem dL_law_436 : decode cL_law 436 = .ok (.iadd, 1) := by decide +kernel
theorem dL_law_437 : decode cL_law 437 = .ok (.iaload, 1) := by decide +kernel
theorem dL_law_438 : decode cL_law 438 = .ok (.aload_n 0, 1) := by decide +kernel
theorem dL_law_439 : decode cL_law 439 = .ok (.iload_n 3, 1) := by decide +kernel
theorem dL_law_440 : decode cL_law 440 = .ok (.iconst 2, 1) := by decide +kernel
theorem dL_law_441 : decode cL_law 441 = .ok (.iadd, 1) := by decide +kernel
theorem dL_law_442 : decode cL_law 442 = .ok (.iaload, 1) := by decide +kernel
theorem dL_law_443 : decode cL_law 443 = .ok (.aload_n 0, 1) := by decide +kernel
theorem dL_law_444 : decode cL_law 444 = .ok (.iload_n 3, 1) := by decide +kernel
theorem dL_law_445 : decode cL_law 445 = .ok (.iconst 3, 1) := by decide +kernel
theorem dL_law_446 : decode cL_law 446 = .ok (.iadd, 1) := by decide +kernel
theorem dL_law_447 : decode cL_law 447 = .ok (.iaload, 1) := by decide +kernel
theorem dL_law_448 : decode cL_law 448 = .ok (.aload_n 0, 1) := by decide +kernel
theorem dL_law_449 : decode cL_law 449 = .ok (.iload_n 3, 1) := by decide +kernel
theorem dL_law_450 : decode cL_law 450 = .ok (.iconst 4, 1) := by decide +kernel
theorem dL_law_451 : decode cL_law 451 = .ok (.iadd, 1) := by decide +kernel
theorem dL_law_452 : decode cL_law 452 = .ok (.iaload, 1) := by decide +kernel
theorem dL_law_453 : decode cL_law 453 = .ok (.invokevirtual 61, 3) := by decide +kernel
theorem dL_law_456 : decode cL_law 456 = .ok (.aload_n 2, 1) := by decide +kernel
theorem dL_law_457 : decode cL_law 457 = .ok (.aload_n 0, 1) := by decide +kernel
theorem dL_law_458 : decode cL_law 458 = .ok (.iload_n 3, 1) := by decide +kernel
theorem dL_law_459 : decode cL_law 459 = .ok (.iconst 1, 1) := by decide +kernel
theorem dL_law_460 : decode cL_law 460 = .ok (.iadd, 1) := by decide +kernel
theorem dL_law_461 : decode cL_law 461 = .ok (.iaload, 1) := by decide +kernel
theorem dL_law_462 : decode cL_law 462 = .ok (.aload_n 0, 1) := by decide +kernel
theorem dL_law_463 : decode cL_law 463 = .ok (.iload_n 3, 1) := by decide +kernel
theorem dL_law_464 : decode cL_law 464 = .ok (.iconst 2, 1) := by decide +kernel
theorem dL_law_465 : decode cL_law 465 = .ok (.iadd, 1) := by decide +kernel
theorem dL_law_466 : decode cL_law 466 = .ok (.iaload, 1) := by decide +kernel
theorem dL_law_467 : decode cL_law 467 = .ok (.aload_n 0, 1) := by decide +kernel
theorem dL_law_468 : decode cL_law 468 = .ok (.iload_n 3, 1) := by decide +kernel
theorem dL_law_469 : decode cL_law 469 = .ok (.iconst 3, 1) := by decide +kernel
theorem dL_law_470 : decode cL_law 470 = .ok (.iadd, 1) := by decide +kernel
theorem dL_law_471 : decode cL_law 471 = .ok (.iaload, 1) := by decide +kernel
theorem dL_law_472 : decode cL_law 472 = .ok (.aload_n 0, 1) := by decide +kernel
theorem dL_law_473 : decode cL_law 473 = .ok (.iload_n 3, 1) := by decide +kernel
theorem dL_law_474 : decode cL_law 474 = .ok (.iconst 4, 1) := by decide +kernel
theorem dL_law_475 : decode cL_law 475 = .ok (.iadd, 1) := by decide +kernel
theorem dL_law_476 : decode cL_law 476 = .ok (.iaload, 1) := by decide +kernel
theorem dL_law_477 : decode cL_law 477 = .ok (.invokevirtual 65, 3) := by decide +kernel
theorem dL_law_480 : decode cL_law 480 = .ok (.if_icmp .eq 28, 3) := by decide +kernel
theorem dL_law_483 : decode cL_law 483 = .ok (.iconst 0, 1) := by decide +kernel
theorem dL_law_484 : decode cL_law 484 = .ok (.ireturn, 1) := by decide +kernel
theorem dL_law_485 : decode cL_law 485 = .ok (.aload_n 1, 1) := by decide +kernel
theorem dL_law_486 : decode cL_law 486 = .ok (.aload_n 0, 1) := by decide +kernel
theorem dL_law_487 : decode cL_law 487 = .ok (.iload_n 3, 1) := by decide +kernel
theorem dL_law_488 : decode cL_law 488 = .ok (.iconst 1, 1) := by decide +kernel
theorem dL_law_489 : decode cL_law 489 = .ok (.iadd, 1) := by decide +kernel
theorem dL_law_490 : decode cL_law 490 = .ok (.iaload, 1) := by decide +kernel
theorem dL_law_491 : decode cL_law 491 = .ok (.invokevirtual 66, 3) := by decide +kernel
theorem dL_law_494 : decode cL_law 494 = .ok (.aload_n 2, 1) := by decide +kernel
theorem dL_law_495 : decode cL_law 495 = .ok (.aload_n 0, 1) := by decide +kernel
theorem dL_law_496 : decode cL_law 496 = .ok (.iload_n 3, 1) := by decide +kernel
theorem dL_law_497 : decode cL_law 497 = .ok (.iconst 1, 1) := by decide +kernel
theorem dL_law_498 : decode cL_law 498 = .ok (.iadd, 1) := by decide +kernel
theorem dL_law_499 : decode cL_law 499 = .ok (.iaload, 1) := by decide +kernel
theorem dL_law_500 : decode cL_law 500 = .ok (.invokevirtual 69, 3) := by decide +kernel
theorem dL_law_503 : decode cL_law 503 = .ok (.if_icmp .eq 5, 3) := by decide +kernel
theorem dL_law_506 : decode cL_law 506 = .ok (.iconst 0, 1) := by decide +kernel
theorem dL_law_507 : decode cL_law 507 = .ok (.ireturn, 1) := by decide +kernel
theorem dL_law_508 : decode cL_law 508 = .ok (.iinc 3 5, 3) := by decide +kernel
theorem dL_law_511 : decode cL_law 511 = .ok (.goto (-493), 3) := by decide +kernel
theorem dL_law_514 : decode cL_law 514 = .ok (.iconst 1, 1) := by decide +kernel
theorem dL_law_515 : decode cL_law 515 = .ok (.ireturn, 1) := by decide +kernel
end
section
/-! THE PLAIN LAW, part 1: numbers by their bits, sums, the least closed relation tr_L, the tables' invariants -/
def tr_num (f : Nat → Bool) : Nat → Nat
  | 0 => 0
  | n + 1 => tr_num f n ||| (f n).toNat <<< n
theorem tr_num_lt (f : Nat → Bool) : ∀ n, tr_num f n < 2 ^ n
  | 0 => by simp [tr_num]
  | n + 1 => by
    have h := tr_num_lt f n
    show tr_num f n ||| (f n).toNat <<< n < 2 ^ (n + 1)
    refine Nat.or_lt_two_pow (Nat.lt_of_lt_of_le h (Nat.pow_le_pow_right (by omega) (by omega))) ?_
    rw [Nat.shiftLeft_eq]
    have h2 := Nat.two_pow_pos n
    have h3 : (f n).toNat ≤ 1 := Bool.toNat_le _
    rw [Nat.pow_succ]
    have h4 : (f n).toNat * 2 ^ n ≤ 1 * 2 ^ n := Nat.mul_le_mul_right _ h3
    omega
theorem tr_num_bit (f : Nat → Bool) : ∀ n i, (tr_num f n).testBit i = (decide (i < n) && f i)
  | 0, i => by simp [tr_num]
  | n + 1, i => by
    show (tr_num f n ||| (f n).toNat <<< n).testBit i = _
    rw [Nat.testBit_or, tr_num_bit f n i, Nat.testBit_shiftLeft]
    rcases Nat.lt_trichotomy i n with h | h | h
    · have h1 : i < n + 1 := by omega
      have h2 : ¬ i ≥ n := by omega
      simp [h, h1, h2]
    · subst h
      cases f i <;> simp
    · have h1 : ¬ i < n := by omega
      have h2 : ¬ i < n + 1 := by omega
      have h3 : (f n).toNat.testBit (i - n) = false := Nat.testBit_lt_two_pow (Nat.lt_of_le_of_lt (Bool.toNat_le _) (Nat.one_lt_two_pow (by omega)))
      simp [h1, h2, h3]
theorem tr_big {v n i : Nat} (hv : v < 2 ^ n) (hi : n ≤ i) : v.testBit i = false := Nat.testBit_lt_two_pow (Nat.lt_of_lt_of_le hv (Nat.pow_le_pow_right (by omega) hi))
theorem tr_num_eq {v n : Nat} {f : Nat → Bool} (hv : v < 2 ^ n) (h : ∀ i, i < n → v.testBit i = f i) : v = tr_num f n := by
  apply Nat.eq_of_testBit_eq
  intro i
  rw [tr_num_bit]
  rcases Nat.lt_or_ge i n with hi | hi
  · simp [hi, h i hi]
  · rw [tr_big hv hi]
    simp [Nat.not_lt.mpr hi]
theorem tr_num_congr {n : Nat} {f g : Nat → Bool} (h : ∀ i, i < n → f i = g i) : tr_num f n = tr_num g n :=
  tr_num_eq (tr_num_lt f n) (fun i hi => by rw [tr_num_bit, decide_eq_true hi, Bool.true_and, h i hi])
theorem tr_bits_eq {a b n : Nat} (ha : a < 2 ^ n) (hb : b < 2 ^ n) (h : ∀ i, i < n → a.testBit i = b.testBit i) : a = b := by
  rw [tr_num_eq ha h]
  exact (tr_num_eq hb (fun _ _ => rfl)).symm
theorem tr_num_or {f : Nat → Bool} {i : Nat} : tr_num f (i + 1) = tr_num f i ||| (f i).toNat <<< i := rfl
noncomputable def tr_b (q : Prop) : Bool := @decide q (Classical.propDecidable q)
theorem tr_b_iff {q : Prop} : tr_b q = true ↔ q := by
  unfold tr_b
  exact @decide_eq_true_iff q (Classical.propDecidable q)
theorem tr_b_t {q : Prop} (h : q) : tr_b q = true := tr_b_iff.mpr h
theorem tr_b_f {q : Prop} (h : ¬ q) : tr_b q = false := by
  cases e : tr_b q
  · rfl
  · exact absurd (tr_b_iff.mp e) h
theorem tr_b_of {b : Bool} {q : Prop} (h : b = true ↔ q) : b = tr_b q := by
  cases b
  · exact (tr_b_f (fun z => by have := h.mpr z; cases this)).symm
  · exact (tr_b_t (h.mp rfl)).symm
theorem tr_b_congr {q r : Prop} (h : q ↔ r) : tr_b q = tr_b r := by rw [propext h]
/-- bit k of a number of n bits set to b -/
def tr_setb (n a k : Nat) (b : Bool) : Nat := tr_num (fun j => if j = k then b else a.testBit j) n
theorem tr_setb_lt (n a k : Nat) (b : Bool) : tr_setb n a k b < 2 ^ n := tr_num_lt _ _
theorem tr_setb_bit {n a k : Nat} {b : Bool} (ha : a < 2 ^ n) (hk : k < n) (i : Nat) : (tr_setb n a k b).testBit i = if i = k then b else a.testBit i := by
  unfold tr_setb
  rw [tr_num_bit]
  rcases Nat.lt_or_ge i n with hi | hi
  · rw [decide_eq_true hi, Bool.true_and]
  · rw [decide_eq_false (Nat.not_lt.mpr hi), Bool.false_and, if_neg (by omega), tr_big ha hi]
theorem tr_setb_or {n a k : Nat} (ha : a < 2 ^ n) (hk : k < n) : a ||| 2 ^ k = tr_setb n a k true := by
  apply Nat.eq_of_testBit_eq
  intro i
  rw [tr_setb_bit ha hk, Nat.testBit_or, Nat.testBit_two_pow]
  by_cases h : i = k
  · subst h
    simp
  · have h2 : ¬ k = i := fun e => h e.symm
    simp [h, h2]
theorem tr_setb_back {n a k : Nat} {b : Bool} (ha : a < 2 ^ n) (hk : k < n) (h : a.testBit k = b) (b' : Bool) : tr_setb n (tr_setb n a k b') k b = a := by
  apply Nat.eq_of_testBit_eq
  intro i
  rw [tr_setb_bit (tr_setb_lt _ _ _ _) hk, tr_setb_bit ha hk]
  by_cases e : i = k
  · subst e
    simp [h]
  · simp [e]
/-! sums -/
def tr_sum (f : Nat → Nat) : Nat → Nat
  | 0 => 0
  | n + 1 => tr_sum f n + f n
theorem tr_sum_le {f g : Nat → Nat} : ∀ {n : Nat}, (∀ i, i < n → f i ≤ g i) → tr_sum f n ≤ tr_sum g n
  | 0, _ => Nat.le_refl _
  | n + 1, h => Nat.add_le_add (tr_sum_le (fun i hi => h i (by omega))) (h n (by omega))
theorem tr_sum_lt {f g : Nat → Nat} : ∀ {n k : Nat}, (∀ i, i < n → f i ≤ g i) → k < n → f k < g k → tr_sum f n < tr_sum g n
  | 0, _, _, hk, _ => absurd hk (by omega)
  | n + 1, k, h, hk, hl => by
    show tr_sum f n + f n < tr_sum g n + g n
    rcases Nat.lt_or_ge k n with q | q
    · have h1 := tr_sum_lt (fun i hi => h i (by omega)) q hl
      have h2 := h n (by omega)
      omega
    · have e : k = n := by omega
      subst e
      have h1 := tr_sum_le (n := k) (fun i hi => h i (by omega))
      omega
theorem tr_sum_bd {f : Nat → Nat} {c : Nat} : ∀ {n : Nat}, (∀ i, i < n → f i ≤ c) → tr_sum f n ≤ c * n
  | 0, _ => Nat.zero_le _
  | n + 1, h => by
    show tr_sum f n + f n ≤ c * (n + 1)
    have h1 := tr_sum_bd (n := n) (fun i hi => h i (by omega))
    have h2 := h n (by omega)
    rw [Nat.mul_succ]
    omega
theorem tr_sum_congr {f g : Nat → Nat} : ∀ {n : Nat}, (∀ i, i < n → f i = g i) → tr_sum f n = tr_sum g n
  | 0, _ => rfl
  | n + 1, h => by
    show tr_sum f n + f n = tr_sum g n + g n
    rw [tr_sum_congr (n := n) (fun i hi => h i (by omega)), h n (by omega)]
def tr_pc (a m : Nat) : Nat := tr_sum (fun j => (a.testBit j).toNat) m
theorem tr_bn {a b : Bool} (h : a = true → b = true) : a.toNat ≤ b.toNat := by
  cases a
  · simp
  · rw [h rfl]
    exact Nat.le_refl _
theorem tr_pc_le {a b m : Nat} (h : ∀ j, a.testBit j = true → b.testBit j = true) : tr_pc a m ≤ tr_pc b m := tr_sum_le (fun j _ => tr_bn (h j))
theorem tr_pc_lt {a b m j : Nat} (h : ∀ j, a.testBit j = true → b.testBit j = true) (hj : j < m) (h1 : a.testBit j = false) (h2 : b.testBit j = true) : tr_pc a m < tr_pc b m :=
  tr_sum_lt (fun j _ => tr_bn (h j)) hj (by rw [h1, h2]; decide)
theorem tr_pc_bd (a m : Nat) : tr_pc a m ≤ m := by
  have h := tr_sum_bd (f := fun j => (a.testBit j).toNat) (c := 1) (n := m) (fun i _ => Bool.toNat_le _)
  unfold tr_pc
  omega
/-! the abstract state: given pairs, rules present, their forms, heads, firsts, seconds -/
abbrev tr_C : Type := (Nat → Nat) × Nat × (Nat → Nat) × (Nat → Nat) × (Nat → Nat) × (Nat → Nat)
abbrev kG (K : tr_C) : Nat → Nat := K.1
abbrev kP (K : tr_C) : Nat := K.2.1
abbrev kF (K : tr_C) : Nat → Nat := K.2.2.1
abbrev kH (K : tr_C) : Nat → Nat := K.2.2.2.1
abbrev kQ (K : tr_C) : Nat → Nat := K.2.2.2.2.1
abbrev kR (K : tr_C) : Nat → Nat := K.2.2.2.2.2
def tr_body (K : tr_C) (S : Nat → Nat → Nat → Prop) (k x y : Nat) : Prop :=
  (kF K k = 0 ∧ S (kQ K k) x y) ∨ (kF K k = 1 ∧ S (kQ K k) y x) ∨ (kF K k = 2 ∧ ∃ z, z < 5 ∧ S (kQ K k) x z ∧ S (kR K k) z y) ∨ (kF K k = 3 ∧ S (kQ K k) x y ∧ S (kR K k) x y) ∨ (kF K k = 4 ∧ S (kQ K k) x y ∧ ∃ z, z < 5 ∧ S (kR K k) x z)
/-- what every rule leaves in the range of relations 0..4 -/
def tr_ok (K : tr_C) : Prop := (∀ i, kG K i < 32) ∧ kP K < 256 ∧ (∀ k, kF K k < 5 ∧ kH K k < 5 ∧ kQ K k < 5 ∧ kR K k < 5) ∧ ∀ k, (kP K).testBit k = true → 2 ≤ kH K k
theorem tr_body_mono {K : tr_C} {S S' : Nat → Nat → Nat → Prop} {k x y : Nat} (hK : tr_ok K) (hx : x < 5) (hy : y < 5) (h : ∀ p x y, p < 5 → x < 5 → y < 5 → S p x y → S' p x y) (hb : tr_body K S k x y) : tr_body K S' k x y := by
  obtain ⟨-, -, hq, hr⟩ := hK.2.2.1 k
  rcases hb with ⟨f, a⟩ | ⟨f, a⟩ | ⟨f, z, hz, a, b⟩ | ⟨f, a, b⟩ | ⟨f, a, z, hz, b⟩
  · exact Or.inl ⟨f, h _ _ _ hq hx hy a⟩
  · exact Or.inr (Or.inl ⟨f, h _ _ _ hq hy hx a⟩)
  · exact Or.inr (Or.inr (Or.inl ⟨f, z, hz, h _ _ _ hq hx hz a, h _ _ _ hr hz hy b⟩))
  · exact Or.inr (Or.inr (Or.inr (Or.inl ⟨f, h _ _ _ hq hx hy a, h _ _ _ hr hx hy b⟩)))
  · exact Or.inr (Or.inr (Or.inr (Or.inr ⟨f, h _ _ _ hq hx hy a, z, hz, h _ _ _ hr hx hz b⟩)))
theorem tr_body_all {K : tr_C} {S S' : Nat → Nat → Nat → Prop} {k x y : Nat} (h : ∀ p x y, S p x y → S' p x y) (hb : tr_body K S k x y) : tr_body K S' k x y := by
  rcases hb with ⟨f, a⟩ | ⟨f, a⟩ | ⟨f, z, hz, a, b⟩ | ⟨f, a, b⟩ | ⟨f, a, z, hz, b⟩
  · exact Or.inl ⟨f, h _ _ _ a⟩
  · exact Or.inr (Or.inl ⟨f, h _ _ _ a⟩)
  · exact Or.inr (Or.inr (Or.inl ⟨f, z, hz, h _ _ _ a, h _ _ _ b⟩))
  · exact Or.inr (Or.inr (Or.inr (Or.inl ⟨f, h _ _ _ a, h _ _ _ b⟩)))
  · exact Or.inr (Or.inr (Or.inr (Or.inr ⟨f, h _ _ _ a, z, hz, h _ _ _ b⟩)))
def tr_cl (K : tr_C) (S : Nat → Nat → Nat → Prop) : Prop :=
  (∀ p x y, p < 2 → x < 5 → y < 5 → (kG K (5 * p + x)).testBit y = true → S p x y) ∧ ∀ k, k < 8 → (kP K).testBit k = true → ∀ x y, x < 5 → y < 5 → tr_body K S k x y → S (kH K k) x y
/-- the least relation with the given pairs that all rules leave as it is -/
def tr_L (K : tr_C) (p x y : Nat) : Prop := ∀ S, tr_cl K S → S p x y
theorem tr_L_cl (K : tr_C) : tr_cl K (tr_L K) :=
  ⟨fun p x y hp hx hy h S hS => hS.1 p x y hp hx hy h, fun k hk hp x y hx hy hb S hS => hS.2 k hk hp x y hx hy (tr_body_all (fun _ _ _ h => h S hS) hb)⟩
theorem tr_L_g {K : tr_C} (hK : tr_ok K) {p x y : Nat} (hp : p < 2) (hx : x < 5) (hy : y < 5) : tr_L K p x y ↔ (kG K (5 * p + x)).testBit y = true := by
  constructor
  · intro h
    exact h (fun p x y => p < 2 → (kG K (5 * p + x)).testBit y = true) ⟨fun p x y hp hx hy h _ => h, fun k hk hP x y hx hy _ h2 => absurd h2 (by have := hK.2.2.2 k hP; omega)⟩ hp
  · intro h
    exact (tr_L_cl K).1 p x y hp hx hy h
theorem tr_L_sub {K : tr_C} {P' : Nat} (h : ∀ k, P'.testBit k = true → (kP K).testBit k = true) {p x y : Nat} (hl : tr_L (K.1, P', K.2.2) p x y) : tr_L K p x y :=
  fun S hS => hl S ⟨hS.1, fun k hk hP => hS.2 k hk (h k hP)⟩
/-! the tables: asked questions ak, answers an, something new fr -/
def tr_vl (K : tr_C) (an : Nat → Nat) (p x : Nat) : Nat := if p < 2 then kG K (5 * p + x) else an (5 * p + x)
def tr_as (ak p x : Nat) : Prop := p < 2 ∨ ak.testBit (5 * p + x) = true
def tr_ka (ak p x : Nat) : Nat := if p < 2 ∨ ak.testBit (5 * p + x) = true then ak else ak ||| 2 ^ (5 * p + x)
def tr_kf (ak fr p x : Nat) : Nat := if p < 2 ∨ ak.testBit (5 * p + x) = true then fr else 1
def tr_V (K : tr_C) (an : Nat → Nat) (p x y : Nat) : Prop := (tr_vl K an p x).testBit y = true
def tr_S (K : tr_C) (ak : Nat) (an : Nat → Nat) (p x y : Nat) : Prop := tr_as ak p x → (tr_vl K an p x).testBit y = true
def tr_di (K : tr_C) (ak : Nat) (an : Nat → Nat) (fr : Nat) : Prop := ak < 2 ^ 25 ∧ (∀ i, an i < 32) ∧ fr < 2 ∧ ∀ p x y, 2 ≤ p → p < 5 → x < 5 → y < 5 → (an (5 * p + x)).testBit y = true → tr_L K p x y
theorem tr_vl_lt {K : tr_C} {an : Nat → Nat} (hK : tr_ok K) (ha : ∀ i, an i < 32) (p x : Nat) : tr_vl K an p x < 32 := by
  unfold tr_vl
  split
  · exact hK.1 _
  · exact ha _
theorem tr_vl_L {K : tr_C} {ak fr : Nat} {an : Nat → Nat} (hK : tr_ok K) (hd : tr_di K ak an fr) {p x y : Nat} (hp : p < 5) (hx : x < 5) (hy : y < 5) (h : tr_V K an p x y) : tr_L K p x y := by
  unfold tr_V tr_vl at h
  by_cases hp2 : p < 2
  · rw [if_pos hp2] at h
    exact (tr_L_g hK hp2 hx hy).mpr h
  · rw [if_neg hp2] at h
    exact hd.2.2.2 p x y (by omega) hp hx hy h
/-- what asking does to ak and fr -/
def tr_E (ak fr ak' fr' : Nat) : Prop := (∀ i, ak.testBit i = true → ak'.testBit i = true) ∧ ak' < 2 ^ 25 ∧ fr' < 2 ∧ ((fr' = fr ∧ ak' = ak) ∨ (fr' = 1 ∧ ∃ i, i < 15 ∧ ak.testBit (10 + i) = false ∧ ak'.testBit (10 + i) = true))
theorem tr_E_rf {ak fr : Nat} (h : ak < 2 ^ 25) (hf : fr < 2) : tr_E ak fr ak fr := ⟨fun _ h => h, h, hf, Or.inl ⟨rfl, rfl⟩⟩
theorem tr_E_tr {a f a1 f1 a2 f2 : Nat} (h : tr_E a f a1 f1) (g : tr_E a1 f1 a2 f2) : tr_E a f a2 f2 := by
  obtain ⟨h1, h2, h3, h4⟩ := h
  obtain ⟨g1, g2, g3, g4⟩ := g
  refine ⟨fun i hi => g1 i (h1 i hi), g2, g3, ?_⟩
  rcases h4 with ⟨e1, e2⟩ | ⟨e1, i, hi, b1, b2⟩
  · rw [e1, e2] at g4
    exact g4
  · rcases g4 with ⟨c1, c2⟩ | ⟨c1, j, hj, d1, d2⟩
    · exact Or.inr ⟨c1.trans e1, i, hi, b1, g1 _ b2⟩
    · exact Or.inr ⟨c1, i, hi, b1, g1 _ b2⟩
theorem tr_E_ask {ak fr p x : Nat} (h : ak < 2 ^ 25) (hf : fr < 2) (hp : p < 5) (hx : x < 5) : tr_E ak fr (tr_ka ak p x) (tr_kf ak fr p x) := by
  unfold tr_ka tr_kf
  by_cases c : p < 2 ∨ ak.testBit (5 * p + x) = true
  · rw [if_pos c, if_pos c]
    exact tr_E_rf h hf
  · rw [if_neg c, if_neg c]
    have c1 : ¬ p < 2 := fun z => c (Or.inl z)
    have c2 : ak.testBit (5 * p + x) = false := by
      cases e : ak.testBit (5 * p + x)
      · rfl
      · exact absurd (Or.inr e) c
    refine ⟨fun i hi => by rw [Nat.testBit_or, hi, Bool.true_or], Nat.or_lt_two_pow h (Nat.pow_lt_pow_right (by omega) (by omega)), by omega, Or.inr ⟨rfl, 5 * p + x - 10, by omega, ?_, ?_⟩⟩
    · rw [show 10 + (5 * p + x - 10) = 5 * p + x by omega]
      exact c2
    · rw [show 10 + (5 * p + x - 10) = 5 * p + x by omega, Nat.testBit_or, Nat.testBit_two_pow_self, Bool.or_true]
theorem tr_as_ask (ak p x : Nat) : tr_as (tr_ka ak p x) p x := by
  unfold tr_as tr_ka
  by_cases c : p < 2 ∨ ak.testBit (5 * p + x) = true
  · rw [if_pos c]
    exact c
  · rw [if_neg c]
    right
    rw [Nat.testBit_or, Nat.testBit_two_pow_self, Bool.or_true]
theorem tr_as_mono {ak ak' p x : Nat} (h : ∀ i, ak.testBit i = true → ak'.testBit i = true) (a : tr_as ak p x) : tr_as ak' p x := a.imp id (h _)
theorem tr_as_E {a f a1 f1 p x : Nat} (h : tr_E a f a1 f1) (g : tr_as a p x) : tr_as a1 p x := tr_as_mono h.1 g
theorem tr_S_mono {K : tr_C} {ak ak' : Nat} {an : Nat → Nat} (h : ∀ i, ak.testBit i = true → ak'.testBit i = true) {p x y : Nat} (g : tr_S K ak' an p x y) : tr_S K ak an p x y := fun a => g (tr_as_mono h a)
/-- what a rule brings for x, out of the answers so far -/
def tr_br (K : tr_C) (an : Nat → Nat) (ak k x v : Nat) : Prop := v < 32 ∧ (∀ y, y < 5 → v.testBit y = true → tr_body K (tr_V K an) k x y) ∧ ∀ y, y < 5 → tr_body K (tr_S K ak an) k x y → v.testBit y = true
theorem tr_nz : ∀ v, v < 32 → v ≠ 0 → ∃ z, z < 5 ∧ v.testBit z = true := by decide +kernel
theorem tr_br_turn {K : tr_C} {an : Nat → Nat} {ak k x v : Nat} (hf : kF K k = 1) (hv : v < 32) (hx : x < 5) (hb : ∀ y, y < 5 → v.testBit y = (tr_vl K an (kQ K k) y).testBit x) (ha : ∀ y, y < 5 → tr_as ak (kQ K k) y) : tr_br K an ak k x v := by
  refine ⟨hv, fun y hy h => Or.inr (Or.inl ⟨hf, ?_⟩), fun y hy h => ?_⟩
  · rw [hb y hy] at h
    exact h
  · rw [hb y hy]
    rcases h with ⟨f, a⟩ | ⟨f, a⟩ | ⟨f, z, hz, a, b⟩ | ⟨f, a, b⟩ | ⟨f, a, z, hz, b⟩
    · omega
    · exact a (ha y hy)
    all_goals omega
theorem tr_br_first {K : tr_C} {an : Nat → Nat} {ak k x : Nat} (hK : tr_ok K) (hv : ∀ i, an i < 32) (hf : kF K k = 0 ∨ (kF K k ≠ 1 ∧ tr_vl K an (kQ K k) x = 0)) (ha : tr_as ak (kQ K k) x) : tr_br K an ak k x (tr_vl K an (kQ K k) x) := by
  refine ⟨tr_vl_lt hK hv _ _, fun y hy h => ?_, fun y hy h => ?_⟩
  · rcases hf with hf | ⟨_, h0⟩
    · exact Or.inl ⟨hf, h⟩
    · rw [h0] at h
      simp at h
  · rcases h with ⟨f, a⟩ | ⟨f, a⟩ | ⟨f, z, hz, a, b⟩ | ⟨f, a, b⟩ | ⟨f, a, z, hz, b⟩
    · exact a ha
    · omega
    · have h0 := a ha
      rw [(hf.resolve_left (by omega)).2] at h0
      simp at h0
    · exact a ha
    · exact a ha
theorem tr_br_join {K : tr_C} {an : Nat → Nat} {ak k x v : Nat} (hf : kF K k = 2) (hv : v < 32) (hq : tr_as ak (kQ K k) x) (hb : ∀ y, y < 5 → (v.testBit y = true ↔ ∃ z, z < 5 ∧ (tr_vl K an (kQ K k) x).testBit z = true ∧ (tr_vl K an (kR K k) z).testBit y = true)) (ha : ∀ z, z < 5 → (tr_vl K an (kQ K k) x).testBit z = true → tr_as ak (kR K k) z) : tr_br K an ak k x v := by
  refine ⟨hv, fun y hy h => Or.inr (Or.inr (Or.inl ⟨hf, (hb y hy).mp h⟩)), fun y hy h => ?_⟩
  rcases h with ⟨f, a⟩ | ⟨f, a⟩ | ⟨f, z, hz, a, b⟩ | ⟨f, a, b⟩ | ⟨f, a, z, hz, b⟩
  · omega
  · omega
  · exact (hb y hy).mpr ⟨z, hz, a hq, b (ha z hz (a hq))⟩
  · omega
  · omega
theorem tr_br_both {K : tr_C} {an : Nat → Nat} {ak k x : Nat} (hK : tr_ok K) (hv : ∀ i, an i < 32) (hf : kF K k = 3) (hq : tr_as ak (kQ K k) x) (hr : tr_as ak (kR K k) x) : tr_br K an ak k x (tr_vl K an (kQ K k) x &&& tr_vl K an (kR K k) x) := by
  refine ⟨Nat.lt_of_le_of_lt Nat.and_le_left (tr_vl_lt hK hv _ _), fun y hy h => ?_, fun y hy h => ?_⟩
  · rw [Nat.testBit_and, Bool.and_eq_true] at h
    exact Or.inr (Or.inr (Or.inr (Or.inl ⟨hf, h.1, h.2⟩)))
  · rw [Nat.testBit_and, Bool.and_eq_true]
    rcases h with ⟨f, a⟩ | ⟨f, a⟩ | ⟨f, z, hz, a, b⟩ | ⟨f, a, b⟩ | ⟨f, a, z, hz, b⟩
    · omega
    · omega
    · omega
    · exact ⟨a hq, b hr⟩
    · omega
theorem tr_br_from {K : tr_C} {an : Nat → Nat} {ak k x : Nat} (hK : tr_ok K) (hv : ∀ i, an i < 32) (hf : kF K k = 4) (hq : tr_as ak (kQ K k) x) (hr : tr_as ak (kR K k) x) (hn : tr_vl K an (kR K k) x ≠ 0) : tr_br K an ak k x (tr_vl K an (kQ K k) x) := by
  obtain ⟨z, hz, hb⟩ := tr_nz _ (tr_vl_lt hK hv (kR K k) x) hn
  refine ⟨tr_vl_lt hK hv _ _, fun y hy h => Or.inr (Or.inr (Or.inr (Or.inr ⟨hf, h, z, hz, hb⟩))), fun y hy h => ?_⟩
  rcases h with ⟨f, a⟩ | ⟨f, a⟩ | ⟨f, z, hz, a, b⟩ | ⟨f, a, b⟩ | ⟨f, a, z, hz, b⟩
  · omega
  · omega
  · omega
  · omega
  · exact a hq
theorem tr_br_none {K : tr_C} {an : Nat → Nat} {ak k x : Nat} (hf : kF K k = 4) (hr : tr_as ak (kR K k) x) (hn : tr_vl K an (kR K k) x = 0) : tr_br K an ak k x 0 := by
  refine ⟨by omega, fun y hy h => by simp at h, fun y hy h => ?_⟩
  rcases h with ⟨f, a⟩ | ⟨f, a⟩ | ⟨f, z, hz, a, b⟩ | ⟨f, a, b⟩ | ⟨f, a, z, hz, b⟩
  · omega
  · omega
  · omega
  · omega
  · have h0 := b hr
    rw [hn] at h0
    simp at h0
end
section
/-! THE PLAIN LAW, part 2: the measure, work, settle -/
def tr_mu (ak : Nat) (an : Nat → Nat) : Nat := tr_sum (fun i => (ak.testBit (10 + i)).toNat + tr_pc (an (10 + i)) 5) 15
def tr_le (ak : Nat) (an : Nat → Nat) (ak' : Nat) (an' : Nat → Nat) : Prop := (∀ i, ak.testBit i = true → ak'.testBit i = true) ∧ ∀ i j, (an i).testBit j = true → (an' i).testBit j = true
theorem tr_le_rf (ak : Nat) (an : Nat → Nat) : tr_le ak an ak an := ⟨fun _ h => h, fun _ _ h => h⟩
theorem tr_le_tr {a : Nat} {f : Nat → Nat} {a1 : Nat} {f1 : Nat → Nat} {a2 : Nat} {f2 : Nat → Nat} (h : tr_le a f a1 f1) (g : tr_le a1 f1 a2 f2) : tr_le a f a2 f2 := ⟨fun i hi => g.1 i (h.1 i hi), fun i j hi => g.2 i j (h.2 i j hi)⟩
theorem tr_mu_pt {ak ak' : Nat} {an an' : Nat → Nat} (h : tr_le ak an ak' an') (i : Nat) : (ak.testBit (10 + i)).toNat + tr_pc (an (10 + i)) 5 ≤ (ak'.testBit (10 + i)).toNat + tr_pc (an' (10 + i)) 5 :=
  Nat.add_le_add (tr_bn (h.1 _)) (tr_pc_le (h.2 _))
theorem tr_mu_le {ak ak' : Nat} {an an' : Nat → Nat} (h : tr_le ak an ak' an') : tr_mu ak an ≤ tr_mu ak' an' := tr_sum_le (fun i _ => tr_mu_pt h i)
theorem tr_mu_ltA {ak ak' : Nat} {an an' : Nat → Nat} (h : tr_le ak an ak' an') {i : Nat} (hi : i < 15) (h1 : ak.testBit (10 + i) = false) (h2 : ak'.testBit (10 + i) = true) : tr_mu ak an < tr_mu ak' an' := by
  refine tr_sum_lt (k := i) (fun i _ => tr_mu_pt h i) hi ?_
  have h3 := tr_pc_le (m := 5) (h.2 (10 + i))
  show (ak.testBit (10 + i)).toNat + tr_pc (an (10 + i)) 5 < (ak'.testBit (10 + i)).toNat + tr_pc (an' (10 + i)) 5
  rw [h1, h2]
  simp only [Bool.toNat_false, Bool.toNat_true]
  omega
theorem tr_mu_ltN {ak ak' : Nat} {an an' : Nat → Nat} (h : tr_le ak an ak' an') {i j : Nat} (hi : i < 15) (hj : j < 5) (h1 : (an (10 + i)).testBit j = false) (h2 : (an' (10 + i)).testBit j = true) : tr_mu ak an < tr_mu ak' an' := by
  refine tr_sum_lt (k := i) (fun i _ => tr_mu_pt h i) hi ?_
  have h3 := tr_pc_lt (m := 5) (h.2 (10 + i)) hj h1 h2
  have h4 := tr_bn (h.1 (10 + i))
  show (ak.testBit (10 + i)).toNat + tr_pc (an (10 + i)) 5 < (ak'.testBit (10 + i)).toNat + tr_pc (an' (10 + i)) 5
  omega
theorem tr_mu_bd (ak : Nat) (an : Nat → Nat) : tr_mu ak an ≤ 90 := by
  refine Nat.le_trans (tr_sum_bd (c := 6) (fun i _ => ?_)) (by omega)
  have h1 := tr_pc_bd (an (10 + i)) 5
  have h2 := Bool.toNat_le (ak.testBit (10 + i))
  omega
/-- work's loop: rules below k are used, f is found -/
def tr_wi (K : tr_C) (an : Nat → Nat) (h x ak k f : Nat) : Prop := f < 32 ∧ (∀ y, (an (5 * h + x)).testBit y = true → f.testBit y = true) ∧ (∀ y, y < 5 → f.testBit y = true → tr_L K h x y) ∧ ∀ j, j < k → (kP K).testBit j = true → kH K j = h → ∀ y, y < 5 → tr_body K (tr_S K ak an) j x y → f.testBit y = true
theorem tr_wi_0 {K : tr_C} {an : Nat → Nat} {h x ak fr : Nat} (hd : tr_di K ak an fr) (h2 : 2 ≤ h) (h5 : h < 5) (hx : x < 5) : tr_wi K an h x ak 0 (an (5 * h + x)) :=
  ⟨hd.2.1 _, fun _ z => z, fun y hy z => hd.2.2.2 h x y h2 h5 hx hy z, fun j hj => absurd hj (by omega)⟩
theorem tr_wi_skip {K : tr_C} {an : Nat → Nat} {h x ak k f : Nat} (w : tr_wi K an h x ak k f) (hs : ¬ ((kP K).testBit k = true ∧ kH K k = h)) : tr_wi K an h x ak (k + 1) f := by
  obtain ⟨w1, w2, w3, w4⟩ := w
  refine ⟨w1, w2, w3, fun j hj hP hH => ?_⟩
  rcases Nat.lt_or_ge j k with q | q
  · exact w4 j q hP hH
  · have e : j = k := by omega
    subst e
    exact absurd ⟨hP, hH⟩ hs
theorem tr_wi_step {K : tr_C} {an : Nat → Nat} {h x ak fr ak' fr' k f v : Nat} (hK : tr_ok K) (hd : tr_di K ak an fr) (hx : x < 5) (hk : k < 8) (w : tr_wi K an h x ak k f) (hE : tr_E ak fr ak' fr') (hP : (kP K).testBit k = true) (hH : kH K k = h) (b : tr_br K an ak' k x v) : tr_wi K an h x ak' (k + 1) (f ||| v) := by
  obtain ⟨w1, w2, w3, w4⟩ := w
  obtain ⟨b1, b2, b3⟩ := b
  refine ⟨Nat.or_lt_two_pow (n := 5) w1 b1, fun y hy => by rw [Nat.testBit_or, w2 y hy, Bool.true_or], fun y hy z => ?_, fun j hj hPj hHj y hy hb => ?_⟩
  · rw [Nat.testBit_or, Bool.or_eq_true] at z
    rcases z with z | z
    · exact w3 y hy z
    · have h1 := (tr_L_cl K).2 k hk hP x y hx hy (tr_body_mono hK hx hy (fun p x y hp hx hy hv => tr_vl_L hK hd hp hx hy hv) (b2 y hy z))
      rw [hH] at h1
      exact h1
  · rw [Nat.testBit_or, Bool.or_eq_true]
    rcases Nat.lt_or_ge j k with q | q
    · exact Or.inl (w4 j q hPj hHj y hy (tr_body_all (fun _ _ _ g => tr_S_mono hE.1 g) hb))
    · have e : j = k := by omega
      subst e
      exact Or.inr (b3 y hy hb)
/-- the rules for (h, x) bring nothing that isn't there -/
def tr_ca (K : tr_C) (ak : Nat) (an : Nat → Nat) (h x : Nat) : Prop := ∀ j, j < 8 → (kP K).testBit j = true → kH K j = h → ∀ y, y < 5 → tr_body K (tr_S K ak an) j x y → (an (5 * h + x)).testBit y = true
def tr_wk (K : tr_C) (ak : Nat) (an : Nat → Nat) (fr h x ak' : Nat) (an' : Nat → Nat) (fr' : Nat) : Prop := tr_di K ak' an' fr' ∧ tr_le ak an ak' an' ∧ ((ak' = ak ∧ an' = an ∧ fr' = fr ∧ tr_ca K ak an h x) ∨ (fr' = 1 ∧ tr_mu ak an < tr_mu ak' an'))
theorem tr_di_E {K : tr_C} {ak fr ak' fr' : Nat} {an : Nat → Nat} (hd : tr_di K ak an fr) (hE : tr_E ak fr ak' fr') : tr_di K ak' an fr' := ⟨hE.2.1, hd.2.1, hE.2.2.1, hd.2.2.2⟩
theorem tr_wk_same {K : tr_C} {ak fr h x ak' fr' f : Nat} {an : Nat → Nat} (hd : tr_di K ak an fr) (hE : tr_E ak fr ak' fr') (w : tr_wi K an h x ak' 8 f) (e : f = an (5 * h + x)) : tr_wk K ak an fr h x ak' an fr' := by
  refine ⟨tr_di_E hd hE, ⟨hE.1, fun _ _ z => z⟩, ?_⟩
  rcases hE.2.2.2 with ⟨e1, e2⟩ | ⟨e1, i, hi, b1, b2⟩
  · subst e1
    subst e2
    refine Or.inl ⟨rfl, rfl, rfl, fun j hj hP hH y hy hb => ?_⟩
    rw [← e]
    exact w.2.2.2 j hj hP hH y hy hb
  · exact Or.inr ⟨e1, tr_mu_ltA ⟨hE.1, fun _ _ z => z⟩ hi b1 b2⟩
theorem tr_new {a b : Nat} (ha : a < 32) (hb : b < 32) (hs : ∀ y, a.testBit y = true → b.testBit y = true) (hn : b ≠ a) : ∃ y, y < 5 ∧ a.testBit y = false ∧ b.testBit y = true := by
  apply Classical.byContradiction
  intro hc
  apply hn
  refine tr_bits_eq (n := 5) hb ha (fun i hi => ?_)
  cases e1 : a.testBit i
  · cases e2 : b.testBit i
    · rfl
    · exact absurd ⟨i, hi, e1, e2⟩ hc
  · exact hs i e1
theorem tr_wk_new {K : tr_C} {ak fr h x ak' fr' f : Nat} {an : Nat → Nat} (hd : tr_di K ak an fr) (hE : tr_E ak fr ak' fr') (w : tr_wi K an h x ak' 8 f) (h2 : 2 ≤ h) (h5 : h < 5) (hx : x < 5) (e : f ≠ an (5 * h + x)) : tr_wk K ak an fr h x ak' (va_up an (5 * h + x) f) 1 := by
  obtain ⟨w1, w2, w3, w4⟩ := w
  have hle : tr_le ak an ak' (va_up an (5 * h + x) f) := ⟨hE.1, fun i j z => by
    unfold va_up
    split
    · rename_i e
      rw [e] at z
      exact w2 j z
    · exact z⟩
  refine ⟨⟨hE.2.1, fun i => ?_, by omega, fun p x' y h2' h5' hx' hy z => ?_⟩, hle, Or.inr ⟨rfl, ?_⟩⟩
  · unfold va_up
    split
    · exact w1
    · exact hd.2.1 i
  · unfold va_up at z
    split at z
    · have e1 : p = h := by omega
      have e2 : x' = x := by omega
      subst e1
      subst e2
      exact w3 y hy z
    · exact hd.2.2.2 p x' y h2' h5' hx' hy z
  · obtain ⟨y, hy, b1, b2⟩ := tr_new (hd.2.1 (5 * h + x)) w1 w2 e
    refine tr_mu_ltN (i := 5 * h + x - 10) (j := y) hle (by omega) hy ?_ ?_
    · rw [show 10 + (5 * h + x - 10) = 5 * h + x by omega]
      exact b1
    · rw [show 10 + (5 * h + x - 10) = 5 * h + x by omega]
      unfold va_up
      rw [if_pos rfl]
      exact b2
/-- settle's inner loop: questions below i are worked at -/
def tr_in1 (K : tr_C) (ak0 : Nat) (an0 : Nat → Nat) (i ak : Nat) (an : Nat → Nat) (fr : Nat) : Prop := tr_di K ak an fr ∧ tr_le ak0 an0 ak an ∧ ((ak = ak0 ∧ an = an0 ∧ fr = 0 ∧ ∀ h x, 2 ≤ h → h < 5 → x < 5 → 5 * h + x < i → tr_as ak0 h x → tr_ca K ak0 an0 h x) ∨ (fr = 1 ∧ tr_mu ak0 an0 < tr_mu ak an))
theorem tr_in1_0 {K : tr_C} {ak : Nat} {an : Nat → Nat} (hd : tr_di K ak an 0) : tr_in1 K ak an 10 ak an 0 := ⟨hd, tr_le_rf _ _, Or.inl ⟨rfl, rfl, rfl, fun h x h2 h5 hx hi => absurd hi (by omega)⟩⟩
theorem tr_in1_skip {K : tr_C} {ak0 i ak fr : Nat} {an0 an : Nat → Nat} (w : tr_in1 K ak0 an0 i ak an fr) (hi : ak.testBit i = false) : tr_in1 K ak0 an0 (i + 1) ak an fr := by
  obtain ⟨w1, w2, w3⟩ := w
  refine ⟨w1, w2, w3.imp (fun ⟨e1, e2, e3, e4⟩ => ⟨e1, e2, e3, fun h x h2 h5 hx hlt ha => ?_⟩) id⟩
  rcases Nat.lt_or_ge (5 * h + x) i with q | q
  · exact e4 h x h2 h5 hx q ha
  · have e : 5 * h + x = i := by omega
    rcases ha with ha | ha
    · omega
    · rw [e, ← e1, hi] at ha
      cases ha
theorem tr_in1_work {K : tr_C} {ak0 i ak fr ak' fr' : Nat} {an0 an an' : Nat → Nat} (w : tr_in1 K ak0 an0 i ak an fr) (g : tr_wk K ak an fr (i / 5) (i % 5) ak' an' fr') : tr_in1 K ak0 an0 (i + 1) ak' an' fr' := by
  obtain ⟨w1, w2, w3⟩ := w
  obtain ⟨g1, g2, g3⟩ := g
  refine ⟨g1, tr_le_tr w2 g2, ?_⟩
  rcases g3 with ⟨e1, e2, e3, e4⟩ | ⟨e1, e2⟩
  · subst e1
    subst e2
    subst e3
    refine w3.imp (fun ⟨f1, f2, f3, f4⟩ => ⟨f1, f2, f3, fun h x h2 h5 hx hlt ha => ?_⟩) id
    rcases Nat.lt_or_ge (5 * h + x) i with q | q
    · exact f4 h x h2 h5 hx q ha
    · have e5 : i / 5 = h := by omega
      have e6 : i % 5 = x := by omega
      subst f1
      subst f2
      rw [e5, e6] at e4
      exact e4
  · refine Or.inr ⟨e1, ?_⟩
    rcases w3 with ⟨f1, f2, f3, f4⟩ | ⟨f1, f2⟩
    · subst f1
      subst f2
      exact e2
    · exact Nat.lt_trans f2 e2
def tr_all (K : tr_C) (ak : Nat) (an : Nat → Nat) : Prop := ∀ h x, 2 ≤ h → h < 5 → x < 5 → tr_as ak h x → tr_ca K ak an h x
/-- settle's outer loop, r rounds done -/
def tr_out (K : tr_C) (r ak : Nat) (an : Nat → Nat) (fr : Nat) : Prop := tr_di K ak an fr ∧ ((fr = 1 ∧ r ≤ tr_mu ak an) ∨ (fr = 0 ∧ tr_all K ak an))
theorem tr_out_next {K : tr_C} {r ak ak' fr' : Nat} {an an' : Nat → Nat} (hr : r ≤ tr_mu ak an) (w : tr_in1 K ak an 25 ak' an' fr') : tr_out K (r + 1) ak' an' fr' := by
  obtain ⟨w1, w2, w3⟩ := w
  refine ⟨w1, ?_⟩
  rcases w3 with ⟨f1, f2, f3, f4⟩ | ⟨f1, f2⟩
  · subst f1
    subst f2
    exact Or.inr ⟨f3, fun h x h2 h5 hx ha => f4 h x h2 h5 hx (by omega) ha⟩
  · exact Or.inl ⟨f1, by omega⟩
theorem tr_out_end {K : tr_C} {r ak fr : Nat} {an : Nat → Nat} (w : tr_out K r ak an fr) (h : 100 ≤ r ∨ fr = 0) : tr_all K ak an := by
  rcases w.2 with ⟨e1, e2⟩ | ⟨e1, e2⟩
  · have h1 := tr_mu_bd ak an
    omega
  · exact e2
/-- the canonical answer to a question -/
noncomputable def tr_row (K : tr_C) (p x : Nat) : Nat := tr_num (fun y => tr_b (tr_L K p x y)) 5
theorem tr_row_lt (K : tr_C) (p x : Nat) : tr_row K p x < 32 := tr_num_lt _ 5
theorem tr_row_bit (K : tr_C) (p x : Nat) {y : Nat} (hy : y < 5) : (tr_row K p x).testBit y = tr_b (tr_L K p x y) := by
  unfold tr_row
  rw [tr_num_bit, decide_eq_true hy, Bool.true_and]
theorem tr_fin {K : tr_C} {ak fr p x : Nat} {an : Nat → Nat} (hK : tr_ok K) (hd : tr_di K ak an fr) (h : tr_all K ak an) (ha : tr_as ak p x) (hp : p < 5) (hx : x < 5) : tr_vl K an p x = tr_row K p x := by
  refine tr_num_eq (tr_vl_lt hK hd.2.1 p x) (fun y hy => tr_b_of ⟨fun hb => tr_vl_L hK hd hp hx hy hb, fun hL => ?_⟩)
  refine hL (fun p x y => tr_as ak p x → (tr_vl K an p x).testBit y = true) ⟨fun p x y hp hx hy hg _ => ?_, fun k hk hP x y hx hy hb ha => ?_⟩ ha
  · unfold tr_vl
    rw [if_pos hp]
    exact hg
  · have h2 := hK.2.2.2 k hP
    have h5 := (hK.2.2.1 k).2.1
    have h1 := h (kH K k) x h2 h5 hx ha k hk hP rfl y hy hb
    unfold tr_vl
    rw [if_neg (by omega)]
    exact h1
/-- tables forgotten -/
def tr_z (an : Nat → Nat) (n : Nat) : Nat → Nat := fun i => if i < n then 0 else an i
theorem tr_z_0 (an : Nat → Nat) : tr_z an 0 = an := by
  funext i
  simp [tr_z]
theorem tr_z_s (an : Nat → Nat) (n : Nat) : va_up (tr_z an n) n 0 = tr_z an (n + 1) := by
  funext i
  unfold va_up tr_z
  by_cases h : i = n
  · subst h
    simp
  · rcases Nat.lt_or_ge i n with q | q
    · have q2 : i < n + 1 := by omega
      simp [h, q, q2]
    · have q1 : ¬ i < n := by omega
      have q2 : ¬ i < n + 1 := by omega
      simp [h, q1, q2]
theorem tr_di_z {K : tr_C} {an : Nat → Nat} {fr : Nat} (ha : ∀ i, an i < 32) (hf : fr < 2) : tr_di K 0 (tr_z an 25) fr := by
  refine ⟨by omega, fun i => ?_, hf, fun p x y h2 h5 hx hy z => ?_⟩
  · unfold tr_z
    split
    · omega
    · exact ha i
  · unfold tr_z at z
    rw [if_pos (by omega)] at z
    simp at z
end
section
/-! ===== Int32 by its bits: bt x i ===== -/
def bt (x : Int32) (i : Nat) : Bool := x.toBitVec.getLsbD i
theorem b_ext {x y : Int32} (h : ∀ i, i < 32 → bt x i = bt y i) : x = y := Int32.toBitVec_inj.mp (BitVec.eq_of_getLsbD_eq (fun i hi => h i hi))
theorem b_or (x y : Int32) (i : Nat) : bt (x ||| y) i = (bt x i || bt y i) := by unfold bt; rw [Int32.toBitVec_or, BitVec.getLsbD_or]
theorem b_and (x y : Int32) (i : Nat) : bt (x &&& y) i = (bt x i && bt y i) := by unfold bt; rw [Int32.toBitVec_and, BitVec.getLsbD_and]
theorem b_xor (x y : Int32) (i : Nat) : bt (x ^^^ y) i = (bt x i ^^ bt y i) := by unfold bt; rw [Int32.toBitVec_xor, BitVec.getLsbD_xor]
theorem b_big {x : Int32} {i : Nat} (h : 32 ≤ i) : bt x i = false := BitVec.getLsbD_of_ge _ _ h
theorem b_m1 : ∀ i, i < 32 → bt (-1) i = true := by decide +kernel
theorem b_0 (i : Nat) : bt 0 i = false := BitVec.getLsbD_zero
theorem s_l : ∀ n, n < 32 → ((nI n &&& 31).toBitVec.smod 32).toNat = n := by decide +kernel
theorem nx_and (a b : Nat) : nI a &&& nI b = nI (a &&& b) := by
  apply Int32.toBitVec_inj.1
  show BitVec.ofNat 32 a &&& BitVec.ofNat 32 b = BitVec.ofNat 32 (a &&& b)
  apply BitVec.eq_of_getLsbD_eq
  intro i hi
  simp [hi]
theorem nx_or (a b : Nat) : nI a ||| nI b = nI (a ||| b) := by
  apply Int32.toBitVec_inj.1
  show BitVec.ofNat 32 a ||| BitVec.ofNat 32 b = BitVec.ofNat 32 (a ||| b)
  apply BitVec.eq_of_getLsbD_eq
  intro i hi
  simp [hi]
theorem bt_nI (a : Nat) {i : Nat} (hi : i < 32) : bt (nI a) i = a.testBit i := by
  show (BitVec.ofNat 32 a).getLsbD i = _
  rw [BitVec.getLsbD_ofNat]
  simp [hi]
/-- one bit of a number -/
theorem tr_bitI {a j : Nat} (ha : a < 2 ^ 31) (hj : j < 32) : (nI a >>> (nI j &&& 31)) &&& nI 1 = nI (a.testBit j).toNat := by
  rw [pk_shrN ha _ j (s_l j hj), nx_and, Nat.and_one_is_mod, Nat.testBit_eq_decide_div_mod_eq]
  rcases Nat.mod_two_eq_zero_or_one (a / 2 ^ j) with h | h <;> simp [h]
theorem tr_shlI {j : Nat} (hj : j < 31) : nI 1 <<< (nI j &&& 31) = nI (2 ^ j) := by
  have h : 2 ^ j < 2 ^ 32 := Nat.pow_lt_pow_right (by omega) (by omega)
  rw [pk_shlN _ j (s_l j (by omega)) (by omega), Nat.one_mul]
theorem tr_shlB {b : Bool} {j : Nat} (hj : j < 31) : nI b.toNat <<< (nI j &&& 31) = nI (b.toNat <<< j) := by
  have h : 2 ^ j < 2 ^ 32 := Nat.pow_lt_pow_right (by omega) (by omega)
  have h2 : b.toNat * 2 ^ j ≤ 1 * 2 ^ j := Nat.mul_le_mul_right _ (Bool.toNat_le _)
  rw [pk_shlN _ j (s_l j (by omega)) (by omega), Nat.shiftLeft_eq]
theorem tr_clrI {n a k : Nat} (hn : n ≤ 31) (ha : a < 2 ^ n) (hk : k < n) : nI a &&& (nI (2 ^ k) ^^^ (-1)) = nI (tr_setb n a k false) := by
  apply b_ext
  intro i hi
  rw [b_and, b_xor, b_m1 i hi, bt_nI _ hi, bt_nI _ hi, bt_nI _ hi, tr_setb_bit ha hk, Nat.testBit_two_pow]
  by_cases h : i = k
  · subst h
    simp
  · have h2 : ¬ k = i := fun e => h e.symm
    simp [h, h2]
theorem tr_setI {n a k : Nat} (ha : a < 2 ^ n) (hk : k < n) : nI a ||| nI (2 ^ k) = nI (tr_setb n a k true) := by rw [nx_or, tr_setb_or ha hk]
theorem tr_andn {n a b : Nat} (hn : n ≤ 31) (ha : a < 2 ^ n) : nI a &&& (nI b ^^^ (-1)) = nI (tr_num (fun i => a.testBit i && !b.testBit i) n) := by
  apply b_ext
  intro i hi
  rw [b_and, b_xor, b_m1 i hi, bt_nI _ hi, bt_nI _ hi, bt_nI _ hi, tr_num_bit]
  rcases Nat.lt_or_ge i n with q | q
  · simp [q]
  · rw [tr_big ha q]
    simp
theorem tr_num0 {f : Nat → Bool} {n : Nat} : tr_num f n = 0 ↔ ∀ i, i < n → f i = false := by
  constructor
  · intro h i hi
    have h1 := tr_num_bit f n i
    rw [h, decide_eq_true hi, Bool.true_and] at h1
    rw [← h1]
    simp
  · intro h
    have h1 : (0 : Nat) = tr_num f n := tr_num_eq (Nat.two_pow_pos n) (fun i hi => by rw [h i hi]; simp)
    exact h1.symm
theorem tr_i2b : ∀ v, v < 128 → (nI v).toInt8.toInt32 = nI v := by decide +kernel
theorem tr_nb {v : Nat} (h : v < 128) : vp_nar .byte (nI v) = nI v := by rw [vp_nar_byte, tr_i2b v h]
theorem tr_nz2 {v : Nat} (h : v < 2) : vp_nar .boolean (nI v) = nI v := by
  have h2 : v = 0 ∨ v = 1 := by omega
  rcases h2 with rfl | rfl
  · decide
  · decide
theorem tr_nzv {v : Nat} (h : v < 2) : narrow .boolean (.int (nI v)) = .int (nI v) := by
  have h2 : v = 0 ∨ v = 1 := by omega
  rcases h2 with rfl | rfl
  · decide
  · decide
theorem tr_nzf {v : Nat} (h : v < 2) : fits .boolean (.int (nI v)) = true := by
  have h2 : v = 0 ∨ v = 1 := by omega
  rcases h2 with rfl | rfl
  · decide
  · decide
/-- an argument in the range 0..4 -/
def tr_rg (x : Int32) : Bool := decide (¬ x < 0 ∧ ¬ nI 5 ≤ x)
theorem tr_rg_f1 {x : Int32} (h : x < 0) : tr_rg x = false := decide_eq_false (fun z => z.1 h)
theorem tr_rg_f2 {x : Int32} (h : nI 5 ≤ x) : tr_rg x = false := decide_eq_false (fun z => z.2 h)
theorem tr_rg_t {x : Int32} (h1 : ¬ x < 0) (h2 : ¬ nI 5 ≤ x) : tr_rg x = true := decide_eq_true ⟨h1, h2⟩
theorem tr_45 {x : Int32} : nI 4 < x ↔ nI 5 ≤ x := by
  rw [Int32.lt_iff_toInt_lt, Int32.le_iff_toInt_le, nI_toInt (by omega), nI_toInt (by omega)]
  omega
theorem tr_rg_n {x : Int32} (h : tr_rg x = true) : ∃ n, n < 5 ∧ x = nI n := by
  have h1 := of_decide_eq_true h
  rcases pk_ix x (n := 5) (by omega) with q | q | q
  · exact absurd q h1.1
  · exact absurd q h1.2
  · exact q
theorem tr_rg_nI {n : Nat} (h : n < 5) : tr_rg (nI n) = true := tr_rg_t (nI_pos (by omega)) (nI_ge h (by omega))
abbrev tr_c (x : Int32) : Nat := x.toNatClampNeg
theorem tr_c_nI {n : Nat} (h : n < 5) : tr_c (nI n) = n := nI_clamp (by omega)
/-- a rule's number in the range 0..7 -/
def tr_r8 (x : Int32) : Bool := decide (¬ x < 0 ∧ ¬ nI 8 ≤ x)
theorem tr_r8_f1 {x : Int32} (h : x < 0) : tr_r8 x = false := decide_eq_false (fun z => z.1 h)
theorem tr_r8_f2 {x : Int32} (h : nI 8 ≤ x) : tr_r8 x = false := decide_eq_false (fun z => z.2 h)
theorem tr_r8_t {x : Int32} (h1 : ¬ x < 0) (h2 : ¬ nI 8 ≤ x) : tr_r8 x = true := decide_eq_true ⟨h1, h2⟩
theorem tr_78 {x : Int32} : nI 7 < x ↔ nI 8 ≤ x := by
  rw [Int32.lt_iff_toInt_lt, Int32.le_iff_toInt_le, nI_toInt (by omega), nI_toInt (by omega)]
  omega
theorem tr_r8_n {x : Int32} (h : tr_r8 x = true) : ∃ n, n < 8 ∧ x = nI n := by
  have h1 := of_decide_eq_true h
  rcases pk_ix x (n := 8) (by omega) with q | q | q
  · exact absurd q h1.1
  · exact absurd q h1.2
  · exact q
theorem tr_r8_nI {n : Nat} (h : n < 8) : tr_r8 (nI n) = true := tr_r8_t (nI_pos (by omega)) (nI_ge h (by omega))
theorem tr_c8 {n : Nat} (h : n < 8) : tr_c (nI n) = n := nI_clamp (by omega)
/-- a given relation's number, 0 or 1 -/
def tr_r2 (x : Int32) : Bool := decide (¬ x < 0 ∧ ¬ nI 1 < x)
theorem tr_r2_f1 {x : Int32} (h : x < 0) : tr_r2 x = false := decide_eq_false (fun z => z.1 h)
theorem tr_r2_f2 {x : Int32} (h : nI 1 < x) : tr_r2 x = false := decide_eq_false (fun z => z.2 h)
theorem tr_r2_t {x : Int32} (h1 : ¬ x < 0) (h2 : ¬ nI 1 < x) : tr_r2 x = true := decide_eq_true ⟨h1, h2⟩
theorem tr_r2_n {x : Int32} (h : tr_r2 x = true) : ∃ n, n < 2 ∧ x = nI n := by
  have h1 := of_decide_eq_true h
  rcases pk_ix x (n := 2) (by omega) with q | q | q
  · exact absurd q h1.1
  · refine absurd ?_ h1.2
    rw [Int32.lt_iff_toInt_lt, nI_toInt (by omega)]
    rw [Int32.le_iff_toInt_le, nI_toInt (by omega)] at q
    omega
  · exact q
theorem tr_r2_nI {n : Nat} (h : n < 2) : tr_r2 (nI n) = true := tr_r2_t (nI_pos (by omega)) (nI_nlt (by omega) (by omega))
theorem tr_r2_ne {x : Int32} (h0 : ¬ x = 0) (h1 : ¬ x = nI 1) : tr_r2 x = false := by
  cases e : tr_r2 x
  · rfl
  · obtain ⟨n, hn, rfl⟩ := tr_r2_n e
    have h2 : n = 0 ∨ n = 1 := by omega
    rcases h2 with rfl | rfl
    · exact absurd nI_0 h0
    · exact absurd rfl h1
theorem tr_c2 {n : Nat} (h : n < 2) : tr_c (nI n) = n := nI_clamp (by omega)
end
section
/-! CONTRACTS over a world of cells: tr_Mi (an int answer), tr_Mv (none); their start, their calls -/
abbrev tr_Cl : List vw_C := [(RX0, TX0, 10), (RX1, TX1, 6)]
abbrev tr_T : Type := List (ClassId × FieldType)
def tr_Mi (l : Launch) (D : va_G) (tys : tr_T) (y : MethodName) (ws : List Cond) (rm : Room) (av : List Value) (w : va_W) {S : Type} (post : Int32 → S → Prop) (F : S → va_W) : Prop :=
  ∀ sz : Nat, Met l y ws rm (va_Pc av (fun U => U.heap.size = sz ∧ va_P D tr_Cl w U.heap ∧ va_K D tr_Cl tys U ∧ va_D (fun _ => True) w)) (va_Qi post (fun u t => va_P D tr_Cl (F u) t.heap ∧ va_K D tr_Cl tys t ∧ va_D (va_A w sz) (F u)) (va_A w sz)) 0 0 (va_A w sz)
def tr_Mv (l : Launch) (D : va_G) (tys : tr_T) (y : MethodName) (ws : List Cond) (rm : Room) (av : List Value) (w : va_W) {S : Type} (post : S → Prop) (F : S → va_W) : Prop :=
  ∀ sz : Nat, Met l y ws rm (va_Pc av (fun U => U.heap.size = sz ∧ va_P D tr_Cl w U.heap ∧ va_K D tr_Cl tys U ∧ va_D (fun _ => True) w)) (va_Qv post (fun u t => va_P D tr_Cl (F u) t.heap ∧ va_K D tr_Cl tys t ∧ va_D (va_A w sz) (F u)) (va_A w sz)) 0 0 (va_A w sz)
/-- what holds all through a method's body -/
def tr_Cx (p : Program) (s : State) (m : MethodId) (args : Array Value) (meth : Method) (c : Code) (cc : ByteArray) (nL : Nat) (own : String) (D : va_G) (tys : tr_T) (A : Nat → Prop) : Prop :=
  p.tables.exec = Jvm.exec ∧ c.code = cc ∧ meth.locks = false ∧ c.maxLocals = nL ∧ s.vm.findClass own = some m.cls ∧ (∀ w ∈ lw_all, w.before args s = true) ∧ (∀ q : Nat, s.heap.size ≤ q → A q) ∧ va_K D tr_Cl tys s
theorem tr_Mi.of {l : Launch} {D : va_G} {tys : tr_T} {y : MethodName} {cc : ByteArray} {nL : Nat} {ty : FieldType} {rm : Room} {av : List Value} {w : va_W} {S : Type} {post : Int32 → S → Prop} {F : S → va_W}
    (hy : plainName y.cls = true) (hav : (lg_sl av).length ≤ nL)
    (body : ∀ (p : Program) (e : Env) (s : State) (m : MethodId) (args : Array Value) (below : List Frame) (meth : Method) (c : Code) (A : Nat → Prop) (Q : State → Prop) (ls : Array Slot),
      tr_Cx p s m args meth c cc nL y.cls D tys A →
      (∀ (pc : Nat) (ls : Array Slot) (v : Int32) (u : S) (H : Heap) (locs : List Loc), decode cc pc = .ok (.ireturn, 1) → narrow ty (.int v) = .int v → post v u → va_P D tr_Cl (F u) H → va_D A (F u) → va_S A s.heap H locs → W p l e rm s m args below meth c H locs 0 0 Q (F0 m pc ls [.int v])) →
      va_P D tr_Cl w s.heap → va_D A w → va_S A s.heap s.heap [] → lv_has ls nL (lv_args 0 av) →
      W p l e rm s m args below meth c s.heap [] 0 0 Q (F0 m 0 ls [])) :
    tr_Mi l D tys y (ws_ y cc nL (some ty)) rm av w post F := by
  intro sz
  refine Met.ofW (cc := cc) (maxL := nL) (ret := some ty) hy rfl ?_
  intro p e s m args below meth c s₁ B hml hv
  obtain ⟨rfl, hsz, hP, hK, hD0⟩ := hv
  have hts0 := atoms_spec (ws := ws_ y cc nL (some ty)) B.pre
  have hts : ∀ w ∈ lw_all, w.before _ s = true := fun w h => hts0 w (List.mem_cons_of_mem _ h)
  have hown : s.vm.findClass y.cls = some m.cls := findClass_of_methodNamed B.named
  subst hsz
  have hD := hD0.self (sz := s.heap.size)
  have hl := lv_entry av (n := nL) hav
  have hbx := B.exec
  have hbb := B.bytes
  have hbr := B.returns
  have hbl := B.notSynchronized
  rw [lg_entry_eq]
  exact body p e s m _ below meth c (va_A w s.heap.size) _ _ ⟨hbx, hbb, hbl, hml, hown, hts, fun q h => Or.inr h, hK⟩
    (fun pc ls v u H locs hd hn hp hP hD hS => W.zret hbx hbb hbr hn (fun t ht hW => ⟨⟨v, u, rfl, hp, by rw [ht]; exact hP, va_K.moved hW.alike hK, hD⟩, hS.F ht⟩) hS.2.2 hd hbl) hP hD va_S.rf hl
theorem tr_Mv.of {l : Launch} {D : va_G} {tys : tr_T} {y : MethodName} {cc : ByteArray} {nL : Nat} {rm : Room} {av : List Value} {w : va_W} {S : Type} {post : S → Prop} {F : S → va_W}
    (hy : plainName y.cls = true) (hav : (lg_sl av).length ≤ nL)
    (body : ∀ (p : Program) (e : Env) (s : State) (m : MethodId) (args : Array Value) (below : List Frame) (meth : Method) (c : Code) (A : Nat → Prop) (Q : State → Prop) (ls : Array Slot),
      tr_Cx p s m args meth c cc nL y.cls D tys A →
      (∀ (pc : Nat) (ls : Array Slot) (u : S) (H : Heap) (locs : List Loc), decode cc pc = .ok (.return_, 1) → post u → va_P D tr_Cl (F u) H → va_D A (F u) → va_S A s.heap H locs → W p l e rm s m args below meth c H locs 0 0 Q (F0 m pc ls [])) →
      va_P D tr_Cl w s.heap → va_D A w → va_S A s.heap s.heap [] → lv_has ls nL (lv_args 0 av) →
      W p l e rm s m args below meth c s.heap [] 0 0 Q (F0 m 0 ls [])) :
    tr_Mv l D tys y (ws_ y cc nL none) rm av w post F := by
  intro sz
  refine Met.ofW (cc := cc) (maxL := nL) (ret := none) hy rfl ?_
  intro p e s m args below meth c s₁ B hml hv
  obtain ⟨rfl, hsz, hP, hK, hD0⟩ := hv
  have hts0 := atoms_spec (ws := ws_ y cc nL none) B.pre
  have hts : ∀ w ∈ lw_all, w.before _ s = true := fun w h => hts0 w (List.mem_cons_of_mem _ h)
  have hown : s.vm.findClass y.cls = some m.cls := findClass_of_methodNamed B.named
  subst hsz
  have hD := hD0.self (sz := s.heap.size)
  have hl := lv_entry av (n := nL) hav
  have hbx := B.exec
  have hbb := B.bytes
  have hbr := B.returns
  have hbl := B.notSynchronized
  rw [lg_entry_eq]
  exact body p e s m _ below meth c (va_A w s.heap.size) _ _ ⟨hbx, hbb, hbl, hml, hown, hts, fun q h => Or.inr h, hK⟩
    (fun pc ls u H locs hd hp hP hD hS => W.vret hbx hbb hbr (fun t ht hW => ⟨⟨u, rfl, hp, by rw [ht]; exact hP, va_K.moved hW.alike hK, hD⟩, hS.F ht⟩) hS.2.2 hd hbl) hP hD va_S.rf hl
/-- two worlds apart -/
def tr_ap (w1 w2 : va_W) : Prop := ∀ (i j : Nat) (x y : Nat × va_E), w1[i]? = some x → w2[j]? = some y → x.1 ≠ y.1
theorem tr_free {A : Nat → Prop} {w : va_W} {H0 H : Heap} {locs : List Loc} (hD : va_D A w) (hS : va_S A H0 H locs) (hA : ∀ q : Nat, H0.size ≤ q → A q) : ∀ q, va_A w H.size q → A q := by
  intro q h
  rcases h with ⟨k, e, h⟩ | h
  · exact hD.2 k (q, e) h
  · exact hA q (Nat.le_trans hS.1 h)
/-- behind a call: another world wr that is apart from the callee's w -/
theorem tr_rest {D : va_G} {w wr w1 : va_W} {H H1 : Heap} (hr : va_P D tr_Cl wr H) (hap : tr_ap w wr) (hk : ∀ q : Nat, q < H.size → ¬ va_A w H.size q → H1[q]? = H[q]?) (hD1 : va_D (va_A w H.size) w1) : va_P D tr_Cl wr H1 ∧ tr_ap w1 wr := by
  have hno : ∀ (k : Nat) (q : Nat × va_E), wr[k]? = some q → q.1 < H.size ∧ ¬ va_A w H.size q.1 := by
    intro k q hq
    have hl := (hr k q hq).lt
    refine ⟨hl, fun h => ?_⟩
    rcases h with ⟨i, e, h⟩ | h
    · exact hap i k (q.1, e) q h hq rfl
    · omega
  refine ⟨fun k q hq => (hr k q hq).kept (hk q.1 (hno k q hq).1 (hno k q hq).2), fun i j x y hx hy e => ?_⟩
  have h1 := hD1.2 i x hx
  rw [e] at h1
  exact (hno j y hy).2 h1
section TRC
variable {p : Program} {l : Launch} {e : Env} {R : Room} {s : State} {m : MethodId} {args : Array Value} {below : List Frame} {meth : Method} {c : Code} {H : Heap} {locs : List Loc} {cells slots : Nat} {Q : State → Prop}
variable {cc : ByteArray} {pc nL : Nat} {ls : Array Slot} {rest st : List Value} {D : va_G} {A : Nat → Prop} {tys tysC : tr_T} {own C : String} {T : u_T} {N ci n idx nC h : Nat} {y : MethodName} {bytes : ByteArray} {ret : Option FieldType} {rmC : Room} {As : List Value} {w : va_W} {fs : List Value}
theorem tr_top {a v : Int32} (h : a = v) (k : W p l e R s m args below meth c H locs cells slots Q (F0 m pc ls (.int v :: rest))) : W p l e R s m args below meth c H locs cells slots Q (F0 m pc ls (.int a :: rest)) := by
  subst h
  exact k
theorem tr_ci {S : Type} {post : Int32 → S → Prop} {F : S → va_W} (hC : tr_Cx p s m args meth c cc nL own D tys A) (hKc : va_K D tr_Cl tysC s) (hM : tr_Mi l D tysC y (ws_ y bytes nC ret) rmC (.ref h :: As) w post F)
    (hG : GoodIn lw_all (wsV own idx C y (ws_ y bytes nC ret))) (hd : y.cls = C ∧ y.cls ≠ "java/lang/invoke/MethodHandle" ∧ y.cls ≠ "java/lang/invoke/VarHandle" ∧ (parseMethodDescriptor y.desc).map (fun d => d.parameters.length) = some n) (hn : As.length = n)
    (hR : rmC.cells = 0 ∧ rmC.slots = 0 ∧ rmC.frames + 1 ≤ R.frames ∧ 8 + (nC + 11) + rmC.locals ≤ R.locals) (hc : tr_Cl[ci]? = some (C, T, N)) (he : w[0]? = some (h, .inr (ci, fs)))
    (hP : va_P D tr_Cl w H) (hD : va_D A w) (hS : va_S A s.heap H locs) (hl : ls.size = nL) (hst : st = As.reverse ++ .ref h :: rest) (hroom : (rest.map fun v => v.category).sum ≤ 8) (hdg : decode cc pc = .ok (.invokevirtual idx, 3)) (hf : cells ≤ R.cells ∧ slots ≤ R.slots)
    (kk : ∀ (r : Int32) (u : S) (H1 : Heap) (locs1 : List Loc), post r u → va_P D tr_Cl (F u) H1 → va_D A (F u) → va_S A s.heap H1 locs1 → (∀ q : Nat, q < H.size → ¬ va_A w H.size q → H1[q]? = H[q]?) → va_D (va_A w H.size) (F u) → W p l e R s m args below meth c H1 locs1 cells slots Q (F0 m (pc + 3) ls (.int r :: rest))) :
    W p l e R s m args below meth c H locs cells slots Q (F0 m pc ls st) := by
  obtain ⟨hx, hb, hlk, hml, hown, hts, hA, hK⟩ := hC
  have hFc := tr_free hD hS hA
  refine va_calli (va_runV (As := As) (rest := rest) ⟨hx, hb, hml, hown, hts⟩ (hM H.size) (cwV n hts hG rfl hR.1 hR.2.1 hd ⟨hR.2.2.1, hR.2.2.2⟩) ⟨fun a U g mk q => by obtain ⟨q0, q1, qP, qK, qD⟩ := q; exact ⟨q0, q1, qP, va_K.moved (u := U) (U := U.calling g mk a) (Vm.Alike.refl U.vm) qK, qD⟩, va_recv hKc hP hc he, fun U hU hW => ⟨rfl, by rw [hU], by rw [hU]; exact hP, va_K.moved hW.alike hKc, hD.weaken (fun _ _ _ _ => trivial)⟩⟩ rfl hn hl hst (lv_room hroom) hdg hf) hS (fun q _ h => hFc q h) hFc (fun r u t H1 locs1 ht hvm hp hB hz hk hS1 => ?_)
  obtain ⟨hP1, hK1, hD1⟩ := hB
  rw [ht] at hP1
  exact kk r u H1 locs1 hp hP1 (hD1.weaken (fun _ _ _ h => hFc _ h)) hS1 hk hD1
theorem tr_cv {S : Type} {post : S → Prop} {F : S → va_W} (hC : tr_Cx p s m args meth c cc nL own D tys A) (hKc : va_K D tr_Cl tysC s) (hM : tr_Mv l D tysC y (ws_ y bytes nC ret) rmC (.ref h :: As) w post F)
    (hG : GoodIn lw_all (wsV own idx C y (ws_ y bytes nC ret))) (hd : y.cls = C ∧ y.cls ≠ "java/lang/invoke/MethodHandle" ∧ y.cls ≠ "java/lang/invoke/VarHandle" ∧ (parseMethodDescriptor y.desc).map (fun d => d.parameters.length) = some n) (hn : As.length = n)
    (hR : rmC.cells = 0 ∧ rmC.slots = 0 ∧ rmC.frames + 1 ≤ R.frames ∧ 8 + (nC + 11) + rmC.locals ≤ R.locals) (hc : tr_Cl[ci]? = some (C, T, N)) (he : w[0]? = some (h, .inr (ci, fs)))
    (hP : va_P D tr_Cl w H) (hD : va_D A w) (hS : va_S A s.heap H locs) (hl : ls.size = nL) (hst : st = As.reverse ++ .ref h :: rest) (hroom : (rest.map fun v => v.category).sum ≤ 8) (hdg : decode cc pc = .ok (.invokevirtual idx, 3)) (hf : cells ≤ R.cells ∧ slots ≤ R.slots)
    (kk : ∀ (u : S) (H1 : Heap) (locs1 : List Loc), post u → va_P D tr_Cl (F u) H1 → va_D A (F u) → va_S A s.heap H1 locs1 → (∀ q : Nat, q < H.size → ¬ va_A w H.size q → H1[q]? = H[q]?) → va_D (va_A w H.size) (F u) → W p l e R s m args below meth c H1 locs1 cells slots Q (F0 m (pc + 3) ls rest)) :
    W p l e R s m args below meth c H locs cells slots Q (F0 m pc ls st) := by
  obtain ⟨hx, hb, hlk, hml, hown, hts, hA, hK⟩ := hC
  have hFc := tr_free hD hS hA
  refine va_callv (va_runV (As := As) (rest := rest) ⟨hx, hb, hml, hown, hts⟩ (hM H.size) (cwV n hts hG rfl hR.1 hR.2.1 hd ⟨hR.2.2.1, hR.2.2.2⟩) ⟨fun a U g mk q => by obtain ⟨q0, q1, qP, qK, qD⟩ := q; exact ⟨q0, q1, qP, va_K.moved (u := U) (U := U.calling g mk a) (Vm.Alike.refl U.vm) qK, qD⟩, va_recv hKc hP hc he, fun U hU hW => ⟨rfl, by rw [hU], by rw [hU]; exact hP, va_K.moved hW.alike hKc, hD.weaken (fun _ _ _ _ => trivial)⟩⟩ rfl hn hl hst (lv_room hroom) hdg hf) hS (fun q _ h => hFc q h) hFc (fun u t H1 locs1 ht hvm hp hB hz hk hS1 => ?_)
  obtain ⟨hP1, hK1, hD1⟩ := hB
  rw [ht] at hP1
  exact kk u H1 locs1 hp hP1 (hD1.weaken (fun _ _ _ h => hFc _ h)) hS1 hk hD1
/-- a static method that needs no cell: the caller's world w stays -/
theorem tr_cs {post : Int32 → Unit → Prop} (hC : tr_Cx p s m args meth c cc nL own D tys A) (hM : tr_Mi l D [] y (ws_ y bytes nC ret) rmC As [] post (fun _ => []))
    (hG : GoodIn lw_all (va_wsS own idx y (ws_ y bytes nC ret))) (hd : y.cls ≠ "java/lang/invoke/MethodHandle" ∧ y.cls ≠ "java/lang/invoke/VarHandle" ∧ (parseMethodDescriptor y.desc).map (fun d => d.parameters.length) = some n) (hn : As.length = n)
    (hR : rmC.cells = 0 ∧ rmC.slots = 0 ∧ rmC.frames + 1 ≤ R.frames ∧ 8 + (nC + 11) + rmC.locals ≤ R.locals)
    (hP : va_P D tr_Cl w H) (hS : va_S A s.heap H locs) (hl : ls.size = nL) (hst : st = As.reverse ++ rest) (hroom : (rest.map fun v => v.category).sum ≤ 8) (hdg : decode cc pc = .ok (.invokestatic idx, 3)) (hf : cells ≤ R.cells ∧ slots ≤ R.slots)
    (kk : ∀ (r : Int32) (H1 : Heap) (locs1 : List Loc), post r () → va_P D tr_Cl w H1 → va_S A s.heap H1 locs1 → W p l e R s m args below meth c H1 locs1 cells slots Q (F0 m (pc + 3) ls (.int r :: rest))) :
    W p l e R s m args below meth c H locs cells slots Q (F0 m pc ls st) := by
  obtain ⟨hx, hb, hlk, hml, hown, hts, hA, hK⟩ := hC
  have hP0 : va_P D tr_Cl [] H := fun k q hq => by simp at hq
  have hD0 : va_D A [] := ⟨fun i j x y hx => by simp at hx, fun k q hq => by simp at hq⟩
  have hFc := tr_free hD0 hS hA
  refine va_calli (va_runS (As := As) (rest := rest) ⟨hx, hb, hml, hown, hts⟩ (hM H.size) (va_cwS n hts hG rfl hR.1 hR.2.1 hd ⟨hR.2.2.1, hR.2.2.2⟩) ⟨fun a U g mk q => by obtain ⟨q0, q1, qP, qK, qD⟩ := q; exact ⟨q0, q1, qP, va_K.moved (u := U) (U := U.calling g mk a) (Vm.Alike.refl U.vm) qK, qD⟩, fun U hU hW => ⟨rfl, by rw [hU], by rw [hU]; exact hP0, va_K.moved hW.alike (hK.sub [] rfl), hD0.weaken (fun _ _ _ _ => trivial)⟩⟩ rfl hn hl hst (lv_room hroom) hdg hf) hS (fun q _ h => hFc q h) hFc (fun r u t H1 locs1 ht hvm hp hB hz hk hS1 => ?_)
  have hD1 : va_D (va_A [] H.size) [] := hB.2.2
  exact kk r H1 locs1 hp (tr_rest (w := []) (w1 := []) hP (fun i j x y hx => by simp at hx) hk hD1).1 hS1
/-! compares of numbers nI -/
variable {a b : Nat} {off : Int} {tgt : Nat}
theorem ni_ge (hx : p.tables.exec = Jvm.exec) (hb : c.code = cc) (ha : a < 2 ^ 31) (hb2 : b < 2 ^ 31) (hdg : decode cc pc = .ok (.if_icmp .ge off, 3)) (ht : (pc : Int) + off = (tgt : Int)) (kt : b ≤ a → W p l e R s m args below meth c H locs cells slots Q (F0 m tgt ls rest)) (kf : a < b → W p l e R s m args below meth c H locs cells slots Q (F0 m (pc + 3) ls rest)) : W p l e R s m args below meth c H locs cells slots Q (F0 m pc ls (.int (nI b) :: .int (nI a) :: rest)) :=
  lv_icmp_ge hx hb hdg ht (fun q => kt ((nI_leI hb2 ha).mp q)) (fun q => kf (Nat.lt_of_not_le (fun z => q ((nI_leI hb2 ha).mpr z))))
theorem ni_eq (hx : p.tables.exec = Jvm.exec) (hb : c.code = cc) (ha : a < 2 ^ 31) (hb2 : b < 2 ^ 31) (hdg : decode cc pc = .ok (.if_icmp .eq off, 3)) (ht : (pc : Int) + off = (tgt : Int)) (kt : a = b → W p l e R s m args below meth c H locs cells slots Q (F0 m tgt ls rest)) (kf : a ≠ b → W p l e R s m args below meth c H locs cells slots Q (F0 m (pc + 3) ls rest)) : W p l e R s m args below meth c H locs cells slots Q (F0 m pc ls (.int (nI b) :: .int (nI a) :: rest)) :=
  lv_icmp_eq hx hb hdg ht (fun q => kt ((nI_eq ha hb2).mp q)) (fun q => kf (fun z => q ((nI_eq ha hb2).mpr z)))
theorem ni_ne (hx : p.tables.exec = Jvm.exec) (hb : c.code = cc) (ha : a < 2 ^ 31) (hb2 : b < 2 ^ 31) (hdg : decode cc pc = .ok (.if_icmp .ne off, 3)) (ht : (pc : Int) + off = (tgt : Int)) (kt : a ≠ b → W p l e R s m args below meth c H locs cells slots Q (F0 m tgt ls rest)) (kf : a = b → W p l e R s m args below meth c H locs cells slots Q (F0 m (pc + 3) ls rest)) : W p l e R s m args below meth c H locs cells slots Q (F0 m pc ls (.int (nI b) :: .int (nI a) :: rest)) :=
  lv_icmp_ne hx hb hdg ht (fun q => kt (fun z => q ((nI_eq ha hb2).mpr z))) (fun q => kf ((nI_eq ha hb2).mp q))
theorem nz_eq (hx : p.tables.exec = Jvm.exec) (hb : c.code = cc) (ha : a < 2 ^ 31) (hdg : decode cc pc = .ok (.ifCond .eq off, 3)) (ht : (pc : Int) + off = (tgt : Int)) (kt : a = 0 → W p l e R s m args below meth c H locs cells slots Q (F0 m tgt ls rest)) (kf : a ≠ 0 → W p l e R s m args below meth c H locs cells slots Q (F0 m (pc + 3) ls rest)) : W p l e R s m args below meth c H locs cells slots Q (F0 m pc ls (.int (nI a) :: rest)) :=
  lv_if_eq hx hb hdg ht (fun q => kt ((nI_eq ha (by omega)).mp (q.trans nI_0.symm))) (fun q => kf (fun z => q (by rw [z]; exact nI_0)))
theorem nz_ne (hx : p.tables.exec = Jvm.exec) (hb : c.code = cc) (ha : a < 2 ^ 31) (hdg : decode cc pc = .ok (.ifCond .ne off, 3)) (ht : (pc : Int) + off = (tgt : Int)) (kt : a ≠ 0 → W p l e R s m args below meth c H locs cells slots Q (F0 m tgt ls rest)) (kf : a = 0 → W p l e R s m args below meth c H locs cells slots Q (F0 m (pc + 3) ls rest)) : W p l e R s m args below meth c H locs cells slots Q (F0 m pc ls (.int (nI a) :: rest)) :=
  lv_if_ne hx hb hdg ht (fun q => kt (fun z => q (by rw [z]; exact nI_0))) (fun q => kf ((nI_eq ha (by omega)).mp (q.trans nI_0.symm)))
theorem tr_tn0 {v : Bool} : nI v.toNat = 0 ↔ v = false := by
  cases v
  · exact ⟨fun _ => rfl, fun _ => nI_0⟩
  · exact ⟨fun h => absurd h (by decide), fun h => by cases h⟩
theorem nb_eq {v : Bool} (hx : p.tables.exec = Jvm.exec) (hb : c.code = cc) (hdg : decode cc pc = .ok (.ifCond .eq off, 3)) (ht : (pc : Int) + off = (tgt : Int)) (kt : v = false → W p l e R s m args below meth c H locs cells slots Q (F0 m tgt ls rest)) (kf : v = true → W p l e R s m args below meth c H locs cells slots Q (F0 m (pc + 3) ls rest)) : W p l e R s m args below meth c H locs cells slots Q (F0 m pc ls (.int (nI v.toNat) :: rest)) :=
  lv_if_eq hx hb hdg ht (fun q => kt (tr_tn0.mp q)) (fun q => kf (by cases v; exact absurd nI_0 q; rfl))
theorem nb_ne {v : Bool} (hx : p.tables.exec = Jvm.exec) (hb : c.code = cc) (hdg : decode cc pc = .ok (.ifCond .ne off, 3)) (ht : (pc : Int) + off = (tgt : Int)) (kt : v = true → W p l e R s m args below meth c H locs cells slots Q (F0 m tgt ls rest)) (kf : v = false → W p l e R s m args below meth c H locs cells slots Q (F0 m (pc + 3) ls rest)) : W p l e R s m args below meth c H locs cells slots Q (F0 m pc ls (.int (nI v.toNat) :: rest)) :=
  lv_if_ne hx hb hdg ht (fun q => kt (by cases v; exact absurd nI_0 q; rfl)) (fun q => kf (tr_tn0.mp q))
end TRC
theorem tr_upB {f : Nat → Nat} {i v : Nat} (hi : i < 2 ^ 31) (hv : v < 128) : upd (fun j => nI (f j)) (nI i).toNatClampNeg (vp_nar .byte (nI v)) = fun j => nI (va_up f i v j) := by
  funext j
  rw [nI_clamp hi, tr_nb hv]
  unfold upd va_up
  split <;> rfl
theorem tr_upI {f : Nat → Nat} {i v : Nat} (hi : i < 2 ^ 31) : upd (fun j => nI (f j)) (nI i).toNatClampNeg (nI v) = fun j => nI (va_up f i v j) := by
  funext j
  rw [nI_clamp hi]
  unfold upd va_up
  split <;> rfl
theorem tr_upZ {P i : Nat} {b : Bool} (hP : P < 256) (hi : i < 8) : upd (fun j => nI (P.testBit j).toNat) (nI i).toNatClampNeg (vp_nar .boolean (nI b.toNat)) = fun j => nI ((tr_setb 8 P i b).testBit j).toNat := by
  funext j
  rw [nI_clamp (by omega), tr_nz2 (Nat.lt_succ_of_le (Bool.toNat_le b)), tr_setb_bit (n := 8) hP hi]
  unfold upd
  split <;> rfl
/-! the two worlds -/
abbrev tr_XW (dB : ClassId) (q : Nat → Nat) (K : tr_C) (ak : Nat) (an : Nat → Nat) (fr : Nat) (ct : Nat → Nat) : va_W :=
  [(q 0, .inr (0, [.ref (q 1), .int (nI (kP K)), .ref (q 2), .ref (q 3), .ref (q 4), .ref (q 5), .int (nI ak), .ref (q 6), .int (nI fr), .ref (q 7)])), (q 1, .inl (dB, 10, .inl (fun i => nI (kG K i)))), (q 2, .inl (dB, 8, .inl (fun i => nI (kF K i)))), (q 3, .inl (dB, 8, .inl (fun i => nI (kH K i)))), (q 4, .inl (dB, 8, .inl (fun i => nI (kQ K i)))), (q 5, .inl (dB, 8, .inl (fun i => nI (kR K i)))), (q 6, .inl (dB, 25, .inl (fun i => nI (an i)))), (q 7, .inl (dB, 5, .inl (fun i => nI (ct i))))]
abbrev tr_YW (dZ dN : ClassId) (q : Nat → Nat) (K : tr_C) (pr : Nat → Nat) : va_W :=
  [(q 0, .inr (1, [.ref (q 1), .ref (q 2), .ref (q 3), .ref (q 4), .ref (q 5), .ref (q 6)])), (q 1, .inl (dZ, 8, .inl (fun i => nI ((kP K).testBit i).toNat))), (q 2, .inl (dN, 8, .inl (fun i => nI (kF K i)))), (q 3, .inl (dN, 8, .inl (fun i => nI (kH K i)))), (q 4, .inl (dN, 8, .inl (fun i => nI (kQ K i)))), (q 5, .inl (dN, 8, .inl (fun i => nI (kR K i)))), (q 6, .inl (dN, 5, .inl (fun i => nI (pr i))))]
abbrev tr_XT (dB : ClassId) : tr_T := [(dB, .byte)]
abbrev tr_YT (dZ dN : ClassId) : tr_T := [(dZ, .boolean), (dN, .int)]
end
section
/-! rows for the fields and arrays of the two worlds (printed by gen/rows.py) -/
section TRR
variable {p : Program} {l : Launch} {e : Env} {R : Room} {s : State} {m : MethodId} {args : Array Value} {below : List Frame} {meth : Method} {c : Code} {H : Heap} {locs : List Loc} {cells slots : Nat} {Q : State → Prop}
variable {cc : ByteArray} {pc nL : Nat} {ls : Array Slot} {rest : List Value} {D : va_G} {A : Nat → Prop} {dB dZ dN : ClassId} {q : Nat → Nat} {K : tr_C} {ak fr : Nat} {an ct pr : Nat → Nat} {i v : Nat}
theorem xg_7 (hC : tr_Cx p s m args meth c cc nL RX0 D (tr_XT dB) A) (hP : va_P D tr_Cl (tr_XW dB q K ak an fr ct) H) (hdg : decode cc pc = .ok (.getfield 7, 3)) (kk : W p l e R s m args below meth c H locs cells slots Q (F0 m (pc + 3) ls (.ref (q 1) :: rest))) : W p l e R s m args below meth c H locs cells slots Q (F0 m pc ls (.ref (q 0) :: rest)) := by
  obtain ⟨hx, hb, hlk, hml, hown, hts, hA, hK⟩ := hC
  exact va_get (D := D) (ci := 0) (v := .ref (q 1)) (C := RX0) (T := TX0) (N := 10) hx hb hts in_X0 hown hK hP 0 rfl rfl 0 (by decide) (hts _ q29) (fun _ h9 => h9) rfl hdg kk
theorem xg_31 (hC : tr_Cx p s m args meth c cc nL RX0 D (tr_XT dB) A) (hP : va_P D tr_Cl (tr_XW dB q K ak an fr ct) H) (hdg : decode cc pc = .ok (.getfield 31, 3)) (kk : W p l e R s m args below meth c H locs cells slots Q (F0 m (pc + 3) ls (.int (nI (kP K)) :: rest))) : W p l e R s m args below meth c H locs cells slots Q (F0 m pc ls (.ref (q 0) :: rest)) := by
  obtain ⟨hx, hb, hlk, hml, hown, hts, hA, hK⟩ := hC
  exact va_get (D := D) (ci := 0) (v := .int (nI (kP K))) (C := RX0) (T := TX0) (N := 10) hx hb hts in_X0 hown hK hP 0 rfl rfl 1 (by decide) (hts _ q30) (fun _ h9 => h9) rfl hdg kk
theorem xg_13 (hC : tr_Cx p s m args meth c cc nL RX0 D (tr_XT dB) A) (hP : va_P D tr_Cl (tr_XW dB q K ak an fr ct) H) (hdg : decode cc pc = .ok (.getfield 13, 3)) (kk : W p l e R s m args below meth c H locs cells slots Q (F0 m (pc + 3) ls (.ref (q 2) :: rest))) : W p l e R s m args below meth c H locs cells slots Q (F0 m pc ls (.ref (q 0) :: rest)) := by
  obtain ⟨hx, hb, hlk, hml, hown, hts, hA, hK⟩ := hC
  exact va_get (D := D) (ci := 0) (v := .ref (q 2)) (C := RX0) (T := TX0) (N := 10) hx hb hts in_X0 hown hK hP 0 rfl rfl 2 (by decide) (hts _ q31) (fun _ h9 => h9) rfl hdg kk
theorem xg_16 (hC : tr_Cx p s m args meth c cc nL RX0 D (tr_XT dB) A) (hP : va_P D tr_Cl (tr_XW dB q K ak an fr ct) H) (hdg : decode cc pc = .ok (.getfield 16, 3)) (kk : W p l e R s m args below meth c H locs cells slots Q (F0 m (pc + 3) ls (.ref (q 3) :: rest))) : W p l e R s m args below meth c H locs cells slots Q (F0 m pc ls (.ref (q 0) :: rest)) := by
  obtain ⟨hx, hb, hlk, hml, hown, hts, hA, hK⟩ := hC
  exact va_get (D := D) (ci := 0) (v := .ref (q 3)) (C := RX0) (T := TX0) (N := 10) hx hb hts in_X0 hown hK hP 0 rfl rfl 3 (by decide) (hts _ q32) (fun _ h9 => h9) rfl hdg kk
theorem xg_19 (hC : tr_Cx p s m args meth c cc nL RX0 D (tr_XT dB) A) (hP : va_P D tr_Cl (tr_XW dB q K ak an fr ct) H) (hdg : decode cc pc = .ok (.getfield 19, 3)) (kk : W p l e R s m args below meth c H locs cells slots Q (F0 m (pc + 3) ls (.ref (q 4) :: rest))) : W p l e R s m args below meth c H locs cells slots Q (F0 m pc ls (.ref (q 0) :: rest)) := by
  obtain ⟨hx, hb, hlk, hml, hown, hts, hA, hK⟩ := hC
  exact va_get (D := D) (ci := 0) (v := .ref (q 4)) (C := RX0) (T := TX0) (N := 10) hx hb hts in_X0 hown hK hP 0 rfl rfl 4 (by decide) (hts _ q33) (fun _ h9 => h9) rfl hdg kk
theorem xg_22 (hC : tr_Cx p s m args meth c cc nL RX0 D (tr_XT dB) A) (hP : va_P D tr_Cl (tr_XW dB q K ak an fr ct) H) (hdg : decode cc pc = .ok (.getfield 22, 3)) (kk : W p l e R s m args below meth c H locs cells slots Q (F0 m (pc + 3) ls (.ref (q 5) :: rest))) : W p l e R s m args below meth c H locs cells slots Q (F0 m pc ls (.ref (q 0) :: rest)) := by
  obtain ⟨hx, hb, hlk, hml, hown, hts, hA, hK⟩ := hC
  exact va_get (D := D) (ci := 0) (v := .ref (q 5)) (C := RX0) (T := TX0) (N := 10) hx hb hts in_X0 hown hK hP 0 rfl rfl 5 (by decide) (hts _ q34) (fun _ h9 => h9) rfl hdg kk
theorem xg_35 (hC : tr_Cx p s m args meth c cc nL RX0 D (tr_XT dB) A) (hP : va_P D tr_Cl (tr_XW dB q K ak an fr ct) H) (hdg : decode cc pc = .ok (.getfield 35, 3)) (kk : W p l e R s m args below meth c H locs cells slots Q (F0 m (pc + 3) ls (.int (nI ak) :: rest))) : W p l e R s m args below meth c H locs cells slots Q (F0 m pc ls (.ref (q 0) :: rest)) := by
  obtain ⟨hx, hb, hlk, hml, hown, hts, hA, hK⟩ := hC
  exact va_get (D := D) (ci := 0) (v := .int (nI ak)) (C := RX0) (T := TX0) (N := 10) hx hb hts in_X0 hown hK hP 0 rfl rfl 6 (by decide) (hts _ q35) (fun _ h9 => h9) rfl hdg kk
theorem xg_25 (hC : tr_Cx p s m args meth c cc nL RX0 D (tr_XT dB) A) (hP : va_P D tr_Cl (tr_XW dB q K ak an fr ct) H) (hdg : decode cc pc = .ok (.getfield 25, 3)) (kk : W p l e R s m args below meth c H locs cells slots Q (F0 m (pc + 3) ls (.ref (q 6) :: rest))) : W p l e R s m args below meth c H locs cells slots Q (F0 m pc ls (.ref (q 0) :: rest)) := by
  obtain ⟨hx, hb, hlk, hml, hown, hts, hA, hK⟩ := hC
  exact va_get (D := D) (ci := 0) (v := .ref (q 6)) (C := RX0) (T := TX0) (N := 10) hx hb hts in_X0 hown hK hP 0 rfl rfl 7 (by decide) (hts _ q36) (fun _ h9 => h9) rfl hdg kk
theorem xg_55 (hC : tr_Cx p s m args meth c cc nL RX0 D (tr_XT dB) A) (hP : va_P D tr_Cl (tr_XW dB q K ak an fr ct) H) (hdg : decode cc pc = .ok (.getfield 55, 3)) (kk : W p l e R s m args below meth c H locs cells slots Q (F0 m (pc + 3) ls (.int (nI fr) :: rest))) : W p l e R s m args below meth c H locs cells slots Q (F0 m pc ls (.ref (q 0) :: rest)) := by
  obtain ⟨hx, hb, hlk, hml, hown, hts, hA, hK⟩ := hC
  exact va_get (D := D) (ci := 0) (v := .int (nI fr)) (C := RX0) (T := TX0) (N := 10) hx hb hts in_X0 hown hK hP 0 rfl rfl 8 (by decide) (hts _ q37) (fun _ h9 => h9) rfl hdg kk
theorem xg_28 (hC : tr_Cx p s m args meth c cc nL RX0 D (tr_XT dB) A) (hP : va_P D tr_Cl (tr_XW dB q K ak an fr ct) H) (hdg : decode cc pc = .ok (.getfield 28, 3)) (kk : W p l e R s m args below meth c H locs cells slots Q (F0 m (pc + 3) ls (.ref (q 7) :: rest))) : W p l e R s m args below meth c H locs cells slots Q (F0 m pc ls (.ref (q 0) :: rest)) := by
  obtain ⟨hx, hb, hlk, hml, hown, hts, hA, hK⟩ := hC
  exact va_get (D := D) (ci := 0) (v := .ref (q 7)) (C := RX0) (T := TX0) (N := 10) hx hb hts in_X0 hown hK hP 0 rfl rfl 9 (by decide) (hts _ q38) (fun _ h9 => h9) rfl hdg kk
theorem yg_7 (hC : tr_Cx p s m args meth c cc nL RX1 D (tr_YT dZ dN) A) (hP : va_P D tr_Cl (tr_YW dZ dN q K pr) H) (hdg : decode cc pc = .ok (.getfield 7, 3)) (kk : W p l e R s m args below meth c H locs cells slots Q (F0 m (pc + 3) ls (.ref (q 1) :: rest))) : W p l e R s m args below meth c H locs cells slots Q (F0 m pc ls (.ref (q 0) :: rest)) := by
  obtain ⟨hx, hb, hlk, hml, hown, hts, hA, hK⟩ := hC
  exact va_get (D := D) (ci := 1) (v := .ref (q 1)) (C := RX1) (T := TX1) (N := 6) hx hb hts in_X1 hown hK hP 0 rfl rfl 0 (by decide) (hts _ q170) (fun _ h9 => h9) rfl hdg kk
theorem yg_13 (hC : tr_Cx p s m args meth c cc nL RX1 D (tr_YT dZ dN) A) (hP : va_P D tr_Cl (tr_YW dZ dN q K pr) H) (hdg : decode cc pc = .ok (.getfield 13, 3)) (kk : W p l e R s m args below meth c H locs cells slots Q (F0 m (pc + 3) ls (.ref (q 2) :: rest))) : W p l e R s m args below meth c H locs cells slots Q (F0 m pc ls (.ref (q 0) :: rest)) := by
  obtain ⟨hx, hb, hlk, hml, hown, hts, hA, hK⟩ := hC
  exact va_get (D := D) (ci := 1) (v := .ref (q 2)) (C := RX1) (T := TX1) (N := 6) hx hb hts in_X1 hown hK hP 0 rfl rfl 1 (by decide) (hts _ q171) (fun _ h9 => h9) rfl hdg kk
theorem yg_17 (hC : tr_Cx p s m args meth c cc nL RX1 D (tr_YT dZ dN) A) (hP : va_P D tr_Cl (tr_YW dZ dN q K pr) H) (hdg : decode cc pc = .ok (.getfield 17, 3)) (kk : W p l e R s m args below meth c H locs cells slots Q (F0 m (pc + 3) ls (.ref (q 3) :: rest))) : W p l e R s m args below meth c H locs cells slots Q (F0 m pc ls (.ref (q 0) :: rest)) := by
  obtain ⟨hx, hb, hlk, hml, hown, hts, hA, hK⟩ := hC
  exact va_get (D := D) (ci := 1) (v := .ref (q 3)) (C := RX1) (T := TX1) (N := 6) hx hb hts in_X1 hown hK hP 0 rfl rfl 2 (by decide) (hts _ q172) (fun _ h9 => h9) rfl hdg kk
theorem yg_20 (hC : tr_Cx p s m args meth c cc nL RX1 D (tr_YT dZ dN) A) (hP : va_P D tr_Cl (tr_YW dZ dN q K pr) H) (hdg : decode cc pc = .ok (.getfield 20, 3)) (kk : W p l e R s m args below meth c H locs cells slots Q (F0 m (pc + 3) ls (.ref (q 4) :: rest))) : W p l e R s m args below meth c H locs cells slots Q (F0 m pc ls (.ref (q 0) :: rest)) := by
  obtain ⟨hx, hb, hlk, hml, hown, hts, hA, hK⟩ := hC
  exact va_get (D := D) (ci := 1) (v := .ref (q 4)) (C := RX1) (T := TX1) (N := 6) hx hb hts in_X1 hown hK hP 0 rfl rfl 3 (by decide) (hts _ q173) (fun _ h9 => h9) rfl hdg kk
theorem yg_23 (hC : tr_Cx p s m args meth c cc nL RX1 D (tr_YT dZ dN) A) (hP : va_P D tr_Cl (tr_YW dZ dN q K pr) H) (hdg : decode cc pc = .ok (.getfield 23, 3)) (kk : W p l e R s m args below meth c H locs cells slots Q (F0 m (pc + 3) ls (.ref (q 5) :: rest))) : W p l e R s m args below meth c H locs cells slots Q (F0 m pc ls (.ref (q 0) :: rest)) := by
  obtain ⟨hx, hb, hlk, hml, hown, hts, hA, hK⟩ := hC
  exact va_get (D := D) (ci := 1) (v := .ref (q 5)) (C := RX1) (T := TX1) (N := 6) hx hb hts in_X1 hown hK hP 0 rfl rfl 4 (by decide) (hts _ q174) (fun _ h9 => h9) rfl hdg kk
theorem yg_26 (hC : tr_Cx p s m args meth c cc nL RX1 D (tr_YT dZ dN) A) (hP : va_P D tr_Cl (tr_YW dZ dN q K pr) H) (hdg : decode cc pc = .ok (.getfield 26, 3)) (kk : W p l e R s m args below meth c H locs cells slots Q (F0 m (pc + 3) ls (.ref (q 6) :: rest))) : W p l e R s m args below meth c H locs cells slots Q (F0 m pc ls (.ref (q 0) :: rest)) := by
  obtain ⟨hx, hb, hlk, hml, hown, hts, hA, hK⟩ := hC
  exact va_get (D := D) (ci := 1) (v := .ref (q 6)) (C := RX1) (T := TX1) (N := 6) hx hb hts in_X1 hown hK hP 0 rfl rfl 5 (by decide) (hts _ q175) (fun _ h9 => h9) rfl hdg kk
theorem xp_31 (hC : tr_Cx p s m args meth c cc nL RX0 D (tr_XT dB) A) (hP : va_P D tr_Cl (tr_XW dB q K ak an fr ct) H) (hD : va_D A (tr_XW dB q K ak an fr ct)) (hS : va_S A s.heap H locs) (hdg : decode cc pc = .ok (.putfield 31, 3)) (kk : ∀ (H1 : Heap) (locs1 : List Loc), va_P D tr_Cl (tr_XW dB q (K.1, v, K.2.2) ak an fr ct) H1 → va_D A (tr_XW dB q (K.1, v, K.2.2) ak an fr ct) → va_S A s.heap H1 locs1 → W p l e R s m args below meth c H1 locs1 cells slots Q (F0 m (pc + 3) ls rest)) : W p l e R s m args below meth c H locs cells slots Q (F0 m pc ls (.int (nI v) :: .ref (q 0) :: rest)) := by
  obtain ⟨hx, hb, hlk, hml, hown, hts, hA, hK⟩ := hC
  exact va_put (D := D) (ci := 0) (v := .int (nI v)) (ty := .int) (C := RX0) (T := TX0) (N := 10) hx hb hts in_X0 tyX0 tyX0_ok nmX0 hown hK hP hD hS 0 rfl rfl 1 (by decide) (hts _ q30) (fun _ h9 => h9) rfl (by decide +kernel) rfl rfl (Nat.le_of_ble_eq_true rfl) hdg (fun H1 locs1 h1 h2 h3 => kk H1 locs1 h1 h2 h3)
theorem xp_35 (hC : tr_Cx p s m args meth c cc nL RX0 D (tr_XT dB) A) (hP : va_P D tr_Cl (tr_XW dB q K ak an fr ct) H) (hD : va_D A (tr_XW dB q K ak an fr ct)) (hS : va_S A s.heap H locs) (hdg : decode cc pc = .ok (.putfield 35, 3)) (kk : ∀ (H1 : Heap) (locs1 : List Loc), va_P D tr_Cl (tr_XW dB q K v an fr ct) H1 → va_D A (tr_XW dB q K v an fr ct) → va_S A s.heap H1 locs1 → W p l e R s m args below meth c H1 locs1 cells slots Q (F0 m (pc + 3) ls rest)) : W p l e R s m args below meth c H locs cells slots Q (F0 m pc ls (.int (nI v) :: .ref (q 0) :: rest)) := by
  obtain ⟨hx, hb, hlk, hml, hown, hts, hA, hK⟩ := hC
  exact va_put (D := D) (ci := 0) (v := .int (nI v)) (ty := .int) (C := RX0) (T := TX0) (N := 10) hx hb hts in_X0 tyX0 tyX0_ok nmX0 hown hK hP hD hS 0 rfl rfl 6 (by decide) (hts _ q35) (fun _ h9 => h9) rfl (by decide +kernel) rfl rfl (Nat.le_of_ble_eq_true rfl) hdg (fun H1 locs1 h1 h2 h3 => kk H1 locs1 h1 h2 h3)
theorem xp_55 (hC : tr_Cx p s m args meth c cc nL RX0 D (tr_XT dB) A) (hP : va_P D tr_Cl (tr_XW dB q K ak an fr ct) H) (hD : va_D A (tr_XW dB q K ak an fr ct)) (hS : va_S A s.heap H locs) (hv : v < 2) (hdg : decode cc pc = .ok (.putfield 55, 3)) (kk : ∀ (H1 : Heap) (locs1 : List Loc), va_P D tr_Cl (tr_XW dB q K ak an v ct) H1 → va_D A (tr_XW dB q K ak an v ct) → va_S A s.heap H1 locs1 → W p l e R s m args below meth c H1 locs1 cells slots Q (F0 m (pc + 3) ls rest)) : W p l e R s m args below meth c H locs cells slots Q (F0 m pc ls (.int (nI v) :: .ref (q 0) :: rest)) := by
  obtain ⟨hx, hb, hlk, hml, hown, hts, hA, hK⟩ := hC
  exact va_put (D := D) (ci := 0) (v := .int (nI v)) (ty := .boolean) (C := RX0) (T := TX0) (N := 10) hx hb hts in_X0 tyX0 tyX0_ok nmX0 hown hK hP hD hS 0 rfl rfl 8 (by decide) (hts _ q37) (fun _ h9 => h9) rfl (by decide +kernel) (tr_nzv hv) (tr_nzf hv) (Nat.le_of_ble_eq_true rfl) hdg (fun H1 locs1 h1 h2 h3 => kk H1 locs1 h1 h2 h3)
theorem xl_1 (hC : tr_Cx p s m args meth c cc nL RX0 D (tr_XT dB) A) (hP : va_P D tr_Cl (tr_XW dB q K ak an fr ct) H) (hi : i < 10) (hdg : decode cc pc = .ok (.baload, 1)) (kk : W p l e R s m args below meth c H locs cells slots Q (F0 m (pc + 1) ls (.int (nI (kG K i)) :: rest))) : W p l e R s m args below meth c H locs cells slots Q (F0 m pc ls (.int (nI i) :: .ref (q 1) :: rest)) := by
  obtain ⟨hx, hb, hlk, hml, hown, hts, hA, hK⟩ := hC
  refine va_bald hx hb hK hP 1 0 rfl rfl (vp_in_nI hi (by decide)) hdg ?_
  rw [nI_clamp (Nat.lt_trans hi (by decide))]
  exact kk
theorem xs_1 (hC : tr_Cx p s m args meth c cc nL RX0 D (tr_XT dB) A) (hP : va_P D tr_Cl (tr_XW dB q K ak an fr ct) H) (hD : va_D A (tr_XW dB q K ak an fr ct)) (hS : va_S A s.heap H locs) (hi : i < 10) (hv : v < 128) (hdg : decode cc pc = .ok (.bastore, 1)) (kk : ∀ (H1 : Heap) (locs1 : List Loc), va_P D tr_Cl (tr_XW dB q (va_up (kG K) i v, K.2) ak an fr ct) H1 → va_D A (tr_XW dB q (va_up (kG K) i v, K.2) ak an fr ct) → va_S A s.heap H1 locs1 → W p l e R s m args below meth c H1 locs1 cells slots Q (F0 m (pc + 1) ls rest)) : W p l e R s m args below meth c H locs cells slots Q (F0 m pc ls (.int (nI v) :: .int (nI i) :: .ref (q 1) :: rest)) := by
  obtain ⟨hx, hb, hlk, hml, hown, hts, hA, hK⟩ := hC
  refine va_bast hx hb hK hP hD hS 1 0 rfl rfl (vp_in_nI hi (by decide)) hdg (fun H1 locs1 hP1 hD1 hS1 => ?_)
  rw [tr_upB (f := kG K) (Nat.lt_trans hi (by decide)) hv] at hP1 hD1
  exact kk H1 locs1 hP1 hD1 hS1
theorem xl_2 (hC : tr_Cx p s m args meth c cc nL RX0 D (tr_XT dB) A) (hP : va_P D tr_Cl (tr_XW dB q K ak an fr ct) H) (hi : i < 8) (hdg : decode cc pc = .ok (.baload, 1)) (kk : W p l e R s m args below meth c H locs cells slots Q (F0 m (pc + 1) ls (.int (nI (kF K i)) :: rest))) : W p l e R s m args below meth c H locs cells slots Q (F0 m pc ls (.int (nI i) :: .ref (q 2) :: rest)) := by
  obtain ⟨hx, hb, hlk, hml, hown, hts, hA, hK⟩ := hC
  refine va_bald hx hb hK hP 2 0 rfl rfl (vp_in_nI hi (by decide)) hdg ?_
  rw [nI_clamp (Nat.lt_trans hi (by decide))]
  exact kk
theorem xs_2 (hC : tr_Cx p s m args meth c cc nL RX0 D (tr_XT dB) A) (hP : va_P D tr_Cl (tr_XW dB q K ak an fr ct) H) (hD : va_D A (tr_XW dB q K ak an fr ct)) (hS : va_S A s.heap H locs) (hi : i < 8) (hv : v < 128) (hdg : decode cc pc = .ok (.bastore, 1)) (kk : ∀ (H1 : Heap) (locs1 : List Loc), va_P D tr_Cl (tr_XW dB q (K.1, K.2.1, va_up (kF K) i v, K.2.2.2) ak an fr ct) H1 → va_D A (tr_XW dB q (K.1, K.2.1, va_up (kF K) i v, K.2.2.2) ak an fr ct) → va_S A s.heap H1 locs1 → W p l e R s m args below meth c H1 locs1 cells slots Q (F0 m (pc + 1) ls rest)) : W p l e R s m args below meth c H locs cells slots Q (F0 m pc ls (.int (nI v) :: .int (nI i) :: .ref (q 2) :: rest)) := by
  obtain ⟨hx, hb, hlk, hml, hown, hts, hA, hK⟩ := hC
  refine va_bast hx hb hK hP hD hS 2 0 rfl rfl (vp_in_nI hi (by decide)) hdg (fun H1 locs1 hP1 hD1 hS1 => ?_)
  rw [tr_upB (f := kF K) (Nat.lt_trans hi (by decide)) hv] at hP1 hD1
  exact kk H1 locs1 hP1 hD1 hS1
theorem xl_3 (hC : tr_Cx p s m args meth c cc nL RX0 D (tr_XT dB) A) (hP : va_P D tr_Cl (tr_XW dB q K ak an fr ct) H) (hi : i < 8) (hdg : decode cc pc = .ok (.baload, 1)) (kk : W p l e R s m args below meth c H locs cells slots Q (F0 m (pc + 1) ls (.int (nI (kH K i)) :: rest))) : W p l e R s m args below meth c H locs cells slots Q (F0 m pc ls (.int (nI i) :: .ref (q 3) :: rest)) := by
  obtain ⟨hx, hb, hlk, hml, hown, hts, hA, hK⟩ := hC
  refine va_bald hx hb hK hP 3 0 rfl rfl (vp_in_nI hi (by decide)) hdg ?_
  rw [nI_clamp (Nat.lt_trans hi (by decide))]
  exact kk
theorem xs_3 (hC : tr_Cx p s m args meth c cc nL RX0 D (tr_XT dB) A) (hP : va_P D tr_Cl (tr_XW dB q K ak an fr ct) H) (hD : va_D A (tr_XW dB q K ak an fr ct)) (hS : va_S A s.heap H locs) (hi : i < 8) (hv : v < 128) (hdg : decode cc pc = .ok (.bastore, 1)) (kk : ∀ (H1 : Heap) (locs1 : List Loc), va_P D tr_Cl (tr_XW dB q (K.1, K.2.1, K.2.2.1, va_up (kH K) i v, K.2.2.2.2) ak an fr ct) H1 → va_D A (tr_XW dB q (K.1, K.2.1, K.2.2.1, va_up (kH K) i v, K.2.2.2.2) ak an fr ct) → va_S A s.heap H1 locs1 → W p l e R s m args below meth c H1 locs1 cells slots Q (F0 m (pc + 1) ls rest)) : W p l e R s m args below meth c H locs cells slots Q (F0 m pc ls (.int (nI v) :: .int (nI i) :: .ref (q 3) :: rest)) := by
  obtain ⟨hx, hb, hlk, hml, hown, hts, hA, hK⟩ := hC
  refine va_bast hx hb hK hP hD hS 3 0 rfl rfl (vp_in_nI hi (by decide)) hdg (fun H1 locs1 hP1 hD1 hS1 => ?_)
  rw [tr_upB (f := kH K) (Nat.lt_trans hi (by decide)) hv] at hP1 hD1
  exact kk H1 locs1 hP1 hD1 hS1
theorem xl_4 (hC : tr_Cx p s m args meth c cc nL RX0 D (tr_XT dB) A) (hP : va_P D tr_Cl (tr_XW dB q K ak an fr ct) H) (hi : i < 8) (hdg : decode cc pc = .ok (.baload, 1)) (kk : W p l e R s m args below meth c H locs cells slots Q (F0 m (pc + 1) ls (.int (nI (kQ K i)) :: rest))) : W p l e R s m args below meth c H locs cells slots Q (F0 m pc ls (.int (nI i) :: .ref (q 4) :: rest)) := by
  obtain ⟨hx, hb, hlk, hml, hown, hts, hA, hK⟩ := hC
  refine va_bald hx hb hK hP 4 0 rfl rfl (vp_in_nI hi (by decide)) hdg ?_
  rw [nI_clamp (Nat.lt_trans hi (by decide))]
  exact kk
theorem xs_4 (hC : tr_Cx p s m args meth c cc nL RX0 D (tr_XT dB) A) (hP : va_P D tr_Cl (tr_XW dB q K ak an fr ct) H) (hD : va_D A (tr_XW dB q K ak an fr ct)) (hS : va_S A s.heap H locs) (hi : i < 8) (hv : v < 128) (hdg : decode cc pc = .ok (.bastore, 1)) (kk : ∀ (H1 : Heap) (locs1 : List Loc), va_P D tr_Cl (tr_XW dB q (K.1, K.2.1, K.2.2.1, K.2.2.2.1, va_up (kQ K) i v, K.2.2.2.2.2) ak an fr ct) H1 → va_D A (tr_XW dB q (K.1, K.2.1, K.2.2.1, K.2.2.2.1, va_up (kQ K) i v, K.2.2.2.2.2) ak an fr ct) → va_S A s.heap H1 locs1 → W p l e R s m args below meth c H1 locs1 cells slots Q (F0 m (pc + 1) ls rest)) : W p l e R s m args below meth c H locs cells slots Q (F0 m pc ls (.int (nI v) :: .int (nI i) :: .ref (q 4) :: rest)) := by
  obtain ⟨hx, hb, hlk, hml, hown, hts, hA, hK⟩ := hC
  refine va_bast hx hb hK hP hD hS 4 0 rfl rfl (vp_in_nI hi (by decide)) hdg (fun H1 locs1 hP1 hD1 hS1 => ?_)
  rw [tr_upB (f := kQ K) (Nat.lt_trans hi (by decide)) hv] at hP1 hD1
  exact kk H1 locs1 hP1 hD1 hS1
theorem xl_5 (hC : tr_Cx p s m args meth c cc nL RX0 D (tr_XT dB) A) (hP : va_P D tr_Cl (tr_XW dB q K ak an fr ct) H) (hi : i < 8) (hdg : decode cc pc = .ok (.baload, 1)) (kk : W p l e R s m args below meth c H locs cells slots Q (F0 m (pc + 1) ls (.int (nI (kR K i)) :: rest))) : W p l e R s m args below meth c H locs cells slots Q (F0 m pc ls (.int (nI i) :: .ref (q 5) :: rest)) := by
  obtain ⟨hx, hb, hlk, hml, hown, hts, hA, hK⟩ := hC
  refine va_bald hx hb hK hP 5 0 rfl rfl (vp_in_nI hi (by decide)) hdg ?_
  rw [nI_clamp (Nat.lt_trans hi (by decide))]
  exact kk
theorem xs_5 (hC : tr_Cx p s m args meth c cc nL RX0 D (tr_XT dB) A) (hP : va_P D tr_Cl (tr_XW dB q K ak an fr ct) H) (hD : va_D A (tr_XW dB q K ak an fr ct)) (hS : va_S A s.heap H locs) (hi : i < 8) (hv : v < 128) (hdg : decode cc pc = .ok (.bastore, 1)) (kk : ∀ (H1 : Heap) (locs1 : List Loc), va_P D tr_Cl (tr_XW dB q (K.1, K.2.1, K.2.2.1, K.2.2.2.1, K.2.2.2.2.1, va_up (kR K) i v) ak an fr ct) H1 → va_D A (tr_XW dB q (K.1, K.2.1, K.2.2.1, K.2.2.2.1, K.2.2.2.2.1, va_up (kR K) i v) ak an fr ct) → va_S A s.heap H1 locs1 → W p l e R s m args below meth c H1 locs1 cells slots Q (F0 m (pc + 1) ls rest)) : W p l e R s m args below meth c H locs cells slots Q (F0 m pc ls (.int (nI v) :: .int (nI i) :: .ref (q 5) :: rest)) := by
  obtain ⟨hx, hb, hlk, hml, hown, hts, hA, hK⟩ := hC
  refine va_bast hx hb hK hP hD hS 5 0 rfl rfl (vp_in_nI hi (by decide)) hdg (fun H1 locs1 hP1 hD1 hS1 => ?_)
  rw [tr_upB (f := kR K) (Nat.lt_trans hi (by decide)) hv] at hP1 hD1
  exact kk H1 locs1 hP1 hD1 hS1
theorem xl_6 (hC : tr_Cx p s m args meth c cc nL RX0 D (tr_XT dB) A) (hP : va_P D tr_Cl (tr_XW dB q K ak an fr ct) H) (hi : i < 25) (hdg : decode cc pc = .ok (.baload, 1)) (kk : W p l e R s m args below meth c H locs cells slots Q (F0 m (pc + 1) ls (.int (nI (an i)) :: rest))) : W p l e R s m args below meth c H locs cells slots Q (F0 m pc ls (.int (nI i) :: .ref (q 6) :: rest)) := by
  obtain ⟨hx, hb, hlk, hml, hown, hts, hA, hK⟩ := hC
  refine va_bald hx hb hK hP 6 0 rfl rfl (vp_in_nI hi (by decide)) hdg ?_
  rw [nI_clamp (Nat.lt_trans hi (by decide))]
  exact kk
theorem xs_6 (hC : tr_Cx p s m args meth c cc nL RX0 D (tr_XT dB) A) (hP : va_P D tr_Cl (tr_XW dB q K ak an fr ct) H) (hD : va_D A (tr_XW dB q K ak an fr ct)) (hS : va_S A s.heap H locs) (hi : i < 25) (hv : v < 128) (hdg : decode cc pc = .ok (.bastore, 1)) (kk : ∀ (H1 : Heap) (locs1 : List Loc), va_P D tr_Cl (tr_XW dB q K ak (va_up an i v) fr ct) H1 → va_D A (tr_XW dB q K ak (va_up an i v) fr ct) → va_S A s.heap H1 locs1 → W p l e R s m args below meth c H1 locs1 cells slots Q (F0 m (pc + 1) ls rest)) : W p l e R s m args below meth c H locs cells slots Q (F0 m pc ls (.int (nI v) :: .int (nI i) :: .ref (q 6) :: rest)) := by
  obtain ⟨hx, hb, hlk, hml, hown, hts, hA, hK⟩ := hC
  refine va_bast hx hb hK hP hD hS 6 0 rfl rfl (vp_in_nI hi (by decide)) hdg (fun H1 locs1 hP1 hD1 hS1 => ?_)
  rw [tr_upB (f := an) (Nat.lt_trans hi (by decide)) hv] at hP1 hD1
  exact kk H1 locs1 hP1 hD1 hS1
theorem xl_7 (hC : tr_Cx p s m args meth c cc nL RX0 D (tr_XT dB) A) (hP : va_P D tr_Cl (tr_XW dB q K ak an fr ct) H) (hi : i < 5) (hdg : decode cc pc = .ok (.baload, 1)) (kk : W p l e R s m args below meth c H locs cells slots Q (F0 m (pc + 1) ls (.int (nI (ct i)) :: rest))) : W p l e R s m args below meth c H locs cells slots Q (F0 m pc ls (.int (nI i) :: .ref (q 7) :: rest)) := by
  obtain ⟨hx, hb, hlk, hml, hown, hts, hA, hK⟩ := hC
  refine va_bald hx hb hK hP 7 0 rfl rfl (vp_in_nI hi (by decide)) hdg ?_
  rw [nI_clamp (Nat.lt_trans hi (by decide))]
  exact kk
theorem xs_7 (hC : tr_Cx p s m args meth c cc nL RX0 D (tr_XT dB) A) (hP : va_P D tr_Cl (tr_XW dB q K ak an fr ct) H) (hD : va_D A (tr_XW dB q K ak an fr ct)) (hS : va_S A s.heap H locs) (hi : i < 5) (hv : v < 128) (hdg : decode cc pc = .ok (.bastore, 1)) (kk : ∀ (H1 : Heap) (locs1 : List Loc), va_P D tr_Cl (tr_XW dB q K ak an fr (va_up ct i v)) H1 → va_D A (tr_XW dB q K ak an fr (va_up ct i v)) → va_S A s.heap H1 locs1 → W p l e R s m args below meth c H1 locs1 cells slots Q (F0 m (pc + 1) ls rest)) : W p l e R s m args below meth c H locs cells slots Q (F0 m pc ls (.int (nI v) :: .int (nI i) :: .ref (q 7) :: rest)) := by
  obtain ⟨hx, hb, hlk, hml, hown, hts, hA, hK⟩ := hC
  refine va_bast hx hb hK hP hD hS 7 0 rfl rfl (vp_in_nI hi (by decide)) hdg (fun H1 locs1 hP1 hD1 hS1 => ?_)
  rw [tr_upB (f := ct) (Nat.lt_trans hi (by decide)) hv] at hP1 hD1
  exact kk H1 locs1 hP1 hD1 hS1
theorem yl_1 (hC : tr_Cx p s m args meth c cc nL RX1 D (tr_YT dZ dN) A) (hP : va_P D tr_Cl (tr_YW dZ dN q K pr) H) (hi : i < 8) (hdg : decode cc pc = .ok (.baload, 1)) (kk : W p l e R s m args below meth c H locs cells slots Q (F0 m (pc + 1) ls (.int (nI ((kP K).testBit i).toNat) :: rest))) : W p l e R s m args below meth c H locs cells slots Q (F0 m pc ls (.int (nI i) :: .ref (q 1) :: rest)) := by
  obtain ⟨hx, hb, hlk, hml, hown, hts, hA, hK⟩ := hC
  refine va_zald hx hb hK hP 1 0 rfl rfl (vp_in_nI hi (by decide)) hdg ?_
  rw [nI_clamp (Nat.lt_trans hi (by decide))]
  exact kk
theorem ys_1 (hC : tr_Cx p s m args meth c cc nL RX1 D (tr_YT dZ dN) A) (hP : va_P D tr_Cl (tr_YW dZ dN q K pr) H) (hD : va_D A (tr_YW dZ dN q K pr)) (hS : va_S A s.heap H locs) (hi : i < 8) {b : Bool} (hp : kP K < 256) (hdg : decode cc pc = .ok (.bastore, 1)) (kk : ∀ (H1 : Heap) (locs1 : List Loc), va_P D tr_Cl (tr_YW dZ dN q (K.1, tr_setb 8 (kP K) i b, K.2.2) pr) H1 → va_D A (tr_YW dZ dN q (K.1, tr_setb 8 (kP K) i b, K.2.2) pr) → va_S A s.heap H1 locs1 → W p l e R s m args below meth c H1 locs1 cells slots Q (F0 m (pc + 1) ls rest)) : W p l e R s m args below meth c H locs cells slots Q (F0 m pc ls (.int (nI b.toNat) :: .int (nI i) :: .ref (q 1) :: rest)) := by
  obtain ⟨hx, hb, hlk, hml, hown, hts, hA, hK⟩ := hC
  refine va_zast hx hb hK hP hD hS 1 0 rfl rfl (vp_in_nI hi (by decide)) hdg (fun H1 locs1 hP1 hD1 hS1 => ?_)
  rw [tr_upZ hp hi] at hP1 hD1
  exact kk H1 locs1 hP1 hD1 hS1
theorem yl_2 (hC : tr_Cx p s m args meth c cc nL RX1 D (tr_YT dZ dN) A) (hP : va_P D tr_Cl (tr_YW dZ dN q K pr) H) (hi : i < 8) (hdg : decode cc pc = .ok (.iaload, 1)) (kk : W p l e R s m args below meth c H locs cells slots Q (F0 m (pc + 1) ls (.int (nI (kF K i)) :: rest))) : W p l e R s m args below meth c H locs cells slots Q (F0 m pc ls (.int (nI i) :: .ref (q 2) :: rest)) := by
  obtain ⟨hx, hb, hlk, hml, hown, hts, hA, hK⟩ := hC
  refine va_iald hx hb hK hP 2 1 rfl rfl (vp_in_nI hi (by decide)) hdg ?_
  rw [nI_clamp (Nat.lt_trans hi (by decide))]
  exact kk
theorem ys_2 (hC : tr_Cx p s m args meth c cc nL RX1 D (tr_YT dZ dN) A) (hP : va_P D tr_Cl (tr_YW dZ dN q K pr) H) (hD : va_D A (tr_YW dZ dN q K pr)) (hS : va_S A s.heap H locs) (hi : i < 8) (hdg : decode cc pc = .ok (.iastore, 1)) (kk : ∀ (H1 : Heap) (locs1 : List Loc), va_P D tr_Cl (tr_YW dZ dN q (K.1, K.2.1, va_up (kF K) i v, K.2.2.2) pr) H1 → va_D A (tr_YW dZ dN q (K.1, K.2.1, va_up (kF K) i v, K.2.2.2) pr) → va_S A s.heap H1 locs1 → W p l e R s m args below meth c H1 locs1 cells slots Q (F0 m (pc + 1) ls rest)) : W p l e R s m args below meth c H locs cells slots Q (F0 m pc ls (.int (nI v) :: .int (nI i) :: .ref (q 2) :: rest)) := by
  obtain ⟨hx, hb, hlk, hml, hown, hts, hA, hK⟩ := hC
  refine va_iast hx hb hK hP hD hS 2 1 rfl rfl (vp_in_nI hi (by decide)) hdg (fun H1 locs1 hP1 hD1 hS1 => ?_)
  rw [tr_upI (f := kF K) (Nat.lt_trans hi (by decide))] at hP1 hD1
  exact kk H1 locs1 hP1 hD1 hS1
theorem yl_3 (hC : tr_Cx p s m args meth c cc nL RX1 D (tr_YT dZ dN) A) (hP : va_P D tr_Cl (tr_YW dZ dN q K pr) H) (hi : i < 8) (hdg : decode cc pc = .ok (.iaload, 1)) (kk : W p l e R s m args below meth c H locs cells slots Q (F0 m (pc + 1) ls (.int (nI (kH K i)) :: rest))) : W p l e R s m args below meth c H locs cells slots Q (F0 m pc ls (.int (nI i) :: .ref (q 3) :: rest)) := by
  obtain ⟨hx, hb, hlk, hml, hown, hts, hA, hK⟩ := hC
  refine va_iald hx hb hK hP 3 1 rfl rfl (vp_in_nI hi (by decide)) hdg ?_
  rw [nI_clamp (Nat.lt_trans hi (by decide))]
  exact kk
theorem ys_3 (hC : tr_Cx p s m args meth c cc nL RX1 D (tr_YT dZ dN) A) (hP : va_P D tr_Cl (tr_YW dZ dN q K pr) H) (hD : va_D A (tr_YW dZ dN q K pr)) (hS : va_S A s.heap H locs) (hi : i < 8) (hdg : decode cc pc = .ok (.iastore, 1)) (kk : ∀ (H1 : Heap) (locs1 : List Loc), va_P D tr_Cl (tr_YW dZ dN q (K.1, K.2.1, K.2.2.1, va_up (kH K) i v, K.2.2.2.2) pr) H1 → va_D A (tr_YW dZ dN q (K.1, K.2.1, K.2.2.1, va_up (kH K) i v, K.2.2.2.2) pr) → va_S A s.heap H1 locs1 → W p l e R s m args below meth c H1 locs1 cells slots Q (F0 m (pc + 1) ls rest)) : W p l e R s m args below meth c H locs cells slots Q (F0 m pc ls (.int (nI v) :: .int (nI i) :: .ref (q 3) :: rest)) := by
  obtain ⟨hx, hb, hlk, hml, hown, hts, hA, hK⟩ := hC
  refine va_iast hx hb hK hP hD hS 3 1 rfl rfl (vp_in_nI hi (by decide)) hdg (fun H1 locs1 hP1 hD1 hS1 => ?_)
  rw [tr_upI (f := kH K) (Nat.lt_trans hi (by decide))] at hP1 hD1
  exact kk H1 locs1 hP1 hD1 hS1
theorem yl_4 (hC : tr_Cx p s m args meth c cc nL RX1 D (tr_YT dZ dN) A) (hP : va_P D tr_Cl (tr_YW dZ dN q K pr) H) (hi : i < 8) (hdg : decode cc pc = .ok (.iaload, 1)) (kk : W p l e R s m args below meth c H locs cells slots Q (F0 m (pc + 1) ls (.int (nI (kQ K i)) :: rest))) : W p l e R s m args below meth c H locs cells slots Q (F0 m pc ls (.int (nI i) :: .ref (q 4) :: rest)) := by
  obtain ⟨hx, hb, hlk, hml, hown, hts, hA, hK⟩ := hC
  refine va_iald hx hb hK hP 4 1 rfl rfl (vp_in_nI hi (by decide)) hdg ?_
  rw [nI_clamp (Nat.lt_trans hi (by decide))]
  exact kk
theorem ys_4 (hC : tr_Cx p s m args meth c cc nL RX1 D (tr_YT dZ dN) A) (hP : va_P D tr_Cl (tr_YW dZ dN q K pr) H) (hD : va_D A (tr_YW dZ dN q K pr)) (hS : va_S A s.heap H locs) (hi : i < 8) (hdg : decode cc pc = .ok (.iastore, 1)) (kk : ∀ (H1 : Heap) (locs1 : List Loc), va_P D tr_Cl (tr_YW dZ dN q (K.1, K.2.1, K.2.2.1, K.2.2.2.1, va_up (kQ K) i v, K.2.2.2.2.2) pr) H1 → va_D A (tr_YW dZ dN q (K.1, K.2.1, K.2.2.1, K.2.2.2.1, va_up (kQ K) i v, K.2.2.2.2.2) pr) → va_S A s.heap H1 locs1 → W p l e R s m args below meth c H1 locs1 cells slots Q (F0 m (pc + 1) ls rest)) : W p l e R s m args below meth c H locs cells slots Q (F0 m pc ls (.int (nI v) :: .int (nI i) :: .ref (q 4) :: rest)) := by
  obtain ⟨hx, hb, hlk, hml, hown, hts, hA, hK⟩ := hC
  refine va_iast hx hb hK hP hD hS 4 1 rfl rfl (vp_in_nI hi (by decide)) hdg (fun H1 locs1 hP1 hD1 hS1 => ?_)
  rw [tr_upI (f := kQ K) (Nat.lt_trans hi (by decide))] at hP1 hD1
  exact kk H1 locs1 hP1 hD1 hS1
theorem yl_5 (hC : tr_Cx p s m args meth c cc nL RX1 D (tr_YT dZ dN) A) (hP : va_P D tr_Cl (tr_YW dZ dN q K pr) H) (hi : i < 8) (hdg : decode cc pc = .ok (.iaload, 1)) (kk : W p l e R s m args below meth c H locs cells slots Q (F0 m (pc + 1) ls (.int (nI (kR K i)) :: rest))) : W p l e R s m args below meth c H locs cells slots Q (F0 m pc ls (.int (nI i) :: .ref (q 5) :: rest)) := by
  obtain ⟨hx, hb, hlk, hml, hown, hts, hA, hK⟩ := hC
  refine va_iald hx hb hK hP 5 1 rfl rfl (vp_in_nI hi (by decide)) hdg ?_
  rw [nI_clamp (Nat.lt_trans hi (by decide))]
  exact kk
theorem ys_5 (hC : tr_Cx p s m args meth c cc nL RX1 D (tr_YT dZ dN) A) (hP : va_P D tr_Cl (tr_YW dZ dN q K pr) H) (hD : va_D A (tr_YW dZ dN q K pr)) (hS : va_S A s.heap H locs) (hi : i < 8) (hdg : decode cc pc = .ok (.iastore, 1)) (kk : ∀ (H1 : Heap) (locs1 : List Loc), va_P D tr_Cl (tr_YW dZ dN q (K.1, K.2.1, K.2.2.1, K.2.2.2.1, K.2.2.2.2.1, va_up (kR K) i v) pr) H1 → va_D A (tr_YW dZ dN q (K.1, K.2.1, K.2.2.1, K.2.2.2.1, K.2.2.2.2.1, va_up (kR K) i v) pr) → va_S A s.heap H1 locs1 → W p l e R s m args below meth c H1 locs1 cells slots Q (F0 m (pc + 1) ls rest)) : W p l e R s m args below meth c H locs cells slots Q (F0 m pc ls (.int (nI v) :: .int (nI i) :: .ref (q 5) :: rest)) := by
  obtain ⟨hx, hb, hlk, hml, hown, hts, hA, hK⟩ := hC
  refine va_iast hx hb hK hP hD hS 5 1 rfl rfl (vp_in_nI hi (by decide)) hdg (fun H1 locs1 hP1 hD1 hS1 => ?_)
  rw [tr_upI (f := kR K) (Nat.lt_trans hi (by decide))] at hP1 hD1
  exact kk H1 locs1 hP1 hD1 hS1
theorem yl_6 (hC : tr_Cx p s m args meth c cc nL RX1 D (tr_YT dZ dN) A) (hP : va_P D tr_Cl (tr_YW dZ dN q K pr) H) (hi : i < 5) (hdg : decode cc pc = .ok (.iaload, 1)) (kk : W p l e R s m args below meth c H locs cells slots Q (F0 m (pc + 1) ls (.int (nI (pr i)) :: rest))) : W p l e R s m args below meth c H locs cells slots Q (F0 m pc ls (.int (nI i) :: .ref (q 6) :: rest)) := by
  obtain ⟨hx, hb, hlk, hml, hown, hts, hA, hK⟩ := hC
  refine va_iald hx hb hK hP 6 1 rfl rfl (vp_in_nI hi (by decide)) hdg ?_
  rw [nI_clamp (Nat.lt_trans hi (by decide))]
  exact kk
theorem ys_6 (hC : tr_Cx p s m args meth c cc nL RX1 D (tr_YT dZ dN) A) (hP : va_P D tr_Cl (tr_YW dZ dN q K pr) H) (hD : va_D A (tr_YW dZ dN q K pr)) (hS : va_S A s.heap H locs) (hi : i < 5) (hdg : decode cc pc = .ok (.iastore, 1)) (kk : ∀ (H1 : Heap) (locs1 : List Loc), va_P D tr_Cl (tr_YW dZ dN q K (va_up pr i v)) H1 → va_D A (tr_YW dZ dN q K (va_up pr i v)) → va_S A s.heap H1 locs1 → W p l e R s m args below meth c H1 locs1 cells slots Q (F0 m (pc + 1) ls rest)) : W p l e R s m args below meth c H locs cells slots Q (F0 m pc ls (.int (nI v) :: .int (nI i) :: .ref (q 6) :: rest)) := by
  obtain ⟨hx, hb, hlk, hml, hown, hts, hA, hK⟩ := hC
  refine va_iast hx hb hK hP hD hS 6 1 rfl rfl (vp_in_nI hi (by decide)) hdg (fun H1 locs1 hP1 hD1 hS1 => ?_)
  rw [tr_upI (f := pr) (Nat.lt_trans hi (by decide))] at hP1 hD1
  exact kk H1 locs1 hP1 hD1 hS1
theorem xc_i {S : Type} {post : Int32 → S → Prop} {F : S → va_W} {y : MethodName} {bytes : ByteArray} {nC idx n : Nat} {ret : Option FieldType} {rmC : Room} {As st : List Value} (hC : tr_Cx p s m args meth c cc nL RX0 D (tr_XT dB) A) (hM : tr_Mi l D (tr_XT dB) y (ws_ y bytes nC ret) rmC (.ref (q 0) :: As) (tr_XW dB q K ak an fr ct) post F) (hG : GoodIn lw_all (wsV RX0 idx RX0 y (ws_ y bytes nC ret))) (hd : y.cls = RX0 ∧ y.cls ≠ "java/lang/invoke/MethodHandle" ∧ y.cls ≠ "java/lang/invoke/VarHandle" ∧ (parseMethodDescriptor y.desc).map (fun d => d.parameters.length) = some n) (hn : As.length = n) (hR : rmC.cells = 0 ∧ rmC.slots = 0 ∧ rmC.frames + 1 ≤ R.frames ∧ 8 + (nC + 11) + rmC.locals ≤ R.locals) (hP : va_P D tr_Cl (tr_XW dB q K ak an fr ct) H) (hD : va_D A (tr_XW dB q K ak an fr ct)) (hS : va_S A s.heap H locs) (hl : ls.size = nL) (rest : List Value) (hst : st = As.reverse ++ .ref (q 0) :: rest) (hroom : (rest.map fun v => v.category).sum ≤ 8) (hdg : decode cc pc = .ok (.invokevirtual idx, 3)) (kk : ∀ (r : Int32) (u : S) (H1 : Heap) (locs1 : List Loc), post r u → va_P D tr_Cl (F u) H1 → va_D A (F u) → va_S A s.heap H1 locs1 → W p l e R s m args below meth c H1 locs1 0 0 Q (F0 m (pc + 3) ls (.int r :: rest))) : W p l e R s m args below meth c H locs 0 0 Q (F0 m pc ls st) :=
  tr_ci (ci := 0) (T := TX0) (N := 10) hC hC.2.2.2.2.2.2.2 hM hG hd hn hR rfl rfl hP hD hS hl hst hroom hdg ⟨Nat.zero_le _, Nat.zero_le _⟩ (fun r u H1 locs1 h1 h2 h3 h4 _ _ => kk r u H1 locs1 h1 h2 h3 h4)
theorem xc_v {S : Type} {post : S → Prop} {F : S → va_W} {y : MethodName} {bytes : ByteArray} {nC idx n : Nat} {ret : Option FieldType} {rmC : Room} {As st : List Value} (hC : tr_Cx p s m args meth c cc nL RX0 D (tr_XT dB) A) (hM : tr_Mv l D (tr_XT dB) y (ws_ y bytes nC ret) rmC (.ref (q 0) :: As) (tr_XW dB q K ak an fr ct) post F) (hG : GoodIn lw_all (wsV RX0 idx RX0 y (ws_ y bytes nC ret))) (hd : y.cls = RX0 ∧ y.cls ≠ "java/lang/invoke/MethodHandle" ∧ y.cls ≠ "java/lang/invoke/VarHandle" ∧ (parseMethodDescriptor y.desc).map (fun d => d.parameters.length) = some n) (hn : As.length = n) (hR : rmC.cells = 0 ∧ rmC.slots = 0 ∧ rmC.frames + 1 ≤ R.frames ∧ 8 + (nC + 11) + rmC.locals ≤ R.locals) (hP : va_P D tr_Cl (tr_XW dB q K ak an fr ct) H) (hD : va_D A (tr_XW dB q K ak an fr ct)) (hS : va_S A s.heap H locs) (hl : ls.size = nL) (rest : List Value) (hst : st = As.reverse ++ .ref (q 0) :: rest) (hroom : (rest.map fun v => v.category).sum ≤ 8) (hdg : decode cc pc = .ok (.invokevirtual idx, 3)) (kk : ∀ (u : S) (H1 : Heap) (locs1 : List Loc), post u → va_P D tr_Cl (F u) H1 → va_D A (F u) → va_S A s.heap H1 locs1 → W p l e R s m args below meth c H1 locs1 0 0 Q (F0 m (pc + 3) ls rest)) : W p l e R s m args below meth c H locs 0 0 Q (F0 m pc ls st) :=
  tr_cv (ci := 0) (T := TX0) (N := 10) hC hC.2.2.2.2.2.2.2 hM hG hd hn hR rfl rfl hP hD hS hl hst hroom hdg ⟨Nat.zero_le _, Nat.zero_le _⟩ (fun u H1 locs1 h1 h2 h3 h4 _ _ => kk u H1 locs1 h1 h2 h3 h4)
theorem yc_i {S : Type} {post : Int32 → S → Prop} {F : S → va_W} {y : MethodName} {bytes : ByteArray} {nC idx n : Nat} {ret : Option FieldType} {rmC : Room} {As st : List Value} (hC : tr_Cx p s m args meth c cc nL RX1 D (tr_YT dZ dN) A) (hM : tr_Mi l D (tr_YT dZ dN) y (ws_ y bytes nC ret) rmC (.ref (q 0) :: As) (tr_YW dZ dN q K pr) post F) (hG : GoodIn lw_all (wsV RX1 idx RX1 y (ws_ y bytes nC ret))) (hd : y.cls = RX1 ∧ y.cls ≠ "java/lang/invoke/MethodHandle" ∧ y.cls ≠ "java/lang/invoke/VarHandle" ∧ (parseMethodDescriptor y.desc).map (fun d => d.parameters.length) = some n) (hn : As.length = n) (hR : rmC.cells = 0 ∧ rmC.slots = 0 ∧ rmC.frames + 1 ≤ R.frames ∧ 8 + (nC + 11) + rmC.locals ≤ R.locals) (hP : va_P D tr_Cl (tr_YW dZ dN q K pr) H) (hD : va_D A (tr_YW dZ dN q K pr)) (hS : va_S A s.heap H locs) (hl : ls.size = nL) (rest : List Value) (hst : st = As.reverse ++ .ref (q 0) :: rest) (hroom : (rest.map fun v => v.category).sum ≤ 8) (hdg : decode cc pc = .ok (.invokevirtual idx, 3)) (kk : ∀ (r : Int32) (u : S) (H1 : Heap) (locs1 : List Loc), post r u → va_P D tr_Cl (F u) H1 → va_D A (F u) → va_S A s.heap H1 locs1 → W p l e R s m args below meth c H1 locs1 0 0 Q (F0 m (pc + 3) ls (.int r :: rest))) : W p l e R s m args below meth c H locs 0 0 Q (F0 m pc ls st) :=
  tr_ci (ci := 1) (T := TX1) (N := 6) hC hC.2.2.2.2.2.2.2 hM hG hd hn hR rfl rfl hP hD hS hl hst hroom hdg ⟨Nat.zero_le _, Nat.zero_le _⟩ (fun r u H1 locs1 h1 h2 h3 h4 _ _ => kk r u H1 locs1 h1 h2 h3 h4)
theorem yc_v {S : Type} {post : S → Prop} {F : S → va_W} {y : MethodName} {bytes : ByteArray} {nC idx n : Nat} {ret : Option FieldType} {rmC : Room} {As st : List Value} (hC : tr_Cx p s m args meth c cc nL RX1 D (tr_YT dZ dN) A) (hM : tr_Mv l D (tr_YT dZ dN) y (ws_ y bytes nC ret) rmC (.ref (q 0) :: As) (tr_YW dZ dN q K pr) post F) (hG : GoodIn lw_all (wsV RX1 idx RX1 y (ws_ y bytes nC ret))) (hd : y.cls = RX1 ∧ y.cls ≠ "java/lang/invoke/MethodHandle" ∧ y.cls ≠ "java/lang/invoke/VarHandle" ∧ (parseMethodDescriptor y.desc).map (fun d => d.parameters.length) = some n) (hn : As.length = n) (hR : rmC.cells = 0 ∧ rmC.slots = 0 ∧ rmC.frames + 1 ≤ R.frames ∧ 8 + (nC + 11) + rmC.locals ≤ R.locals) (hP : va_P D tr_Cl (tr_YW dZ dN q K pr) H) (hD : va_D A (tr_YW dZ dN q K pr)) (hS : va_S A s.heap H locs) (hl : ls.size = nL) (rest : List Value) (hst : st = As.reverse ++ .ref (q 0) :: rest) (hroom : (rest.map fun v => v.category).sum ≤ 8) (hdg : decode cc pc = .ok (.invokevirtual idx, 3)) (kk : ∀ (u : S) (H1 : Heap) (locs1 : List Loc), post u → va_P D tr_Cl (F u) H1 → va_D A (F u) → va_S A s.heap H1 locs1 → W p l e R s m args below meth c H1 locs1 0 0 Q (F0 m (pc + 3) ls rest)) : W p l e R s m args below meth c H locs 0 0 Q (F0 m pc ls st) :=
  tr_cv (ci := 1) (T := TX1) (N := 6) hC hC.2.2.2.2.2.2.2 hM hG hd hn hR rfl rfl hP hD hS hl hst hroom hdg ⟨Nat.zero_le _, Nat.zero_le _⟩ (fun u H1 locs1 h1 h2 h3 h4 _ _ => kk u H1 locs1 h1 h2 h3 h4)
end TRR
end
section
/-! THE ANSWERS as functions of the abstract state K: both classes give these -/
theorem tr_ka_t {ak p x : Nat} (h : p < 2 ∨ ak.testBit (5 * p + x) = true) : tr_ka ak p x = ak := if_pos h
theorem tr_kf_t {ak fr p x : Nat} (h : p < 2 ∨ ak.testBit (5 * p + x) = true) : tr_kf ak fr p x = fr := if_pos h
theorem tr_nor {ak p x : Nat} (h1 : 2 ≤ p) (h2 : ak.testBit (5 * p + x) = false) : ¬ (p < 2 ∨ ak.testBit (5 * p + x) = true) := by
  rw [h2]
  rintro (h | h)
  · omega
  · cases h
theorem tr_ka_f {ak p x : Nat} (h1 : 2 ≤ p) (h2 : ak.testBit (5 * p + x) = false) : tr_ka ak p x = ak ||| 2 ^ (5 * p + x) := if_neg (tr_nor h1 h2)
theorem tr_kf_f {ak fr p x : Nat} (h1 : 2 ≤ p) (h2 : ak.testBit (5 * p + x) = false) : tr_kf ak fr p x = 1 := if_neg (tr_nor h1 h2)
/-- is rule k there? -/
def tr_hs (K : tr_C) (k : Int32) : Bool := tr_r8 k && (kP K).testBit (tr_c k)
theorem tr_hs_nI {K : tr_C} {k : Nat} (h : k < 8) : tr_hs K (nI k) = (kP K).testBit k := by rw [tr_hs, tr_r8_nI h, tr_c8 h, Bool.true_and]
theorem tr_hs_f {K : tr_C} {k : Int32} (h : tr_r8 k = false) : tr_hs K k = false := by rw [tr_hs, h, Bool.false_and]
theorem tr_hs_n {K : tr_C} {k : Int32} (h : tr_hs K k = true) : ∃ n, n < 8 ∧ k = nI n ∧ (kP K).testBit n = true := by
  rw [tr_hs, Bool.and_eq_true] at h
  obtain ⟨n, hn, rfl⟩ := tr_r8_n h.1
  refine ⟨n, hn, rfl, ?_⟩
  have h2 := h.2
  rw [tr_c8 hn] at h2
  exact h2
/-- joined's loop -/
def tr_ji (K : tr_C) (an : Nat → Nat) (mid r ak i f : Nat) : Prop := f < 32 ∧ (∀ y, y < 5 → (f.testBit y = true ↔ ∃ z, z < i ∧ mid.testBit z = true ∧ (tr_vl K an r z).testBit y = true)) ∧ ∀ z, z < i → mid.testBit z = true → tr_as ak r z
theorem tr_ji_0 {K : tr_C} {an : Nat → Nat} {mid r ak : Nat} : tr_ji K an mid r ak 0 0 := ⟨by omega, fun y _ => ⟨fun h => by simp at h, fun ⟨z, hz, _⟩ => absurd hz (by omega)⟩, fun z hz => absurd hz (by omega)⟩
theorem tr_ji_skip {K : tr_C} {an : Nat → Nat} {mid r ak i f : Nat} (w : tr_ji K an mid r ak i f) (h : mid.testBit i = false) : tr_ji K an mid r ak (i + 1) f := by
  obtain ⟨w1, w2, w3⟩ := w
  refine ⟨w1, fun y hy => ⟨fun g => ?_, fun ⟨z, hz, b1, b2⟩ => ?_⟩, fun z hz b => ?_⟩
  · obtain ⟨z, hz, b⟩ := (w2 y hy).mp g
    exact ⟨z, by omega, b⟩
  · rcases Nat.lt_or_ge z i with q | q
    · exact (w2 y hy).mpr ⟨z, q, b1, b2⟩
    · have e : z = i := by omega
      rw [e, h] at b1
      cases b1
  · rcases Nat.lt_or_ge z i with q | q
    · exact w3 z q b
    · have e : z = i := by omega
      rw [e, h] at b
      cases b
theorem tr_ji_step {K : tr_C} {an : Nat → Nat} {mid r ak fr ak' fr' i f : Nat} (w : tr_ji K an mid r ak i f) (hE : tr_E ak fr ak' fr') (ha : tr_as ak' r i) (h : mid.testBit i = true) (hv : tr_vl K an r i < 32) : tr_ji K an mid r ak' (i + 1) (f ||| tr_vl K an r i) := by
  obtain ⟨w1, w2, w3⟩ := w
  refine ⟨Nat.or_lt_two_pow (n := 5) w1 hv, fun y hy => ?_, fun z hz b => ?_⟩
  · rw [Nat.testBit_or, Bool.or_eq_true]
    constructor
    · rintro (g | g)
      · obtain ⟨z, hz, b⟩ := (w2 y hy).mp g
        exact ⟨z, by omega, b⟩
      · exact ⟨i, by omega, h, g⟩
    · rintro ⟨z, hz, b1, b2⟩
      rcases Nat.lt_or_ge z i with q | q
      · exact Or.inl ((w2 y hy).mpr ⟨z, q, b1, b2⟩)
      · have e : z = i := by omega
        subst e
        exact Or.inr b2
  · rcases Nat.lt_or_ge z i with q | q
    · exact tr_as_E hE (w3 z q b)
    · have e : z = i := by omega
      subst e
      exact ha
/-- a given pair turned on or off -/
def tr_gv (K : tr_C) (g x y : Nat) (b : Bool) : tr_C := (va_up (kG K) (5 * g + x) (tr_setb 5 (kG K (5 * g + x)) y b), K.2)
def tr_gc (g x y : Int32) : Bool := tr_r2 g && tr_rg x && tr_rg y
def tr_gK (K : tr_C) (g x y : Int32) (b : Bool) : tr_C := if tr_gc g x y = true then tr_gv K (tr_c g) (tr_c x) (tr_c y) b else K
theorem tr_gc_n {g x y : Nat} (hg : g < 2) (hx : x < 5) (hy : y < 5) : tr_gc (nI g) (nI x) (nI y) = true := by rw [tr_gc, tr_r2_nI hg, tr_rg_nI hx, tr_rg_nI hy]; rfl
theorem tr_gK_n {K : tr_C} {g x y : Nat} {b : Bool} (hg : g < 2) (hx : x < 5) (hy : y < 5) : tr_gK K (nI g) (nI x) (nI y) b = tr_gv K g x y b := by rw [tr_gK, if_pos (tr_gc_n hg hx hy), tr_c2 hg, tr_c_nI hx, tr_c_nI hy]
theorem tr_gK_f {K : tr_C} {g x y : Int32} {b : Bool} (h : tr_gc g x y = false) : tr_gK K g x y b = K := if_neg (by rw [h]; decide)
theorem tr_ok_gv {K : tr_C} {g x y : Nat} {b : Bool} (ok : tr_ok K) : tr_ok (tr_gv K g x y b) := by
  refine ⟨fun i => ?_, ok.2⟩
  show va_up (kG K) (5 * g + x) (tr_setb 5 (kG K (5 * g + x)) y b) i < 32
  unfold va_up
  split
  · exact tr_setb_lt 5 _ _ _
  · exact ok.1 i
theorem tr_ok_gK {K : tr_C} {g x y : Int32} {b : Bool} (ok : tr_ok K) : tr_ok (tr_gK K g x y b) := by
  unfold tr_gK
  split
  · exact tr_ok_gv ok
  · exact ok
theorem tr_gv_back {K : tr_C} {g x y : Nat} (ok : tr_ok K) (hy : y < 5) (h : (kG K (5 * g + x)).testBit y = true) : tr_gv (tr_gv K g x y false) g x y true = K := by
  have e : va_up (va_up (kG K) (5 * g + x) (tr_setb 5 (kG K (5 * g + x)) y false)) (5 * g + x) (tr_setb 5 (va_up (kG K) (5 * g + x) (tr_setb 5 (kG K (5 * g + x)) y false) (5 * g + x)) y true) = kG K := by
    funext i
    unfold va_up
    by_cases c : i = 5 * g + x
    · subst c
      rw [if_pos rfl, if_pos rfl]
      exact tr_setb_back (n := 5) (ok.1 _) hy h false
    · rw [if_neg c, if_neg c]
  show (va_up (va_up (kG K) (5 * g + x) (tr_setb 5 (kG K (5 * g + x)) y false)) (5 * g + x) (tr_setb 5 (va_up (kG K) (5 * g + x) (tr_setb 5 (kG K (5 * g + x)) y false) (5 * g + x)) y true), K.2) = K
  rw [e]
/-- the first rule number that is free -/
def tr_fs (P : Nat) : Nat → Nat → Nat
  | k, 0 => k
  | k, n + 1 => if P.testBit k = true then tr_fs P (k + 1) n else k
theorem tr_fs_at {P k : Nat} (hk : P.testBit k = false) : ∀ (n j : Nat), j ≤ k → k < j + n → (∀ i, i < k → P.testBit i = true) → tr_fs P j n = k
  | 0, j, h1, h2, _ => by omega
  | n + 1, j, h1, h2, h3 => by
    show (if P.testBit j = true then tr_fs P (j + 1) n else j) = k
    rcases Nat.lt_or_ge j k with q | q
    · rw [if_pos (h3 j q)]
      exact tr_fs_at hk n (j + 1) (by omega) (by omega) h3
    · have e : j = k := by omega
      subst e
      rw [if_neg (by rw [hk]; decide)]
theorem tr_fs_no {P : Nat} : ∀ (n j : Nat), (∀ i, i < j + n → P.testBit i = true) → tr_fs P j n = j + n
  | 0, j, _ => rfl
  | n + 1, j, h3 => by
    show (if P.testBit j = true then tr_fs P (j + 1) n else j) = j + (n + 1)
    rw [if_pos (h3 j (by omega)), tr_fs_no n (j + 1) (fun i hi => h3 i (by omega))]
    omega
def tr_ff (P : Nat) : Nat := tr_fs P 0 8
theorem tr_ff_at {P k : Nat} (hk : P.testBit k = false) (h8 : k < 8) (h : ∀ i, i < k → P.testBit i = true) : tr_ff P = k := tr_fs_at hk 8 0 (by omega) (by omega) h
theorem tr_ff_no {P : Nat} (h : ∀ i, i < 8 → P.testBit i = true) : tr_ff P = 8 := tr_fs_no 8 0 (fun i hi => h i (by omega))
/-- the rule that is written -/
def tr_wr (K : tr_C) (k f h a b : Nat) : tr_C := (K.1, tr_setb 8 (kP K) k true, va_up (kF K) k f, va_up (kH K) k h, va_up (kQ K) k a, va_up (kR K) k b)
def tr_rh (h : Int32) : Bool := decide (¬ h < nI 2 ∧ ¬ nI 4 < h)
def tr_rf (f : Int32) : Bool := decide (¬ f < 0 ∧ ¬ nI 4 < f)
abbrev tr_qa (z : Int32) : Int32 := z &&& nI 7
abbrev tr_qb (z : Int32) : Int32 := z >>> (nI 3 &&& 31)
def tr_rc (f h z : Int32) : Bool := tr_rf f && tr_rh h && tr_rg (tr_qa z) && tr_rg (tr_qb z)
theorem tr_rf_n {f : Int32} (h : tr_rf f = true) : ∃ n, n < 5 ∧ f = nI n := by
  have h1 := of_decide_eq_true h
  exact tr_rg_n (tr_rg_t h1.1 (fun z => h1.2 (tr_45.mpr z)))
theorem tr_rh_n {f : Int32} (h : tr_rh f = true) : ∃ n, 2 ≤ n ∧ n < 5 ∧ f = nI n := by
  have h1 := of_decide_eq_true h
  have h0 : ¬ f < 0 := fun z => h1.1 (Int32.lt_iff_toInt_lt.mpr (by
    have a := Int32.lt_iff_toInt_lt.mp z
    rw [nI_toInt (by omega)]
    have b : (0 : Int32).toInt = 0 := by decide
    rw [b] at a
    omega))
  obtain ⟨n, hn, rfl⟩ := tr_rg_n (tr_rg_t h0 (fun z => h1.2 (tr_45.mpr z)))
  refine ⟨n, ?_, hn, rfl⟩
  apply Nat.le_of_not_lt
  intro q
  exact h1.1 (nI_lt q (by omega))
def tr_rR (K : tr_C) (f h z : Int32) : Int32 := if tr_rc f h z = true then (if tr_ff (kP K) < 8 then nI (tr_ff (kP K)) else (-2)) else (-1)
def tr_rK (K : tr_C) (f h z : Int32) : tr_C := if tr_rc f h z = true ∧ tr_ff (kP K) < 8 then tr_wr K (tr_ff (kP K)) (tr_c f) (tr_c h) (tr_c (tr_qa z)) (tr_c (tr_qb z)) else K
theorem tr_rR_f {K : tr_C} {f h z : Int32} (c : tr_rc f h z = false) : tr_rR K f h z = (-1) ∧ tr_rK K f h z = K := by
  constructor
  · rw [tr_rR, c]; rfl
  · exact if_neg (fun q => by rw [c] at q; exact absurd q.1 (by decide))
theorem tr_ok_rK {K : tr_C} {f h z : Int32} (ok : tr_ok K) : tr_ok (tr_rK K f h z) := by
  unfold tr_rK
  split
  · rename_i c
    obtain ⟨c1, c2⟩ := c
    rw [tr_rc, Bool.and_eq_true, Bool.and_eq_true, Bool.and_eq_true] at c1
    obtain ⟨⟨⟨d1, d2⟩, d3⟩, d4⟩ := c1
    obtain ⟨n1, l1, e1⟩ := tr_rf_n d1
    obtain ⟨n2, m2, l2, e2⟩ := tr_rh_n d2
    obtain ⟨n3, l3, e3⟩ := tr_rg_n d3
    obtain ⟨n4, l4, e4⟩ := tr_rg_n d4
    rw [e1, e2, e3, e4, tr_c_nI l1, tr_c_nI l2, tr_c_nI l3, tr_c_nI l4]
    generalize tr_ff (kP K) = k at c2 ⊢
    refine ⟨ok.1, tr_setb_lt 8 _ _ _, fun j => ?_, fun j hj => ?_⟩
    · have o := ok.2.2.1 j
      show va_up (kF K) k n1 j < 5 ∧ va_up (kH K) k n2 j < 5 ∧ va_up (kQ K) k n3 j < 5 ∧ va_up (kR K) k n4 j < 5
      unfold va_up
      split
      · exact ⟨l1, l2, l3, l4⟩
      · exact o
    · show 2 ≤ va_up (kH K) k n2 j
      unfold va_up
      split
      · exact m2
      · rename_i ne
        have hj : (tr_setb 8 (kP K) k true).testBit j = true := hj
        rw [tr_setb_bit (n := 8) ok.2.1 c2, if_neg ne] at hj
        exact ok.2.2.2 j hj
  · exact ok
/-- a rule dropped -/
def tr_dp (K : tr_C) (k : Nat) : tr_C := (K.1, tr_setb 8 (kP K) k false, K.2.2)
def tr_dK (K : tr_C) (k : Int32) : tr_C := if tr_hs K k = true then tr_dp K (tr_c k) else K
theorem tr_dp_sub {K : tr_C} {k : Nat} (ok : tr_ok K) (hk : k < 8) : ∀ j, (kP (tr_dp K k)).testBit j = true → (kP K).testBit j = true := by
  intro j hj
  have hj : (tr_setb 8 (kP K) k false).testBit j = true := hj
  rw [tr_setb_bit (n := 8) ok.2.1 hk] at hj
  split at hj
  · cases hj
  · exact hj
theorem tr_ok_dp {K : tr_C} {k : Nat} (ok : tr_ok K) (hk : k < 8) : tr_ok (tr_dp K k) := ⟨ok.1, tr_setb_lt 8 _ _ _, ok.2.2.1, fun j hj => ok.2.2.2 j (tr_dp_sub ok hk j hj)⟩
theorem tr_ok_dK {K : tr_C} {k : Int32} (ok : tr_ok K) : tr_ok (tr_dK K k) := by
  unfold tr_dK
  split
  · rename_i c
    obtain ⟨n, hn, rfl, _⟩ := tr_hs_n c
    rw [tr_c8 hn]
    exact tr_ok_dp ok hn
  · exact ok
theorem tr_dp_back {K : tr_C} {k : Nat} (ok : tr_ok K) (hk : k < 8) (h : (kP K).testBit k = true) : (K.1, tr_setb 8 (tr_setb 8 (kP K) k false) k true, K.2.2) = K := by
  rw [tr_setb_back (n := 8) ok.2.1 hk h false]
theorem tr_L_dp {K : tr_C} {k p x y : Nat} (ok : tr_ok K) (hk : k < 8) (h : tr_L (tr_dp K k) p x y) : tr_L K p x y := tr_L_sub (tr_dp_sub ok hk) h
/-- the answers -/
noncomputable def tr_hB (K : tr_C) (p x y : Int32) : Bool := tr_rg p && tr_rg x && tr_rg y && tr_b (tr_L K (tr_c p) (tr_c x) (tr_c y))
theorem tr_hB_n {K : tr_C} {p x y : Nat} (hp : p < 5) (hx : x < 5) (hy : y < 5) : tr_hB K (nI p) (nI x) (nI y) = tr_b (tr_L K p x y) := by
  rw [tr_hB, tr_rg_nI hp, tr_rg_nI hx, tr_rg_nI hy, tr_c_nI hp, tr_c_nI hx, tr_c_nI hy]
  simp
theorem tr_hB_f {K : tr_C} {p x y : Int32} (h : tr_rg p = false ∨ tr_rg x = false ∨ tr_rg y = false) : tr_hB K p x y = false := by
  rw [tr_hB]
  rcases h with h | h | h <;> simp [h]
noncomputable def tr_fN (K : tr_C) (p x : Int32) : Nat := if tr_rg p = true ∧ tr_rg x = true then tr_row K (tr_c p) (tr_c x) else 0
theorem tr_fN_n {K : tr_C} {p x : Nat} (hp : p < 5) (hx : x < 5) : tr_fN K (nI p) (nI x) = tr_row K p x := by rw [tr_fN, if_pos ⟨tr_rg_nI hp, tr_rg_nI hx⟩, tr_c_nI hp, tr_c_nI hx]
theorem tr_fN_f {K : tr_C} {p x : Int32} (h : tr_rg p = false ∨ tr_rg x = false) : tr_fN K p x = 0 := by
  rw [tr_fN]
  rcases h with h | h <;> simp [h]
noncomputable def tr_tN (K : tr_C) (p y : Int32) : Nat := tr_num (fun x => tr_hB K p (nI x) y) 5
noncomputable def tr_cg (K : tr_C) (p : Nat) : Nat → Nat := fun c => (tr_b (tr_L K p (c / 5) (c % 5))).toNat
noncomputable def tr_cnt (K : tr_C) (p : Nat) : Nat := tr_sum (tr_cg K p) 25
theorem tr_cnt_le (K : tr_C) (p : Nat) : tr_cnt K p ≤ 25 := tr_sum_bd (c := 1) (n := 25) (fun i _ => Bool.toNat_le _)
theorem tr_sum_5 (f : Nat → Nat) (n : Nat) : tr_sum f (n + 5) = tr_sum f n + f n + f (n + 1) + f (n + 2) + f (n + 3) + f (n + 4) := rfl
theorem tr_cnt_step (K : tr_C) (p x : Nat) : tr_sum (tr_cg K p) (5 * x) + tr_pc (tr_row K p x) 5 = tr_sum (tr_cg K p) (5 * (x + 1)) := by
  have e : ∀ y, y < 5 → tr_cg K p (5 * x + y) = ((tr_row K p x).testBit y).toNat := fun y hy => by
    rw [tr_row_bit K p x hy, tr_cg, show (5 * x + y) / 5 = x by omega, show (5 * x + y) % 5 = y by omega]
  have h : tr_pc (tr_row K p x) 5 = 0 + ((tr_row K p x).testBit 0).toNat + ((tr_row K p x).testBit 1).toNat + ((tr_row K p x).testBit 2).toNat + ((tr_row K p x).testBit 3).toNat + ((tr_row K p x).testBit 4).toNat := rfl
  rw [show 5 * (x + 1) = 5 * x + 5 by omega, tr_sum_5, h, ← e 0 (by omega), ← e 1 (by omega), ← e 2 (by omega), ← e 3 (by omega), ← e 4 (by omega)]
  simp only [Nat.add_zero]
  omega
noncomputable def tr_cI (K : tr_C) (p : Int32) : Int32 := if tr_rg p = true then nI (tr_cnt K (tr_c p)) else (-1)
theorem tr_cI_n {K : tr_C} {p : Nat} (hp : p < 5) : tr_cI K (nI p) = nI (tr_cnt K p) := by rw [tr_cI, if_pos (tr_rg_nI hp), tr_c_nI hp]
theorem tr_cI_f {K : tr_C} {p : Int32} (h : tr_rg p = false) : tr_cI K p = (-1) := if_neg (by rw [h]; decide)
def tr_wP (K : tr_C) (p r : Nat) : Prop := ∀ x y, x < 5 → y < 5 → tr_L K p x y → tr_L K r x y
noncomputable def tr_wB (K : tr_C) (p r : Int32) : Bool := tr_rg p && tr_rg r && tr_b (tr_wP K (tr_c p) (tr_c r))
theorem tr_wB_n {K : tr_C} {p r : Nat} (hp : p < 5) (hr : r < 5) : tr_wB K (nI p) (nI r) = tr_b (tr_wP K p r) := by
  rw [tr_wB, tr_rg_nI hp, tr_rg_nI hr, tr_c_nI hp, tr_c_nI hr]
  simp
theorem tr_wB_f {K : tr_C} {p r : Int32} (h : tr_rg p = false ∨ tr_rg r = false) : tr_wB K p r = false := by
  rw [tr_wB]
  rcases h with h | h <;> simp [h]
def tr_tP (K : tr_C) (p : Nat) : Prop := ∀ x y z, x < 5 → y < 5 → z < 5 → tr_L K p x y → tr_L K p y z → tr_L K p x z
noncomputable def tr_tB (K : tr_C) (p : Int32) : Bool := tr_rg p && tr_b (tr_tP K (tr_c p))
theorem tr_tB_n {K : tr_C} {p : Nat} (hp : p < 5) : tr_tB K (nI p) = tr_b (tr_tP K p) := by
  rw [tr_tB, tr_rg_nI hp, tr_c_nI hp]
  simp
theorem tr_tB_f {K : tr_C} {p : Int32} (h : tr_rg p = false) : tr_tB K p = false := by rw [tr_tB, h]; rfl
/-- the same pairs with and without rule k -/
def tr_sP (K : tr_C) (k : Nat) : Prop := ∀ p x y, p < 5 → x < 5 → y < 5 → tr_L K p x y → tr_L (tr_dp K k) p x y
noncomputable def tr_eB (K : tr_C) (k : Int32) : Bool := tr_hs K k && tr_b (tr_sP K (tr_c k))
theorem tr_eB_f {K : tr_C} {k : Int32} (h : tr_hs K k = false) : tr_eB K k = false := by rw [tr_eB, h]; rfl
theorem tr_eB_n {K : tr_C} {k : Nat} (hk : k < 8) (h : (kP K).testBit k = true) : tr_eB K (nI k) = tr_b (tr_sP K k) := by
  rw [tr_eB, tr_hs_nI hk, tr_c8 hk, h]
  simp
theorem tr_cd {K : tr_C} {k : Nat} (ok : tr_ok K) (hk : k < 8) : (∃ p, p < 5 ∧ tr_cnt (tr_dp K k) p ≠ tr_cnt K p) ↔ ¬ tr_sP K k := by
  have hle : ∀ p c, tr_cg (tr_dp K k) p c ≤ tr_cg K p c := fun p c => tr_bn (fun h => tr_b_t (tr_L_dp ok hk (tr_b_iff.mp h)))
  constructor
  · rintro ⟨p, hp, hn⟩ hs
    apply hn
    refine tr_sum_congr (fun c hc => ?_)
    refine Nat.le_antisymm (hle p c) ?_
    exact tr_bn (fun h => tr_b_t (hs p (c / 5) (c % 5) hp (by omega) (by omega) (tr_b_iff.mp h)))
  · intro hs
    apply Classical.byContradiction
    intro hn
    apply hs
    intro p x y hp hx hy hL
    apply Classical.byContradiction
    intro hL2
    refine hn ⟨p, hp, Nat.ne_of_lt ?_⟩
    refine tr_sum_lt (k := 5 * x + y) (fun c _ => hle p c) (by omega) ?_
    show (tr_b (tr_L (tr_dp K k) p ((5 * x + y) / 5) ((5 * x + y) % 5))).toNat < (tr_b (tr_L K p ((5 * x + y) / 5) ((5 * x + y) % 5))).toNat
    rw [show (5 * x + y) / 5 = x by omega, show (5 * x + y) % 5 = y by omega, tr_b_f hL2, tr_b_t hL]
    decide
noncomputable def tr_lI (K : tr_C) (p g x y : Int32) : Int32 := if tr_rg p = true ∧ tr_gc g x y = true then (if (kG K (5 * tr_c g + tr_c x)).testBit (tr_c y) = true then nI (tr_cnt K (tr_c p)) - nI (tr_cnt (tr_gv K (tr_c g) (tr_c x) (tr_c y) false) (tr_c p)) else nI 0) else (-1)
theorem tr_lI_n {K : tr_C} {p g x y : Nat} (hp : p < 5) (hg : g < 2) (hx : x < 5) (hy : y < 5) : tr_lI K (nI p) (nI g) (nI x) (nI y) = if (kG K (5 * g + x)).testBit y = true then nI (tr_cnt K p) - nI (tr_cnt (tr_gv K g x y false) p) else nI 0 := by
  rw [tr_lI, if_pos ⟨tr_rg_nI hp, tr_gc_n hg hx hy⟩, tr_c_nI hp, tr_c2 hg, tr_c_nI hx, tr_c_nI hy]
theorem tr_lI_f {K : tr_C} {p g x y : Int32} (h : tr_rg p = false ∨ tr_r2 g = false ∨ tr_rg x = false ∨ tr_rg y = false) : tr_lI K p g x y = (-1) := by
  refine if_neg (fun q => ?_)
  have q2 := q.2
  rw [tr_gc, Bool.and_eq_true, Bool.and_eq_true] at q2
  rcases h with h | h | h | h
  · rw [h] at q; exact absurd q.1 (by decide)
  · rw [h] at q2; exact absurd q2.1.1 (by decide)
  · rw [h] at q2; exact absurd q2.1.2 (by decide)
  · rw [h] at q2; exact absurd q2.2 (by decide)
end
section
/-! TabledRules, first: printed by gen/x1.py -/
abbrev rmX0_isThing : Room := { frames := 0, cells := 0, slots := 0, locals := 0 }
set_option maxHeartbeats 4000000 in
set_option maxRecDepth 100000 in
/-- isThing(x): is x one of 0..4? -/
theorem tx_isThing (l : Launch) (D : va_G) (rx : Int32)  : tr_Mi l D [] yX0_isThing (ws_ yX0_isThing cX0_isThing 1 (some .boolean)) rmX0_isThing [.int rx] ([]) (fun (r : Int32) (u : Unit) => r = nI (tr_rg rx).toNat) (fun (u : Unit) => []) := by
  refine tr_Mi.of (by decide) (Nat.le_of_ble_eq_true rfl) ?_
  intro p e s m args below meth c A Q ls hC hret hP hD hS hl
  have hC0 := hC
  obtain ⟨hx, hb, hlk, hml, hown, hts, hA, hK⟩ := hC0
  have hl : lv_has ls 1 [(0, .int rx)] := hl
  refine lv_iload_n hx hb dX0_isThing_0 rfl (lv_at hl 0 rfl) ?_
  refine lv_if_lt (tgt := 13) hx hb dX0_isThing_1 (by decide) (fun c1 => ?_) (fun c1 => ?_)
  · refine lv_iconst (v := (nI 0)) hx hb dX0_isThing_13 (by decide) ?_
    exact hret _ _ _ () _ _ dX0_isThing_14 (tr_nzv (by omega)) (by rw [tr_rg_f1 c1]; rfl) hP hD hS
  · refine lv_iload_n hx hb dX0_isThing_4 rfl (lv_at hl 0 rfl) ?_
    refine lv_iconst (v := (nI 5)) hx hb dX0_isThing_5 (by decide) ?_
    refine lv_icmp_ge (tgt := 13) hx hb dX0_isThing_6 (by decide) (fun c2 => ?_) (fun c2 => ?_)
    · refine lv_iconst (v := (nI 0)) hx hb dX0_isThing_13 (by decide) ?_
      exact hret _ _ _ () _ _ dX0_isThing_14 (tr_nzv (by omega)) (by rw [tr_rg_f2 c2]; rfl) hP hD hS
    · refine lv_iconst (v := (nI 1)) hx hb dX0_isThing_9 (by decide) ?_
      refine lv_goto (tgt := 14) hx hb dX0_isThing_10 (by decide) ?_
      exact hret _ _ _ () _ _ dX0_isThing_14 (tr_nzv (by omega)) (by rw [tr_rg_t c1 c2]; rfl) hP hD hS
abbrev rmX0_isRelation : Room := { frames := 0, cells := 0, slots := 0, locals := 0 }
set_option maxHeartbeats 4000000 in
set_option maxRecDepth 100000 in
/-- isRelation(x): is x one of 0..4? -/
theorem tx_isRelation (l : Launch) (D : va_G) (rx : Int32)  : tr_Mi l D [] yX0_isRelation (ws_ yX0_isRelation cX0_isRelation 1 (some .boolean)) rmX0_isRelation [.int rx] ([]) (fun (r : Int32) (u : Unit) => r = nI (tr_rg rx).toNat) (fun (u : Unit) => []) := by
  refine tr_Mi.of (by decide) (Nat.le_of_ble_eq_true rfl) ?_
  intro p e s m args below meth c A Q ls hC hret hP hD hS hl
  have hC0 := hC
  obtain ⟨hx, hb, hlk, hml, hown, hts, hA, hK⟩ := hC0
  have hl : lv_has ls 1 [(0, .int rx)] := hl
  refine lv_iload_n hx hb dX0_isRelation_0 rfl (lv_at hl 0 rfl) ?_
  refine lv_if_lt (tgt := 13) hx hb dX0_isRelation_1 (by decide) (fun c1 => ?_) (fun c1 => ?_)
  · refine lv_iconst (v := (nI 0)) hx hb dX0_isRelation_13 (by decide) ?_
    exact hret _ _ _ () _ _ dX0_isRelation_14 (tr_nzv (by omega)) (by rw [tr_rg_f1 c1]; rfl) hP hD hS
  · refine lv_iload_n hx hb dX0_isRelation_4 rfl (lv_at hl 0 rfl) ?_
    refine lv_iconst (v := (nI 5)) hx hb dX0_isRelation_5 (by decide) ?_
    refine lv_icmp_ge (tgt := 13) hx hb dX0_isRelation_6 (by decide) (fun c2 => ?_) (fun c2 => ?_)
    · refine lv_iconst (v := (nI 0)) hx hb dX0_isRelation_13 (by decide) ?_
      exact hret _ _ _ () _ _ dX0_isRelation_14 (tr_nzv (by omega)) (by rw [tr_rg_f2 c2]; rfl) hP hD hS
    · refine lv_iconst (v := (nI 1)) hx hb dX0_isRelation_9 (by decide) ?_
      refine lv_goto (tgt := 14) hx hb dX0_isRelation_10 (by decide) ?_
      exact hret _ _ _ () _ _ dX0_isRelation_14 (tr_nzv (by omega)) (by rw [tr_rg_t c1 c2]; rfl) hP hD hS
abbrev rmX0_ones : Room := { frames := 0, cells := 0, slots := 0, locals := 0 }
set_option maxHeartbeats 4000000 in
set_option maxRecDepth 100000 in
/-- ones(set): how many of five bits -/
theorem tx_ones (l : Launch) (D : va_G) (ra : Nat) (la : ra < 32) : tr_Mi l D [] yX0_ones (ws_ yX0_ones cX0_ones 3 (some .int)) rmX0_ones [.int (nI ra)] ([]) (fun (r : Int32) (u : Unit) => r = nI (tr_pc ra 5)) (fun (u : Unit) => []) := by
  refine tr_Mi.of (by decide) (Nat.le_of_ble_eq_true rfl) ?_
  intro p e s m args below meth c A Q ls hC hret hP hD hS hl
  have hC0 := hC
  obtain ⟨hx, hb, hlk, hml, hown, hts, hA, hK⟩ := hC0
  have hl : lv_has ls 3 [(0, .int (nI ra))] := hl
  refine lv_iconst (v := (nI 0)) hx hb dX0_ones_0 (by decide) ?_
  refine lv_istore_n (lv' := [(1, .int (nI 0)), (0, .int (nI ra))]) hx hb dX0_ones_1 rfl hl (by decide) rfl (fun ls hl => ?_)
  refine lv_iconst (v := (nI 0)) hx hb dX0_ones_2 (by decide) ?_
  refine lv_istore_n (lv' := [(2, .int (nI 0)), (1, .int (nI 0)), (0, .int (nI ra))]) hx hb dX0_ones_3 rfl hl (by decide) rfl (fun ls hl => ?_)
  have loop : ∀ (n : Nat) (i : Nat) (H : Heap) (locs : List Loc) (ls : Array Slot), i ≤ 5 → 5 + 1 ≤ i + n → va_P D tr_Cl ([]) H → va_D A ([]) → va_S A s.heap H locs → lv_has ls 3 [(0, .int (nI ra)), (1, .int (nI (tr_sum (fun j => (ra.testBit j).toNat) i))), (2, .int (nI i))] → W p l e rmX0_ones s m args below meth c H locs 0 0 Q (F0 m 4 ls []) := by
    intro n
    induction n with
    | zero =>
      intro i H locs ls h1 h2
      exact absurd h2 (by omega)
    | succ n ihloop =>
      intro i H locs ls hiloop hnloop  hP hD hS hl
      refine lv_iload_n hx hb dX0_ones_4 rfl (lv_at hl 2 rfl) ?_
      refine lv_iconst (v := (nI 5)) hx hb dX0_ones_5 (by decide) ?_
      refine ni_ge (tgt := 23) hx hb (by omega) (by omega) dX0_ones_6 (by decide) (fun c1 => ?_) (fun c1 => ?_)
      · refine lv_iload_n hx hb dX0_ones_23 rfl (lv_at hl 1 rfl) ?_
        have e5 : i = 5 := by omega
        subst e5
        exact hret _ _ _ () _ _ dX0_ones_24 rfl rfl hP hD hS
      · refine lv_iload_n hx hb dX0_ones_9 rfl (lv_at hl 1 rfl) ?_
        refine lv_iload_n hx hb dX0_ones_10 rfl (lv_at hl 0 rfl) ?_
        refine lv_iload_n hx hb dX0_ones_11 rfl (lv_at hl 2 rfl) ?_
        refine lv_ishr hx hb dX0_ones_12 ?_
        refine lv_iconst (v := (nI 1)) hx hb dX0_ones_13 (by decide) ?_
        refine lv_iand hx hb dX0_ones_14 ?_
        refine tr_top (v := (nI (ra.testBit i).toNat)) (tr_bitI (by omega) (by omega)) ?_
        refine lv_iadd hx hb dX0_ones_15 ?_
        refine tr_top (v := (nI ((tr_sum (fun j => (ra.testBit j).toNat) i) + (ra.testBit i).toNat))) (nI_add _ _) ?_
        refine tr_top (v := (nI (tr_sum (fun j => (ra.testBit j).toNat) (i + 1)))) rfl ?_
        refine lv_istore_n (lv' := [(1, .int (nI (tr_sum (fun j => (ra.testBit j).toNat) (i + 1)))), (0, .int (nI ra)), (2, .int (nI i))]) hx hb dX0_ones_16 rfl hl (by decide) rfl (fun ls hl => ?_)
        refine lv_iinc (v := (nI (i + 1))) (lv' := [(2, .int (nI (i + 1))), (1, .int (nI (tr_sum (fun j => (ra.testBit j).toNat) (i + 1)))), (0, .int (nI ra))]) hx hb dX0_ones_17 hl (k := 2) rfl (nI_1 _) (by decide) rfl (fun ls hl => ?_)
        refine lv_goto (tgt := 4) hx hb dX0_ones_20 (by decide) ?_
        exact ihloop (i + 1) _ _ _ (by omega) (by omega) hP hD hS (lv_sub hl [2, 1, 0] rfl)
  have h0 : (nI 0 : Int32) = nI (tr_sum (fun j => (ra.testBit j).toNat) 0) := rfl
  have hl : lv_has ls 3 [(2, .int (nI 0)), (1, .int (nI (tr_sum (fun j => (ra.testBit j).toNat) 0))), (0, .int (nI ra))] := hl
  exact loop 6 0 _ _ _ (by omega) (by omega) hP hD hS (lv_sub hl [2, 1, 0] rfl)
abbrev rmX0_has : Room := { frames := 0, cells := 0, slots := 0, locals := 0 }
set_option maxHeartbeats 4000000 in
set_option maxRecDepth 100000 in
/-- has(k): is rule k there? -/
theorem tx_has (l : Launch) (D : va_G) (dB : ClassId) (q : Nat → Nat) (K : tr_C) (ak : Nat) (an : Nat → Nat) (fr : Nat) (ct : Nat → Nat) (rk : Int32) (ok : tr_ok K) : tr_Mi l D (tr_XT dB) yX0_has (ws_ yX0_has cX0_has 2 (some .boolean)) rmX0_has [.ref (q 0), .int rk] (tr_XW dB q K ak an fr ct) (fun (r : Int32) (u : Unit) => r = nI (tr_hs K rk).toNat) (fun (u : Unit) => tr_XW dB q K ak an fr ct) := by
  refine tr_Mi.of (by decide) (Nat.le_of_ble_eq_true rfl) ?_
  intro p e s m args below meth c A Q ls hC hret hP hD hS hl
  have hC0 := hC
  obtain ⟨hx, hb, hlk, hml, hown, hts, hA, hK⟩ := hC0
  have hl : lv_has ls 2 [(0, .ref (q 0)), (1, .int rk)] := hl
  refine lv_iload_n hx hb dX0_has_0 rfl (lv_at hl 1 rfl) ?_
  refine lv_if_lt (tgt := 25) hx hb dX0_has_1 (by decide) (fun c1 => ?_) (fun c1 => ?_)
  · refine lv_iconst (v := (nI 0)) hx hb dX0_has_25 (by decide) ?_
    exact hret _ _ _ () _ _ dX0_has_26 (tr_nzv (by omega)) (by rw [tr_hs_f (tr_r8_f1 c1)]; rfl) hP hD hS
  · refine lv_iload_n hx hb dX0_has_4 rfl (lv_at hl 1 rfl) ?_
    refine lv_bipush (v := (nI 8)) hx hb dX0_has_5 (by decide) ?_
    refine lv_icmp_ge (tgt := 25) hx hb dX0_has_7 (by decide) (fun c2 => ?_) (fun c2 => ?_)
    · refine lv_iconst (v := (nI 0)) hx hb dX0_has_25 (by decide) ?_
      exact hret _ _ _ () _ _ dX0_has_26 (tr_nzv (by omega)) (by rw [tr_hs_f (tr_r8_f2 c2)]; rfl) hP hD hS
    · obtain ⟨k, lk, rfl⟩ := tr_r8_n (tr_r8_t c1 c2)
      have hp8 := ok.2.1
      refine lv_aload_n hx hb dX0_has_10 rfl (lv_at hl 0 rfl) ?_
      refine xg_31 hC hP dX0_has_11 ?_
      refine lv_iload_n hx hb dX0_has_14 rfl (lv_at hl 1 rfl) ?_
      refine lv_ishr hx hb dX0_has_15 ?_
      refine lv_iconst (v := (nI 1)) hx hb dX0_has_16 (by decide) ?_
      refine lv_iand hx hb dX0_has_17 ?_
      refine tr_top (v := (nI ((kP K).testBit k).toNat)) (tr_bitI (by omega) (by omega)) ?_
      refine nb_eq (tgt := 25) hx hb dX0_has_18 (by decide) (fun c3 => ?_) (fun c3 => ?_)
      · refine lv_iconst (v := (nI 0)) hx hb dX0_has_25 (by decide) ?_
        exact hret _ _ _ () _ _ dX0_has_26 (tr_nzv (by omega)) (by rw [tr_hs_nI lk, c3]; rfl) hP hD hS
      · refine lv_iconst (v := (nI 1)) hx hb dX0_has_21 (by decide) ?_
        refine lv_goto (tgt := 26) hx hb dX0_has_22 (by decide) ?_
        exact hret _ _ _ () _ _ dX0_has_26 (tr_nzv (by omega)) (by rw [tr_hs_nI lk, c3]; rfl) hP hD hS
abbrev rmX0_forget : Room := { frames := 0, cells := 0, slots := 0, locals := 0 }
set_option maxHeartbeats 4000000 in
set_option maxRecDepth 100000 in
/-- forget(): the tables are empty -/
theorem tx_forget (l : Launch) (D : va_G) (dB : ClassId) (q : Nat → Nat) (K : tr_C) (ak : Nat) (an : Nat → Nat) (fr : Nat) (ct : Nat → Nat)   : tr_Mv l D (tr_XT dB) yX0_forget (ws_ yX0_forget cX0_forget 2 none) rmX0_forget [.ref (q 0)] (tr_XW dB q K ak an fr ct) (fun (u : Unit) => True) (fun (u : Unit) => tr_XW dB q K 0 (tr_z an 25) fr ct) := by
  refine tr_Mv.of (by decide) (Nat.le_of_ble_eq_true rfl) ?_
  intro p e s m args below meth c A Q ls hC hret hP hD hS hl
  have hC0 := hC
  obtain ⟨hx, hb, hlk, hml, hown, hts, hA, hK⟩ := hC0
  have hl : lv_has ls 2 [(0, .ref (q 0))] := hl
  refine lv_aload_n hx hb dX0_forget_0 rfl (lv_at hl 0 rfl) ?_
  refine lv_iconst (v := (nI 0)) hx hb dX0_forget_1 (by decide) ?_
  refine xp_35 hC hP hD hS dX0_forget_2 (fun H locs hP hD hS => ?_)
  have hP : va_P D tr_Cl (tr_XW dB q K 0 an fr ct) H := hP
  have hD : va_D A (tr_XW dB q K 0 an fr ct) := hD
  refine lv_iconst (v := (nI 0)) hx hb dX0_forget_5 (by decide) ?_
  refine lv_istore_n (lv' := [(1, .int (nI 0)), (0, .ref (q 0))]) hx hb dX0_forget_6 rfl hl (by decide) rfl (fun ls hl => ?_)
  have loop : ∀ (n : Nat) (i : Nat) (H : Heap) (locs : List Loc) (ls : Array Slot), i ≤ 25 → 25 + 1 ≤ i + n → va_P D tr_Cl (tr_XW dB q K 0 (tr_z an i) fr ct) H → va_D A (tr_XW dB q K 0 (tr_z an i) fr ct) → va_S A s.heap H locs → lv_has ls 2 [(0, .ref (q 0)), (1, .int (nI i))] → W p l e rmX0_forget s m args below meth c H locs 0 0 Q (F0 m 7 ls []) := by
    intro n
    induction n with
    | zero =>
      intro i H locs ls h1 h2
      exact absurd h2 (by omega)
    | succ n ihloop =>
      intro i H locs ls hiloop hnloop  hP hD hS hl
      refine lv_iload_n hx hb dX0_forget_7 rfl (lv_at hl 1 rfl) ?_
      refine lv_bipush (v := (nI 25)) hx hb dX0_forget_8 (by decide) ?_
      refine ni_ge (tgt := 26) hx hb (by omega) (by omega) dX0_forget_10 (by decide) (fun c1 => ?_) (fun c1 => ?_)
      · have e5 : i = 25 := by omega
        subst e5
        exact hret _ _ () _ _ dX0_forget_26 trivial hP hD hS
      · refine lv_aload_n hx hb dX0_forget_13 rfl (lv_at hl 0 rfl) ?_
        refine xg_25 hC hP dX0_forget_14 ?_
        refine lv_iload_n hx hb dX0_forget_17 rfl (lv_at hl 1 rfl) ?_
        refine lv_iconst (v := (nI 0)) hx hb dX0_forget_18 (by decide) ?_
        refine xs_6 hC hP hD hS (by omega) (by omega) dX0_forget_19 (fun H locs hP hD hS => ?_)
        have hP : va_P D tr_Cl (tr_XW dB q K 0 (va_up (tr_z an i) i 0) fr ct) H := hP
        have hD : va_D A (tr_XW dB q K 0 (va_up (tr_z an i) i 0) fr ct) := hD
        rw [tr_z_s] at hP hD
        refine lv_iinc (v := (nI (i + 1))) (lv' := [(1, .int (nI (i + 1))), (0, .ref (q 0))]) hx hb dX0_forget_20 hl (k := 1) rfl (nI_1 _) (by decide) rfl (fun ls hl => ?_)
        refine lv_goto (tgt := 7) hx hb dX0_forget_23 (by decide) ?_
        exact ihloop (i + 1) _ _ _ (by omega) (by omega) hP hD hS (lv_sub hl [1, 0] rfl)
  have hP : va_P D tr_Cl (tr_XW dB q K 0 (tr_z an 0) fr ct) H := by rw [tr_z_0]; exact hP
  have hD : va_D A (tr_XW dB q K 0 (tr_z an 0) fr ct) := by rw [tr_z_0]; exact hD
  exact loop 26 0 _ _ _ (by omega) (by omega) hP hD hS (lv_sub hl [1, 0] rfl)
abbrev rmX0_turnPair : Room := { frames := 1, cells := 0, slots := 0, locals := 21 }
set_option maxHeartbeats 4000000 in
set_option maxRecDepth 100000 in
/-- turnPair: a given pair on or off, the tables empty -/
theorem tx_turnPair (l : Launch) (D : va_G) (dB : ClassId) (q : Nat → Nat) (K : tr_C) (ak : Nat) (an : Nat → Nat) (fr : Nat) (ct : Nat → Nat) (g rx ry : Nat) (b : Bool) (ok : tr_ok K) (lg : g < 2) (lx : rx < 5) (ly : ry < 5) : tr_Mv l D (tr_XT dB) yX0_turnPair (ws_ yX0_turnPair cX0_turnPair 6 none) rmX0_turnPair [.ref (q 0), .int (nI g), .int (nI rx), .int (nI ry), .int (nI b.toNat)] (tr_XW dB q K ak an fr ct) (fun (u : Unit) => True) (fun (u : Unit) => tr_XW dB q (tr_gv K g rx ry b) 0 (tr_z an 25) fr ct) := by
  refine tr_Mv.of (by decide) (Nat.le_of_ble_eq_true rfl) ?_
  intro p e s m args below meth c A Q ls hC hret hP hD hS hl
  have hC0 := hC
  obtain ⟨hx, hb, hlk, hml, hown, hts, hA, hK⟩ := hC0
  have hl : lv_has ls 6 [(0, .ref (q 0)), (1, .int (nI g)), (2, .int (nI rx)), (3, .int (nI ry)), (4, .int (nI b.toNat))] := hl
  have hg5 := ok.1 (5 * g + rx)
  refine lv_iload_n hx hb dX0_turnPair_0 rfl (lv_at hl 1 rfl) ?_
  refine lv_iconst (v := (nI 5)) hx hb dX0_turnPair_1 (by decide) ?_
  refine lv_imul hx hb dX0_turnPair_2 ?_
  refine tr_top (v := (nI (g * 5))) (pk_mul _ _) ?_
  refine lv_iload_n hx hb dX0_turnPair_3 rfl (lv_at hl 2 rfl) ?_
  refine lv_iadd hx hb dX0_turnPair_4 ?_
  refine tr_top (v := (nI ((g * 5) + rx))) (nI_add _ _) ?_
  refine tr_top (v := (nI (5 * g + rx))) (congrArg nI (by omega)) ?_
  refine lv_istore (lv' := [(5, .int (nI (5 * g + rx))), (0, .ref (q 0)), (1, .int (nI g)), (2, .int (nI rx)), (3, .int (nI ry)), (4, .int (nI b.toNat))]) hx hb dX0_turnPair_5 hl (by decide) rfl (fun ls hl => ?_)
  refine lv_aload_n hx hb dX0_turnPair_7 rfl (lv_at hl 1 rfl) ?_
  refine xg_7 hC hP dX0_turnPair_8 ?_
  refine lv_iload hx hb dX0_turnPair_11 (lv_at hl 0 rfl) ?_
  refine lv_iload hx hb dX0_turnPair_13 (lv_at hl 5 rfl) ?_
  refine nb_eq (tgt := 32) hx hb dX0_turnPair_15 (by decide) (fun c1 => ?_) (fun c1 => ?_)
  · subst c1
    refine lv_aload_n hx hb dX0_turnPair_32 rfl (lv_at hl 1 rfl) ?_
    refine xg_7 hC hP dX0_turnPair_33 ?_
    refine lv_iload hx hb dX0_turnPair_36 (lv_at hl 0 rfl) ?_
    refine xl_1 hC hP (by omega) dX0_turnPair_38 ?_
    refine lv_iconst (v := (nI 1)) hx hb dX0_turnPair_39 (by decide) ?_
    refine lv_iload_n hx hb dX0_turnPair_40 rfl (lv_at hl 4 rfl) ?_
    refine lv_ishl hx hb dX0_turnPair_41 ?_
    refine tr_top (v := (nI (2 ^ ry))) (tr_shlI (by omega)) ?_
    refine lv_iconst (v := (-1)) hx hb dX0_turnPair_42 (by decide) ?_
    refine lv_ixor hx hb dX0_turnPair_43 ?_
    refine lv_iand hx hb dX0_turnPair_44 ?_
    refine tr_top (v := (nI (tr_setb 5 (kG K (5 * g + rx)) ry false))) (tr_clrI (n := 5) (by omega) hg5 ly) ?_
    have h32 := tr_setb_lt 5 (kG K (5 * g + rx)) ry false
    refine lv_i2b hx hb dX0_turnPair_45 (tr_i2b _ (by omega)) ?_
    refine xs_1 hC hP hD hS (by omega) (tr_setb_lt 5 _ _ _ |> fun h => Nat.lt_trans h (by decide)) dX0_turnPair_46 (fun H locs hP hD hS => ?_)
    have hP : va_P D tr_Cl (tr_XW dB q (tr_gv K g rx ry false) ak an fr ct) H := hP
    have hD : va_D A (tr_XW dB q (tr_gv K g rx ry false) ak an fr ct) := hD
    refine lv_aload_n hx hb dX0_turnPair_47 rfl (lv_at hl 1 rfl) ?_
    refine xc_v (n := 0) hC (tx_forget l D dB q (tr_gv K g rx ry false) ak an fr ct) (lw_V q72 q74 qs1 q19 q75) (by decide +kernel) rfl (by decide) hP hD hS hl.1 [] rfl (Nat.le_of_ble_eq_true rfl) dX0_turnPair_48 (fun u H locs hp hP hD hS => ?_)
    have hP : va_P D tr_Cl (tr_XW dB q (tr_gv K g rx ry false) 0 (tr_z an 25) fr ct) H := hP
    have hD : va_D A (tr_XW dB q (tr_gv K g rx ry false) 0 (tr_z an 25) fr ct) := hD
    exact hret _ _ () _ _ dX0_turnPair_51 trivial hP hD hS
  · subst c1
    refine lv_aload_n hx hb dX0_turnPair_18 rfl (lv_at hl 1 rfl) ?_
    refine xg_7 hC hP dX0_turnPair_19 ?_
    refine lv_iload hx hb dX0_turnPair_22 (lv_at hl 0 rfl) ?_
    refine xl_1 hC hP (by omega) dX0_turnPair_24 ?_
    refine lv_iconst (v := (nI 1)) hx hb dX0_turnPair_25 (by decide) ?_
    refine lv_iload_n hx hb dX0_turnPair_26 rfl (lv_at hl 4 rfl) ?_
    refine lv_ishl hx hb dX0_turnPair_27 ?_
    refine tr_top (v := (nI (2 ^ ry))) (tr_shlI (by omega)) ?_
    refine lv_ior hx hb dX0_turnPair_28 ?_
    refine tr_top (v := (nI ((kG K (5 * g + rx)) ||| (2 ^ ry)))) (nx_or _ _) ?_
    refine tr_top (v := (nI (tr_setb 5 (kG K (5 * g + rx)) ry true))) (by rw [tr_setb_or (n := 5) hg5 ly]) ?_
    have h32 := tr_setb_lt 5 (kG K (5 * g + rx)) ry true
    refine lv_goto (tgt := 45) hx hb dX0_turnPair_29 (by decide) ?_
    refine lv_i2b hx hb dX0_turnPair_45 (tr_i2b _ (by omega)) ?_
    refine xs_1 hC hP hD hS (by omega) (tr_setb_lt 5 _ _ _ |> fun h => Nat.lt_trans h (by decide)) dX0_turnPair_46 (fun H locs hP hD hS => ?_)
    have hP : va_P D tr_Cl (tr_XW dB q (tr_gv K g rx ry true) ak an fr ct) H := hP
    have hD : va_D A (tr_XW dB q (tr_gv K g rx ry true) ak an fr ct) := hD
    refine lv_aload_n hx hb dX0_turnPair_47 rfl (lv_at hl 1 rfl) ?_
    refine xc_v (n := 0) hC (tx_forget l D dB q (tr_gv K g rx ry true) ak an fr ct) (lw_V q72 q74 qs1 q19 q75) (by decide +kernel) rfl (by decide) hP hD hS hl.1 [] rfl (Nat.le_of_ble_eq_true rfl) dX0_turnPair_48 (fun u H locs hp hP hD hS => ?_)
    have hP : va_P D tr_Cl (tr_XW dB q (tr_gv K g rx ry true) 0 (tr_z an 25) fr ct) H := hP
    have hD : va_D A (tr_XW dB q (tr_gv K g rx ry true) 0 (tr_z an 25) fr ct) := hD
    exact hret _ _ () _ _ dX0_turnPair_51 trivial hP hD hS
abbrev rmX0_give : Room := { frames := 2, cells := 0, slots := 0, locals := 46 }
set_option maxHeartbeats 4000000 in
set_option maxRecDepth 100000 in
/-- give -/
theorem tx_give (l : Launch) (D : va_G) (dB : ClassId) (q : Nat → Nat) (K : tr_C) (ak : Nat) (an : Nat → Nat) (fr : Nat) (ct : Nat → Nat) (rg rx ry : Int32) (b : Bool) (ok : tr_ok K) (di : tr_di K ak an fr) : tr_Mi l D (tr_XT dB) yX0_give (ws_ yX0_give cX0_give 5 (some .boolean)) rmX0_give [.ref (q 0), .int rg, .int rx, .int ry, .int (nI b.toNat)] (tr_XW dB q K ak an fr ct) (fun (r : Int32) (u : Nat × (Nat → Nat) × Nat) => r = nI (tr_gc rg rx ry).toNat ∧ tr_di (tr_gK K rg rx ry b) u.1 u.2.1 u.2.2) (fun (u : Nat × (Nat → Nat) × Nat) => tr_XW dB q (tr_gK K rg rx ry b) u.1 u.2.1 u.2.2 ct) := by
  refine tr_Mi.of (by decide) (Nat.le_of_ble_eq_true rfl) ?_
  intro p e s m args below meth c A Q ls hC hret hP hD hS hl
  have hC0 := hC
  obtain ⟨hx, hb, hlk, hml, hown, hts, hA, hK⟩ := hC0
  have hl : lv_has ls 5 [(0, .ref (q 0)), (1, .int rg), (2, .int rx), (3, .int ry), (4, .int (nI b.toNat))] := hl
  refine lv_iload_n hx hb dX0_give_0 rfl (lv_at hl 1 rfl) ?_
  refine lv_if_lt (tgt := 23) hx hb dX0_give_1 (by decide) (fun c1 => ?_) (fun c1 => ?_)
  · refine lv_iconst (v := (nI 0)) hx hb dX0_give_23 (by decide) ?_
    have hcf : tr_gc rg rx ry = false := by rw [tr_gc, tr_r2_f1 c1]; simp
    exact hret _ _ _ (ak, an, fr) _ _ dX0_give_24 (tr_nzv (by omega)) (⟨by rw [hcf]; rfl, by rw [tr_gK_f hcf]; exact di⟩) (by rw [tr_gK_f hcf]; exact hP) (by rw [tr_gK_f hcf]; exact hD) hS
  · refine lv_iload_n hx hb dX0_give_4 rfl (lv_at hl 1 rfl) ?_
    refine lv_iconst (v := (nI 1)) hx hb dX0_give_5 (by decide) ?_
    refine lv_icmp_gt (tgt := 23) hx hb dX0_give_6 (by decide) (fun c2 => ?_) (fun c2 => ?_)
    · refine lv_iconst (v := (nI 0)) hx hb dX0_give_23 (by decide) ?_
      have hcf : tr_gc rg rx ry = false := by rw [tr_gc, tr_r2_f2 c2]; simp
      exact hret _ _ _ (ak, an, fr) _ _ dX0_give_24 (tr_nzv (by omega)) (⟨by rw [hcf]; rfl, by rw [tr_gK_f hcf]; exact di⟩) (by rw [tr_gK_f hcf]; exact hP) (by rw [tr_gK_f hcf]; exact hD) hS
    · refine lv_iload_n hx hb dX0_give_9 rfl (lv_at hl 2 rfl) ?_
      refine tr_cs (n := 1) (rest := []) hC (tx_isThing l D rx) (lw_S q65 q66 q19 q67) (by decide +kernel) rfl (by decide) hP hS hl.1 rfl (Nat.le_of_ble_eq_true rfl) dX0_give_10 ⟨Nat.zero_le _, Nat.zero_le _⟩ (fun r H locs hp hP hS => ?_)
      subst hp
      refine nb_eq (tgt := 23) hx hb dX0_give_13 (by decide) (fun c3 => ?_) (fun c3 => ?_)
      · refine lv_iconst (v := (nI 0)) hx hb dX0_give_23 (by decide) ?_
        have hcf : tr_gc rg rx ry = false := by rw [tr_gc, c3]; simp
        exact hret _ _ _ (ak, an, fr) _ _ dX0_give_24 (tr_nzv (by omega)) (⟨by rw [hcf]; rfl, by rw [tr_gK_f hcf]; exact di⟩) (by rw [tr_gK_f hcf]; exact hP) (by rw [tr_gK_f hcf]; exact hD) hS
      · refine lv_iload_n hx hb dX0_give_16 rfl (lv_at hl 3 rfl) ?_
        refine tr_cs (n := 1) (rest := []) hC (tx_isThing l D ry) (lw_S q65 q66 q19 q67) (by decide +kernel) rfl (by decide) hP hS hl.1 rfl (Nat.le_of_ble_eq_true rfl) dX0_give_17 ⟨Nat.zero_le _, Nat.zero_le _⟩ (fun r H locs hp hP hS => ?_)
        subst hp
        refine nb_ne (tgt := 25) hx hb dX0_give_20 (by decide) (fun c4 => ?_) (fun c4 => ?_)
        · obtain ⟨g, lg, rfl⟩ := tr_r2_n (tr_r2_t c1 c2)
          obtain ⟨x1, lx, rfl⟩ := tr_rg_n c3
          obtain ⟨y1, ly, rfl⟩ := tr_rg_n c4
          refine lv_aload_n hx hb dX0_give_25 rfl (lv_at hl 0 rfl) ?_
          refine lv_iload_n hx hb dX0_give_26 rfl (lv_at hl 1 rfl) ?_
          refine lv_iload_n hx hb dX0_give_27 rfl (lv_at hl 2 rfl) ?_
          refine lv_iload_n hx hb dX0_give_28 rfl (lv_at hl 3 rfl) ?_
          refine lv_iload hx hb dX0_give_29 (lv_at hl 4 rfl) ?_
          refine xc_v (n := 4) hC (tx_turnPair l D dB q K ak an fr ct g x1 y1 b ok lg lx ly) (lw_V q68 q70 qs0 q19 q71) (by decide +kernel) rfl (by decide) hP hD hS hl.1 [] rfl (Nat.le_of_ble_eq_true rfl) dX0_give_31 (fun u H locs hp hP hD hS => ?_)
          have hP : va_P D tr_Cl (tr_XW dB q (tr_gv K g x1 y1 b) 0 (tr_z an 25) fr ct) H := hP
          have hD : va_D A (tr_XW dB q (tr_gv K g x1 y1 b) 0 (tr_z an 25) fr ct) := hD
          refine lv_iconst (v := (nI 1)) hx hb dX0_give_34 (by decide) ?_
          exact hret _ _ _ (0, tr_z an 25, fr) _ _ dX0_give_35 (tr_nzv (by omega)) (⟨by rw [tr_gc_n lg lx ly]; rfl, tr_di_z di.2.1 di.2.2.1⟩) (by rw [tr_gK_n lg lx ly]; exact hP) (by rw [tr_gK_n lg lx ly]; exact hD) hS
        · refine lv_iconst (v := (nI 0)) hx hb dX0_give_23 (by decide) ?_
          have hcf : tr_gc rg rx ry = false := by rw [tr_gc, c4]; simp
          exact hret _ _ _ (ak, an, fr) _ _ dX0_give_24 (tr_nzv (by omega)) (⟨by rw [hcf]; rfl, by rw [tr_gK_f hcf]; exact di⟩) (by rw [tr_gK_f hcf]; exact hP) (by rw [tr_gK_f hcf]; exact hD) hS
abbrev rmX0_rule : Room := { frames := 1, cells := 0, slots := 0, locals := 21 }
set_option maxHeartbeats 4000000 in
set_option maxRecDepth 100000 in
/-- rule -/
theorem tx_rule (l : Launch) (D : va_G) (dB : ClassId) (q : Nat → Nat) (K : tr_C) (ak : Nat) (an : Nat → Nat) (fr : Nat) (ct : Nat → Nat) (rf rh rz : Int32) (ok : tr_ok K) (di : tr_di K ak an fr) : tr_Mi l D (tr_XT dB) yX0_rule (ws_ yX0_rule cX0_rule 7 (some .int)) rmX0_rule [.ref (q 0), .int rf, .int rh, .int rz] (tr_XW dB q K ak an fr ct) (fun (r : Int32) (u : Nat × (Nat → Nat) × Nat) => r = tr_rR K rf rh rz ∧ tr_di (tr_rK K rf rh rz) u.1 u.2.1 u.2.2) (fun (u : Nat × (Nat → Nat) × Nat) => tr_XW dB q (tr_rK K rf rh rz) u.1 u.2.1 u.2.2 ct) := by
  refine tr_Mi.of (by decide) (Nat.le_of_ble_eq_true rfl) ?_
  intro p e s m args below meth c A Q ls hC hret hP hD hS hl
  have hC0 := hC
  obtain ⟨hx, hb, hlk, hml, hown, hts, hA, hK⟩ := hC0
  have hl : lv_has ls 7 [(0, .ref (q 0)), (1, .int rf), (2, .int rh), (3, .int rz)] := hl
  refine lv_iload_n hx hb dX0_rule_0 rfl (lv_at hl 3 rfl) ?_
  refine lv_bipush (v := (nI 7)) hx hb dX0_rule_1 (by decide) ?_
  refine lv_iand hx hb dX0_rule_3 ?_
  refine lv_istore (lv' := [(4, .int (rz &&& (nI 7))), (0, .ref (q 0)), (1, .int rf), (2, .int rh), (3, .int rz)]) hx hb dX0_rule_4 hl (by decide) rfl (fun ls hl => ?_)
  refine lv_iload_n hx hb dX0_rule_6 rfl (lv_at hl 4 rfl) ?_
  refine lv_iconst (v := (nI 3)) hx hb dX0_rule_7 (by decide) ?_
  refine lv_ishr hx hb dX0_rule_8 ?_
  refine lv_istore (lv' := [(5, .int (rz >>> ((nI 3) &&& 31))), (4, .int (rz &&& (nI 7))), (0, .ref (q 0)), (1, .int rf), (2, .int rh), (3, .int rz)]) hx hb dX0_rule_9 hl (by decide) rfl (fun ls hl => ?_)
  refine lv_iload_n hx hb dX0_rule_11 rfl (lv_at hl 3 rfl) ?_
  refine lv_if_lt (tgt := 46) hx hb dX0_rule_12 (by decide) (fun c1 => ?_) (fun c1 => ?_)
  · refine lv_iconst (v := (-1)) hx hb dX0_rule_46 (by decide) ?_
    have hcf : tr_rc rf rh rz = false := by rw [tr_rc, show tr_rf rf = false from decide_eq_false (fun z => z.1 c1)]; simp
    exact hret _ _ _ (ak, an, fr) _ _ dX0_rule_47 rfl (⟨(tr_rR_f hcf).1.symm, by rw [(tr_rR_f hcf).2]; exact di⟩) (by rw [(tr_rR_f hcf).2]; exact hP) (by rw [(tr_rR_f hcf).2]; exact hD) hS
  · refine lv_iload_n hx hb dX0_rule_15 rfl (lv_at hl 3 rfl) ?_
    refine lv_iconst (v := (nI 4)) hx hb dX0_rule_16 (by decide) ?_
    refine lv_icmp_gt (tgt := 46) hx hb dX0_rule_17 (by decide) (fun c2 => ?_) (fun c2 => ?_)
    · refine lv_iconst (v := (-1)) hx hb dX0_rule_46 (by decide) ?_
      have hcf : tr_rc rf rh rz = false := by rw [tr_rc, show tr_rf rf = false from decide_eq_false (fun z => z.2 c2)]; simp
      exact hret _ _ _ (ak, an, fr) _ _ dX0_rule_47 rfl (⟨(tr_rR_f hcf).1.symm, by rw [(tr_rR_f hcf).2]; exact di⟩) (by rw [(tr_rR_f hcf).2]; exact hP) (by rw [(tr_rR_f hcf).2]; exact hD) hS
    · refine lv_iload_n hx hb dX0_rule_20 rfl (lv_at hl 4 rfl) ?_
      refine lv_iconst (v := (nI 2)) hx hb dX0_rule_21 (by decide) ?_
      refine lv_icmp_lt (tgt := 46) hx hb dX0_rule_22 (by decide) (fun c3 => ?_) (fun c3 => ?_)
      · refine lv_iconst (v := (-1)) hx hb dX0_rule_46 (by decide) ?_
        have hcf : tr_rc rf rh rz = false := by rw [tr_rc, show tr_rh rh = false from decide_eq_false (fun z => z.1 c3)]; simp
        exact hret _ _ _ (ak, an, fr) _ _ dX0_rule_47 rfl (⟨(tr_rR_f hcf).1.symm, by rw [(tr_rR_f hcf).2]; exact di⟩) (by rw [(tr_rR_f hcf).2]; exact hP) (by rw [(tr_rR_f hcf).2]; exact hD) hS
      · refine lv_iload_n hx hb dX0_rule_25 rfl (lv_at hl 4 rfl) ?_
        refine lv_iconst (v := (nI 4)) hx hb dX0_rule_26 (by decide) ?_
        refine lv_icmp_gt (tgt := 46) hx hb dX0_rule_27 (by decide) (fun c4 => ?_) (fun c4 => ?_)
        · refine lv_iconst (v := (-1)) hx hb dX0_rule_46 (by decide) ?_
          have hcf : tr_rc rf rh rz = false := by rw [tr_rc, show tr_rh rh = false from decide_eq_false (fun z => z.2 c4)]; simp
          exact hret _ _ _ (ak, an, fr) _ _ dX0_rule_47 rfl (⟨(tr_rR_f hcf).1.symm, by rw [(tr_rR_f hcf).2]; exact di⟩) (by rw [(tr_rR_f hcf).2]; exact hP) (by rw [(tr_rR_f hcf).2]; exact hD) hS
        · refine lv_iload hx hb dX0_rule_30 (lv_at hl 1 rfl) ?_
          refine tr_cs (n := 1) (rest := []) hC (tx_isRelation l D (rz &&& nI 7)) (lw_S q80 q81 q19 q82) (by decide +kernel) rfl (by decide) hP hS hl.1 rfl (Nat.le_of_ble_eq_true rfl) dX0_rule_32 ⟨Nat.zero_le _, Nat.zero_le _⟩ (fun r H locs hp hP hS => ?_)
          subst hp
          refine nb_eq (tgt := 46) hx hb dX0_rule_35 (by decide) (fun c5 => ?_) (fun c5 => ?_)
          · refine lv_iconst (v := (-1)) hx hb dX0_rule_46 (by decide) ?_
            have hcf : tr_rc rf rh rz = false := by rw [tr_rc, c5]; simp
            exact hret _ _ _ (ak, an, fr) _ _ dX0_rule_47 rfl (⟨(tr_rR_f hcf).1.symm, by rw [(tr_rR_f hcf).2]; exact di⟩) (by rw [(tr_rR_f hcf).2]; exact hP) (by rw [(tr_rR_f hcf).2]; exact hD) hS
          · refine lv_iload hx hb dX0_rule_38 (lv_at hl 0 rfl) ?_
            refine tr_cs (n := 1) (rest := []) hC (tx_isRelation l D (rz >>> (nI 3 &&& 31))) (lw_S q80 q81 q19 q82) (by decide +kernel) rfl (by decide) hP hS hl.1 rfl (Nat.le_of_ble_eq_true rfl) dX0_rule_40 ⟨Nat.zero_le _, Nat.zero_le _⟩ (fun r H locs hp hP hS => ?_)
            subst hp
            refine nb_ne (tgt := 48) hx hb dX0_rule_43 (by decide) (fun c6 => ?_) (fun c6 => ?_)
            · have hcc : tr_rc rf rh rz = true := by rw [tr_rc, show tr_rf rf = true from decide_eq_true ⟨c1, c2⟩, show tr_rh rh = true from decide_eq_true ⟨c3, c4⟩, c5, c6]; rfl
              obtain ⟨n1, l1, e1⟩ := tr_rf_n (show tr_rf rf = true from decide_eq_true ⟨c1, c2⟩)
              obtain ⟨n2, g2, l2, e2⟩ := tr_rh_n (show tr_rh rh = true from decide_eq_true ⟨c3, c4⟩)
              obtain ⟨n3, l3, e3⟩ := tr_rg_n c5
              obtain ⟨n4, l4, e4⟩ := tr_rg_n c6
              have hp8 := ok.2.1
              have E : ∀ k, tr_ff (kP K) = k → k < 8 → tr_rR K rf rh rz = nI k ∧ tr_rK K rf rh rz = tr_wr K k n1 n2 n3 n4 := by
                intro k ek hk
                refine ⟨by rw [tr_rR, if_pos hcc, ek, if_pos hk], ?_⟩
                rw [tr_rK, if_pos ⟨hcc, by rw [ek]; exact hk⟩, ek, show tr_qa rz = nI n3 from e3, show tr_qb rz = nI n4 from e4, e1, e2, tr_c_nI l1, tr_c_nI l2, tr_c_nI l3, tr_c_nI l4]
              rw [e1, e2, e3, e4] at hl
              refine lv_iconst (v := (nI 0)) hx hb dX0_rule_48 (by decide) ?_
              refine lv_istore (lv' := [(6, .int (nI 0)), (5, .int (nI n4)), (4, .int (nI n3)), (0, .ref (q 0)), (1, .int (nI n1)), (2, .int (nI n2)), (3, .int rz)]) hx hb dX0_rule_49 hl (by decide) rfl (fun ls hl => ?_)
              have loop : ∀ (n : Nat) (i : Nat) (H : Heap) (locs : List Loc) (ls : Array Slot), i ≤ 8 → 8 + 1 ≤ i + n → (∀ j, j < i → (kP K).testBit j = true) → va_P D tr_Cl (tr_XW dB q K ak an fr ct) H → va_D A (tr_XW dB q K ak an fr ct) → va_S A s.heap H locs → lv_has ls 7 [(0, .ref (q 0)), (1, .int (nI n1)), (2, .int (nI n2)), (4, .int (nI n3)), (5, .int (nI n4)), (6, .int (nI i))] → W p l e rmX0_rule s m args below meth c H locs 0 0 Q (F0 m 51 ls []) := by
                intro n
                induction n with
                | zero =>
                  intro i H locs ls h1 h2
                  exact absurd h2 (by omega)
                | succ n ihloop =>
                  intro i H locs ls hiloop hnloop hI1 hP hD hS hl
                  refine lv_iload hx hb dX0_rule_51 (lv_at hl 5 rfl) ?_
                  refine lv_bipush (v := (nI 8)) hx hb dX0_rule_53 (by decide) ?_
                  refine ni_ge (tgt := 131) hx hb (by omega) (by omega) dX0_rule_55 (by decide) (fun c1 => ?_) (fun c1 => ?_)
                  · refine lv_bipush (v := (-2)) hx hb dX0_rule_131 (by decide) ?_
                    have hfl : tr_ff (kP K) = 8 := tr_ff_no (fun j hj => hI1 j (by omega))
                    have hk9 : tr_rK K rf rh rz = K := if_neg (fun z => by have := z.2; omega)
                    exact hret _ _ _ (ak, an, fr) _ _ dX0_rule_133 rfl (⟨by rw [tr_rR, if_pos hcc, if_neg (by omega)], by rw [hk9]; exact di⟩) (by rw [hk9]; exact hP) (by rw [hk9]; exact hD) hS
                  · refine lv_aload_n hx hb dX0_rule_58 rfl (lv_at hl 0 rfl) ?_
                    refine lv_iload hx hb dX0_rule_59 (lv_at hl 5 rfl) ?_
                    refine xc_i (n := 1) hC (tx_has l D dB q K ak an fr ct (nI i) ok) (lw_V q83 q85 qs2 q19 q86) (by decide +kernel) rfl (by decide) hP hD hS hl.1 [] rfl (Nat.le_of_ble_eq_true rfl) dX0_rule_61 (fun r u H locs hp hP hD hS => ?_)
                    subst hp
                    have hP : va_P D tr_Cl (tr_XW dB q K ak an fr ct) H := hP
                    have hD : va_D A (tr_XW dB q K ak an fr ct) := hD
                    refine tr_top (v := (nI ((kP K).testBit i).toNat)) (by rw [tr_hs_nI c1]) ?_
                    refine nb_ne (tgt := 125) hx hb dX0_rule_64 (by decide) (fun c2 => ?_) (fun c2 => ?_)
                    · refine lv_iinc (v := (nI (i + 1))) (lv' := [(6, .int (nI (i + 1))), (0, .ref (q 0)), (1, .int (nI n1)), (2, .int (nI n2)), (4, .int (nI n3)), (5, .int (nI n4))]) hx hb dX0_rule_125 hl (k := 5) rfl (nI_1 _) (by decide) rfl (fun ls hl => ?_)
                      refine lv_goto (tgt := 51) hx hb dX0_rule_128 (by decide) ?_
                      exact ihloop (i + 1) _ _ _ (by omega) (by omega) (fun j hj => (Nat.lt_or_ge j i).elim (fun z => hI1 j z) (fun z => by rw [show j = i by omega]; exact c2)) hP hD hS (lv_sub hl [1, 2, 3, 4, 5, 0] rfl)
                    · obtain ⟨er, ek⟩ := E i (tr_ff_at c2 c1 hI1) c1
                      refine lv_aload_n hx hb dX0_rule_67 rfl (lv_at hl 0 rfl) ?_
                      refine lv_dup hx hb dX0_rule_68 rfl ?_
                      refine xg_31 hC hP dX0_rule_69 ?_
                      refine lv_iconst (v := (nI 1)) hx hb dX0_rule_72 (by decide) ?_
                      refine lv_iload hx hb dX0_rule_73 (lv_at hl 5 rfl) ?_
                      refine lv_ishl hx hb dX0_rule_75 ?_
                      refine tr_top (v := (nI (2 ^ i))) (tr_shlI (by omega)) ?_
                      refine lv_ior hx hb dX0_rule_76 ?_
                      refine tr_top (v := (nI ((kP K) ||| (2 ^ i)))) (nx_or _ _) ?_
                      refine tr_top (v := (nI (tr_setb 8 (kP K) i true))) (by rw [tr_setb_or (n := 8) hp8 c1]) ?_
                      refine xp_31 hC hP hD hS dX0_rule_77 (fun H locs hP hD hS => ?_)
                      have hP : va_P D tr_Cl (tr_XW dB q (K.1, tr_setb 8 (kP K) i true, K.2.2) ak an fr ct) H := hP
                      have hD : va_D A (tr_XW dB q (K.1, tr_setb 8 (kP K) i true, K.2.2) ak an fr ct) := hD
                      refine lv_aload_n hx hb dX0_rule_80 rfl (lv_at hl 0 rfl) ?_
                      refine xg_13 hC hP dX0_rule_81 ?_
                      refine lv_iload hx hb dX0_rule_84 (lv_at hl 5 rfl) ?_
                      refine lv_iload_n hx hb dX0_rule_86 rfl (lv_at hl 1 rfl) ?_
                      refine lv_i2b hx hb dX0_rule_87 (tr_i2b _ (by omega)) ?_
                      refine xs_2 hC hP hD hS (by omega) (by omega) dX0_rule_88 (fun H locs hP hD hS => ?_)
                      have hP : va_P D tr_Cl (tr_XW dB q (K.1, tr_setb 8 (kP K) i true, va_up (kF K) i n1, K.2.2.2) ak an fr ct) H := hP
                      have hD : va_D A (tr_XW dB q (K.1, tr_setb 8 (kP K) i true, va_up (kF K) i n1, K.2.2.2) ak an fr ct) := hD
                      refine lv_aload_n hx hb dX0_rule_89 rfl (lv_at hl 0 rfl) ?_
                      refine xg_16 hC hP dX0_rule_90 ?_
                      refine lv_iload hx hb dX0_rule_93 (lv_at hl 5 rfl) ?_
                      refine lv_iload_n hx hb dX0_rule_95 rfl (lv_at hl 2 rfl) ?_
                      refine lv_i2b hx hb dX0_rule_96 (tr_i2b _ (by omega)) ?_
                      refine xs_3 hC hP hD hS (by omega) (by omega) dX0_rule_97 (fun H locs hP hD hS => ?_)
                      have hP : va_P D tr_Cl (tr_XW dB q (K.1, tr_setb 8 (kP K) i true, va_up (kF K) i n1, va_up (kH K) i n2, K.2.2.2.2) ak an fr ct) H := hP
                      have hD : va_D A (tr_XW dB q (K.1, tr_setb 8 (kP K) i true, va_up (kF K) i n1, va_up (kH K) i n2, K.2.2.2.2) ak an fr ct) := hD
                      refine lv_aload_n hx hb dX0_rule_98 rfl (lv_at hl 0 rfl) ?_
                      refine xg_19 hC hP dX0_rule_99 ?_
                      refine lv_iload hx hb dX0_rule_102 (lv_at hl 5 rfl) ?_
                      refine lv_iload hx hb dX0_rule_104 (lv_at hl 3 rfl) ?_
                      refine lv_i2b hx hb dX0_rule_106 (tr_i2b _ (by omega)) ?_
                      refine xs_4 hC hP hD hS (by omega) (by omega) dX0_rule_107 (fun H locs hP hD hS => ?_)
                      have hP : va_P D tr_Cl (tr_XW dB q (K.1, tr_setb 8 (kP K) i true, va_up (kF K) i n1, va_up (kH K) i n2, va_up (kQ K) i n3, K.2.2.2.2.2) ak an fr ct) H := hP
                      have hD : va_D A (tr_XW dB q (K.1, tr_setb 8 (kP K) i true, va_up (kF K) i n1, va_up (kH K) i n2, va_up (kQ K) i n3, K.2.2.2.2.2) ak an fr ct) := hD
                      refine lv_aload_n hx hb dX0_rule_108 rfl (lv_at hl 0 rfl) ?_
                      refine xg_22 hC hP dX0_rule_109 ?_
                      refine lv_iload hx hb dX0_rule_112 (lv_at hl 5 rfl) ?_
                      refine lv_iload hx hb dX0_rule_114 (lv_at hl 4 rfl) ?_
                      refine lv_i2b hx hb dX0_rule_116 (tr_i2b _ (by omega)) ?_
                      refine xs_5 hC hP hD hS (by omega) (by omega) dX0_rule_117 (fun H locs hP hD hS => ?_)
                      have hP : va_P D tr_Cl (tr_XW dB q (tr_wr K i n1 n2 n3 n4) ak an fr ct) H := hP
                      have hD : va_D A (tr_XW dB q (tr_wr K i n1 n2 n3 n4) ak an fr ct) := hD
                      refine lv_aload_n hx hb dX0_rule_118 rfl (lv_at hl 0 rfl) ?_
                      refine xc_v (n := 0) hC (tx_forget l D dB q (tr_wr K i n1 n2 n3 n4) ak an fr ct) (lw_V q72 q74 qs1 q19 q75) (by decide +kernel) rfl (by decide) hP hD hS hl.1 [] rfl (Nat.le_of_ble_eq_true rfl) dX0_rule_119 (fun u H locs hp hP hD hS => ?_)
                      have hP : va_P D tr_Cl (tr_XW dB q (tr_wr K i n1 n2 n3 n4) 0 (tr_z an 25) fr ct) H := hP
                      have hD : va_D A (tr_XW dB q (tr_wr K i n1 n2 n3 n4) 0 (tr_z an 25) fr ct) := hD
                      refine lv_iload hx hb dX0_rule_122 (lv_at hl 5 rfl) ?_
                      exact hret _ _ _ (0, tr_z an 25, fr) _ _ dX0_rule_124 rfl (⟨er.symm, tr_di_z di.2.1 di.2.2.1⟩) (by rw [ek]; exact hP) (by rw [ek]; exact hD) hS
              exact loop 9 0 _ _ _ (by omega) (by omega) (fun j hj => absurd hj (by omega)) hP hD hS (lv_sub hl [3, 4, 5, 2, 1, 0] rfl)
            · refine lv_iconst (v := (-1)) hx hb dX0_rule_46 (by decide) ?_
              have hcf : tr_rc rf rh rz = false := by rw [tr_rc, c6]; simp
              exact hret _ _ _ (ak, an, fr) _ _ dX0_rule_47 rfl (⟨(tr_rR_f hcf).1.symm, by rw [(tr_rR_f hcf).2]; exact di⟩) (by rw [(tr_rR_f hcf).2]; exact hP) (by rw [(tr_rR_f hcf).2]; exact hD) hS
abbrev rmX0_drop : Room := { frames := 1, cells := 0, slots := 0, locals := 21 }
set_option maxHeartbeats 4000000 in
set_option maxRecDepth 100000 in
/-- drop -/
theorem tx_drop (l : Launch) (D : va_G) (dB : ClassId) (q : Nat → Nat) (K : tr_C) (ak : Nat) (an : Nat → Nat) (fr : Nat) (ct : Nat → Nat) (rk : Int32) (ok : tr_ok K) (di : tr_di K ak an fr) : tr_Mi l D (tr_XT dB) yX0_drop (ws_ yX0_drop cX0_drop 2 (some .boolean)) rmX0_drop [.ref (q 0), .int rk] (tr_XW dB q K ak an fr ct) (fun (r : Int32) (u : Nat × (Nat → Nat) × Nat) => r = nI (tr_hs K rk).toNat ∧ tr_di (tr_dK K rk) u.1 u.2.1 u.2.2) (fun (u : Nat × (Nat → Nat) × Nat) => tr_XW dB q (tr_dK K rk) u.1 u.2.1 u.2.2 ct) := by
  refine tr_Mi.of (by decide) (Nat.le_of_ble_eq_true rfl) ?_
  intro p e s m args below meth c A Q ls hC hret hP hD hS hl
  have hC0 := hC
  obtain ⟨hx, hb, hlk, hml, hown, hts, hA, hK⟩ := hC0
  have hl : lv_has ls 2 [(0, .ref (q 0)), (1, .int rk)] := hl
  refine lv_aload_n hx hb dX0_drop_0 rfl (lv_at hl 0 rfl) ?_
  refine lv_iload_n hx hb dX0_drop_1 rfl (lv_at hl 1 rfl) ?_
  refine xc_i (n := 1) hC (tx_has l D dB q K ak an fr ct rk ok) (lw_V q83 q85 qs2 q19 q86) (by decide +kernel) rfl (by decide) hP hD hS hl.1 [] rfl (Nat.le_of_ble_eq_true rfl) dX0_drop_2 (fun r u H locs hp hP hD hS => ?_)
  subst hp
  have hP : va_P D tr_Cl (tr_XW dB q K ak an fr ct) H := hP
  have hD : va_D A (tr_XW dB q K ak an fr ct) := hD
  refine nb_ne (tgt := 10) hx hb dX0_drop_5 (by decide) (fun c1 => ?_) (fun c1 => ?_)
  · have hk9 : tr_dK K rk = tr_dp K (tr_c rk) := if_pos c1
    obtain ⟨k, lk, rfl, hb9⟩ := tr_hs_n c1
    rw [tr_c8 lk] at hk9
    have hp8 := ok.2.1
    refine lv_aload_n hx hb dX0_drop_10 rfl (lv_at hl 0 rfl) ?_
    refine lv_dup hx hb dX0_drop_11 rfl ?_
    refine xg_31 hC hP dX0_drop_12 ?_
    refine lv_iconst (v := (nI 1)) hx hb dX0_drop_15 (by decide) ?_
    refine lv_iload_n hx hb dX0_drop_16 rfl (lv_at hl 1 rfl) ?_
    refine lv_ishl hx hb dX0_drop_17 ?_
    refine tr_top (v := (nI (2 ^ k))) (tr_shlI (by omega)) ?_
    refine lv_iconst (v := (-1)) hx hb dX0_drop_18 (by decide) ?_
    refine lv_ixor hx hb dX0_drop_19 ?_
    refine lv_iand hx hb dX0_drop_20 ?_
    refine tr_top (v := (nI (tr_setb 8 (kP K) k false))) (tr_clrI (n := 8) (by omega) hp8 lk) ?_
    refine xp_31 hC hP hD hS dX0_drop_21 (fun H locs hP hD hS => ?_)
    have hP : va_P D tr_Cl (tr_XW dB q (tr_dp K k) ak an fr ct) H := hP
    have hD : va_D A (tr_XW dB q (tr_dp K k) ak an fr ct) := hD
    refine lv_aload_n hx hb dX0_drop_24 rfl (lv_at hl 0 rfl) ?_
    refine xc_v (n := 0) hC (tx_forget l D dB q (tr_dp K k) ak an fr ct) (lw_V q72 q74 qs1 q19 q75) (by decide +kernel) rfl (by decide) hP hD hS hl.1 [] rfl (Nat.le_of_ble_eq_true rfl) dX0_drop_25 (fun u H locs hp hP hD hS => ?_)
    have hP : va_P D tr_Cl (tr_XW dB q (tr_dp K k) 0 (tr_z an 25) fr ct) H := hP
    have hD : va_D A (tr_XW dB q (tr_dp K k) 0 (tr_z an 25) fr ct) := hD
    refine lv_iconst (v := (nI 1)) hx hb dX0_drop_28 (by decide) ?_
    exact hret _ _ _ (0, tr_z an 25, fr) _ _ dX0_drop_29 (tr_nzv (by omega)) (⟨by rw [c1]; rfl, tr_di_z di.2.1 di.2.2.1⟩) (by rw [hk9]; exact hP) (by rw [hk9]; exact hD) hS
  · refine lv_iconst (v := (nI 0)) hx hb dX0_drop_8 (by decide) ?_
    have hk9 : tr_dK K rk = K := if_neg (by rw [c1]; decide)
    exact hret _ _ _ (ak, an, fr) _ _ dX0_drop_9 (tr_nzv (by omega)) (⟨by rw [c1]; rfl, by rw [hk9]; exact di⟩) (by rw [hk9]; exact hP) (by rw [hk9]; exact hD) hS
abbrev rmX0_rules : Room := { frames := 0, cells := 0, slots := 0, locals := 0 }
set_option maxHeartbeats 4000000 in
set_option maxRecDepth 100000 in
/-- rules -/
theorem tx_rules (l : Launch) (D : va_G) (dB : ClassId) (q : Nat → Nat) (K : tr_C) (ak : Nat) (an : Nat → Nat) (fr : Nat) (ct : Nat → Nat)   : tr_Mi l D (tr_XT dB) yX0_rules (ws_ yX0_rules cX0_rules 1 (some .int)) rmX0_rules [.ref (q 0)] (tr_XW dB q K ak an fr ct) (fun (r : Int32) (u : Unit) => r = nI (kP K)) (fun (u : Unit) => tr_XW dB q K ak an fr ct) := by
  refine tr_Mi.of (by decide) (Nat.le_of_ble_eq_true rfl) ?_
  intro p e s m args below meth c A Q ls hC hret hP hD hS hl
  have hC0 := hC
  obtain ⟨hx, hb, hlk, hml, hown, hts, hA, hK⟩ := hC0
  have hl : lv_has ls 1 [(0, .ref (q 0))] := hl
  refine lv_aload_n hx hb dX0_rules_0 rfl (lv_at hl 0 rfl) ?_
  refine xg_31 hC hP dX0_rules_1 ?_
  exact hret _ _ _ () _ _ dX0_rules_4 rfl rfl hP hD hS
end
section
/-! TabledRules, second: printed by gen/x2.py -/
abbrev rmX0_ask : Room := { frames := 0, cells := 0, slots := 0, locals := 0 }
set_option maxHeartbeats 4000000 in
set_option maxRecDepth 100000 in
/-- ask(p, x): the answers so far; the question is asked now if it was not -/
theorem tx_ask (l : Launch) (D : va_G) (dB : ClassId) (q : Nat → Nat) (K : tr_C) (ak : Nat) (an : Nat → Nat) (fr : Nat) (ct : Nat → Nat) (rp rx : Nat) (lak : ak < 2 ^ 25) (lp : rp < 5) (lx : rx < 5) : tr_Mi l D (tr_XT dB) yX0_ask (ws_ yX0_ask cX0_ask 4 (some .int)) rmX0_ask [.ref (q 0), .int (nI rp), .int (nI rx)] (tr_XW dB q K ak an fr ct) (fun (r : Int32) (u : Unit) => r = nI (tr_vl K an rp rx)) (fun (u : Unit) => tr_XW dB q K (tr_ka ak rp rx) an (tr_kf ak fr rp rx) ct) := by
  refine tr_Mi.of (by decide) (Nat.le_of_ble_eq_true rfl) ?_
  intro p e s m args below meth c A Q ls hC hret hP hD hS hl
  have hC0 := hC
  obtain ⟨hx, hb, hlk, hml, hown, hts, hA, hK⟩ := hC0
  have hl : lv_has ls 4 [(0, .ref (q 0)), (1, .int (nI rp)), (2, .int (nI rx))] := hl
  refine lv_iload_n hx hb dX0_ask_0 rfl (lv_at hl 1 rfl) ?_
  refine lv_iconst (v := (nI 2)) hx hb dX0_ask_1 (by decide) ?_
  refine ni_ge (tgt := 16) hx hb (by omega) (by omega) dX0_ask_2 (by decide) (fun c1 => ?_) (fun c1 => ?_)
  · refine lv_iload_n hx hb dX0_ask_16 rfl (lv_at hl 1 rfl) ?_
    refine lv_iconst (v := (nI 5)) hx hb dX0_ask_17 (by decide) ?_
    refine lv_imul hx hb dX0_ask_18 ?_
    refine tr_top (v := (nI (rp * 5))) (pk_mul _ _) ?_
    refine lv_iload_n hx hb dX0_ask_19 rfl (lv_at hl 2 rfl) ?_
    refine lv_iadd hx hb dX0_ask_20 ?_
    refine tr_top (v := (nI ((rp * 5) + rx))) (nI_add _ _) ?_
    refine tr_top (v := (nI (5 * rp + rx))) (congrArg nI (by omega)) ?_
    refine lv_istore_n (lv' := [(3, .int (nI (5 * rp + rx))), (0, .ref (q 0)), (1, .int (nI rp)), (2, .int (nI rx))]) hx hb dX0_ask_21 rfl hl (by decide) rfl (fun ls hl => ?_)
    refine lv_aload_n hx hb dX0_ask_22 rfl (lv_at hl 1 rfl) ?_
    refine xg_35 hC hP dX0_ask_23 ?_
    refine lv_iload_n hx hb dX0_ask_26 rfl (lv_at hl 0 rfl) ?_
    refine lv_ishr hx hb dX0_ask_27 ?_
    refine lv_iconst (v := (nI 1)) hx hb dX0_ask_28 (by decide) ?_
    refine lv_iand hx hb dX0_ask_29 ?_
    refine tr_top (v := (nI (ak.testBit (5 * rp + rx)).toNat)) (tr_bitI (by omega) (by omega)) ?_
    refine nb_ne (tgt := 50) hx hb dX0_ask_30 (by decide) (fun c2 => ?_) (fun c2 => ?_)
    · refine lv_aload_n hx hb dX0_ask_50 rfl (lv_at hl 1 rfl) ?_
      refine xg_25 hC hP dX0_ask_51 ?_
      refine lv_iload_n hx hb dX0_ask_54 rfl (lv_at hl 0 rfl) ?_
      refine xl_6 hC hP (by omega) dX0_ask_55 ?_
      exact hret _ _ _ () _ _ dX0_ask_56 rfl (by rw [tr_vl, if_neg (by omega)]) (by rw [tr_ka_t (Or.inr c2), tr_kf_t (Or.inr c2)]; exact hP) (by rw [tr_ka_t (Or.inr c2), tr_kf_t (Or.inr c2)]; exact hD) hS
    · refine lv_aload_n hx hb dX0_ask_33 rfl (lv_at hl 1 rfl) ?_
      refine lv_dup hx hb dX0_ask_34 rfl ?_
      refine xg_35 hC hP dX0_ask_35 ?_
      refine lv_iconst (v := (nI 1)) hx hb dX0_ask_38 (by decide) ?_
      refine lv_iload_n hx hb dX0_ask_39 rfl (lv_at hl 0 rfl) ?_
      refine lv_ishl hx hb dX0_ask_40 ?_
      refine tr_top (v := (nI (2 ^ (5 * rp + rx)))) (tr_shlI (by omega)) ?_
      refine lv_ior hx hb dX0_ask_41 ?_
      refine tr_top (v := (nI (ak ||| (2 ^ (5 * rp + rx))))) (nx_or _ _) ?_
      refine xp_35 hC hP hD hS dX0_ask_42 (fun H locs hP hD hS => ?_)
      have hP : va_P D tr_Cl (tr_XW dB q K (ak ||| 2 ^ (5 * rp + rx)) an fr ct) H := hP
      have hD : va_D A (tr_XW dB q K (ak ||| 2 ^ (5 * rp + rx)) an fr ct) := hD
      refine lv_aload_n hx hb dX0_ask_45 rfl (lv_at hl 1 rfl) ?_
      refine lv_iconst (v := (nI 1)) hx hb dX0_ask_46 (by decide) ?_
      refine xp_55 hC hP hD hS (by omega) dX0_ask_47 (fun H locs hP hD hS => ?_)
      have hP : va_P D tr_Cl (tr_XW dB q K (ak ||| 2 ^ (5 * rp + rx)) an 1 ct) H := hP
      have hD : va_D A (tr_XW dB q K (ak ||| 2 ^ (5 * rp + rx)) an 1 ct) := hD
      refine lv_aload_n hx hb dX0_ask_50 rfl (lv_at hl 1 rfl) ?_
      refine xg_25 hC hP dX0_ask_51 ?_
      refine lv_iload_n hx hb dX0_ask_54 rfl (lv_at hl 0 rfl) ?_
      refine xl_6 hC hP (by omega) dX0_ask_55 ?_
      exact hret _ _ _ () _ _ dX0_ask_56 rfl (by rw [tr_vl, if_neg (by omega)]) (by rw [tr_ka_f c1 c2, tr_kf_f c1 c2]; exact hP) (by rw [tr_ka_f c1 c2, tr_kf_f c1 c2]; exact hD) hS
  · refine lv_aload_n hx hb dX0_ask_5 rfl (lv_at hl 0 rfl) ?_
    refine xg_7 hC hP dX0_ask_6 ?_
    refine lv_iload_n hx hb dX0_ask_9 rfl (lv_at hl 1 rfl) ?_
    refine lv_iconst (v := (nI 5)) hx hb dX0_ask_10 (by decide) ?_
    refine lv_imul hx hb dX0_ask_11 ?_
    refine tr_top (v := (nI (rp * 5))) (pk_mul _ _) ?_
    refine lv_iload_n hx hb dX0_ask_12 rfl (lv_at hl 2 rfl) ?_
    refine lv_iadd hx hb dX0_ask_13 ?_
    refine tr_top (v := (nI ((rp * 5) + rx))) (nI_add _ _) ?_
    refine tr_top (v := (nI (5 * rp + rx))) (congrArg nI (by omega)) ?_
    refine xl_1 hC hP (by omega) dX0_ask_14 ?_
    exact hret _ _ _ () _ _ dX0_ask_15 rfl (by rw [tr_vl, if_pos c1]) (by rw [tr_ka_t (Or.inl c1), tr_kf_t (Or.inl c1)]; exact hP) (by rw [tr_ka_t (Or.inl c1), tr_kf_t (Or.inl c1)]; exact hD) hS
abbrev rmX0_turned : Room := { frames := 1, cells := 0, slots := 0, locals := 23 }
set_option maxHeartbeats 4000000 in
set_option maxRecDepth 100000 in
/-- turned(q, x): who is related to x by q -/
theorem tx_turned (l : Launch) (D : va_G) (dB : ClassId) (q : Nat → Nat) (K : tr_C) (ak : Nat) (an : Nat → Nat) (fr : Nat) (ct : Nat → Nat) (rq rx : Nat) (ok : tr_ok K) (han : ∀ i, an i < 32) (lak : ak < 2 ^ 25) (lfr : fr < 2) (lq : rq < 5) (lx : rx < 5) : tr_Mi l D (tr_XT dB) yX0_turned (ws_ yX0_turned cX0_turned 6 (some .int)) rmX0_turned [.ref (q 0), .int (nI rq), .int (nI rx)] (tr_XW dB q K ak an fr ct) (fun (r : Int32) (u : Nat × Nat) => r = nI (tr_num (fun y => (tr_vl K an rq y).testBit rx) 5) ∧ (∀ y, y < 5 → tr_as u.1 rq y) ∧ tr_E ak fr u.1 u.2) (fun (u : Nat × Nat) => tr_XW dB q K u.1 an u.2 ct) := by
  refine tr_Mi.of (by decide) (Nat.le_of_ble_eq_true rfl) ?_
  intro p e s m args below meth c A Q ls hC hret hP hD hS hl
  have hC0 := hC
  obtain ⟨hx, hb, hlk, hml, hown, hts, hA, hK⟩ := hC0
  have hl : lv_has ls 6 [(0, .ref (q 0)), (1, .int (nI rq)), (2, .int (nI rx))] := hl
  refine lv_iconst (v := (nI 0)) hx hb dX0_turned_0 (by decide) ?_
  refine lv_istore_n (lv' := [(3, .int (nI 0)), (0, .ref (q 0)), (1, .int (nI rq)), (2, .int (nI rx))]) hx hb dX0_turned_1 rfl hl (by decide) rfl (fun ls hl => ?_)
  refine lv_iconst (v := (nI 0)) hx hb dX0_turned_2 (by decide) ?_
  refine lv_istore (lv' := [(4, .int (nI 0)), (3, .int (nI 0)), (0, .ref (q 0)), (1, .int (nI rq)), (2, .int (nI rx))]) hx hb dX0_turned_3 hl (by decide) rfl (fun ls hl => ?_)
  have loop : ∀ (n : Nat) (i ak1 fr1 : Nat) (H : Heap) (locs : List Loc) (ls : Array Slot), i ≤ 5 → 5 + 1 ≤ i + n → tr_E ak fr ak1 fr1 → (∀ y, y < i → tr_as ak1 rq y) → va_P D tr_Cl (tr_XW dB q K ak1 an fr1 ct) H → va_D A (tr_XW dB q K ak1 an fr1 ct) → va_S A s.heap H locs → lv_has ls 6 [(0, .ref (q 0)), (1, .int (nI rq)), (2, .int (nI rx)), (3, .int (nI (tr_num (fun y => (tr_vl K an rq y).testBit rx) i))), (4, .int (nI i))] → W p l e rmX0_turned s m args below meth c H locs 0 0 Q (F0 m 5 ls []) := by
    intro n
    induction n with
    | zero =>
      intro i ak1 fr1 H locs ls h1 h2
      exact absurd h2 (by omega)
    | succ n ihloop =>
      intro i ak1 fr1 H locs ls hiloop hnloop hI1 hI2 hP hD hS hl
      refine lv_iload hx hb dX0_turned_5 (lv_at hl 4 rfl) ?_
      refine lv_iconst (v := (nI 5)) hx hb dX0_turned_7 (by decide) ?_
      refine ni_ge (tgt := 38) hx hb (by omega) (by omega) dX0_turned_8 (by decide) (fun c1 => ?_) (fun c1 => ?_)
      · refine lv_iload_n hx hb dX0_turned_38 rfl (lv_at hl 3 rfl) ?_
        have e5 : i = 5 := by omega
        subst e5
        exact hret _ _ _ (ak1, fr1) _ _ dX0_turned_39 rfl (⟨rfl, hI2, hI1⟩) hP hD hS
      · refine lv_aload_n hx hb dX0_turned_11 rfl (lv_at hl 0 rfl) ?_
        refine lv_iload_n hx hb dX0_turned_12 rfl (lv_at hl 1 rfl) ?_
        refine lv_iload hx hb dX0_turned_13 (lv_at hl 4 rfl) ?_
        have lak1 := hI1.2.1
        refine xc_i (n := 2) hC (tx_ask l D dB q K ak1 an fr1 ct rq i lak1 lq c1) (lw_V q103 q105 qs4 q19 q106) (by decide +kernel) rfl (by decide) hP hD hS hl.1 [] rfl (Nat.le_of_ble_eq_true rfl) dX0_turned_15 (fun r u H locs hp hP hD hS => ?_)
        subst hp
        have hP : va_P D tr_Cl (tr_XW dB q K (tr_ka ak1 rq i) an (tr_kf ak1 fr1 rq i) ct) H := hP
        have hD : va_D A (tr_XW dB q K (tr_ka ak1 rq i) an (tr_kf ak1 fr1 rq i) ct) := hD
        have hv5 := tr_vl_lt ok han rq i
        refine lv_istore (lv' := [(5, .int (nI (tr_vl K an rq i))), (0, .ref (q 0)), (1, .int (nI rq)), (2, .int (nI rx)), (3, .int (nI (tr_num (fun y => (tr_vl K an rq y).testBit rx) i))), (4, .int (nI i))]) hx hb dX0_turned_18 hl (by decide) rfl (fun ls hl => ?_)
        refine lv_iload_n hx hb dX0_turned_20 rfl (lv_at hl 4 rfl) ?_
        refine lv_iload hx hb dX0_turned_21 (lv_at hl 0 rfl) ?_
        refine lv_iload_n hx hb dX0_turned_23 rfl (lv_at hl 3 rfl) ?_
        refine lv_ishr hx hb dX0_turned_24 ?_
        refine lv_iconst (v := (nI 1)) hx hb dX0_turned_25 (by decide) ?_
        refine lv_iand hx hb dX0_turned_26 ?_
        refine tr_top (v := (nI ((tr_vl K an rq i).testBit rx).toNat)) (tr_bitI (by omega) (by omega)) ?_
        refine lv_iload hx hb dX0_turned_27 (lv_at hl 5 rfl) ?_
        refine lv_ishl hx hb dX0_turned_29 ?_
        refine tr_top (v := (nI (((tr_vl K an rq i).testBit rx).toNat <<< i))) (tr_shlB (by omega)) ?_
        refine lv_ior hx hb dX0_turned_30 ?_
        refine tr_top (v := (nI ((tr_num (fun y => (tr_vl K an rq y).testBit rx) i) ||| (((tr_vl K an rq i).testBit rx).toNat <<< i)))) (nx_or _ _) ?_
        refine tr_top (v := (nI (tr_num (fun y => (tr_vl K an rq y).testBit rx) (i + 1)))) rfl ?_
        refine lv_istore_n (lv' := [(3, .int (nI (tr_num (fun y => (tr_vl K an rq y).testBit rx) (i + 1)))), (5, .int (nI (tr_vl K an rq i))), (0, .ref (q 0)), (1, .int (nI rq)), (2, .int (nI rx)), (4, .int (nI i))]) hx hb dX0_turned_31 rfl hl (by decide) rfl (fun ls hl => ?_)
        refine lv_iinc (v := (nI (i + 1))) (lv' := [(4, .int (nI (i + 1))), (3, .int (nI (tr_num (fun y => (tr_vl K an rq y).testBit rx) (i + 1)))), (5, .int (nI (tr_vl K an rq i))), (0, .ref (q 0)), (1, .int (nI rq)), (2, .int (nI rx))]) hx hb dX0_turned_32 hl (k := 5) rfl (nI_1 _) (by decide) rfl (fun ls hl => ?_)
        refine lv_goto (tgt := 5) hx hb dX0_turned_35 (by decide) ?_
        have hE1 := tr_E_ask (ak := ak1) (fr := fr1) (p := rq) (x := i) lak1 hI1.2.2.1 lq c1
        exact ihloop (i + 1) _ _ _ _ _ (by omega) (by omega) (tr_E_tr hI1 hE1) (fun y hy => (Nat.lt_or_ge y i).elim (fun z => tr_as_E hE1 (hI2 y z)) (fun z => by rw [show y = i by omega]; exact tr_as_ask _ _ _)) hP hD hS (lv_sub hl [3, 4, 5, 1, 0] rfl)
  have hl : lv_has ls 6 [(4, .int (nI 0)), (3, .int (nI (tr_num (fun y => (tr_vl K an rq y).testBit rx) 0))), (0, .ref (q 0)), (1, .int (nI rq)), (2, .int (nI rx))] := hl
  exact loop 6 0 ak fr _ _ _ (by omega) (by omega) (tr_E_rf lak lfr) (fun y hy => absurd hy (by omega)) hP hD hS (lv_sub hl [2, 3, 4, 1, 0] rfl)
abbrev rmX0_joined : Room := { frames := 1, cells := 0, slots := 0, locals := 23 }
set_option maxHeartbeats 4000000 in
set_option maxRecDepth 100000 in
/-- joined(middle, r) -/
theorem tx_joined (l : Launch) (D : va_G) (dB : ClassId) (q : Nat → Nat) (K : tr_C) (ak : Nat) (an : Nat → Nat) (fr : Nat) (ct : Nat → Nat) (rm rr : Nat) (ok : tr_ok K) (han : ∀ i, an i < 32) (lak : ak < 2 ^ 25) (lfr : fr < 2) (lm : rm < 32) (lr : rr < 5) : tr_Mi l D (tr_XT dB) yX0_joined (ws_ yX0_joined cX0_joined 5 (some .int)) rmX0_joined [.ref (q 0), .int (nI rm), .int (nI rr)] (tr_XW dB q K ak an fr ct) (fun (r : Int32) (u : Nat × Nat) => ∃ v, r = nI v ∧ tr_ji K an rm rr u.1 5 v ∧ tr_E ak fr u.1 u.2) (fun (u : Nat × Nat) => tr_XW dB q K u.1 an u.2 ct) := by
  refine tr_Mi.of (by decide) (Nat.le_of_ble_eq_true rfl) ?_
  intro p e s m args below meth c A Q ls hC hret hP hD hS hl
  have hC0 := hC
  obtain ⟨hx, hb, hlk, hml, hown, hts, hA, hK⟩ := hC0
  have hl : lv_has ls 5 [(0, .ref (q 0)), (1, .int (nI rm)), (2, .int (nI rr))] := hl
  refine lv_iconst (v := (nI 0)) hx hb dX0_joined_0 (by decide) ?_
  refine lv_istore_n (lv' := [(3, .int (nI 0)), (0, .ref (q 0)), (1, .int (nI rm)), (2, .int (nI rr))]) hx hb dX0_joined_1 rfl hl (by decide) rfl (fun ls hl => ?_)
  refine lv_iconst (v := (nI 0)) hx hb dX0_joined_2 (by decide) ?_
  refine lv_istore (lv' := [(4, .int (nI 0)), (3, .int (nI 0)), (0, .ref (q 0)), (1, .int (nI rm)), (2, .int (nI rr))]) hx hb dX0_joined_3 hl (by decide) rfl (fun ls hl => ?_)
  have loop : ∀ (n : Nat) (i f ak1 fr1 : Nat) (H : Heap) (locs : List Loc) (ls : Array Slot), i ≤ 5 → 5 + 1 ≤ i + n → tr_E ak fr ak1 fr1 → tr_ji K an rm rr ak1 i f → va_P D tr_Cl (tr_XW dB q K ak1 an fr1 ct) H → va_D A (tr_XW dB q K ak1 an fr1 ct) → va_S A s.heap H locs → lv_has ls 5 [(0, .ref (q 0)), (1, .int (nI rm)), (2, .int (nI rr)), (3, .int (nI f)), (4, .int (nI i))] → W p l e rmX0_joined s m args below meth c H locs 0 0 Q (F0 m 5 ls []) := by
    intro n
    induction n with
    | zero =>
      intro i f ak1 fr1 H locs ls h1 h2
      exact absurd h2 (by omega)
    | succ n ihloop =>
      intro i f ak1 fr1 H locs ls hiloop hnloop hI1 hI2 hP hD hS hl
      refine lv_iload hx hb dX0_joined_5 (lv_at hl 4 rfl) ?_
      refine lv_iconst (v := (nI 5)) hx hb dX0_joined_7 (by decide) ?_
      refine ni_ge (tgt := 36) hx hb (by omega) (by omega) dX0_joined_8 (by decide) (fun c1 => ?_) (fun c1 => ?_)
      · refine lv_iload_n hx hb dX0_joined_36 rfl (lv_at hl 3 rfl) ?_
        have e5 : i = 5 := by omega
        subst e5
        exact hret _ _ _ (ak1, fr1) _ _ dX0_joined_37 rfl (⟨f, rfl, hI2, hI1⟩) hP hD hS
      · refine lv_iload_n hx hb dX0_joined_11 rfl (lv_at hl 1 rfl) ?_
        refine lv_iload hx hb dX0_joined_12 (lv_at hl 4 rfl) ?_
        refine lv_ishr hx hb dX0_joined_14 ?_
        refine lv_iconst (v := (nI 1)) hx hb dX0_joined_15 (by decide) ?_
        refine lv_iand hx hb dX0_joined_16 ?_
        refine tr_top (v := (nI (rm.testBit i).toNat)) (tr_bitI (by omega) (by omega)) ?_
        refine nb_eq (tgt := 30) hx hb dX0_joined_17 (by decide) (fun c2 => ?_) (fun c2 => ?_)
        · refine lv_iinc (v := (nI (i + 1))) (lv' := [(4, .int (nI (i + 1))), (0, .ref (q 0)), (1, .int (nI rm)), (2, .int (nI rr)), (3, .int (nI f))]) hx hb dX0_joined_30 hl (k := 4) rfl (nI_1 _) (by decide) rfl (fun ls hl => ?_)
          refine lv_goto (tgt := 5) hx hb dX0_joined_33 (by decide) ?_
          exact ihloop (i + 1) f ak1 fr1 _ _ _ (by omega) (by omega) hI1 (tr_ji_skip hI2 c2) hP hD hS (lv_sub hl [1, 2, 3, 4, 0] rfl)
        · refine lv_iload_n hx hb dX0_joined_20 rfl (lv_at hl 3 rfl) ?_
          refine lv_aload_n hx hb dX0_joined_21 rfl (lv_at hl 0 rfl) ?_
          refine lv_iload_n hx hb dX0_joined_22 rfl (lv_at hl 2 rfl) ?_
          refine lv_iload hx hb dX0_joined_23 (lv_at hl 4 rfl) ?_
          have lak1 := hI1.2.1
          refine xc_i (n := 2) hC (tx_ask l D dB q K ak1 an fr1 ct rr i lak1 lr c1) (lw_V q103 q105 qs4 q19 q106) (by decide +kernel) rfl (by decide) hP hD hS hl.1 [.int (nI f)] rfl (Nat.le_of_ble_eq_true rfl) dX0_joined_25 (fun r u H locs hp hP hD hS => ?_)
          subst hp
          have hP : va_P D tr_Cl (tr_XW dB q K (tr_ka ak1 rr i) an (tr_kf ak1 fr1 rr i) ct) H := hP
          have hD : va_D A (tr_XW dB q K (tr_ka ak1 rr i) an (tr_kf ak1 fr1 rr i) ct) := hD
          have hv5 := tr_vl_lt ok han rr i
          have hE1 := tr_E_ask (ak := ak1) (fr := fr1) (p := rr) (x := i) lak1 hI1.2.2.1 lr c1
          refine lv_ior hx hb dX0_joined_28 ?_
          refine tr_top (v := (nI (f ||| (tr_vl K an rr i)))) (nx_or _ _) ?_
          refine lv_istore_n (lv' := [(3, .int (nI (f ||| (tr_vl K an rr i)))), (0, .ref (q 0)), (1, .int (nI rm)), (2, .int (nI rr)), (4, .int (nI i))]) hx hb dX0_joined_29 rfl hl (by decide) rfl (fun ls hl => ?_)
          refine lv_iinc (v := (nI (i + 1))) (lv' := [(4, .int (nI (i + 1))), (3, .int (nI (f ||| (tr_vl K an rr i)))), (0, .ref (q 0)), (1, .int (nI rm)), (2, .int (nI rr))]) hx hb dX0_joined_30 hl (k := 4) rfl (nI_1 _) (by decide) rfl (fun ls hl => ?_)
          refine lv_goto (tgt := 5) hx hb dX0_joined_33 (by decide) ?_
          exact ihloop (i + 1) _ _ _ _ _ _ (by omega) (by omega) (tr_E_tr hI1 hE1) (tr_ji_step hI2 hE1 (tr_as_ask _ _ _) c2 hv5) hP hD hS (lv_sub hl [2, 3, 4, 1, 0] rfl)
  exact loop 6 0 0 ak fr _ _ _ (by omega) (by omega) (tr_E_rf lak lfr) tr_ji_0 hP hD hS (lv_sub hl [2, 3, 4, 1, 0] rfl)
abbrev rmX0_bring : Room := { frames := 2, cells := 0, slots := 0, locals := 48 }
set_option maxHeartbeats 4000000 in
set_option maxRecDepth 100000 in
/-- bring(k, x): what rule k brings -/
theorem tx_bring (l : Launch) (D : va_G) (dB : ClassId) (q : Nat → Nat) (K : tr_C) (ak : Nat) (an : Nat → Nat) (fr : Nat) (ct : Nat → Nat) (rk rx : Nat) (ok : tr_ok K) (han : ∀ i, an i < 32) (lak : ak < 2 ^ 25) (lfr : fr < 2) (lk : rk < 8) (lx : rx < 5) : tr_Mi l D (tr_XT dB) yX0_bring (ws_ yX0_bring cX0_bring 8 (some .int)) rmX0_bring [.ref (q 0), .int (nI rk), .int (nI rx)] (tr_XW dB q K ak an fr ct) (fun (r : Int32) (u : Nat × Nat) => ∃ v, r = nI v ∧ tr_br K an u.1 rk rx v ∧ tr_E ak fr u.1 u.2) (fun (u : Nat × Nat) => tr_XW dB q K u.1 an u.2 ct) := by
  refine tr_Mi.of (by decide) (Nat.le_of_ble_eq_true rfl) ?_
  intro p e s m args below meth c A Q ls hC hret hP hD hS hl
  have hC0 := hC
  obtain ⟨hx, hb, hlk, hml, hown, hts, hA, hK⟩ := hC0
  have hl : lv_has ls 8 [(0, .ref (q 0)), (1, .int (nI rk)), (2, .int (nI rx))] := hl
  obtain ⟨b1, b2, b3, b4⟩ := ok.2.2.1 rk
  refine lv_aload_n hx hb dX0_bring_0 rfl (lv_at hl 0 rfl) ?_
  refine xg_13 hC hP dX0_bring_1 ?_
  refine lv_iload_n hx hb dX0_bring_4 rfl (lv_at hl 1 rfl) ?_
  refine xl_2 hC hP (by omega) dX0_bring_5 ?_
  refine lv_istore_n (lv' := [(3, .int (nI (kF K rk))), (0, .ref (q 0)), (1, .int (nI rk)), (2, .int (nI rx))]) hx hb dX0_bring_6 rfl hl (by decide) rfl (fun ls hl => ?_)
  refine lv_aload_n hx hb dX0_bring_7 rfl (lv_at hl 1 rfl) ?_
  refine xg_19 hC hP dX0_bring_8 ?_
  refine lv_iload_n hx hb dX0_bring_11 rfl (lv_at hl 2 rfl) ?_
  refine xl_4 hC hP (by omega) dX0_bring_12 ?_
  refine lv_istore (lv' := [(4, .int (nI (kQ K rk))), (3, .int (nI (kF K rk))), (0, .ref (q 0)), (1, .int (nI rk)), (2, .int (nI rx))]) hx hb dX0_bring_13 hl (by decide) rfl (fun ls hl => ?_)
  refine lv_aload_n hx hb dX0_bring_15 rfl (lv_at hl 2 rfl) ?_
  refine xg_22 hC hP dX0_bring_16 ?_
  refine lv_iload_n hx hb dX0_bring_19 rfl (lv_at hl 3 rfl) ?_
  refine xl_5 hC hP (by omega) dX0_bring_20 ?_
  refine lv_istore (lv' := [(5, .int (nI (kR K rk))), (4, .int (nI (kQ K rk))), (3, .int (nI (kF K rk))), (0, .ref (q 0)), (1, .int (nI rk)), (2, .int (nI rx))]) hx hb dX0_bring_21 hl (by decide) rfl (fun ls hl => ?_)
  refine lv_iload_n hx hb dX0_bring_23 rfl (lv_at hl 2 rfl) ?_
  refine lv_iconst (v := (nI 1)) hx hb dX0_bring_24 (by decide) ?_
  refine ni_ne (tgt := 36) hx hb (by omega) (by omega) dX0_bring_25 (by decide) (fun c1 => ?_) (fun c1 => ?_)
  · refine lv_aload_n hx hb dX0_bring_36 rfl (lv_at hl 3 rfl) ?_
    refine lv_iload hx hb dX0_bring_37 (lv_at hl 1 rfl) ?_
    refine lv_iload_n hx hb dX0_bring_39 rfl (lv_at hl 5 rfl) ?_
    refine xc_i (n := 2) hC (tx_ask l D dB q K ak an fr ct (kQ K rk) rx lak b3 lx) (lw_V q103 q105 qs4 q19 q106) (by decide +kernel) rfl (by decide) hP hD hS hl.1 [] rfl (Nat.le_of_ble_eq_true rfl) dX0_bring_40 (fun r u H locs hp hP hD hS => ?_)
    subst hp
    have hP : va_P D tr_Cl (tr_XW dB q K (tr_ka ak (kQ K rk) rx) an (tr_kf ak fr (kQ K rk) rx) ct) H := hP
    have hD : va_D A (tr_XW dB q K (tr_ka ak (kQ K rk) rx) an (tr_kf ak fr (kQ K rk) rx) ct) := hD
    have v1 := tr_vl_lt ok han (kQ K rk) rx
    have E1 := tr_E_ask (ak := ak) (fr := fr) (p := (kQ K rk)) (x := rx) lak lfr b3 lx
    have A1 := tr_as_ask ak (kQ K rk) rx
    refine lv_istore (lv' := [(6, .int (nI (tr_vl K an (kQ K rk) rx))), (5, .int (nI (kR K rk))), (4, .int (nI (kQ K rk))), (3, .int (nI (kF K rk))), (0, .ref (q 0)), (1, .int (nI rk)), (2, .int (nI rx))]) hx hb dX0_bring_43 hl (by decide) rfl (fun ls hl => ?_)
    refine lv_iload_n hx hb dX0_bring_45 rfl (lv_at hl 3 rfl) ?_
    refine nz_eq (tgt := 54) hx hb (by omega) dX0_bring_46 (by decide) (fun c2 => ?_) (fun c2 => ?_)
    · refine lv_iload hx hb dX0_bring_54 (lv_at hl 0 rfl) ?_
      exact hret _ _ _ (tr_ka ak (kQ K rk) rx, tr_kf ak fr (kQ K rk) rx) _ _ dX0_bring_56 rfl (⟨_, rfl, tr_br_first ok han (Or.inl c2) A1, E1⟩) hP hD hS
    · refine lv_iload hx hb dX0_bring_49 (lv_at hl 0 rfl) ?_
      refine nz_ne (tgt := 57) hx hb (by omega) dX0_bring_51 (by decide) (fun c3 => ?_) (fun c3 => ?_)
      · refine lv_iload_n hx hb dX0_bring_57 rfl (lv_at hl 3 rfl) ?_
        refine lv_iconst (v := (nI 2)) hx hb dX0_bring_58 (by decide) ?_
        refine ni_ne (tgt := 71) hx hb (by omega) (by omega) dX0_bring_59 (by decide) (fun c4 => ?_) (fun c4 => ?_)
        · refine lv_aload_n hx hb dX0_bring_71 rfl (lv_at hl 4 rfl) ?_
          refine lv_iload hx hb dX0_bring_72 (lv_at hl 1 rfl) ?_
          refine lv_iload_n hx hb dX0_bring_74 rfl (lv_at hl 6 rfl) ?_
          have lak2 := E1.2.1
          refine xc_i (n := 2) hC (tx_ask l D dB q K (tr_ka ak (kQ K rk) rx) an (tr_kf ak fr (kQ K rk) rx) ct (kR K rk) rx lak2 b4 lx) (lw_V q103 q105 qs4 q19 q106) (by decide +kernel) rfl (by decide) hP hD hS hl.1 [] rfl (Nat.le_of_ble_eq_true rfl) dX0_bring_75 (fun r u H locs hp hP hD hS => ?_)
          subst hp
          have hP : va_P D tr_Cl (tr_XW dB q K (tr_ka (tr_ka ak (kQ K rk) rx) (kR K rk) rx) an (tr_kf (tr_ka ak (kQ K rk) rx) (tr_kf ak fr (kQ K rk) rx) (kR K rk) rx) ct) H := hP
          have hD : va_D A (tr_XW dB q K (tr_ka (tr_ka ak (kQ K rk) rx) (kR K rk) rx) an (tr_kf (tr_ka ak (kQ K rk) rx) (tr_kf ak fr (kQ K rk) rx) (kR K rk) rx) ct) := hD
          have v2 := tr_vl_lt ok han (kR K rk) rx
          have E2 := tr_E_ask (ak := (tr_ka ak (kQ K rk) rx)) (fr := (tr_kf ak fr (kQ K rk) rx)) (p := (kR K rk)) (x := rx) lak2 E1.2.2.1 b4 lx
          have A2 := tr_as_ask (tr_ka ak (kQ K rk) rx) (kR K rk) rx
          have A3 := tr_as_E E2 A1
          refine lv_istore (lv' := [(7, .int (nI (tr_vl K an (kR K rk) rx))), (6, .int (nI (tr_vl K an (kQ K rk) rx))), (5, .int (nI (kR K rk))), (4, .int (nI (kQ K rk))), (3, .int (nI (kF K rk))), (0, .ref (q 0)), (1, .int (nI rk)), (2, .int (nI rx))]) hx hb dX0_bring_78 hl (by decide) rfl (fun ls hl => ?_)
          refine lv_iload_n hx hb dX0_bring_80 rfl (lv_at hl 4 rfl) ?_
          refine lv_iconst (v := (nI 3)) hx hb dX0_bring_81 (by decide) ?_
          have E3 := tr_E_tr E1 E2
          refine ni_ne (tgt := 93) hx hb (by omega) (by omega) dX0_bring_82 (by decide) (fun c5 => ?_) (fun c5 => ?_)
          · have f4 : kF K rk = 4 := by omega
            refine lv_iload hx hb dX0_bring_93 (lv_at hl 0 rfl) ?_
            refine nz_eq (tgt := 103) hx hb (by omega) dX0_bring_95 (by decide) (fun c6 => ?_) (fun c6 => ?_)
            · refine lv_iconst (v := (nI 0)) hx hb dX0_bring_103 (by decide) ?_
              exact hret _ _ _ (tr_ka (tr_ka ak (kQ K rk) rx) (kR K rk) rx, tr_kf (tr_ka ak (kQ K rk) rx) (tr_kf ak fr (kQ K rk) rx) (kR K rk) rx) _ _ dX0_bring_104 rfl (⟨_, rfl, tr_br_none f4 A2 c6, E3⟩) hP hD hS
            · refine lv_iload hx hb dX0_bring_98 (lv_at hl 1 rfl) ?_
              refine lv_goto (tgt := 104) hx hb dX0_bring_100 (by decide) ?_
              exact hret _ _ _ (tr_ka (tr_ka ak (kQ K rk) rx) (kR K rk) rx, tr_kf (tr_ka ak (kQ K rk) rx) (tr_kf ak fr (kQ K rk) rx) (kR K rk) rx) _ _ dX0_bring_104 rfl (⟨_, rfl, tr_br_from ok han f4 A3 A2 c6, E3⟩) hP hD hS
          · refine lv_iload hx hb dX0_bring_85 (lv_at hl 1 rfl) ?_
            refine lv_iload hx hb dX0_bring_87 (lv_at hl 0 rfl) ?_
            refine lv_iand hx hb dX0_bring_89 ?_
            refine tr_top (v := (nI ((tr_vl K an (kQ K rk) rx) &&& (tr_vl K an (kR K rk) rx)))) (nx_and _ _) ?_
            refine lv_goto (tgt := 104) hx hb dX0_bring_90 (by decide) ?_
            exact hret _ _ _ (tr_ka (tr_ka ak (kQ K rk) rx) (kR K rk) rx, tr_kf (tr_ka ak (kQ K rk) rx) (tr_kf ak fr (kQ K rk) rx) (kR K rk) rx) _ _ dX0_bring_104 rfl (⟨_, rfl, tr_br_both ok han c5 A3 A2, E3⟩) hP hD hS
        · refine lv_aload_n hx hb dX0_bring_62 rfl (lv_at hl 4 rfl) ?_
          refine lv_iload hx hb dX0_bring_63 (lv_at hl 0 rfl) ?_
          refine lv_iload hx hb dX0_bring_65 (lv_at hl 1 rfl) ?_
          refine xc_i (n := 2) hC (tx_joined l D dB q K (tr_ka ak (kQ K rk) rx) an (tr_kf ak fr (kQ K rk) rx) ct (tr_vl K an (kQ K rk) rx) (kR K rk) ok han E1.2.1 E1.2.2.1 v1 b4) (lw_V q119 q121 qs8 q19 q122) (by decide +kernel) rfl (by decide) hP hD hS hl.1 [] rfl (Nat.le_of_ble_eq_true rfl) dX0_bring_67 (fun r u H locs hp hP hD hS => ?_)
          obtain ⟨v, rfl, hj, E2⟩ := hp
          obtain ⟨ak2, fr2⟩ := u
          have hP : va_P D tr_Cl (tr_XW dB q K ak2 an fr2 ct) H := hP
          have hD : va_D A (tr_XW dB q K ak2 an fr2 ct) := hD
          exact hret _ _ _ (ak2, fr2) _ _ dX0_bring_70 rfl (⟨v, rfl, tr_br_join c4 hj.1 (tr_as_E E2 A1) hj.2.1 hj.2.2, tr_E_tr E1 E2⟩) hP hD hS
      · refine lv_iload hx hb dX0_bring_54 (lv_at hl 0 rfl) ?_
        exact hret _ _ _ (tr_ka ak (kQ K rk) rx, tr_kf ak fr (kQ K rk) rx) _ _ dX0_bring_56 rfl (⟨_, rfl, tr_br_first ok han (Or.inr ⟨c1, c3⟩) A1, E1⟩) hP hD hS
  · refine lv_aload_n hx hb dX0_bring_28 rfl (lv_at hl 3 rfl) ?_
    refine lv_iload hx hb dX0_bring_29 (lv_at hl 1 rfl) ?_
    refine lv_iload_n hx hb dX0_bring_31 rfl (lv_at hl 5 rfl) ?_
    refine xc_i (n := 2) hC (tx_turned l D dB q K ak an fr ct (kQ K rk) rx ok han lak lfr b3 lx) (lw_V q115 q117 qs7 q19 q118) (by decide +kernel) rfl (by decide) hP hD hS hl.1 [] rfl (Nat.le_of_ble_eq_true rfl) dX0_bring_32 (fun r u H locs hp hP hD hS => ?_)
    obtain ⟨rfl, ha, E2⟩ := hp
    obtain ⟨ak2, fr2⟩ := u
    have hP : va_P D tr_Cl (tr_XW dB q K ak2 an fr2 ct) H := hP
    have hD : va_D A (tr_XW dB q K ak2 an fr2 ct) := hD
    exact hret _ _ _ (ak2, fr2) _ _ dX0_bring_35 rfl (⟨_, rfl, tr_br_turn c1 (tr_num_lt _ 5) lx (fun y hy => by rw [tr_num_bit, decide_eq_true hy, Bool.true_and]) ha, E2⟩) hP hD hS
abbrev rmX0_work : Room := { frames := 3, cells := 0, slots := 0, locals := 75 }
set_option maxHeartbeats 4000000 in
set_option maxRecDepth 100000 in
/-- work(question) -/
theorem tx_work (l : Launch) (D : va_G) (dB : ClassId) (q : Nat → Nat) (K : tr_C) (ak : Nat) (an : Nat → Nat) (fr : Nat) (ct : Nat → Nat) (rh rx : Nat) (ok : tr_ok K) (di : tr_di K ak an fr) (h2 : 2 ≤ rh) (h5 : rh < 5) (lx : rx < 5) : tr_Mv l D (tr_XT dB) yX0_work (ws_ yX0_work cX0_work 6 none) rmX0_work [.ref (q 0), .int (nI (5 * rh + rx))] (tr_XW dB q K ak an fr ct) (fun (u : Nat × (Nat → Nat) × Nat) => tr_wk K ak an fr rh rx u.1 u.2.1 u.2.2) (fun (u : Nat × (Nat → Nat) × Nat) => tr_XW dB q K u.1 u.2.1 u.2.2 ct) := by
  refine tr_Mv.of (by decide) (Nat.le_of_ble_eq_true rfl) ?_
  intro p e s m args below meth c A Q ls hC hret hP hD hS hl
  have hC0 := hC
  obtain ⟨hx, hb, hlk, hml, hown, hts, hA, hK⟩ := hC0
  have hl : lv_has ls 6 [(0, .ref (q 0)), (1, .int (nI (5 * rh + rx)))] := hl
  have han := di.2.1
  refine lv_iload_n hx hb dX0_work_0 rfl (lv_at hl 1 rfl) ?_
  refine lv_iconst (v := (nI 5)) hx hb dX0_work_1 (by decide) ?_
  refine lv_idiv hx hb dX0_work_2 (by decide) ?_
  refine tr_top (v := (nI ((5 * rh + rx) / 5))) (pk_div (by omega) (by omega) (by omega)) ?_
  refine tr_top (v := (nI rh)) (congrArg nI (by omega)) ?_
  refine lv_istore_n (lv' := [(2, .int (nI rh)), (0, .ref (q 0)), (1, .int (nI (5 * rh + rx)))]) hx hb dX0_work_3 rfl hl (by decide) rfl (fun ls hl => ?_)
  refine lv_iload_n hx hb dX0_work_4 rfl (lv_at hl 2 rfl) ?_
  refine lv_iconst (v := (nI 5)) hx hb dX0_work_5 (by decide) ?_
  refine lv_irem hx hb dX0_work_6 (by decide) ?_
  refine tr_top (v := (nI ((5 * rh + rx) % 5))) (pk_rem (by omega) (by omega) (by omega)) ?_
  refine tr_top (v := (nI rx)) (congrArg nI (by omega)) ?_
  refine lv_istore_n (lv' := [(3, .int (nI rx)), (2, .int (nI rh)), (0, .ref (q 0)), (1, .int (nI (5 * rh + rx)))]) hx hb dX0_work_7 rfl hl (by decide) rfl (fun ls hl => ?_)
  refine lv_aload_n hx hb dX0_work_8 rfl (lv_at hl 2 rfl) ?_
  refine xg_25 hC hP dX0_work_9 ?_
  refine lv_iload_n hx hb dX0_work_12 rfl (lv_at hl 3 rfl) ?_
  refine xl_6 hC hP (by omega) dX0_work_13 ?_
  refine lv_istore (lv' := [(4, .int (nI (an (5 * rh + rx)))), (3, .int (nI rx)), (2, .int (nI rh)), (0, .ref (q 0)), (1, .int (nI (5 * rh + rx)))]) hx hb dX0_work_14 hl (by decide) rfl (fun ls hl => ?_)
  refine lv_iconst (v := (nI 0)) hx hb dX0_work_16 (by decide) ?_
  refine lv_istore (lv' := [(5, .int (nI 0)), (4, .int (nI (an (5 * rh + rx)))), (3, .int (nI rx)), (2, .int (nI rh)), (0, .ref (q 0)), (1, .int (nI (5 * rh + rx)))]) hx hb dX0_work_17 hl (by decide) rfl (fun ls hl => ?_)
  have loop : ∀ (n : Nat) (i f ak1 fr1 : Nat) (H : Heap) (locs : List Loc) (ls : Array Slot), i ≤ 8 → 8 + 1 ≤ i + n → tr_E ak fr ak1 fr1 → tr_wi K an rh rx ak1 i f → va_P D tr_Cl (tr_XW dB q K ak1 an fr1 ct) H → va_D A (tr_XW dB q K ak1 an fr1 ct) → va_S A s.heap H locs → lv_has ls 6 [(0, .ref (q 0)), (1, .int (nI (5 * rh + rx))), (2, .int (nI rh)), (3, .int (nI rx)), (4, .int (nI f)), (5, .int (nI i))] → W p l e rmX0_work s m args below meth c H locs 0 0 Q (F0 m 19 ls []) := by
    intro n
    induction n with
    | zero =>
      intro i f ak1 fr1 H locs ls h1 h2
      exact absurd h2 (by omega)
    | succ n ihloop =>
      intro i f ak1 fr1 H locs ls hiloop hnloop hI1 hI2 hP hD hS hl
      have lf := hI2.1
      have han5 := han (5 * rh + rx)
      refine lv_iload hx hb dX0_work_19 (lv_at hl 5 rfl) ?_
      refine lv_bipush (v := (nI 8)) hx hb dX0_work_21 (by decide) ?_
      refine ni_ge (tgt := 64) hx hb (by omega) (by omega) dX0_work_23 (by decide) (fun c1 => ?_) (fun c1 => ?_)
      · have e8 : i = 8 := by omega
        subst e8
        refine lv_iload hx hb dX0_work_64 (lv_at hl 4 rfl) ?_
        refine lv_aload_n hx hb dX0_work_66 rfl (lv_at hl 0 rfl) ?_
        refine xg_25 hC hP dX0_work_67 ?_
        refine lv_iload_n hx hb dX0_work_70 rfl (lv_at hl 1 rfl) ?_
        refine xl_6 hC hP (by omega) dX0_work_71 ?_
        refine ni_eq (tgt := 89) hx hb (by omega) (by omega) dX0_work_72 (by decide) (fun c2 => ?_) (fun c2 => ?_)
        · exact hret _ _ (ak1, an, fr1) _ _ dX0_work_89 (tr_wk_same di hI1 hI2 c2) hP hD hS
        · refine lv_aload_n hx hb dX0_work_75 rfl (lv_at hl 0 rfl) ?_
          refine xg_25 hC hP dX0_work_76 ?_
          refine lv_iload_n hx hb dX0_work_79 rfl (lv_at hl 1 rfl) ?_
          refine lv_iload hx hb dX0_work_80 (lv_at hl 4 rfl) ?_
          refine lv_i2b hx hb dX0_work_82 (tr_i2b _ (by omega)) ?_
          refine xs_6 hC hP hD hS (by omega) (by omega) dX0_work_83 (fun H locs hP hD hS => ?_)
          have hP : va_P D tr_Cl (tr_XW dB q K ak1 (va_up an (5 * rh + rx) f) fr1 ct) H := hP
          have hD : va_D A (tr_XW dB q K ak1 (va_up an (5 * rh + rx) f) fr1 ct) := hD
          refine lv_aload_n hx hb dX0_work_84 rfl (lv_at hl 0 rfl) ?_
          refine lv_iconst (v := (nI 1)) hx hb dX0_work_85 (by decide) ?_
          refine xp_55 hC hP hD hS (by omega) dX0_work_86 (fun H locs hP hD hS => ?_)
          have hP : va_P D tr_Cl (tr_XW dB q K ak1 (va_up an (5 * rh + rx) f) 1 ct) H := hP
          have hD : va_D A (tr_XW dB q K ak1 (va_up an (5 * rh + rx) f) 1 ct) := hD
          exact hret _ _ (ak1, va_up an (5 * rh + rx) f, 1) _ _ dX0_work_89 (tr_wk_new di hI1 hI2 h2 h5 lx c2) hP hD hS
      · refine lv_aload_n hx hb dX0_work_26 rfl (lv_at hl 0 rfl) ?_
        refine lv_iload hx hb dX0_work_27 (lv_at hl 5 rfl) ?_
        refine xc_i (n := 1) hC (tx_has l D dB q K ak1 an fr1 ct (nI i) ok) (lw_V q83 q85 qs2 q19 q86) (by decide +kernel) rfl (by decide) hP hD hS hl.1 [] rfl (Nat.le_of_ble_eq_true rfl) dX0_work_29 (fun r u H locs hp hP hD hS => ?_)
        subst hp
        have hP : va_P D tr_Cl (tr_XW dB q K ak1 an fr1 ct) H := hP
        have hD : va_D A (tr_XW dB q K ak1 an fr1 ct) := hD
        refine tr_top (v := (nI ((kP K).testBit i).toNat)) (by rw [tr_hs_nI c1]) ?_
        refine nb_eq (tgt := 58) hx hb dX0_work_32 (by decide) (fun c2 => ?_) (fun c2 => ?_)
        · refine lv_iinc (v := (nI (i + 1))) (lv' := [(5, .int (nI (i + 1))), (0, .ref (q 0)), (1, .int (nI (5 * rh + rx))), (2, .int (nI rh)), (3, .int (nI rx)), (4, .int (nI f))]) hx hb dX0_work_58 hl (k := 5) rfl (nI_1 _) (by decide) rfl (fun ls hl => ?_)
          refine lv_goto (tgt := 19) hx hb dX0_work_61 (by decide) ?_
          exact ihloop (i + 1) f ak1 fr1 _ _ _ (by omega) (by omega) hI1 (tr_wi_skip hI2 (fun z => by rw [c2] at z; exact absurd z.1 (by decide))) hP hD hS (lv_sub hl [1, 2, 3, 4, 5, 0] rfl)
        · obtain ⟨b1, b2, b3, b4⟩ := ok.2.2.1 i
          refine lv_aload_n hx hb dX0_work_35 rfl (lv_at hl 0 rfl) ?_
          refine xg_16 hC hP dX0_work_36 ?_
          refine lv_iload hx hb dX0_work_39 (lv_at hl 5 rfl) ?_
          refine xl_3 hC hP (by omega) dX0_work_41 ?_
          refine lv_iload_n hx hb dX0_work_42 rfl (lv_at hl 2 rfl) ?_
          refine ni_ne (tgt := 58) hx hb (by omega) (by omega) dX0_work_43 (by decide) (fun c3 => ?_) (fun c3 => ?_)
          · refine lv_iinc (v := (nI (i + 1))) (lv' := [(5, .int (nI (i + 1))), (0, .ref (q 0)), (1, .int (nI (5 * rh + rx))), (2, .int (nI rh)), (3, .int (nI rx)), (4, .int (nI f))]) hx hb dX0_work_58 hl (k := 5) rfl (nI_1 _) (by decide) rfl (fun ls hl => ?_)
            refine lv_goto (tgt := 19) hx hb dX0_work_61 (by decide) ?_
            exact ihloop (i + 1) f ak1 fr1 _ _ _ (by omega) (by omega) hI1 (tr_wi_skip hI2 (fun z => c3 z.2)) hP hD hS (lv_sub hl [1, 2, 3, 4, 5, 0] rfl)
          · refine lv_iload hx hb dX0_work_46 (lv_at hl 4 rfl) ?_
            refine lv_aload_n hx hb dX0_work_48 rfl (lv_at hl 0 rfl) ?_
            refine lv_iload hx hb dX0_work_49 (lv_at hl 5 rfl) ?_
            refine lv_iload_n hx hb dX0_work_51 rfl (lv_at hl 3 rfl) ?_
            refine xc_i (n := 2) hC (tx_bring l D dB q K ak1 an fr1 ct i rx ok han hI1.2.1 hI1.2.2.1 c1 lx) (lw_V q111 q113 qs6 q19 q114) (by decide +kernel) rfl (by decide) hP hD hS hl.1 [.int (nI f)] rfl (Nat.le_of_ble_eq_true rfl) dX0_work_52 (fun r u H locs hp hP hD hS => ?_)
            obtain ⟨v, rfl, hbr, E2⟩ := hp
            obtain ⟨ak2, fr2⟩ := u
            have hP : va_P D tr_Cl (tr_XW dB q K ak2 an fr2 ct) H := hP
            have hD : va_D A (tr_XW dB q K ak2 an fr2 ct) := hD
            refine lv_ior hx hb dX0_work_55 ?_
            refine tr_top (v := (nI (f ||| v))) (nx_or _ _) ?_
            refine lv_istore (lv' := [(4, .int (nI (f ||| v))), (0, .ref (q 0)), (1, .int (nI (5 * rh + rx))), (2, .int (nI rh)), (3, .int (nI rx)), (5, .int (nI i))]) hx hb dX0_work_56 hl (by decide) rfl (fun ls hl => ?_)
            refine lv_iinc (v := (nI (i + 1))) (lv' := [(5, .int (nI (i + 1))), (4, .int (nI (f ||| v))), (0, .ref (q 0)), (1, .int (nI (5 * rh + rx))), (2, .int (nI rh)), (3, .int (nI rx))]) hx hb dX0_work_58 hl (k := 5) rfl (nI_1 _) (by decide) rfl (fun ls hl => ?_)
            refine lv_goto (tgt := 19) hx hb dX0_work_61 (by decide) ?_
            exact ihloop (i + 1) (f ||| v) ak2 fr2 _ _ _ (by omega) (by omega) (tr_E_tr hI1 E2) (tr_wi_step ok (tr_di_E di hI1) lx c1 hI2 E2 c2 c3 hbr) hP hD hS (lv_sub hl [2, 3, 4, 5, 1, 0] rfl)
  exact loop 9 0 _ ak fr _ _ _ (by omega) (by omega) (tr_E_rf di.1 di.2.2.1) (tr_wi_0 di h2 h5 lx) hP hD hS (lv_sub hl [4, 5, 3, 2, 1, 0] rfl)
abbrev rmX0_settle : Room := { frames := 4, cells := 0, slots := 0, locals := 100 }
set_option maxHeartbeats 4000000 in
set_option maxRecDepth 100000 in
/-- settle(p, x): the answers, when nothing is new -/
theorem tx_settle (l : Launch) (D : va_G) (dB : ClassId) (q : Nat → Nat) (K : tr_C) (ak : Nat) (an : Nat → Nat) (fr : Nat) (ct : Nat → Nat) (rp rx : Nat) (ok : tr_ok K) (di : tr_di K ak an fr) (lp : rp < 5) (lx : rx < 5) : tr_Mi l D (tr_XT dB) yX0_settle (ws_ yX0_settle cX0_settle 5 (some .int)) rmX0_settle [.ref (q 0), .int (nI rp), .int (nI rx)] (tr_XW dB q K ak an fr ct) (fun (r : Int32) (u : Nat × (Nat → Nat) × Nat) => r = nI (tr_row K rp rx) ∧ tr_di K u.1 u.2.1 u.2.2) (fun (u : Nat × (Nat → Nat) × Nat) => tr_XW dB q K u.1 u.2.1 u.2.2 ct) := by
  refine tr_Mi.of (by decide) (Nat.le_of_ble_eq_true rfl) ?_
  intro p e s m args below meth c A Q ls hC hret hP hD hS hl
  have hC0 := hC
  obtain ⟨hx, hb, hlk, hml, hown, hts, hA, hK⟩ := hC0
  have hl : lv_has ls 5 [(0, .ref (q 0)), (1, .int (nI rp)), (2, .int (nI rx))] := hl
  refine lv_aload_n hx hb dX0_settle_0 rfl (lv_at hl 0 rfl) ?_
  refine lv_iload_n hx hb dX0_settle_1 rfl (lv_at hl 1 rfl) ?_
  refine lv_iload_n hx hb dX0_settle_2 rfl (lv_at hl 2 rfl) ?_
  refine xc_i (n := 2) hC (tx_ask l D dB q K ak an fr ct rp rx di.1 lp lx) (lw_V q103 q105 qs4 q19 q106) (by decide +kernel) rfl (by decide) hP hD hS hl.1 [] rfl (Nat.le_of_ble_eq_true rfl) dX0_settle_3 (fun r u H locs hp hP hD hS => ?_)
  subst hp
  have hP : va_P D tr_Cl (tr_XW dB q K (tr_ka ak rp rx) an (tr_kf ak fr rp rx) ct) H := hP
  have hD : va_D A (tr_XW dB q K (tr_ka ak rp rx) an (tr_kf ak fr rp rx) ct) := hD
  have E1 := tr_E_ask (ak := ak) (fr := fr) (p := rp) (x := rx) di.1 di.2.2.1 lp lx
  have d1 := tr_di_E di E1
  refine lv_pop hx hb dX0_settle_6 rfl ?_
  refine lv_aload_n hx hb dX0_settle_7 rfl (lv_at hl 0 rfl) ?_
  refine lv_iconst (v := (nI 1)) hx hb dX0_settle_8 (by decide) ?_
  refine xp_55 hC hP hD hS (by omega) dX0_settle_9 (fun H locs hP hD hS => ?_)
  have hP : va_P D tr_Cl (tr_XW dB q K (tr_ka ak rp rx) an 1 ct) H := hP
  have hD : va_D A (tr_XW dB q K (tr_ka ak rp rx) an 1 ct) := hD
  refine lv_iconst (v := (nI 0)) hx hb dX0_settle_12 (by decide) ?_
  refine lv_istore_n (lv' := [(3, .int (nI 0)), (0, .ref (q 0)), (1, .int (nI rp)), (2, .int (nI rx))]) hx hb dX0_settle_13 rfl hl (by decide) rfl (fun ls hl => ?_)
  have loop : ∀ (n : Nat) (i ak1 : Nat) (an1 : Nat → Nat) (fr1 : Nat) (H : Heap) (locs : List Loc) (ls : Array Slot), i ≤ 100 → 100 + 1 ≤ i + n → tr_out K i ak1 an1 fr1 → tr_as ak1 rp rx → va_P D tr_Cl (tr_XW dB q K ak1 an1 fr1 ct) H → va_D A (tr_XW dB q K ak1 an1 fr1 ct) → va_S A s.heap H locs → lv_has ls 5 [(0, .ref (q 0)), (1, .int (nI rp)), (2, .int (nI rx)), (3, .int (nI i))] → W p l e rmX0_settle s m args below meth c H locs 0 0 Q (F0 m 14 ls []) := by
    intro n
    induction n with
    | zero =>
      intro i ak1 an1 fr1 H locs ls h1 h2
      exact absurd h2 (by omega)
    | succ n ihloop =>
      intro i ak1 an1 fr1 H locs ls hiloop hnloop hI1 hI2 hP hD hS hl
      have lf1 := hI1.1.2.2.1
      refine lv_iload_n hx hb dX0_settle_14 rfl (lv_at hl 3 rfl) ?_
      refine lv_bipush (v := (nI 100)) hx hb dX0_settle_15 (by decide) ?_
      refine ni_ge (tgt := 73) hx hb (by omega) (by omega) dX0_settle_17 (by decide) (fun c1 => ?_) (fun c1 => ?_)
      · have hal := tr_out_end hI1 (Or.inl c1)
        refine lv_aload_n hx hb dX0_settle_73 rfl (lv_at hl 0 rfl) ?_
        refine lv_iload_n hx hb dX0_settle_74 rfl (lv_at hl 1 rfl) ?_
        refine lv_iload_n hx hb dX0_settle_75 rfl (lv_at hl 2 rfl) ?_
        refine xc_i (n := 2) hC (tx_ask l D dB q K ak1 an1 fr1 ct rp rx hI1.1.1 lp lx) (lw_V q103 q105 qs4 q19 q106) (by decide +kernel) rfl (by decide) hP hD hS hl.1 [] rfl (Nat.le_of_ble_eq_true rfl) dX0_settle_76 (fun r u H locs hp hP hD hS => ?_)
        subst hp
        have hP : va_P D tr_Cl (tr_XW dB q K (tr_ka ak1 rp rx) an1 (tr_kf ak1 fr1 rp rx) ct) H := hP
        have hD : va_D A (tr_XW dB q K (tr_ka ak1 rp rx) an1 (tr_kf ak1 fr1 rp rx) ct) := hD
        exact hret _ _ _ (tr_ka ak1 rp rx, an1, tr_kf ak1 fr1 rp rx) _ _ dX0_settle_79 rfl (⟨by rw [tr_fin ok hI1.1 hal hI2 lp lx], tr_di_E hI1.1 (tr_E_ask hI1.1.1 hI1.1.2.2.1 lp lx)⟩) hP hD hS
      · refine lv_aload_n hx hb dX0_settle_20 rfl (lv_at hl 0 rfl) ?_
        refine xg_55 hC hP dX0_settle_21 ?_
        refine nz_eq (tgt := 73) hx hb (by omega) dX0_settle_24 (by decide) (fun c2 => ?_) (fun c2 => ?_)
        · have hal := tr_out_end hI1 (Or.inr c2)
          refine lv_aload_n hx hb dX0_settle_73 rfl (lv_at hl 0 rfl) ?_
          refine lv_iload_n hx hb dX0_settle_74 rfl (lv_at hl 1 rfl) ?_
          refine lv_iload_n hx hb dX0_settle_75 rfl (lv_at hl 2 rfl) ?_
          refine xc_i (n := 2) hC (tx_ask l D dB q K ak1 an1 fr1 ct rp rx hI1.1.1 lp lx) (lw_V q103 q105 qs4 q19 q106) (by decide +kernel) rfl (by decide) hP hD hS hl.1 [] rfl (Nat.le_of_ble_eq_true rfl) dX0_settle_76 (fun r u H locs hp hP hD hS => ?_)
          subst hp
          have hP : va_P D tr_Cl (tr_XW dB q K (tr_ka ak1 rp rx) an1 (tr_kf ak1 fr1 rp rx) ct) H := hP
          have hD : va_D A (tr_XW dB q K (tr_ka ak1 rp rx) an1 (tr_kf ak1 fr1 rp rx) ct) := hD
          exact hret _ _ _ (tr_ka ak1 rp rx, an1, tr_kf ak1 fr1 rp rx) _ _ dX0_settle_79 rfl (⟨by rw [tr_fin ok hI1.1 hal hI2 lp lx], tr_di_E hI1.1 (tr_E_ask hI1.1.1 hI1.1.2.2.1 lp lx)⟩) hP hD hS
        · have hr1 : i ≤ tr_mu ak1 an1 := by rcases hI1.2 with z | z <;> omega
          have di1 : tr_di K ak1 an1 0 := ⟨hI1.1.1, hI1.1.2.1, by omega, hI1.1.2.2.2⟩
          have has1 := hI2
          refine lv_aload_n hx hb dX0_settle_27 rfl (lv_at hl 0 rfl) ?_
          refine lv_iconst (v := (nI 0)) hx hb dX0_settle_28 (by decide) ?_
          refine xp_55 hC hP hD hS (by omega) dX0_settle_29 (fun H locs hP hD hS => ?_)
          have hP : va_P D tr_Cl (tr_XW dB q K ak1 an1 0 ct) H := hP
          have hD : va_D A (tr_XW dB q K ak1 an1 0 ct) := hD
          refine lv_bipush (v := (nI 10)) hx hb dX0_settle_32 (by decide) ?_
          refine lv_istore (lv' := [(4, .int (nI 10)), (0, .ref (q 0)), (1, .int (nI rp)), (2, .int (nI rx)), (3, .int (nI i))]) hx hb dX0_settle_34 hl (by decide) rfl (fun ls hl => ?_)
          have inner : ∀ (n : Nat) (j ak2 : Nat) (an2 : Nat → Nat) (fr2 : Nat) (H : Heap) (locs : List Loc) (ls : Array Slot), j ≤ 25 → 25 + 1 ≤ j + n → tr_in1 K ak1 an1 j ak2 an2 fr2 → 10 ≤ j → va_P D tr_Cl (tr_XW dB q K ak2 an2 fr2 ct) H → va_D A (tr_XW dB q K ak2 an2 fr2 ct) → va_S A s.heap H locs → lv_has ls 5 [(0, .ref (q 0)), (1, .int (nI rp)), (2, .int (nI rx)), (3, .int (nI i)), (4, .int (nI j))] → W p l e rmX0_settle s m args below meth c H locs 0 0 Q (F0 m 36 ls []) := by
            intro n
            induction n with
            | zero =>
              intro j ak2 an2 fr2 H locs ls h1 h2
              exact absurd h2 (by omega)
            | succ n ihinner =>
              intro j ak2 an2 fr2 H locs ls hiinner hninner hI1 hI2 hP hD hS hl
              have lak2 := hI1.1.1
              refine lv_iload hx hb dX0_settle_36 (lv_at hl 4 rfl) ?_
              refine lv_bipush (v := (nI 25)) hx hb dX0_settle_38 (by decide) ?_
              refine ni_ge (tgt := 67) hx hb (by omega) (by omega) dX0_settle_40 (by decide) (fun c3 => ?_) (fun c3 => ?_)
              · have e25 : j = 25 := by omega
                rw [e25] at hI1
                refine lv_iinc (v := (nI (i + 1))) (lv' := [(3, .int (nI (i + 1))), (0, .ref (q 0)), (1, .int (nI rp)), (2, .int (nI rx)), (4, .int (nI j))]) hx hb dX0_settle_67 hl (k := 3) rfl (nI_1 _) (by decide) rfl (fun ls hl => ?_)
                refine lv_goto (tgt := 14) hx hb dX0_settle_70 (by decide) ?_
                exact ihloop (i + 1) ak2 an2 fr2 _ _ _ (by omega) (by omega) (tr_out_next hr1 hI1) (tr_as_mono hI1.2.1.1 has1) hP hD hS (lv_sub hl [1, 2, 3, 0] rfl)
              · refine lv_aload_n hx hb dX0_settle_43 rfl (lv_at hl 0 rfl) ?_
                refine xg_35 hC hP dX0_settle_44 ?_
                refine lv_iload hx hb dX0_settle_47 (lv_at hl 4 rfl) ?_
                refine lv_ishr hx hb dX0_settle_49 ?_
                refine lv_iconst (v := (nI 1)) hx hb dX0_settle_50 (by decide) ?_
                refine lv_iand hx hb dX0_settle_51 ?_
                refine tr_top (v := (nI (ak2.testBit j).toNat)) (tr_bitI (by omega) (by omega)) ?_
                refine nb_eq (tgt := 61) hx hb dX0_settle_52 (by decide) (fun c4 => ?_) (fun c4 => ?_)
                · refine lv_iinc (v := (nI (j + 1))) (lv' := [(4, .int (nI (j + 1))), (0, .ref (q 0)), (1, .int (nI rp)), (2, .int (nI rx)), (3, .int (nI i))]) hx hb dX0_settle_61 hl (k := 4) rfl (nI_1 _) (by decide) rfl (fun ls hl => ?_)
                  refine lv_goto (tgt := 36) hx hb dX0_settle_64 (by decide) ?_
                  exact ihinner (j + 1) ak2 an2 fr2 _ _ _ (by omega) (by omega) (tr_in1_skip hI1 c4) (by omega) hP hD hS (lv_sub hl [1, 2, 3, 4, 0] rfl)
                · refine lv_aload_n hx hb dX0_settle_55 rfl (lv_at hl 0 rfl) ?_
                  refine lv_iload hx hb dX0_settle_56 (lv_at hl 4 rfl) ?_
                  refine tr_top (v := (nI (5 * (j / 5) + j % 5))) (congrArg nI (by omega)) ?_
                  refine xc_v (n := 1) hC (tx_work l D dB q K ak2 an2 fr2 ct (j / 5) (j % 5) ok hI1.1 (by omega) (by omega) (by omega)) (lw_V q107 q109 qs5 q19 q110) (by decide +kernel) rfl (by decide) hP hD hS hl.1 [] rfl (Nat.le_of_ble_eq_true rfl) dX0_settle_58 (fun u H locs hp hP hD hS => ?_)
                  obtain ⟨ak3, an3, fr3⟩ := u
                  have hP : va_P D tr_Cl (tr_XW dB q K ak3 an3 fr3 ct) H := hP
                  have hD : va_D A (tr_XW dB q K ak3 an3 fr3 ct) := hD
                  refine lv_iinc (v := (nI (j + 1))) (lv' := [(4, .int (nI (j + 1))), (0, .ref (q 0)), (1, .int (nI rp)), (2, .int (nI rx)), (3, .int (nI i))]) hx hb dX0_settle_61 hl (k := 4) rfl (nI_1 _) (by decide) rfl (fun ls hl => ?_)
                  refine lv_goto (tgt := 36) hx hb dX0_settle_64 (by decide) ?_
                  exact ihinner (j + 1) ak3 an3 fr3 _ _ _ (by omega) (by omega) (tr_in1_work hI1 hp) (by omega) hP hD hS (lv_sub hl [1, 2, 3, 4, 0] rfl)
          exact inner 26 10 ak1 an1 0 _ _ _ (by omega) (by omega) (tr_in1_0 di1) (by omega) hP hD hS (lv_sub hl [1, 2, 3, 4, 0] rfl)
  exact loop 101 0 _ an 1 _ _ _ (by omega) (by omega) (⟨⟨d1.1, d1.2.1, by omega, d1.2.2.2⟩, Or.inl ⟨rfl, Nat.zero_le _⟩⟩) (tr_as_ask _ _ _) hP hD hS (lv_sub hl [1, 2, 3, 0] rfl)
end
section
/-! TabledRules, third: printed by gen/x3.py -/
abbrev rmX0_holds : Room := { frames := 5, cells := 0, slots := 0, locals := 124 }
set_option maxHeartbeats 4000000 in
set_option maxRecDepth 100000 in
/-- holds -/
theorem tx_holds (l : Launch) (D : va_G) (dB : ClassId) (q : Nat → Nat) (K : tr_C) (ak : Nat) (an : Nat → Nat) (fr : Nat) (ct : Nat → Nat) (rp rx ry : Int32) (ok : tr_ok K) (di : tr_di K ak an fr) : tr_Mi l D (tr_XT dB) yX0_holds (ws_ yX0_holds cX0_holds 5 (some .boolean)) rmX0_holds [.ref (q 0), .int rp, .int rx, .int ry] (tr_XW dB q K ak an fr ct) (fun (r : Int32) (u : Nat × (Nat → Nat) × Nat) => r = nI (tr_hB K rp rx ry).toNat ∧ tr_di K u.1 u.2.1 u.2.2) (fun (u : Nat × (Nat → Nat) × Nat) => tr_XW dB q K u.1 u.2.1 u.2.2 ct) := by
  refine tr_Mi.of (by decide) (Nat.le_of_ble_eq_true rfl) ?_
  intro p e s m args below meth c A Q ls hC hret hP hD hS hl
  have hC0 := hC
  obtain ⟨hx, hb, hlk, hml, hown, hts, hA, hK⟩ := hC0
  have hl : lv_has ls 5 [(0, .ref (q 0)), (1, .int rp), (2, .int rx), (3, .int ry)] := hl
  refine lv_iload_n hx hb dX0_holds_0 rfl (lv_at hl 1 rfl) ?_
  refine tr_cs (n := 1) (rest := []) hC (tx_isRelation l D rp) (lw_S q80 q81 q19 q82) (by decide +kernel) rfl (by decide) hP hS hl.1 rfl (Nat.le_of_ble_eq_true rfl) dX0_holds_1 ⟨Nat.zero_le _, Nat.zero_le _⟩ (fun r H locs hp hP hS => ?_)
  subst hp
  refine nb_eq (tgt := 21) hx hb dX0_holds_4 (by decide) (fun c1 => ?_) (fun c1 => ?_)
  · refine lv_iconst (v := (nI 0)) hx hb dX0_holds_21 (by decide) ?_
    exact hret _ _ _ (ak, an, fr) _ _ dX0_holds_22 (tr_nzv (by omega)) (⟨by rw [tr_hB_f (Or.inl c1)]; rfl, di⟩) hP hD hS
  · refine lv_iload_n hx hb dX0_holds_7 rfl (lv_at hl 2 rfl) ?_
    refine tr_cs (n := 1) (rest := []) hC (tx_isThing l D rx) (lw_S q65 q66 q19 q67) (by decide +kernel) rfl (by decide) hP hS hl.1 rfl (Nat.le_of_ble_eq_true rfl) dX0_holds_8 ⟨Nat.zero_le _, Nat.zero_le _⟩ (fun r H locs hp hP hS => ?_)
    subst hp
    refine nb_eq (tgt := 21) hx hb dX0_holds_11 (by decide) (fun c2 => ?_) (fun c2 => ?_)
    · refine lv_iconst (v := (nI 0)) hx hb dX0_holds_21 (by decide) ?_
      exact hret _ _ _ (ak, an, fr) _ _ dX0_holds_22 (tr_nzv (by omega)) (⟨by rw [tr_hB_f (Or.inr (Or.inl c2))]; rfl, di⟩) hP hD hS
    · refine lv_iload_n hx hb dX0_holds_14 rfl (lv_at hl 3 rfl) ?_
      refine tr_cs (n := 1) (rest := []) hC (tx_isThing l D ry) (lw_S q65 q66 q19 q67) (by decide +kernel) rfl (by decide) hP hS hl.1 rfl (Nat.le_of_ble_eq_true rfl) dX0_holds_15 ⟨Nat.zero_le _, Nat.zero_le _⟩ (fun r H locs hp hP hS => ?_)
      subst hp
      refine nb_ne (tgt := 23) hx hb dX0_holds_18 (by decide) (fun c3 => ?_) (fun c3 => ?_)
      · obtain ⟨n1, l1, rfl⟩ := tr_rg_n c1
        obtain ⟨n2, l2, rfl⟩ := tr_rg_n c2
        obtain ⟨n3, l3, rfl⟩ := tr_rg_n c3
        refine lv_aload_n hx hb dX0_holds_23 rfl (lv_at hl 0 rfl) ?_
        refine lv_iload_n hx hb dX0_holds_24 rfl (lv_at hl 1 rfl) ?_
        refine lv_iload_n hx hb dX0_holds_25 rfl (lv_at hl 2 rfl) ?_
        refine xc_i (n := 2) hC (tx_settle l D dB q K ak an fr ct n1 n2 ok di l1 l2) (lw_V q99 q101 qs3 q19 q102) (by decide +kernel) rfl (by decide) hP hD hS hl.1 [] rfl (Nat.le_of_ble_eq_true rfl) dX0_holds_26 (fun r u H locs hp hP hD hS => ?_)
        obtain ⟨rfl, d1⟩ := hp
        obtain ⟨ak1, an1, fr1⟩ := u
        have hP : va_P D tr_Cl (tr_XW dB q K ak1 an1 fr1 ct) H := hP
        have hD : va_D A (tr_XW dB q K ak1 an1 fr1 ct) := hD
        have d1 : tr_di K ak1 an1 fr1 := d1
        have r1 := tr_row_lt K n1 n2
        refine lv_istore (lv' := [(4, .int (nI (tr_row K n1 n2))), (0, .ref (q 0)), (1, .int (nI n1)), (2, .int (nI n2)), (3, .int (nI n3))]) hx hb dX0_holds_29 hl (by decide) rfl (fun ls hl => ?_)
        refine lv_iload hx hb dX0_holds_31 (lv_at hl 0 rfl) ?_
        refine lv_iload_n hx hb dX0_holds_33 rfl (lv_at hl 4 rfl) ?_
        refine lv_ishr hx hb dX0_holds_34 ?_
        refine lv_iconst (v := (nI 1)) hx hb dX0_holds_35 (by decide) ?_
        refine lv_iand hx hb dX0_holds_36 ?_
        refine tr_top (v := (nI ((tr_row K n1 n2).testBit n3).toNat)) (tr_bitI (by omega) (by omega)) ?_
        refine nb_eq (tgt := 44) hx hb dX0_holds_37 (by decide) (fun c4 => ?_) (fun c4 => ?_)
        · refine lv_iconst (v := (nI 0)) hx hb dX0_holds_44 (by decide) ?_
          exact hret _ _ _ (ak1, an1, fr1) _ _ dX0_holds_45 (tr_nzv (by omega)) (⟨by rw [tr_hB_n l1 l2 l3, ← tr_row_bit K n1 n2 l3, c4]; rfl, d1⟩) hP hD hS
        · refine lv_iconst (v := (nI 1)) hx hb dX0_holds_40 (by decide) ?_
          refine lv_goto (tgt := 45) hx hb dX0_holds_41 (by decide) ?_
          exact hret _ _ _ (ak1, an1, fr1) _ _ dX0_holds_45 (tr_nzv (by omega)) (⟨by rw [tr_hB_n l1 l2 l3, ← tr_row_bit K n1 n2 l3, c4]; rfl, d1⟩) hP hD hS
      · refine lv_iconst (v := (nI 0)) hx hb dX0_holds_21 (by decide) ?_
        exact hret _ _ _ (ak, an, fr) _ _ dX0_holds_22 (tr_nzv (by omega)) (⟨by rw [tr_hB_f (Or.inr (Or.inr c3))]; rfl, di⟩) hP hD hS
abbrev rmX0_from : Room := { frames := 5, cells := 0, slots := 0, locals := 124 }
set_option maxHeartbeats 4000000 in
set_option maxRecDepth 100000 in
/-- from -/
theorem tx_from (l : Launch) (D : va_G) (dB : ClassId) (q : Nat → Nat) (K : tr_C) (ak : Nat) (an : Nat → Nat) (fr : Nat) (ct : Nat → Nat) (rp rx : Int32) (ok : tr_ok K) (di : tr_di K ak an fr) : tr_Mi l D (tr_XT dB) yX0_from (ws_ yX0_from cX0_from 3 (some .int)) rmX0_from [.ref (q 0), .int rp, .int rx] (tr_XW dB q K ak an fr ct) (fun (r : Int32) (u : Nat × (Nat → Nat) × Nat) => r = nI (tr_fN K rp rx) ∧ tr_di K u.1 u.2.1 u.2.2) (fun (u : Nat × (Nat → Nat) × Nat) => tr_XW dB q K u.1 u.2.1 u.2.2 ct) := by
  refine tr_Mi.of (by decide) (Nat.le_of_ble_eq_true rfl) ?_
  intro p e s m args below meth c A Q ls hC hret hP hD hS hl
  have hC0 := hC
  obtain ⟨hx, hb, hlk, hml, hown, hts, hA, hK⟩ := hC0
  have hl : lv_has ls 3 [(0, .ref (q 0)), (1, .int rp), (2, .int rx)] := hl
  refine lv_iload_n hx hb dX0_from_0 rfl (lv_at hl 1 rfl) ?_
  refine tr_cs (n := 1) (rest := []) hC (tx_isRelation l D rp) (lw_S q80 q81 q19 q82) (by decide +kernel) rfl (by decide) hP hS hl.1 rfl (Nat.le_of_ble_eq_true rfl) dX0_from_1 ⟨Nat.zero_le _, Nat.zero_le _⟩ (fun r H locs hp hP hS => ?_)
  subst hp
  refine nb_eq (tgt := 23) hx hb dX0_from_4 (by decide) (fun c1 => ?_) (fun c1 => ?_)
  · refine lv_iconst (v := (nI 0)) hx hb dX0_from_23 (by decide) ?_
    exact hret _ _ _ (ak, an, fr) _ _ dX0_from_24 rfl (⟨by rw [tr_fN_f (Or.inl c1)], di⟩) hP hD hS
  · refine lv_iload_n hx hb dX0_from_7 rfl (lv_at hl 2 rfl) ?_
    refine tr_cs (n := 1) (rest := []) hC (tx_isThing l D rx) (lw_S q65 q66 q19 q67) (by decide +kernel) rfl (by decide) hP hS hl.1 rfl (Nat.le_of_ble_eq_true rfl) dX0_from_8 ⟨Nat.zero_le _, Nat.zero_le _⟩ (fun r H locs hp hP hS => ?_)
    subst hp
    refine nb_eq (tgt := 23) hx hb dX0_from_11 (by decide) (fun c2 => ?_) (fun c2 => ?_)
    · refine lv_iconst (v := (nI 0)) hx hb dX0_from_23 (by decide) ?_
      exact hret _ _ _ (ak, an, fr) _ _ dX0_from_24 rfl (⟨by rw [tr_fN_f (Or.inr c2)], di⟩) hP hD hS
    · obtain ⟨n1, l1, rfl⟩ := tr_rg_n c1
      obtain ⟨n2, l2, rfl⟩ := tr_rg_n c2
      refine lv_aload_n hx hb dX0_from_14 rfl (lv_at hl 0 rfl) ?_
      refine lv_iload_n hx hb dX0_from_15 rfl (lv_at hl 1 rfl) ?_
      refine lv_iload_n hx hb dX0_from_16 rfl (lv_at hl 2 rfl) ?_
      refine xc_i (n := 2) hC (tx_settle l D dB q K ak an fr ct n1 n2 ok di l1 l2) (lw_V q99 q101 qs3 q19 q102) (by decide +kernel) rfl (by decide) hP hD hS hl.1 [] rfl (Nat.le_of_ble_eq_true rfl) dX0_from_17 (fun r u H locs hp hP hD hS => ?_)
      obtain ⟨rfl, d1⟩ := hp
      obtain ⟨ak1, an1, fr1⟩ := u
      have hP : va_P D tr_Cl (tr_XW dB q K ak1 an1 fr1 ct) H := hP
      have hD : va_D A (tr_XW dB q K ak1 an1 fr1 ct) := hD
      have d1 : tr_di K ak1 an1 fr1 := d1
      have r1 := tr_row_lt K n1 n2
      refine lv_goto (tgt := 24) hx hb dX0_from_20 (by decide) ?_
      exact hret _ _ _ (ak1, an1, fr1) _ _ dX0_from_24 rfl (⟨by rw [tr_fN_n l1 l2], d1⟩) hP hD hS
abbrev rmX0_to : Room := { frames := 6, cells := 0, slots := 0, locals := 148 }
set_option maxHeartbeats 4000000 in
set_option maxRecDepth 100000 in
/-- to -/
theorem tx_to (l : Launch) (D : va_G) (dB : ClassId) (q : Nat → Nat) (K : tr_C) (ak : Nat) (an : Nat → Nat) (fr : Nat) (ct : Nat → Nat) (rp ry : Int32) (ok : tr_ok K) (di : tr_di K ak an fr) : tr_Mi l D (tr_XT dB) yX0_to (ws_ yX0_to cX0_to 5 (some .int)) rmX0_to [.ref (q 0), .int rp, .int ry] (tr_XW dB q K ak an fr ct) (fun (r : Int32) (u : Nat × (Nat → Nat) × Nat) => r = nI (tr_tN K rp ry) ∧ tr_di K u.1 u.2.1 u.2.2) (fun (u : Nat × (Nat → Nat) × Nat) => tr_XW dB q K u.1 u.2.1 u.2.2 ct) := by
  refine tr_Mi.of (by decide) (Nat.le_of_ble_eq_true rfl) ?_
  intro p e s m args below meth c A Q ls hC hret hP hD hS hl
  have hC0 := hC
  obtain ⟨hx, hb, hlk, hml, hown, hts, hA, hK⟩ := hC0
  have hl : lv_has ls 5 [(0, .ref (q 0)), (1, .int rp), (2, .int ry)] := hl
  refine lv_iconst (v := (nI 0)) hx hb dX0_to_0 (by decide) ?_
  refine lv_istore_n (lv' := [(3, .int (nI 0)), (0, .ref (q 0)), (1, .int rp), (2, .int ry)]) hx hb dX0_to_1 rfl hl (by decide) rfl (fun ls hl => ?_)
  refine lv_iconst (v := (nI 0)) hx hb dX0_to_2 (by decide) ?_
  refine lv_istore (lv' := [(4, .int (nI 0)), (3, .int (nI 0)), (0, .ref (q 0)), (1, .int rp), (2, .int ry)]) hx hb dX0_to_3 hl (by decide) rfl (fun ls hl => ?_)
  have loop : ∀ (n : Nat) (i ak1 : Nat) (an1 : Nat → Nat) (fr1 : Nat) (H : Heap) (locs : List Loc) (ls : Array Slot), i ≤ 5 → 5 + 1 ≤ i + n → tr_di K ak1 an1 fr1 → va_P D tr_Cl (tr_XW dB q K ak1 an1 fr1 ct) H → va_D A (tr_XW dB q K ak1 an1 fr1 ct) → va_S A s.heap H locs → lv_has ls 5 [(0, .ref (q 0)), (1, .int rp), (2, .int ry), (3, .int (nI (tr_num (fun x => tr_hB K rp (nI x) ry) i))), (4, .int (nI i))] → W p l e rmX0_to s m args below meth c H locs 0 0 Q (F0 m 5 ls []) := by
    intro n
    induction n with
    | zero =>
      intro i ak1 an1 fr1 H locs ls h1 h2
      exact absurd h2 (by omega)
    | succ n ihloop =>
      intro i ak1 an1 fr1 H locs ls hiloop hnloop hI1 hP hD hS hl
      refine lv_iload hx hb dX0_to_5 (lv_at hl 4 rfl) ?_
      refine lv_iconst (v := (nI 5)) hx hb dX0_to_7 (by decide) ?_
      refine ni_ge (tgt := 39) hx hb (by omega) (by omega) dX0_to_8 (by decide) (fun c1 => ?_) (fun c1 => ?_)
      · refine lv_iload_n hx hb dX0_to_39 rfl (lv_at hl 3 rfl) ?_
        have e5 : i = 5 := by omega
        subst e5
        exact hret _ _ _ (ak1, an1, fr1) _ _ dX0_to_40 rfl (⟨rfl, hI1⟩) hP hD hS
      · refine lv_iload_n hx hb dX0_to_11 rfl (lv_at hl 3 rfl) ?_
        refine lv_aload_n hx hb dX0_to_12 rfl (lv_at hl 0 rfl) ?_
        refine lv_iload_n hx hb dX0_to_13 rfl (lv_at hl 1 rfl) ?_
        refine lv_iload hx hb dX0_to_14 (lv_at hl 4 rfl) ?_
        refine lv_iload_n hx hb dX0_to_16 rfl (lv_at hl 2 rfl) ?_
        refine xc_i (n := 3) hC (tx_holds l D dB q K ak1 an1 fr1 ct rp (nI i) ry ok hI1) (lw_V q131 q96 q97 q19 q98) (by decide +kernel) rfl (by decide) hP hD hS hl.1 [.int (nI (tr_num (fun x => tr_hB K rp (nI x) ry) i))] rfl (Nat.le_of_ble_eq_true rfl) dX0_to_17 (fun r u H locs hp hP hD hS => ?_)
        obtain ⟨rfl, d2⟩ := hp
        obtain ⟨ak2, an2, fr2⟩ := u
        have hP : va_P D tr_Cl (tr_XW dB q K ak2 an2 fr2 ct) H := hP
        have hD : va_D A (tr_XW dB q K ak2 an2 fr2 ct) := hD
        refine nb_eq (tgt := 30) hx hb dX0_to_20 (by decide) (fun c2 => ?_) (fun c2 => ?_)
        · refine lv_iconst (v := (nI 0)) hx hb dX0_to_30 (by decide) ?_
          refine lv_ior hx hb dX0_to_31 ?_
          refine tr_top (v := (nI ((tr_num (fun x => tr_hB K rp (nI x) ry) i) ||| 0))) (nx_or _ _) ?_
          refine tr_top (v := (nI (tr_num (fun x => tr_hB K rp (nI x) ry) (i + 1)))) (by rw [tr_num_or, c2]; simp [Nat.shiftLeft_eq]) ?_
          refine lv_istore_n (lv' := [(3, .int (nI (tr_num (fun x => tr_hB K rp (nI x) ry) (i + 1)))), (0, .ref (q 0)), (1, .int rp), (2, .int ry), (4, .int (nI i))]) hx hb dX0_to_32 rfl hl (by decide) rfl (fun ls hl => ?_)
          refine lv_iinc (v := (nI (i + 1))) (lv' := [(4, .int (nI (i + 1))), (3, .int (nI (tr_num (fun x => tr_hB K rp (nI x) ry) (i + 1)))), (0, .ref (q 0)), (1, .int rp), (2, .int ry)]) hx hb dX0_to_33 hl (k := 4) rfl (nI_1 _) (by decide) rfl (fun ls hl => ?_)
          refine lv_goto (tgt := 5) hx hb dX0_to_36 (by decide) ?_
          exact ihloop (i + 1) ak2 an2 fr2 _ _ _ (by omega) (by omega) d2 hP hD hS (lv_sub hl [2, 3, 4, 1, 0] rfl)
        · refine lv_iconst (v := (nI 1)) hx hb dX0_to_23 (by decide) ?_
          refine lv_iload hx hb dX0_to_24 (lv_at hl 4 rfl) ?_
          refine lv_ishl hx hb dX0_to_26 ?_
          refine tr_top (v := (nI (2 ^ i))) (tr_shlI (by omega)) ?_
          refine lv_goto (tgt := 31) hx hb dX0_to_27 (by decide) ?_
          refine lv_ior hx hb dX0_to_31 ?_
          refine tr_top (v := (nI ((tr_num (fun x => tr_hB K rp (nI x) ry) i) ||| (2 ^ i)))) (nx_or _ _) ?_
          refine tr_top (v := (nI (tr_num (fun x => tr_hB K rp (nI x) ry) (i + 1)))) (by rw [tr_num_or, c2]; simp [Nat.shiftLeft_eq]) ?_
          refine lv_istore_n (lv' := [(3, .int (nI (tr_num (fun x => tr_hB K rp (nI x) ry) (i + 1)))), (0, .ref (q 0)), (1, .int rp), (2, .int ry), (4, .int (nI i))]) hx hb dX0_to_32 rfl hl (by decide) rfl (fun ls hl => ?_)
          refine lv_iinc (v := (nI (i + 1))) (lv' := [(4, .int (nI (i + 1))), (3, .int (nI (tr_num (fun x => tr_hB K rp (nI x) ry) (i + 1)))), (0, .ref (q 0)), (1, .int rp), (2, .int ry)]) hx hb dX0_to_33 hl (k := 4) rfl (nI_1 _) (by decide) rfl (fun ls hl => ?_)
          refine lv_goto (tgt := 5) hx hb dX0_to_36 (by decide) ?_
          exact ihloop (i + 1) ak2 an2 fr2 _ _ _ (by omega) (by omega) d2 hP hD hS (lv_sub hl [2, 3, 4, 1, 0] rfl)
  have hl : lv_has ls 5 [(4, .int (nI 0)), (3, .int (nI (tr_num (fun x => tr_hB K rp (nI x) ry) 0))), (0, .ref (q 0)), (1, .int rp), (2, .int ry)] := hl
  exact loop 6 0 ak an fr _ _ _ (by omega) (by omega) di hP hD hS (lv_sub hl [2, 3, 4, 1, 0] rfl)
abbrev rmX0_count : Room := { frames := 5, cells := 0, slots := 0, locals := 124 }
set_option maxHeartbeats 4000000 in
set_option maxRecDepth 100000 in
/-- count -/
theorem tx_count (l : Launch) (D : va_G) (dB : ClassId) (q : Nat → Nat) (K : tr_C) (ak : Nat) (an : Nat → Nat) (fr : Nat) (ct : Nat → Nat) (rp : Int32) (ok : tr_ok K) (di : tr_di K ak an fr) : tr_Mi l D (tr_XT dB) yX0_count (ws_ yX0_count cX0_count 5 (some .int)) rmX0_count [.ref (q 0), .int rp] (tr_XW dB q K ak an fr ct) (fun (r : Int32) (u : Nat × (Nat → Nat) × Nat) => r = tr_cI K rp ∧ tr_di K u.1 u.2.1 u.2.2) (fun (u : Nat × (Nat → Nat) × Nat) => tr_XW dB q K u.1 u.2.1 u.2.2 ct) := by
  refine tr_Mi.of (by decide) (Nat.le_of_ble_eq_true rfl) ?_
  intro p e s m args below meth c A Q ls hC hret hP hD hS hl
  have hC0 := hC
  obtain ⟨hx, hb, hlk, hml, hown, hts, hA, hK⟩ := hC0
  have hl : lv_has ls 5 [(0, .ref (q 0)), (1, .int rp)] := hl
  refine lv_iload_n hx hb dX0_count_0 rfl (lv_at hl 1 rfl) ?_
  refine tr_cs (n := 1) (rest := []) hC (tx_isRelation l D rp) (lw_S q80 q81 q19 q82) (by decide +kernel) rfl (by decide) hP hS hl.1 rfl (Nat.le_of_ble_eq_true rfl) dX0_count_1 ⟨Nat.zero_le _, Nat.zero_le _⟩ (fun r H locs hp hP hS => ?_)
  subst hp
  refine nb_ne (tgt := 9) hx hb dX0_count_4 (by decide) (fun c1 => ?_) (fun c1 => ?_)
  · obtain ⟨n1, l1, rfl⟩ := tr_rg_n c1
    refine lv_iconst (v := (nI 0)) hx hb dX0_count_9 (by decide) ?_
    refine lv_istore_n (lv' := [(2, .int (nI 0)), (0, .ref (q 0)), (1, .int (nI n1))]) hx hb dX0_count_10 rfl hl (by decide) rfl (fun ls hl => ?_)
    refine lv_iconst (v := (nI 0)) hx hb dX0_count_11 (by decide) ?_
    refine lv_istore_n (lv' := [(3, .int (nI 0)), (2, .int (nI 0)), (0, .ref (q 0)), (1, .int (nI n1))]) hx hb dX0_count_12 rfl hl (by decide) rfl (fun ls hl => ?_)
    have loop : ∀ (n : Nat) (i ak1 : Nat) (an1 : Nat → Nat) (fr1 : Nat) (H : Heap) (locs : List Loc) (ls : Array Slot), i ≤ 5 → 5 + 1 ≤ i + n → tr_di K ak1 an1 fr1 → va_P D tr_Cl (tr_XW dB q K ak1 an1 fr1 ct) H → va_D A (tr_XW dB q K ak1 an1 fr1 ct) → va_S A s.heap H locs → lv_has ls 5 [(0, .ref (q 0)), (1, .int (nI n1)), (2, .int (nI (tr_sum (tr_cg K n1) (5 * i)))), (3, .int (nI i))] → W p l e rmX0_count s m args below meth c H locs 0 0 Q (F0 m 13 ls []) := by
      intro n
      induction n with
      | zero =>
        intro i ak1 an1 fr1 H locs ls h1 h2
        exact absurd h2 (by omega)
      | succ n ihloop =>
        intro i ak1 an1 fr1 H locs ls hiloop hnloop hI1 hP hD hS hl
        refine lv_iload_n hx hb dX0_count_13 rfl (lv_at hl 3 rfl) ?_
        refine lv_iconst (v := (nI 5)) hx hb dX0_count_14 (by decide) ?_
        refine ni_ge (tgt := 40) hx hb (by omega) (by omega) dX0_count_15 (by decide) (fun c2 => ?_) (fun c2 => ?_)
        · refine lv_iload_n hx hb dX0_count_40 rfl (lv_at hl 2 rfl) ?_
          have e5 : i = 5 := by omega
          subst e5
          exact hret _ _ _ (ak1, an1, fr1) _ _ dX0_count_41 rfl (⟨by rw [tr_cI_n l1]; rfl, hI1⟩) hP hD hS
        · refine lv_aload_n hx hb dX0_count_18 rfl (lv_at hl 0 rfl) ?_
          refine lv_iload_n hx hb dX0_count_19 rfl (lv_at hl 1 rfl) ?_
          refine lv_iload_n hx hb dX0_count_20 rfl (lv_at hl 3 rfl) ?_
          refine xc_i (n := 2) hC (tx_settle l D dB q K ak1 an1 fr1 ct n1 i ok hI1 l1 c2) (lw_V q99 q101 qs3 q19 q102) (by decide +kernel) rfl (by decide) hP hD hS hl.1 [] rfl (Nat.le_of_ble_eq_true rfl) dX0_count_21 (fun r u H locs hp hP hD hS => ?_)
          obtain ⟨rfl, d2⟩ := hp
          obtain ⟨ak2, an2, fr2⟩ := u
          have hP : va_P D tr_Cl (tr_XW dB q K ak2 an2 fr2 ct) H := hP
          have hD : va_D A (tr_XW dB q K ak2 an2 fr2 ct) := hD
          have d2 : tr_di K ak2 an2 fr2 := d2
          have r2 := tr_row_lt K n1 i
          refine lv_istore (lv' := [(4, .int (nI (tr_row K n1 i))), (0, .ref (q 0)), (1, .int (nI n1)), (2, .int (nI (tr_sum (tr_cg K n1) (5 * i)))), (3, .int (nI i))]) hx hb dX0_count_24 hl (by decide) rfl (fun ls hl => ?_)
          refine lv_iload_n hx hb dX0_count_26 rfl (lv_at hl 3 rfl) ?_
          refine lv_iload hx hb dX0_count_27 (lv_at hl 0 rfl) ?_
          refine tr_cs (n := 1) (rest := [.int (nI (tr_sum (tr_cg K n1) (5 * i)))]) hC (tx_ones l D (tr_row K n1 i) r2) (lw_S q136 q137 q19 q138) (by decide +kernel) rfl (by decide) hP hS hl.1 rfl (Nat.le_of_ble_eq_true rfl) dX0_count_29 ⟨Nat.zero_le _, Nat.zero_le _⟩ (fun r H locs hp hP hS => ?_)
          subst hp
          refine lv_iadd hx hb dX0_count_32 ?_
          refine tr_top (v := (nI ((tr_sum (tr_cg K n1) (5 * i)) + (tr_pc (tr_row K n1 i) 5)))) (nI_add _ _) ?_
          refine tr_top (v := (nI (tr_sum (tr_cg K n1) (5 * (i + 1))))) (by rw [tr_cnt_step]) ?_
          refine lv_istore_n (lv' := [(2, .int (nI (tr_sum (tr_cg K n1) (5 * (i + 1))))), (4, .int (nI (tr_row K n1 i))), (0, .ref (q 0)), (1, .int (nI n1)), (3, .int (nI i))]) hx hb dX0_count_33 rfl hl (by decide) rfl (fun ls hl => ?_)
          refine lv_iinc (v := (nI (i + 1))) (lv' := [(3, .int (nI (i + 1))), (2, .int (nI (tr_sum (tr_cg K n1) (5 * (i + 1))))), (4, .int (nI (tr_row K n1 i))), (0, .ref (q 0)), (1, .int (nI n1))]) hx hb dX0_count_34 hl (k := 4) rfl (nI_1 _) (by decide) rfl (fun ls hl => ?_)
          refine lv_goto (tgt := 13) hx hb dX0_count_37 (by decide) ?_
          exact ihloop (i + 1) ak2 an2 fr2 _ _ _ (by omega) (by omega) d2 hP hD hS (lv_sub hl [3, 4, 1, 0] rfl)
    have hl : lv_has ls 5 [(3, .int (nI 0)), (2, .int (nI (tr_sum (tr_cg K n1) (5 * 0)))), (0, .ref (q 0)), (1, .int (nI n1))] := hl
    exact loop 6 0 ak an fr _ _ _ (by omega) (by omega) di hP hD hS (lv_sub hl [2, 3, 1, 0] rfl)
  · refine lv_iconst (v := (-1)) hx hb dX0_count_7 (by decide) ?_
    exact hret _ _ _ (ak, an, fr) _ _ dX0_count_8 rfl (⟨by rw [tr_cI_f c1], di⟩) hP hD hS
abbrev rmX0_within : Room := { frames := 5, cells := 0, slots := 0, locals := 124 }
set_option maxHeartbeats 4000000 in
set_option maxRecDepth 100000 in
/-- within -/
theorem tx_within (l : Launch) (D : va_G) (dB : ClassId) (q : Nat → Nat) (K : tr_C) (ak : Nat) (an : Nat → Nat) (fr : Nat) (ct : Nat → Nat) (rp rr : Int32) (ok : tr_ok K) (di : tr_di K ak an fr) : tr_Mi l D (tr_XT dB) yX0_within (ws_ yX0_within cX0_within 6 (some .boolean)) rmX0_within [.ref (q 0), .int rp, .int rr] (tr_XW dB q K ak an fr ct) (fun (r : Int32) (u : Nat × (Nat → Nat) × Nat) => r = nI (tr_wB K rp rr).toNat ∧ tr_di K u.1 u.2.1 u.2.2) (fun (u : Nat × (Nat → Nat) × Nat) => tr_XW dB q K u.1 u.2.1 u.2.2 ct) := by
  refine tr_Mi.of (by decide) (Nat.le_of_ble_eq_true rfl) ?_
  intro p e s m args below meth c A Q ls hC hret hP hD hS hl
  have hC0 := hC
  obtain ⟨hx, hb, hlk, hml, hown, hts, hA, hK⟩ := hC0
  have hl : lv_has ls 6 [(0, .ref (q 0)), (1, .int rp), (2, .int rr)] := hl
  refine lv_iload_n hx hb dX0_within_0 rfl (lv_at hl 1 rfl) ?_
  refine tr_cs (n := 1) (rest := []) hC (tx_isRelation l D rp) (lw_S q80 q81 q19 q82) (by decide +kernel) rfl (by decide) hP hS hl.1 rfl (Nat.le_of_ble_eq_true rfl) dX0_within_1 ⟨Nat.zero_le _, Nat.zero_le _⟩ (fun r H locs hp hP hS => ?_)
  subst hp
  refine nb_eq (tgt := 14) hx hb dX0_within_4 (by decide) (fun c1 => ?_) (fun c1 => ?_)
  · refine lv_iconst (v := (nI 0)) hx hb dX0_within_14 (by decide) ?_
    exact hret _ _ _ (ak, an, fr) _ _ dX0_within_15 (tr_nzv (by omega)) (⟨by rw [tr_wB_f (Or.inl c1)]; rfl, di⟩) hP hD hS
  · refine lv_iload_n hx hb dX0_within_7 rfl (lv_at hl 2 rfl) ?_
    refine tr_cs (n := 1) (rest := []) hC (tx_isRelation l D rr) (lw_S q80 q81 q19 q82) (by decide +kernel) rfl (by decide) hP hS hl.1 rfl (Nat.le_of_ble_eq_true rfl) dX0_within_8 ⟨Nat.zero_le _, Nat.zero_le _⟩ (fun r H locs hp hP hS => ?_)
    subst hp
    refine nb_ne (tgt := 16) hx hb dX0_within_11 (by decide) (fun c2 => ?_) (fun c2 => ?_)
    · obtain ⟨n1, l1, rfl⟩ := tr_rg_n c1
      obtain ⟨n2, l2, rfl⟩ := tr_rg_n c2
      refine lv_iconst (v := (nI 0)) hx hb dX0_within_16 (by decide) ?_
      refine lv_istore_n (lv' := [(3, .int (nI 0)), (0, .ref (q 0)), (1, .int (nI n1)), (2, .int (nI n2))]) hx hb dX0_within_17 rfl hl (by decide) rfl (fun ls hl => ?_)
      have loop : ∀ (n : Nat) (i ak1 : Nat) (an1 : Nat → Nat) (fr1 : Nat) (H : Heap) (locs : List Loc) (ls : Array Slot), i ≤ 5 → 5 + 1 ≤ i + n → tr_di K ak1 an1 fr1 → (∀ x y, x < i → y < 5 → tr_L K n1 x y → tr_L K n2 x y) → va_P D tr_Cl (tr_XW dB q K ak1 an1 fr1 ct) H → va_D A (tr_XW dB q K ak1 an1 fr1 ct) → va_S A s.heap H locs → lv_has ls 6 [(0, .ref (q 0)), (1, .int (nI n1)), (2, .int (nI n2)), (3, .int (nI i))] → W p l e rmX0_within s m args below meth c H locs 0 0 Q (F0 m 18 ls []) := by
        intro n
        induction n with
        | zero =>
          intro i ak1 an1 fr1 H locs ls h1 h2
          exact absurd h2 (by omega)
        | succ n ihloop =>
          intro i ak1 an1 fr1 H locs ls hiloop hnloop hI1 hI2 hP hD hS hl
          refine lv_iload_n hx hb dX0_within_18 rfl (lv_at hl 3 rfl) ?_
          refine lv_iconst (v := (nI 5)) hx hb dX0_within_19 (by decide) ?_
          refine ni_ge (tgt := 57) hx hb (by omega) (by omega) dX0_within_20 (by decide) (fun c3 => ?_) (fun c3 => ?_)
          · refine lv_iconst (v := (nI 1)) hx hb dX0_within_57 (by decide) ?_
            have e5 : i = 5 := by omega
            subst e5
            exact hret _ _ _ (ak1, an1, fr1) _ _ dX0_within_58 (tr_nzv (by omega)) (⟨by rw [tr_wB_n l1 l2, tr_b_t (show tr_wP K n1 n2 from fun x y hx hy h => hI2 x y hx hy h)]; rfl, hI1⟩) hP hD hS
          · refine lv_aload_n hx hb dX0_within_23 rfl (lv_at hl 0 rfl) ?_
            refine lv_iload_n hx hb dX0_within_24 rfl (lv_at hl 1 rfl) ?_
            refine lv_iload_n hx hb dX0_within_25 rfl (lv_at hl 3 rfl) ?_
            refine xc_i (n := 2) hC (tx_settle l D dB q K ak1 an1 fr1 ct n1 i ok hI1 l1 c3) (lw_V q99 q101 qs3 q19 q102) (by decide +kernel) rfl (by decide) hP hD hS hl.1 [] rfl (Nat.le_of_ble_eq_true rfl) dX0_within_26 (fun r u H locs hp hP hD hS => ?_)
            obtain ⟨rfl, d2⟩ := hp
            obtain ⟨ak2, an2, fr2⟩ := u
            have hP : va_P D tr_Cl (tr_XW dB q K ak2 an2 fr2 ct) H := hP
            have hD : va_D A (tr_XW dB q K ak2 an2 fr2 ct) := hD
            have d2 : tr_di K ak2 an2 fr2 := d2
            have r2 := tr_row_lt K n1 i
            refine lv_istore (lv' := [(4, .int (nI (tr_row K n1 i))), (0, .ref (q 0)), (1, .int (nI n1)), (2, .int (nI n2)), (3, .int (nI i))]) hx hb dX0_within_29 hl (by decide) rfl (fun ls hl => ?_)
            refine lv_aload_n hx hb dX0_within_31 rfl (lv_at hl 1 rfl) ?_
            refine lv_iload_n hx hb dX0_within_32 rfl (lv_at hl 3 rfl) ?_
            refine lv_iload_n hx hb dX0_within_33 rfl (lv_at hl 4 rfl) ?_
            refine xc_i (n := 2) hC (tx_settle l D dB q K ak2 an2 fr2 ct n2 i ok d2 l2 c3) (lw_V q99 q101 qs3 q19 q102) (by decide +kernel) rfl (by decide) hP hD hS hl.1 [] rfl (Nat.le_of_ble_eq_true rfl) dX0_within_34 (fun r u H locs hp hP hD hS => ?_)
            obtain ⟨rfl, d3⟩ := hp
            obtain ⟨ak3, an3, fr3⟩ := u
            have hP : va_P D tr_Cl (tr_XW dB q K ak3 an3 fr3 ct) H := hP
            have hD : va_D A (tr_XW dB q K ak3 an3 fr3 ct) := hD
            have d3 : tr_di K ak3 an3 fr3 := d3
            have r3 := tr_row_lt K n2 i
            refine lv_istore (lv' := [(5, .int (nI (tr_row K n2 i))), (4, .int (nI (tr_row K n1 i))), (0, .ref (q 0)), (1, .int (nI n1)), (2, .int (nI n2)), (3, .int (nI i))]) hx hb dX0_within_37 hl (by decide) rfl (fun ls hl => ?_)
            refine lv_iload hx hb dX0_within_39 (lv_at hl 1 rfl) ?_
            refine lv_iload hx hb dX0_within_41 (lv_at hl 0 rfl) ?_
            refine lv_iconst (v := (-1)) hx hb dX0_within_43 (by decide) ?_
            refine lv_ixor hx hb dX0_within_44 ?_
            refine lv_iand hx hb dX0_within_45 ?_
            refine tr_top (v := (nI (tr_num (fun y => (tr_row K n1 i).testBit y && !(tr_row K n2 i).testBit y) 5))) (tr_andn (n := 5) (by omega) r2) ?_
            have hz5 := tr_num_lt (fun y => (tr_row K n1 i).testBit y && !(tr_row K n2 i).testBit y) 5
            refine nz_eq (tgt := 51) hx hb (by omega) dX0_within_46 (by decide) (fun c4 => ?_) (fun c4 => ?_)
            · have hrow : ∀ y, y < 5 → tr_L K n1 i y → tr_L K n2 i y := by
                intro y hy hL
                have h1 := tr_num0.mp c4 y hy
                rw [tr_row_bit K n1 i hy, tr_row_bit K n2 i hy, tr_b_t hL, Bool.true_and] at h1
                exact tr_b_iff.mp (by simpa using h1)
              refine lv_iinc (v := (nI (i + 1))) (lv' := [(3, .int (nI (i + 1))), (5, .int (nI (tr_row K n2 i))), (4, .int (nI (tr_row K n1 i))), (0, .ref (q 0)), (1, .int (nI n1)), (2, .int (nI n2))]) hx hb dX0_within_51 hl (k := 5) rfl (nI_1 _) (by decide) rfl (fun ls hl => ?_)
              refine lv_goto (tgt := 18) hx hb dX0_within_54 (by decide) ?_
              exact ihloop (i + 1) ak3 an3 fr3 _ _ _ (by omega) (by omega) d3 (fun x y hx hy h => (Nat.lt_or_ge x i).elim (fun z => hI2 x y z hy h) (fun z => by have e : x = i := (by omega); subst e; exact hrow y hy h)) hP hD hS (lv_sub hl [3, 4, 5, 0] rfl)
            · refine lv_iconst (v := (nI 0)) hx hb dX0_within_49 (by decide) ?_
              have hno : ¬ tr_wP K n1 n2 := by
                intro hw
                refine c4 (tr_num0.mpr (fun y hy => ?_))
                show ((tr_row K n1 i).testBit y && !(tr_row K n2 i).testBit y) = false
                rw [tr_row_bit K n1 i hy, tr_row_bit K n2 i hy]
                cases e1 : tr_b (tr_L K n1 i y)
                · rfl
                · rw [tr_b_t (hw i y c3 hy (tr_b_iff.mp e1))]; rfl
              exact hret _ _ _ (ak3, an3, fr3) _ _ dX0_within_50 (tr_nzv (by omega)) (⟨by rw [tr_wB_n l1 l2, tr_b_f hno]; rfl, d3⟩) hP hD hS
      exact loop 6 0 ak an fr _ _ _ (by omega) (by omega) di (fun x y hx => absurd hx (by omega)) hP hD hS (lv_sub hl [1, 2, 3, 0] rfl)
    · refine lv_iconst (v := (nI 0)) hx hb dX0_within_14 (by decide) ?_
      exact hret _ _ _ (ak, an, fr) _ _ dX0_within_15 (tr_nzv (by omega)) (⟨by rw [tr_wB_f (Or.inr c2)]; rfl, di⟩) hP hD hS
abbrev rmX0_keepCounts : Room := { frames := 6, cells := 0, slots := 0, locals := 148 }
set_option maxHeartbeats 4000000 in
set_option maxRecDepth 100000 in
/-- keepCounts -/
theorem tx_keepCounts (l : Launch) (D : va_G) (dB : ClassId) (q : Nat → Nat) (K : tr_C) (ak : Nat) (an : Nat → Nat) (fr : Nat) (ct : Nat → Nat)  (ok : tr_ok K) (di : tr_di K ak an fr) : tr_Mv l D (tr_XT dB) yX0_keepCounts (ws_ yX0_keepCounts cX0_keepCounts 2 none) rmX0_keepCounts [.ref (q 0)] (tr_XW dB q K ak an fr ct) (fun (u : (Nat × (Nat → Nat) × Nat) × (Nat → Nat)) => tr_di K u.1.1 u.1.2.1 u.1.2.2 ∧ ∀ j, j < 5 → u.2 j = tr_cnt K j) (fun (u : (Nat × (Nat → Nat) × Nat) × (Nat → Nat)) => tr_XW dB q K u.1.1 u.1.2.1 u.1.2.2 u.2) := by
  refine tr_Mv.of (by decide) (Nat.le_of_ble_eq_true rfl) ?_
  intro p e s m args below meth c A Q ls hC hret hP hD hS hl
  have hC0 := hC
  obtain ⟨hx, hb, hlk, hml, hown, hts, hA, hK⟩ := hC0
  have hl : lv_has ls 2 [(0, .ref (q 0))] := hl
  refine lv_iconst (v := (nI 0)) hx hb dX0_keepCounts_0 (by decide) ?_
  refine lv_istore_n (lv' := [(1, .int (nI 0)), (0, .ref (q 0))]) hx hb dX0_keepCounts_1 rfl hl (by decide) rfl (fun ls hl => ?_)
  have loop : ∀ (n : Nat) (i ak1 : Nat) (an1 : Nat → Nat) (fr1 : Nat) (ct1 : Nat → Nat) (H : Heap) (locs : List Loc) (ls : Array Slot), i ≤ 5 → 5 + 1 ≤ i + n → tr_di K ak1 an1 fr1 → (∀ j, j < i → ct1 j = tr_cnt K j) → va_P D tr_Cl (tr_XW dB q K ak1 an1 fr1 ct1) H → va_D A (tr_XW dB q K ak1 an1 fr1 ct1) → va_S A s.heap H locs → lv_has ls 2 [(0, .ref (q 0)), (1, .int (nI i))] → W p l e rmX0_keepCounts s m args below meth c H locs 0 0 Q (F0 m 2 ls []) := by
    intro n
    induction n with
    | zero =>
      intro i ak1 an1 fr1 ct1 H locs ls h1 h2
      exact absurd h2 (by omega)
    | succ n ihloop =>
      intro i ak1 an1 fr1 ct1 H locs ls hiloop hnloop hI1 hI2 hP hD hS hl
      refine lv_iload_n hx hb dX0_keepCounts_2 rfl (lv_at hl 1 rfl) ?_
      refine lv_iconst (v := (nI 5)) hx hb dX0_keepCounts_3 (by decide) ?_
      refine ni_ge (tgt := 25) hx hb (by omega) (by omega) dX0_keepCounts_4 (by decide) (fun c1 => ?_) (fun c1 => ?_)
      · have e5 : i = 5 := by omega
        subst e5
        exact hret _ _ ((ak1, an1, fr1), ct1) _ _ dX0_keepCounts_25 (⟨hI1, hI2⟩) hP hD hS
      · refine lv_aload_n hx hb dX0_keepCounts_7 rfl (lv_at hl 0 rfl) ?_
        refine xg_28 hC hP dX0_keepCounts_8 ?_
        refine lv_iload_n hx hb dX0_keepCounts_11 rfl (lv_at hl 1 rfl) ?_
        refine lv_aload_n hx hb dX0_keepCounts_12 rfl (lv_at hl 0 rfl) ?_
        refine lv_iload_n hx hb dX0_keepCounts_13 rfl (lv_at hl 1 rfl) ?_
        have hcl := tr_cnt_le K i
        refine xc_i (n := 1) hC (tx_count l D dB q K ak1 an1 fr1 ct1 (nI i) ok hI1) (lw_V q151 q133 q134 q19 q135) (by decide +kernel) rfl (by decide) hP hD hS hl.1 [.int (nI i), .ref (q 7)] rfl (Nat.le_of_ble_eq_true rfl) dX0_keepCounts_14 (fun r u H locs hp hP hD hS => ?_)
        obtain ⟨rfl, d2⟩ := hp
        obtain ⟨ak2, an2, fr2⟩ := u
        have hP : va_P D tr_Cl (tr_XW dB q K ak2 an2 fr2 ct1) H := hP
        have hD : va_D A (tr_XW dB q K ak2 an2 fr2 ct1) := hD
        refine tr_top (v := (nI (tr_cnt K i))) (tr_cI_n c1) ?_
        refine lv_i2b hx hb dX0_keepCounts_17 (tr_i2b _ (by omega)) ?_
        refine xs_7 hC hP hD hS (by omega) (by omega) dX0_keepCounts_18 (fun H locs hP hD hS => ?_)
        have hP : va_P D tr_Cl (tr_XW dB q K ak2 an2 fr2 (va_up ct1 i (tr_cnt K i))) H := hP
        have hD : va_D A (tr_XW dB q K ak2 an2 fr2 (va_up ct1 i (tr_cnt K i))) := hD
        refine lv_iinc (v := (nI (i + 1))) (lv' := [(1, .int (nI (i + 1))), (0, .ref (q 0))]) hx hb dX0_keepCounts_19 hl (k := 1) rfl (nI_1 _) (by decide) rfl (fun ls hl => ?_)
        refine lv_goto (tgt := 2) hx hb dX0_keepCounts_22 (by decide) ?_
        exact ihloop (i + 1) ak2 an2 fr2 (va_up ct1 i (tr_cnt K i)) _ _ _ (by omega) (by omega) d2 (fun j hj => by unfold va_up; split; (rename_i e; rw [e]); exact hI2 j (by omega)) hP hD hS (lv_sub hl [1, 0] rfl)
  exact loop 6 0 ak an fr ct _ _ _ (by omega) (by omega) di (fun j hj => absurd hj (by omega)) hP hD hS (lv_sub hl [1, 0] rfl)
abbrev rmX0_countsDiffer : Room := { frames := 6, cells := 0, slots := 0, locals := 148 }
set_option maxHeartbeats 4000000 in
set_option maxRecDepth 100000 in
/-- countsDiffer -/
theorem tx_countsDiffer (l : Launch) (D : va_G) (dB : ClassId) (q : Nat → Nat) (K : tr_C) (ak : Nat) (an : Nat → Nat) (fr : Nat) (ct : Nat → Nat)  (ok : tr_ok K) (di : tr_di K ak an fr) (lct : ∀ j, j < 5 → ct j ≤ 25) : tr_Mi l D (tr_XT dB) yX0_countsDiffer (ws_ yX0_countsDiffer cX0_countsDiffer 3 (some .boolean)) rmX0_countsDiffer [.ref (q 0)] (tr_XW dB q K ak an fr ct) (fun (r : Int32) (u : Nat × (Nat → Nat) × Nat) => r = nI (tr_b (∃ j, j < 5 ∧ tr_cnt K j ≠ ct j)).toNat ∧ tr_di K u.1 u.2.1 u.2.2) (fun (u : Nat × (Nat → Nat) × Nat) => tr_XW dB q K u.1 u.2.1 u.2.2 ct) := by
  refine tr_Mi.of (by decide) (Nat.le_of_ble_eq_true rfl) ?_
  intro p e s m args below meth c A Q ls hC hret hP hD hS hl
  have hC0 := hC
  obtain ⟨hx, hb, hlk, hml, hown, hts, hA, hK⟩ := hC0
  have hl : lv_has ls 3 [(0, .ref (q 0))] := hl
  refine lv_iconst (v := (nI 0)) hx hb dX0_countsDiffer_0 (by decide) ?_
  refine lv_istore_n (lv' := [(1, .int (nI 0)), (0, .ref (q 0))]) hx hb dX0_countsDiffer_1 rfl hl (by decide) rfl (fun ls hl => ?_)
  have loop : ∀ (n : Nat) (i ak1 : Nat) (an1 : Nat → Nat) (fr1 : Nat) (H : Heap) (locs : List Loc) (ls : Array Slot), i ≤ 5 → 5 + 1 ≤ i + n → tr_di K ak1 an1 fr1 → (∀ j, j < i → tr_cnt K j = ct j) → va_P D tr_Cl (tr_XW dB q K ak1 an1 fr1 ct) H → va_D A (tr_XW dB q K ak1 an1 fr1 ct) → va_S A s.heap H locs → lv_has ls 3 [(0, .ref (q 0)), (1, .int (nI i))] → W p l e rmX0_countsDiffer s m args below meth c H locs 0 0 Q (F0 m 2 ls []) := by
    intro n
    induction n with
    | zero =>
      intro i ak1 an1 fr1 H locs ls h1 h2
      exact absurd h2 (by omega)
    | succ n ihloop =>
      intro i ak1 an1 fr1 H locs ls hiloop hnloop hI1 hI2 hP hD hS hl
      refine lv_iload_n hx hb dX0_countsDiffer_2 rfl (lv_at hl 1 rfl) ?_
      refine lv_iconst (v := (nI 5)) hx hb dX0_countsDiffer_3 (by decide) ?_
      refine ni_ge (tgt := 31) hx hb (by omega) (by omega) dX0_countsDiffer_4 (by decide) (fun c1 => ?_) (fun c1 => ?_)
      · refine lv_iconst (v := (nI 0)) hx hb dX0_countsDiffer_31 (by decide) ?_
        have e5 : i = 5 := by omega
        subst e5
        exact hret _ _ _ (ak1, an1, fr1) _ _ dX0_countsDiffer_32 (tr_nzv (by omega)) (⟨by rw [tr_b_f (show ¬ (∃ j, j < 5 ∧ tr_cnt K j ≠ ct j) from fun ⟨j, hj, hn⟩ => hn (hI2 j hj))]; rfl, hI1⟩) hP hD hS
      · refine lv_aload_n hx hb dX0_countsDiffer_7 rfl (lv_at hl 0 rfl) ?_
        refine lv_iload_n hx hb dX0_countsDiffer_8 rfl (lv_at hl 1 rfl) ?_
        have hcl := tr_cnt_le K i
        have hct := lct i c1
        refine xc_i (n := 1) hC (tx_count l D dB q K ak1 an1 fr1 ct (nI i) ok hI1) (lw_V q151 q133 q134 q19 q135) (by decide +kernel) rfl (by decide) hP hD hS hl.1 [] rfl (Nat.le_of_ble_eq_true rfl) dX0_countsDiffer_9 (fun r u H locs hp hP hD hS => ?_)
        obtain ⟨rfl, d2⟩ := hp
        obtain ⟨ak2, an2, fr2⟩ := u
        have hP : va_P D tr_Cl (tr_XW dB q K ak2 an2 fr2 ct) H := hP
        have hD : va_D A (tr_XW dB q K ak2 an2 fr2 ct) := hD
        refine tr_top (v := (nI (tr_cnt K i))) (tr_cI_n c1) ?_
        refine lv_istore_n (lv' := [(2, .int (nI (tr_cnt K i))), (0, .ref (q 0)), (1, .int (nI i))]) hx hb dX0_countsDiffer_12 rfl hl (by decide) rfl (fun ls hl => ?_)
        refine lv_iload_n hx hb dX0_countsDiffer_13 rfl (lv_at hl 0 rfl) ?_
        refine lv_aload_n hx hb dX0_countsDiffer_14 rfl (lv_at hl 1 rfl) ?_
        refine xg_28 hC hP dX0_countsDiffer_15 ?_
        refine lv_iload_n hx hb dX0_countsDiffer_18 rfl (lv_at hl 2 rfl) ?_
        refine xl_7 hC hP (by omega) dX0_countsDiffer_19 ?_
        refine ni_eq (tgt := 25) hx hb (by omega) (by omega) dX0_countsDiffer_20 (by decide) (fun c2 => ?_) (fun c2 => ?_)
        · refine lv_iinc (v := (nI (i + 1))) (lv' := [(1, .int (nI (i + 1))), (2, .int (nI (tr_cnt K i))), (0, .ref (q 0))]) hx hb dX0_countsDiffer_25 hl (k := 2) rfl (nI_1 _) (by decide) rfl (fun ls hl => ?_)
          refine lv_goto (tgt := 2) hx hb dX0_countsDiffer_28 (by decide) ?_
          exact ihloop (i + 1) ak2 an2 fr2 _ _ _ (by omega) (by omega) d2 (fun j hj => (Nat.lt_or_ge j i).elim (fun z => hI2 j z) (fun z => by rw [show j = i by omega]; exact c2)) hP hD hS (lv_sub hl [2, 0] rfl)
        · refine lv_iconst (v := (nI 1)) hx hb dX0_countsDiffer_23 (by decide) ?_
          exact hret _ _ _ (ak2, an2, fr2) _ _ dX0_countsDiffer_24 (tr_nzv (by omega)) (⟨by rw [tr_b_t (show (∃ j, j < 5 ∧ tr_cnt K j ≠ ct j) from ⟨i, c1, c2⟩)]; rfl, d2⟩) hP hD hS
  exact loop 6 0 ak an fr _ _ _ (by omega) (by omega) di (fun j hj => absurd hj (by omega)) hP hD hS (lv_sub hl [1, 0] rfl)
abbrev rmX0_redundant : Room := { frames := 7, cells := 0, slots := 0, locals := 170 }
set_option maxHeartbeats 4000000 in
set_option maxRecDepth 100000 in
/-- redundant -/
theorem tx_redundant (l : Launch) (D : va_G) (dB : ClassId) (q : Nat → Nat) (K : tr_C) (ak : Nat) (an : Nat → Nat) (fr : Nat) (ct : Nat → Nat) (rk : Int32) (ok : tr_ok K) (di : tr_di K ak an fr) : tr_Mi l D (tr_XT dB) yX0_redundant (ws_ yX0_redundant cX0_redundant 3 (some .boolean)) rmX0_redundant [.ref (q 0), .int rk] (tr_XW dB q K ak an fr ct) (fun (r : Int32) (u : (Nat × (Nat → Nat) × Nat) × (Nat → Nat)) => r = nI (tr_eB K rk).toNat ∧ tr_di K u.1.1 u.1.2.1 u.1.2.2) (fun (u : (Nat × (Nat → Nat) × Nat) × (Nat → Nat)) => tr_XW dB q K u.1.1 u.1.2.1 u.1.2.2 u.2) := by
  refine tr_Mi.of (by decide) (Nat.le_of_ble_eq_true rfl) ?_
  intro p e s m args below meth c A Q ls hC hret hP hD hS hl
  have hC0 := hC
  obtain ⟨hx, hb, hlk, hml, hown, hts, hA, hK⟩ := hC0
  have hl : lv_has ls 3 [(0, .ref (q 0)), (1, .int rk)] := hl
  refine lv_aload_n hx hb dX0_redundant_0 rfl (lv_at hl 0 rfl) ?_
  refine lv_iload_n hx hb dX0_redundant_1 rfl (lv_at hl 1 rfl) ?_
  refine xc_i (n := 1) hC (tx_has l D dB q K ak an fr ct rk ok) (lw_V q83 q85 qs2 q19 q86) (by decide +kernel) rfl (by decide) hP hD hS hl.1 [] rfl (Nat.le_of_ble_eq_true rfl) dX0_redundant_2 (fun r u H locs hp hP hD hS => ?_)
  subst hp
  have hP : va_P D tr_Cl (tr_XW dB q K ak an fr ct) H := hP
  have hD : va_D A (tr_XW dB q K ak an fr ct) := hD
  refine nb_ne (tgt := 10) hx hb dX0_redundant_5 (by decide) (fun c1 => ?_) (fun c1 => ?_)
  · obtain ⟨k, lk, rfl, hb9⟩ := tr_hs_n c1
    have hp8 := ok.2.1
    have okd := tr_ok_dp ok lk
    have hpd : kP (tr_dp K k) < 256 := okd.2.1
    refine lv_aload_n hx hb dX0_redundant_10 rfl (lv_at hl 0 rfl) ?_
    refine xc_v (n := 0) hC (tx_keepCounts l D dB q K ak an fr ct ok di) (lw_V q147 q149 qs9 q19 q150) (by decide +kernel) rfl (by decide) hP hD hS hl.1 [] rfl (Nat.le_of_ble_eq_true rfl) dX0_redundant_11 (fun u H locs hp hP hD hS => ?_)
    obtain ⟨⟨ak1, an1, fr1⟩, ct1⟩ := u
    obtain ⟨d1, hct⟩ := hp
    have hP : va_P D tr_Cl (tr_XW dB q K ak1 an1 fr1 ct1) H := hP
    have hD : va_D A (tr_XW dB q K ak1 an1 fr1 ct1) := hD
    have d1 : tr_di K ak1 an1 fr1 := d1
    have hct : ∀ j, j < 5 → ct1 j = tr_cnt K j := hct
    refine lv_aload_n hx hb dX0_redundant_14 rfl (lv_at hl 0 rfl) ?_
    refine lv_dup hx hb dX0_redundant_15 rfl ?_
    refine xg_31 hC hP dX0_redundant_16 ?_
    refine lv_iconst (v := (nI 1)) hx hb dX0_redundant_19 (by decide) ?_
    refine lv_iload_n hx hb dX0_redundant_20 rfl (lv_at hl 1 rfl) ?_
    refine lv_ishl hx hb dX0_redundant_21 ?_
    refine tr_top (v := (nI (2 ^ k))) (tr_shlI (by omega)) ?_
    refine lv_iconst (v := (-1)) hx hb dX0_redundant_22 (by decide) ?_
    refine lv_ixor hx hb dX0_redundant_23 ?_
    refine lv_iand hx hb dX0_redundant_24 ?_
    refine tr_top (v := (nI (tr_setb 8 (kP K) k false))) (tr_clrI (n := 8) (by omega) hp8 lk) ?_
    refine xp_31 hC hP hD hS dX0_redundant_25 (fun H locs hP hD hS => ?_)
    have hP : va_P D tr_Cl (tr_XW dB q (tr_dp K k) ak1 an1 fr1 ct1) H := hP
    have hD : va_D A (tr_XW dB q (tr_dp K k) ak1 an1 fr1 ct1) := hD
    refine lv_aload_n hx hb dX0_redundant_28 rfl (lv_at hl 0 rfl) ?_
    refine xc_v (n := 0) hC (tx_forget l D dB q (tr_dp K k) ak1 an1 fr1 ct1) (lw_V q72 q74 qs1 q19 q75) (by decide +kernel) rfl (by decide) hP hD hS hl.1 [] rfl (Nat.le_of_ble_eq_true rfl) dX0_redundant_29 (fun u H locs hp hP hD hS => ?_)
    have hP : va_P D tr_Cl (tr_XW dB q (tr_dp K k) 0 (tr_z an1 25) fr1 ct1) H := hP
    have hD : va_D A (tr_XW dB q (tr_dp K k) 0 (tr_z an1 25) fr1 ct1) := hD
    refine lv_aload_n hx hb dX0_redundant_32 rfl (lv_at hl 0 rfl) ?_
    refine xc_i (n := 0) hC (tx_countsDiffer l D dB q (tr_dp K k) 0 (tr_z an1 25) fr1 ct1 okd (tr_di_z d1.2.1 d1.2.2.1) (fun j hj => by rw [hct j hj]; exact tr_cnt_le K j)) (lw_V q152 q154 qs10 q19 q155) (by decide +kernel) rfl (by decide) hP hD hS hl.1 [] rfl (Nat.le_of_ble_eq_true rfl) dX0_redundant_33 (fun r u H locs hp hP hD hS => ?_)
    obtain ⟨rfl, d2⟩ := hp
    obtain ⟨ak2, an2, fr2⟩ := u
    have hP : va_P D tr_Cl (tr_XW dB q (tr_dp K k) ak2 an2 fr2 ct1) H := hP
    have hD : va_D A (tr_XW dB q (tr_dp K k) ak2 an2 fr2 ct1) := hD
    have d2 : tr_di (tr_dp K k) ak2 an2 fr2 := d2
    have hcd : tr_b (∃ j, j < 5 ∧ tr_cnt (tr_dp K k) j ≠ ct1 j) = !tr_b (tr_sP K k) := by
      rw [tr_b_congr (show (∃ j, j < 5 ∧ tr_cnt (tr_dp K k) j ≠ ct1 j) ↔ ¬ tr_sP K k from Iff.trans ⟨fun ⟨j, hj, hn⟩ => ⟨j, hj, by rw [← hct j hj]; exact hn⟩, fun ⟨j, hj, hn⟩ => ⟨j, hj, by rw [hct j hj]; exact hn⟩⟩ (tr_cd ok lk))]
      cases e1 : tr_b (tr_sP K k)
      · exact tr_b_t (fun z => by rw [tr_b_t z] at e1; cases e1)
      · exact tr_b_f (fun z => z (tr_b_iff.mp e1))
    refine lv_istore_n (lv' := [(2, .int (nI (tr_b (∃ j, j < 5 ∧ tr_cnt (tr_dp K k) j ≠ ct1 j)).toNat)), (0, .ref (q 0)), (1, .int (nI k))]) hx hb dX0_redundant_36 rfl hl (by decide) rfl (fun ls hl => ?_)
    refine lv_aload_n hx hb dX0_redundant_37 rfl (lv_at hl 1 rfl) ?_
    refine lv_dup hx hb dX0_redundant_38 rfl ?_
    refine xg_31 hC hP dX0_redundant_39 ?_
    refine lv_iconst (v := (nI 1)) hx hb dX0_redundant_42 (by decide) ?_
    refine lv_iload_n hx hb dX0_redundant_43 rfl (lv_at hl 2 rfl) ?_
    refine lv_ishl hx hb dX0_redundant_44 ?_
    refine tr_top (v := (nI (2 ^ k))) (tr_shlI (by omega)) ?_
    refine lv_ior hx hb dX0_redundant_45 ?_
    refine tr_top (v := (nI ((kP (tr_dp K k)) ||| (2 ^ k)))) (nx_or _ _) ?_
    refine tr_top (v := (nI (tr_setb 8 (kP (tr_dp K k)) k true))) (by rw [tr_setb_or (n := 8) hpd lk]) ?_
    refine xp_31 hC hP hD hS dX0_redundant_46 (fun H locs hP hD hS => ?_)
    have hP : va_P D tr_Cl (tr_XW dB q (K.1, tr_setb 8 (tr_setb 8 (kP K) k false) k true, K.2.2) ak2 an2 fr2 ct1) H := hP
    have hD : va_D A (tr_XW dB q (K.1, tr_setb 8 (tr_setb 8 (kP K) k false) k true, K.2.2) ak2 an2 fr2 ct1) := hD
    rw [tr_dp_back ok lk hb9] at hP hD
    refine lv_aload_n hx hb dX0_redundant_49 rfl (lv_at hl 1 rfl) ?_
    refine xc_v (n := 0) hC (tx_forget l D dB q K ak2 an2 fr2 ct1) (lw_V q72 q74 qs1 q19 q75) (by decide +kernel) rfl (by decide) hP hD hS hl.1 [] rfl (Nat.le_of_ble_eq_true rfl) dX0_redundant_50 (fun u H locs hp hP hD hS => ?_)
    have hP : va_P D tr_Cl (tr_XW dB q K 0 (tr_z an2 25) fr2 ct1) H := hP
    have hD : va_D A (tr_XW dB q K 0 (tr_z an2 25) fr2 ct1) := hD
    refine lv_iload_n hx hb dX0_redundant_53 rfl (lv_at hl 0 rfl) ?_
    refine nb_ne (tgt := 61) hx hb dX0_redundant_54 (by decide) (fun c2 => ?_) (fun c2 => ?_)
    · refine lv_iconst (v := (nI 0)) hx hb dX0_redundant_61 (by decide) ?_
      exact hret _ _ _ ((0, tr_z an2 25, fr2), ct1) _ _ dX0_redundant_62 (tr_nzv (by omega)) (⟨(by rw [tr_eB_n lk hb9]; rw [hcd] at c2; cases e1 : tr_b (tr_sP K k) <;> rw [e1] at c2 <;> first | rfl | cases c2), tr_di_z d2.2.1 d2.2.2.1⟩) hP hD hS
    · refine lv_iconst (v := (nI 1)) hx hb dX0_redundant_57 (by decide) ?_
      refine lv_goto (tgt := 62) hx hb dX0_redundant_58 (by decide) ?_
      exact hret _ _ _ ((0, tr_z an2 25, fr2), ct1) _ _ dX0_redundant_62 (tr_nzv (by omega)) (⟨(by rw [tr_eB_n lk hb9]; rw [hcd] at c2; cases e1 : tr_b (tr_sP K k) <;> rw [e1] at c2 <;> first | rfl | cases c2), tr_di_z d2.2.1 d2.2.2.1⟩) hP hD hS
  · refine lv_iconst (v := (nI 0)) hx hb dX0_redundant_8 (by decide) ?_
    exact hret _ _ _ ((ak, an, fr), ct) _ _ dX0_redundant_9 (tr_nzv (by omega)) (⟨by rw [tr_eB_f c1]; rfl, di⟩) hP hD hS
abbrev rmX0_loss : Room := { frames := 6, cells := 0, slots := 0, locals := 148 }
set_option maxHeartbeats 4000000 in
set_option maxRecDepth 100000 in
/-- loss -/
theorem tx_loss (l : Launch) (D : va_G) (dB : ClassId) (q : Nat → Nat) (K : tr_C) (ak : Nat) (an : Nat → Nat) (fr : Nat) (ct : Nat → Nat) (rp rg rx ry : Int32) (ok : tr_ok K) (di : tr_di K ak an fr) : tr_Mi l D (tr_XT dB) yX0_loss (ws_ yX0_loss cX0_loss 7 (some .int)) rmX0_loss [.ref (q 0), .int rp, .int rg, .int rx, .int ry] (tr_XW dB q K ak an fr ct) (fun (r : Int32) (u : Nat × (Nat → Nat) × Nat) => r = tr_lI K rp rg rx ry ∧ tr_di K u.1 u.2.1 u.2.2) (fun (u : Nat × (Nat → Nat) × Nat) => tr_XW dB q K u.1 u.2.1 u.2.2 ct) := by
  refine tr_Mi.of (by decide) (Nat.le_of_ble_eq_true rfl) ?_
  intro p e s m args below meth c A Q ls hC hret hP hD hS hl
  have hC0 := hC
  obtain ⟨hx, hb, hlk, hml, hown, hts, hA, hK⟩ := hC0
  have hl : lv_has ls 7 [(0, .ref (q 0)), (1, .int rp), (2, .int rg), (3, .int rx), (4, .int ry)] := hl
  refine lv_iload_n hx hb dX0_loss_0 rfl (lv_at hl 1 rfl) ?_
  refine tr_cs (n := 1) (rest := []) hC (tx_isRelation l D rp) (lw_S q80 q81 q19 q82) (by decide +kernel) rfl (by decide) hP hS hl.1 rfl (Nat.le_of_ble_eq_true rfl) dX0_loss_1 ⟨Nat.zero_le _, Nat.zero_le _⟩ (fun r H locs hp hP hS => ?_)
  subst hp
  refine nb_eq (tgt := 31) hx hb dX0_loss_4 (by decide) (fun c1 => ?_) (fun c1 => ?_)
  · refine lv_iconst (v := (-1)) hx hb dX0_loss_31 (by decide) ?_
    exact hret _ _ _ (ak, an, fr) _ _ dX0_loss_32 rfl (⟨by rw [tr_lI_f (Or.inl c1)], di⟩) hP hD hS
  · refine lv_iload_n hx hb dX0_loss_7 rfl (lv_at hl 2 rfl) ?_
    refine lv_if_lt (tgt := 31) hx hb dX0_loss_8 (by decide) (fun c2 => ?_) (fun c2 => ?_)
    · refine lv_iconst (v := (-1)) hx hb dX0_loss_31 (by decide) ?_
      exact hret _ _ _ (ak, an, fr) _ _ dX0_loss_32 rfl (⟨by rw [tr_lI_f (Or.inr (Or.inl (tr_r2_f1 c2)))], di⟩) hP hD hS
    · refine lv_iload_n hx hb dX0_loss_11 rfl (lv_at hl 2 rfl) ?_
      refine lv_iconst (v := (nI 1)) hx hb dX0_loss_12 (by decide) ?_
      refine lv_icmp_gt (tgt := 31) hx hb dX0_loss_13 (by decide) (fun c3 => ?_) (fun c3 => ?_)
      · refine lv_iconst (v := (-1)) hx hb dX0_loss_31 (by decide) ?_
        exact hret _ _ _ (ak, an, fr) _ _ dX0_loss_32 rfl (⟨by rw [tr_lI_f (Or.inr (Or.inl (tr_r2_f2 c3)))], di⟩) hP hD hS
      · refine lv_iload_n hx hb dX0_loss_16 rfl (lv_at hl 3 rfl) ?_
        refine tr_cs (n := 1) (rest := []) hC (tx_isThing l D rx) (lw_S q65 q66 q19 q67) (by decide +kernel) rfl (by decide) hP hS hl.1 rfl (Nat.le_of_ble_eq_true rfl) dX0_loss_17 ⟨Nat.zero_le _, Nat.zero_le _⟩ (fun r H locs hp hP hS => ?_)
        subst hp
        refine nb_eq (tgt := 31) hx hb dX0_loss_20 (by decide) (fun c4 => ?_) (fun c4 => ?_)
        · refine lv_iconst (v := (-1)) hx hb dX0_loss_31 (by decide) ?_
          exact hret _ _ _ (ak, an, fr) _ _ dX0_loss_32 rfl (⟨by rw [tr_lI_f (Or.inr (Or.inr (Or.inl c4)))], di⟩) hP hD hS
        · refine lv_iload hx hb dX0_loss_23 (lv_at hl 4 rfl) ?_
          refine tr_cs (n := 1) (rest := []) hC (tx_isThing l D ry) (lw_S q65 q66 q19 q67) (by decide +kernel) rfl (by decide) hP hS hl.1 rfl (Nat.le_of_ble_eq_true rfl) dX0_loss_25 ⟨Nat.zero_le _, Nat.zero_le _⟩ (fun r H locs hp hP hS => ?_)
          subst hp
          refine nb_ne (tgt := 33) hx hb dX0_loss_28 (by decide) (fun c5 => ?_) (fun c5 => ?_)
          · obtain ⟨n1, l1, rfl⟩ := tr_rg_n c1
            obtain ⟨g, lg, rfl⟩ := tr_r2_n (tr_r2_t c2 c3)
            obtain ⟨n3, l3, rfl⟩ := tr_rg_n c4
            obtain ⟨n4, l4, rfl⟩ := tr_rg_n c5
            have hg5 := ok.1 (5 * g + n3)
            refine lv_aload_n hx hb dX0_loss_33 rfl (lv_at hl 0 rfl) ?_
            refine xg_7 hC hP dX0_loss_34 ?_
            refine lv_iload_n hx hb dX0_loss_37 rfl (lv_at hl 2 rfl) ?_
            refine lv_iconst (v := (nI 5)) hx hb dX0_loss_38 (by decide) ?_
            refine lv_imul hx hb dX0_loss_39 ?_
            refine tr_top (v := (nI (g * 5))) (pk_mul _ _) ?_
            refine lv_iload_n hx hb dX0_loss_40 rfl (lv_at hl 3 rfl) ?_
            refine lv_iadd hx hb dX0_loss_41 ?_
            refine tr_top (v := (nI ((g * 5) + n3))) (nI_add _ _) ?_
            refine tr_top (v := (nI (5 * g + n3))) (congrArg nI (by omega)) ?_
            refine xl_1 hC hP (by omega) dX0_loss_42 ?_
            refine lv_iload hx hb dX0_loss_43 (lv_at hl 4 rfl) ?_
            refine lv_ishr hx hb dX0_loss_45 ?_
            refine lv_iconst (v := (nI 1)) hx hb dX0_loss_46 (by decide) ?_
            refine lv_iand hx hb dX0_loss_47 ?_
            refine tr_top (v := (nI ((kG K (5 * g + n3)).testBit n4).toNat)) (tr_bitI (by omega) (by omega)) ?_
            refine nb_ne (tgt := 53) hx hb dX0_loss_48 (by decide) (fun c6 => ?_) (fun c6 => ?_)
            · refine lv_aload_n hx hb dX0_loss_53 rfl (lv_at hl 0 rfl) ?_
              refine lv_iload_n hx hb dX0_loss_54 rfl (lv_at hl 1 rfl) ?_
              refine xc_i (n := 1) hC (tx_count l D dB q K ak an fr ct (nI n1) ok di) (lw_V q151 q133 q134 q19 q135) (by decide +kernel) rfl (by decide) hP hD hS hl.1 [] rfl (Nat.le_of_ble_eq_true rfl) dX0_loss_55 (fun r u H locs hp hP hD hS => ?_)
              obtain ⟨rfl, d1⟩ := hp
              obtain ⟨ak1, an1, fr1⟩ := u
              have hP : va_P D tr_Cl (tr_XW dB q K ak1 an1 fr1 ct) H := hP
              have hD : va_D A (tr_XW dB q K ak1 an1 fr1 ct) := hD
              refine tr_top (v := (nI (tr_cnt K n1))) (tr_cI_n l1) ?_
              have d1 : tr_di K ak1 an1 fr1 := d1
              refine lv_istore (lv' := [(5, .int (nI (tr_cnt K n1))), (0, .ref (q 0)), (1, .int (nI n1)), (2, .int (nI g)), (3, .int (nI n3)), (4, .int (nI n4))]) hx hb dX0_loss_58 hl (by decide) rfl (fun ls hl => ?_)
              refine lv_aload_n hx hb dX0_loss_60 rfl (lv_at hl 1 rfl) ?_
              refine lv_iload_n hx hb dX0_loss_61 rfl (lv_at hl 3 rfl) ?_
              refine lv_iload_n hx hb dX0_loss_62 rfl (lv_at hl 4 rfl) ?_
              refine lv_iload hx hb dX0_loss_63 (lv_at hl 5 rfl) ?_
              refine lv_iconst (v := (nI 0)) hx hb dX0_loss_65 (by decide) ?_
              refine tr_top (v := nI (false).toNat) rfl ?_
              refine xc_v (n := 4) hC (tx_turnPair l D dB q K ak1 an1 fr1 ct g n3 n4 false ok lg l3 l4) (lw_V q68 q70 qs0 q19 q71) (by decide +kernel) rfl (by decide) hP hD hS hl.1 [] rfl (Nat.le_of_ble_eq_true rfl) dX0_loss_66 (fun u H locs hp hP hD hS => ?_)
              have hP : va_P D tr_Cl (tr_XW dB q (tr_gv K g n3 n4 false) 0 (tr_z an1 25) fr1 ct) H := hP
              have hD : va_D A (tr_XW dB q (tr_gv K g n3 n4 false) 0 (tr_z an1 25) fr1 ct) := hD
              have ok2 : tr_ok (tr_gv K g n3 n4 false) := tr_ok_gv ok
              refine lv_aload_n hx hb dX0_loss_69 rfl (lv_at hl 1 rfl) ?_
              refine lv_iload_n hx hb dX0_loss_70 rfl (lv_at hl 2 rfl) ?_
              refine xc_i (n := 1) hC (tx_count l D dB q (tr_gv K g n3 n4 false) 0 (tr_z an1 25) fr1 ct (nI n1) ok2 (tr_di_z d1.2.1 d1.2.2.1)) (lw_V q151 q133 q134 q19 q135) (by decide +kernel) rfl (by decide) hP hD hS hl.1 [] rfl (Nat.le_of_ble_eq_true rfl) dX0_loss_71 (fun r u H locs hp hP hD hS => ?_)
              obtain ⟨rfl, d2⟩ := hp
              obtain ⟨ak2, an2, fr2⟩ := u
              have hP : va_P D tr_Cl (tr_XW dB q (tr_gv K g n3 n4 false) ak2 an2 fr2 ct) H := hP
              have hD : va_D A (tr_XW dB q (tr_gv K g n3 n4 false) ak2 an2 fr2 ct) := hD
              refine tr_top (v := (nI (tr_cnt (tr_gv K g n3 n4 false) n1))) (tr_cI_n l1) ?_
              have d2 : tr_di (tr_gv K g n3 n4 false) ak2 an2 fr2 := d2
              refine lv_istore (lv' := [(6, .int (nI (tr_cnt (tr_gv K g n3 n4 false) n1))), (5, .int (nI (tr_cnt K n1))), (0, .ref (q 0)), (1, .int (nI n1)), (2, .int (nI g)), (3, .int (nI n3)), (4, .int (nI n4))]) hx hb dX0_loss_74 hl (by decide) rfl (fun ls hl => ?_)
              refine lv_aload_n hx hb dX0_loss_76 rfl (lv_at hl 2 rfl) ?_
              refine lv_iload_n hx hb dX0_loss_77 rfl (lv_at hl 4 rfl) ?_
              refine lv_iload_n hx hb dX0_loss_78 rfl (lv_at hl 5 rfl) ?_
              refine lv_iload hx hb dX0_loss_79 (lv_at hl 6 rfl) ?_
              refine lv_iconst (v := (nI 1)) hx hb dX0_loss_81 (by decide) ?_
              refine tr_top (v := nI (true).toNat) rfl ?_
              refine xc_v (n := 4) hC (tx_turnPair l D dB q (tr_gv K g n3 n4 false) ak2 an2 fr2 ct g n3 n4 true ok2 lg l3 l4) (lw_V q68 q70 qs0 q19 q71) (by decide +kernel) rfl (by decide) hP hD hS hl.1 [] rfl (Nat.le_of_ble_eq_true rfl) dX0_loss_82 (fun u H locs hp hP hD hS => ?_)
              have hP : va_P D tr_Cl (tr_XW dB q (tr_gv (tr_gv K g n3 n4 false) g n3 n4 true) 0 (tr_z an2 25) fr2 ct) H := hP
              have hD : va_D A (tr_XW dB q (tr_gv (tr_gv K g n3 n4 false) g n3 n4 true) 0 (tr_z an2 25) fr2 ct) := hD
              rw [tr_gv_back ok l4 c6] at hP hD
              refine lv_iload hx hb dX0_loss_85 (lv_at hl 1 rfl) ?_
              refine lv_iload hx hb dX0_loss_87 (lv_at hl 0 rfl) ?_
              refine lv_isub hx hb dX0_loss_89 ?_
              exact hret _ _ _ (0, tr_z an2 25, fr2) _ _ dX0_loss_90 rfl (⟨by rw [tr_lI_n l1 lg l3 l4, c6, if_pos rfl], tr_di_z d2.2.1 d2.2.2.1⟩) hP hD hS
            · refine lv_iconst (v := (nI 0)) hx hb dX0_loss_51 (by decide) ?_
              exact hret _ _ _ (ak, an, fr) _ _ dX0_loss_52 rfl (⟨by rw [tr_lI_n l1 lg l3 l4, c6]; rfl, di⟩) hP hD hS
          · refine lv_iconst (v := (-1)) hx hb dX0_loss_31 (by decide) ?_
            exact hret _ _ _ (ak, an, fr) _ _ dX0_loss_32 rfl (⟨by rw [tr_lI_f (Or.inr (Or.inr (Or.inr c5)))], di⟩) hP hD hS
abbrev rmX0_transitive : Room := { frames := 5, cells := 0, slots := 0, locals := 124 }
set_option maxHeartbeats 4000000 in
set_option maxRecDepth 100000 in
/-- transitive -/
theorem tx_transitive (l : Launch) (D : va_G) (dB : ClassId) (q : Nat → Nat) (K : tr_C) (ak : Nat) (an : Nat → Nat) (fr : Nat) (ct : Nat → Nat) (rp : Int32) (ok : tr_ok K) (di : tr_di K ak an fr) : tr_Mi l D (tr_XT dB) yX0_transitive (ws_ yX0_transitive cX0_transitive 6 (some .boolean)) rmX0_transitive [.ref (q 0), .int rp] (tr_XW dB q K ak an fr ct) (fun (r : Int32) (u : Nat × (Nat → Nat) × Nat) => r = nI (tr_tB K rp).toNat ∧ tr_di K u.1 u.2.1 u.2.2) (fun (u : Nat × (Nat → Nat) × Nat) => tr_XW dB q K u.1 u.2.1 u.2.2 ct) := by
  refine tr_Mi.of (by decide) (Nat.le_of_ble_eq_true rfl) ?_
  intro p e s m args below meth c A Q ls hC hret hP hD hS hl
  have hC0 := hC
  obtain ⟨hx, hb, hlk, hml, hown, hts, hA, hK⟩ := hC0
  have hl : lv_has ls 6 [(0, .ref (q 0)), (1, .int rp)] := hl
  refine lv_iload_n hx hb dX0_transitive_0 rfl (lv_at hl 1 rfl) ?_
  refine tr_cs (n := 1) (rest := []) hC (tx_isRelation l D rp) (lw_S q80 q81 q19 q82) (by decide +kernel) rfl (by decide) hP hS hl.1 rfl (Nat.le_of_ble_eq_true rfl) dX0_transitive_1 ⟨Nat.zero_le _, Nat.zero_le _⟩ (fun r H locs hp hP hS => ?_)
  subst hp
  refine nb_ne (tgt := 9) hx hb dX0_transitive_4 (by decide) (fun c1 => ?_) (fun c1 => ?_)
  · obtain ⟨n1, l1, rfl⟩ := tr_rg_n c1
    refine lv_iconst (v := (nI 0)) hx hb dX0_transitive_9 (by decide) ?_
    refine lv_istore_n (lv' := [(2, .int (nI 0)), (0, .ref (q 0)), (1, .int (nI n1))]) hx hb dX0_transitive_10 rfl hl (by decide) rfl (fun ls hl => ?_)
    have loop : ∀ (n : Nat) (i ak1 : Nat) (an1 : Nat → Nat) (fr1 : Nat) (H : Heap) (locs : List Loc) (ls : Array Slot), i ≤ 5 → 5 + 1 ≤ i + n → tr_di K ak1 an1 fr1 → (∀ x y z, x < i → y < 5 → z < 5 → tr_L K n1 x y → tr_L K n1 y z → tr_L K n1 x z) → va_P D tr_Cl (tr_XW dB q K ak1 an1 fr1 ct) H → va_D A (tr_XW dB q K ak1 an1 fr1 ct) → va_S A s.heap H locs → lv_has ls 6 [(0, .ref (q 0)), (1, .int (nI n1)), (2, .int (nI i))] → W p l e rmX0_transitive s m args below meth c H locs 0 0 Q (F0 m 11 ls []) := by
      intro n
      induction n with
      | zero =>
        intro i ak1 an1 fr1 H locs ls h1 h2
        exact absurd h2 (by omega)
      | succ n ihloop =>
        intro i ak1 an1 fr1 H locs ls hiloop hnloop hI1 hI2 hP hD hS hl
        refine lv_iload_n hx hb dX0_transitive_11 rfl (lv_at hl 2 rfl) ?_
        refine lv_iconst (v := (nI 5)) hx hb dX0_transitive_12 (by decide) ?_
        refine ni_ge (tgt := 73) hx hb (by omega) (by omega) dX0_transitive_13 (by decide) (fun c2 => ?_) (fun c2 => ?_)
        · refine lv_iconst (v := (nI 1)) hx hb dX0_transitive_73 (by decide) ?_
          have e5 : i = 5 := by omega
          subst e5
          exact hret _ _ _ (ak1, an1, fr1) _ _ dX0_transitive_74 (tr_nzv (by omega)) (⟨by rw [tr_tB_n l1, tr_b_t (show tr_tP K n1 from fun x y z hx hy hz h1 h2 => hI2 x y z hx hy hz h1 h2)]; rfl, hI1⟩) hP hD hS
        · have hO := hI2
          refine lv_aload_n hx hb dX0_transitive_16 rfl (lv_at hl 0 rfl) ?_
          refine lv_iload_n hx hb dX0_transitive_17 rfl (lv_at hl 1 rfl) ?_
          refine lv_iload_n hx hb dX0_transitive_18 rfl (lv_at hl 2 rfl) ?_
          refine xc_i (n := 2) hC (tx_settle l D dB q K ak1 an1 fr1 ct n1 i ok hI1 l1 c2) (lw_V q99 q101 qs3 q19 q102) (by decide +kernel) rfl (by decide) hP hD hS hl.1 [] rfl (Nat.le_of_ble_eq_true rfl) dX0_transitive_19 (fun r u H locs hp hP hD hS => ?_)
          obtain ⟨rfl, d2⟩ := hp
          obtain ⟨ak2, an2, fr2⟩ := u
          have hP : va_P D tr_Cl (tr_XW dB q K ak2 an2 fr2 ct) H := hP
          have hD : va_D A (tr_XW dB q K ak2 an2 fr2 ct) := hD
          have d2 : tr_di K ak2 an2 fr2 := d2
          have r2 := tr_row_lt K n1 i
          refine lv_istore_n (lv' := [(3, .int (nI (tr_row K n1 i))), (0, .ref (q 0)), (1, .int (nI n1)), (2, .int (nI i))]) hx hb dX0_transitive_22 rfl hl (by decide) rfl (fun ls hl => ?_)
          refine lv_iconst (v := (nI 0)) hx hb dX0_transitive_23 (by decide) ?_
          refine lv_istore (lv' := [(4, .int (nI 0)), (3, .int (nI (tr_row K n1 i))), (0, .ref (q 0)), (1, .int (nI n1)), (2, .int (nI i))]) hx hb dX0_transitive_24 hl (by decide) rfl (fun ls hl => ?_)
          have inner : ∀ (n : Nat) (j ak3 : Nat) (an3 : Nat → Nat) (fr3 : Nat) (H : Heap) (locs : List Loc) (ls : Array Slot), j ≤ 5 → 5 + 1 ≤ j + n → tr_di K ak3 an3 fr3 → (∀ y z, y < j → z < 5 → tr_L K n1 i y → tr_L K n1 y z → tr_L K n1 i z) → va_P D tr_Cl (tr_XW dB q K ak3 an3 fr3 ct) H → va_D A (tr_XW dB q K ak3 an3 fr3 ct) → va_S A s.heap H locs → lv_has ls 6 [(0, .ref (q 0)), (1, .int (nI n1)), (2, .int (nI i)), (3, .int (nI (tr_row K n1 i))), (4, .int (nI j))] → W p l e rmX0_transitive s m args below meth c H locs 0 0 Q (F0 m 26 ls []) := by
            intro n
            induction n with
            | zero =>
              intro j ak3 an3 fr3 H locs ls h1 h2
              exact absurd h2 (by omega)
            | succ n ihinner =>
              intro j ak3 an3 fr3 H locs ls hiinner hninner hI1 hI2 hP hD hS hl
              refine lv_iload hx hb dX0_transitive_26 (lv_at hl 4 rfl) ?_
              refine lv_iconst (v := (nI 5)) hx hb dX0_transitive_28 (by decide) ?_
              refine ni_ge (tgt := 67) hx hb (by omega) (by omega) dX0_transitive_29 (by decide) (fun c3 => ?_) (fun c3 => ?_)
              · have e5 : j = 5 := by omega
                rw [e5] at hI2
                refine lv_iinc (v := (nI (i + 1))) (lv' := [(2, .int (nI (i + 1))), (0, .ref (q 0)), (1, .int (nI n1)), (3, .int (nI (tr_row K n1 i))), (4, .int (nI j))]) hx hb dX0_transitive_67 hl (k := 2) rfl (nI_1 _) (by decide) rfl (fun ls hl => ?_)
                refine lv_goto (tgt := 11) hx hb dX0_transitive_70 (by decide) ?_
                exact ihloop (i + 1) ak3 an3 fr3 _ _ _ (by omega) (by omega) hI1 (fun x y z hx hy hz h1 h2 => (Nat.lt_or_ge x i).elim (fun t => hO x y z t hy hz h1 h2) (fun t => by have e : x = i := (by omega); subst e; exact hI2 y z hy hz h1 h2)) hP hD hS (lv_sub hl [1, 2, 0] rfl)
              · refine lv_aload_n hx hb dX0_transitive_32 rfl (lv_at hl 0 rfl) ?_
                refine lv_iload_n hx hb dX0_transitive_33 rfl (lv_at hl 1 rfl) ?_
                refine lv_iload hx hb dX0_transitive_34 (lv_at hl 4 rfl) ?_
                refine xc_i (n := 2) hC (tx_settle l D dB q K ak3 an3 fr3 ct n1 j ok hI1 l1 c3) (lw_V q99 q101 qs3 q19 q102) (by decide +kernel) rfl (by decide) hP hD hS hl.1 [] rfl (Nat.le_of_ble_eq_true rfl) dX0_transitive_36 (fun r u H locs hp hP hD hS => ?_)
                obtain ⟨rfl, d4⟩ := hp
                obtain ⟨ak4, an4, fr4⟩ := u
                have hP : va_P D tr_Cl (tr_XW dB q K ak4 an4 fr4 ct) H := hP
                have hD : va_D A (tr_XW dB q K ak4 an4 fr4 ct) := hD
                have d4 : tr_di K ak4 an4 fr4 := d4
                have r4 := tr_row_lt K n1 j
                refine lv_istore (lv' := [(5, .int (nI (tr_row K n1 j))), (0, .ref (q 0)), (1, .int (nI n1)), (2, .int (nI i)), (3, .int (nI (tr_row K n1 i))), (4, .int (nI j))]) hx hb dX0_transitive_39 hl (by decide) rfl (fun ls hl => ?_)
                refine lv_iload_n hx hb dX0_transitive_41 rfl (lv_at hl 4 rfl) ?_
                refine lv_iload hx hb dX0_transitive_42 (lv_at hl 5 rfl) ?_
                refine lv_ishr hx hb dX0_transitive_44 ?_
                refine lv_iconst (v := (nI 1)) hx hb dX0_transitive_45 (by decide) ?_
                refine lv_iand hx hb dX0_transitive_46 ?_
                refine tr_top (v := (nI ((tr_row K n1 i).testBit j).toNat)) (tr_bitI (by omega) (by omega)) ?_
                refine nb_eq (tgt := 61) hx hb dX0_transitive_47 (by decide) (fun c4 => ?_) (fun c4 => ?_)
                · refine lv_iinc (v := (nI (j + 1))) (lv' := [(4, .int (nI (j + 1))), (5, .int (nI (tr_row K n1 j))), (0, .ref (q 0)), (1, .int (nI n1)), (2, .int (nI i)), (3, .int (nI (tr_row K n1 i)))]) hx hb dX0_transitive_61 hl (k := 5) rfl (nI_1 _) (by decide) rfl (fun ls hl => ?_)
                  refine lv_goto (tgt := 26) hx hb dX0_transitive_64 (by decide) ?_
                  exact ihinner (j + 1) ak4 an4 fr4 _ _ _ (by omega) (by omega) d4 (fun y z hy hz h1 h2 => (Nat.lt_or_ge y j).elim (fun t => hI2 y z t hz h1 h2) (fun t => by have e : y = j := (by omega); subst e; exact absurd (tr_b_t h1) (by rw [← tr_row_bit K n1 i c3, c4]; decide))) hP hD hS (lv_sub hl [2, 3, 4, 5, 0] rfl)
                · refine lv_iload hx hb dX0_transitive_50 (lv_at hl 0 rfl) ?_
                  refine lv_iload_n hx hb dX0_transitive_52 rfl (lv_at hl 4 rfl) ?_
                  refine lv_iconst (v := (-1)) hx hb dX0_transitive_53 (by decide) ?_
                  refine lv_ixor hx hb dX0_transitive_54 ?_
                  refine lv_iand hx hb dX0_transitive_55 ?_
                  refine tr_top (v := (nI (tr_num (fun y => (tr_row K n1 j).testBit y && !(tr_row K n1 i).testBit y) 5))) (tr_andn (n := 5) (by omega) r4) ?_
                  have hz5 := tr_num_lt (fun y => (tr_row K n1 j).testBit y && !(tr_row K n1 i).testBit y) 5
                  refine nz_eq (tgt := 61) hx hb (by omega) dX0_transitive_56 (by decide) (fun c5 => ?_) (fun c5 => ?_)
                  · have hrow : ∀ y, y < 5 → tr_L K n1 j y → tr_L K n1 i y := by
                      intro y hy hL
                      have h1 := tr_num0.mp c5 y hy
                      rw [tr_row_bit K n1 j hy, tr_row_bit K n1 i hy, tr_b_t hL, Bool.true_and] at h1
                      exact tr_b_iff.mp (by simpa using h1)
                    refine lv_iinc (v := (nI (j + 1))) (lv' := [(4, .int (nI (j + 1))), (5, .int (nI (tr_row K n1 j))), (0, .ref (q 0)), (1, .int (nI n1)), (2, .int (nI i)), (3, .int (nI (tr_row K n1 i)))]) hx hb dX0_transitive_61 hl (k := 5) rfl (nI_1 _) (by decide) rfl (fun ls hl => ?_)
                    refine lv_goto (tgt := 26) hx hb dX0_transitive_64 (by decide) ?_
                    exact ihinner (j + 1) ak4 an4 fr4 _ _ _ (by omega) (by omega) d4 (fun y z hy hz h1 h2 => (Nat.lt_or_ge y j).elim (fun t => hI2 y z t hz h1 h2) (fun t => by have e : y = j := (by omega); subst e; exact hrow z hz h2)) hP hD hS (lv_sub hl [2, 3, 4, 5, 0] rfl)
                  · refine lv_iconst (v := (nI 0)) hx hb dX0_transitive_59 (by decide) ?_
                    have hno : ¬ tr_tP K n1 := by
                      intro hw
                      have hij : tr_L K n1 i j := tr_b_iff.mp (by rw [← tr_row_bit K n1 i c3]; exact c4)
                      refine c5 (tr_num0.mpr (fun y hy => ?_))
                      show ((tr_row K n1 j).testBit y && !(tr_row K n1 i).testBit y) = false
                      rw [tr_row_bit K n1 j hy, tr_row_bit K n1 i hy]
                      cases e1 : tr_b (tr_L K n1 j y)
                      · rfl
                      · rw [tr_b_t (hw i j y c2 c3 hy hij (tr_b_iff.mp e1))]; rfl
                    exact hret _ _ _ (ak4, an4, fr4) _ _ dX0_transitive_60 (tr_nzv (by omega)) (⟨by rw [tr_tB_n l1, tr_b_f hno]; rfl, d4⟩) hP hD hS
          exact inner 6 0 ak2 an2 fr2 _ _ _ (by omega) (by omega) d2 (fun y z hy => absurd hy (by omega)) hP hD hS (lv_sub hl [2, 3, 4, 1, 0] rfl)
    exact loop 6 0 ak an fr _ _ _ (by omega) (by omega) di (fun x y z hx => absurd hx (by omega)) hP hD hS (lv_sub hl [1, 2, 0] rfl)
  · refine lv_iconst (v := (nI 0)) hx hb dX0_transitive_7 (by decide) ?_
    exact hret _ _ _ (ak, an, fr) _ _ dX0_transitive_8 (tr_nzv (by omega)) (⟨by rw [tr_tB_f c1]; rfl, di⟩) hP hD hS
end
section
/-! THE PLAIN LAW, part 3: the model's iteration -/
def tr_SY (pr : Nat → Nat) (p x y : Nat) : Prop := (pr p).testBit (5 * x + y) = true
def tr_yi (K : tr_C) (pr : Nat → Nat) : Prop := (∀ p, pr p < 2 ^ 25) ∧ ∀ p x y, p < 2 → x < 5 → y < 5 → (pr p).testBit (5 * x + y) = (kG K (5 * p + x)).testBit y
def tr_ys (K : tr_C) (pr : Nat → Nat) : Prop := tr_yi K pr ∧ ∀ p x y, p < 5 → x < 5 → y < 5 → tr_SY pr p x y → tr_L K p x y
def tr_fx (K : tr_C) (pr : Nat → Nat) : Prop := tr_yi K pr ∧ ∀ p x y, p < 5 → x < 5 → y < 5 → (pr p).testBit (5 * x + y) = tr_b (tr_L K p x y)
theorem tr_ys_0 {K : tr_C} {pr : Nat → Nat} (ok : tr_ok K) (h : tr_yi K pr) : tr_ys K (va_up (va_up (va_up pr 2 0) 3 0) 4 0) := by
  have e : ∀ p, p < 2 → va_up (va_up (va_up pr 2 0) 3 0) 4 0 p = pr p := fun p hp => by
    unfold va_up
    rw [if_neg (by omega), if_neg (by omega), if_neg (by omega)]
  have z : ∀ p, 2 ≤ p → p < 5 → va_up (va_up (va_up pr 2 0) 3 0) 4 0 p = 0 := fun p h2 h5 => by
    have h3 : p = 2 ∨ p = 3 ∨ p = 4 := by omega
    rcases h3 with rfl | rfl | rfl <;> rfl
  refine ⟨⟨fun p => ?_, fun p x y hp hx hy => ?_⟩, fun p x y hp hx hy hb => ?_⟩
  · unfold va_up
    split
    · omega
    · split
      · omega
      · split
        · omega
        · exact h.1 p
  · rw [e p hp]
    exact h.2 p x y hp hx hy
  · unfold tr_SY at hb
    by_cases h2 : p < 2
    · rw [e p h2, h.2 p x y h2 hx hy] at hb
      exact (tr_L_g ok h2 hx hy).mpr hb
    · rw [z p (by omega) hp] at hb
      simp at hb
/-- what one use of rule k makes, c pairs looked at -/
noncomputable def tr_mdn (K : tr_C) (pr : Nat → Nat) (k c : Nat) : Nat := tr_num (fun i => (pr (kH K k)).testBit i || (decide (i < c) && tr_b (tr_body K (tr_SY pr) k (i / 5) (i % 5)))) 25
theorem tr_mdn_lt (K : tr_C) (pr : Nat → Nat) (k c : Nat) : tr_mdn K pr k c < 2 ^ 25 := tr_num_lt _ _
theorem tr_mdn_bit (K : tr_C) (pr : Nat → Nat) (k c : Nat) {i : Nat} (hi : i < 25) : (tr_mdn K pr k c).testBit i = ((pr (kH K k)).testBit i || (decide (i < c) && tr_b (tr_body K (tr_SY pr) k (i / 5) (i % 5)))) := by
  unfold tr_mdn
  rw [tr_num_bit, decide_eq_true hi, Bool.true_and]
theorem tr_mdn_0 {K : tr_C} {pr : Nat → Nat} {k : Nat} (h : pr (kH K k) < 2 ^ 25) : pr (kH K k) = tr_mdn K pr k 0 := tr_num_eq h (fun i hi => by simp)
theorem tr_mdn_t {K : tr_C} {pr : Nat → Nat} {k c : Nat} (hc : c < 25) (hb : tr_b (tr_body K (tr_SY pr) k (c / 5) (c % 5)) = true) : tr_mdn K pr k c ||| 2 ^ c = tr_mdn K pr k (c + 1) := by
  refine tr_num_eq (Nat.or_lt_two_pow (tr_mdn_lt K pr k c) (Nat.pow_lt_pow_right (by omega) hc)) (fun i hi => ?_)
  rw [Nat.testBit_or, tr_mdn_bit K pr k c hi, Nat.testBit_two_pow]
  by_cases e : i = c
  · subst e
    simp [hb]
  · have e2 : ¬ c = i := fun z => e z.symm
    rcases Nat.lt_or_ge i c with q | q
    · have q2 : i < c + 1 := by omega
      simp [e2, q, q2]
    · have q1 : ¬ i < c := by omega
      have q2 : ¬ i < c + 1 := by omega
      simp [e2, q1, q2]
theorem tr_mdn_f {K : tr_C} {pr : Nat → Nat} {k c : Nat} (hb : tr_b (tr_body K (tr_SY pr) k (c / 5) (c % 5)) = false) : tr_mdn K pr k c = tr_mdn K pr k (c + 1) := by
  refine tr_num_congr (fun i hi => ?_)
  by_cases e : i = c
  · subst e
    simp [hb]
  · rcases Nat.lt_or_ge i c with q | q
    · have q2 : i < c + 1 := by omega
      simp [q, q2]
    · have q1 : ¬ i < c := by omega
      have q2 : ¬ i < c + 1 := by omega
      simp [q1, q2]
def tr_muY (pr : Nat → Nat) : Nat := tr_pc (pr 2) 25 + tr_pc (pr 3) 25 + tr_pc (pr 4) 25
theorem tr_muY_bd (pr : Nat → Nat) : tr_muY pr ≤ 75 := by
  have h1 := tr_pc_bd (pr 2) 25
  have h2 := tr_pc_bd (pr 3) 25
  have h3 := tr_pc_bd (pr 4) 25
  unfold tr_muY
  omega
theorem tr_us_le (K : tr_C) (pr : Nat → Nat) (k : Nat) (h : ∀ p, pr p < 2 ^ 25) (p j : Nat) (hb : (pr p).testBit j = true) : (va_up pr (kH K k) (tr_mdn K pr k 25) p).testBit j = true := by
  unfold va_up
  split
  · rename_i e
    subst e
    rcases Nat.lt_or_ge j 25 with q | q
    · rw [tr_mdn_bit K pr k 25 q, hb, Bool.true_or]
    · rw [tr_big (h _) q] at hb
      cases hb
  · exact hb
theorem tr_ys_use {K : tr_C} {pr : Nat → Nat} {k : Nat} (ok : tr_ok K) (hk : k < 8) (hP : (kP K).testBit k = true) (w : tr_ys K pr) : tr_ys K (va_up pr (kH K k) (tr_mdn K pr k 25)) := by
  obtain ⟨⟨w1, w2⟩, w3⟩ := w
  have h2 := ok.2.2.2 k hP
  refine ⟨⟨fun p => ?_, fun p x y hp hx hy => ?_⟩, fun p x y hp hx hy hb => ?_⟩
  · unfold va_up
    split
    · exact tr_mdn_lt _ _ _ _
    · exact w1 p
  · rw [show va_up pr (kH K k) (tr_mdn K pr k 25) p = pr p from if_neg (by omega)]
    exact w2 p x y hp hx hy
  · unfold tr_SY va_up at hb
    split at hb
    · rename_i e
      rw [tr_mdn_bit K pr k 25 (by omega), Bool.or_eq_true] at hb
      rcases hb with hb | hb
      · rw [← e] at hb
        exact w3 p x y hp hx hy hb
      · rw [decide_eq_true (show 5 * x + y < 25 by omega), Bool.true_and, show (5 * x + y) / 5 = x by omega, show (5 * x + y) % 5 = y by omega] at hb
        rw [e]
        exact (tr_L_cl K).2 k hk hP x y hx hy (tr_body_mono ok hx hy w3 (tr_b_iff.mp hb))
    · exact w3 p x y hp hx hy hb
theorem tr_us_mu {K : tr_C} {pr : Nat → Nat} {k : Nat} (ok : tr_ok K) (hP : (kP K).testBit k = true) (h : ∀ p, pr p < 2 ^ 25) (hn : tr_mdn K pr k 25 ≠ pr (kH K k)) : tr_muY pr < tr_muY (va_up pr (kH K k) (tr_mdn K pr k 25)) := by
  have h2 := ok.2.2.2 k hP
  have h5 := (ok.2.2.1 k).2.1
  have hle := tr_us_le K pr k h
  have l2 := tr_pc_le (m := 25) (hle 2)
  have l3 := tr_pc_le (m := 25) (hle 3)
  have l4 := tr_pc_le (m := 25) (hle 4)
  have hlt : tr_pc (pr (kH K k)) 25 < tr_pc (va_up pr (kH K k) (tr_mdn K pr k 25) (kH K k)) 25 := by
    have e : va_up pr (kH K k) (tr_mdn K pr k 25) (kH K k) = tr_mdn K pr k 25 := if_pos rfl
    have hs := hle (kH K k)
    rw [e] at hs ⊢
    have hx : ∃ j, j < 25 ∧ (pr (kH K k)).testBit j = false ∧ (tr_mdn K pr k 25).testBit j = true := by
      apply Classical.byContradiction
      intro hc
      apply hn
      refine tr_bits_eq (n := 25) (tr_mdn_lt _ _ _ _) (h _) (fun i hi => ?_)
      cases e1 : (pr (kH K k)).testBit i
      · cases e2 : (tr_mdn K pr k 25).testBit i
        · rfl
        · exact absurd ⟨i, hi, e1, e2⟩ hc
      · exact hs i e1
    obtain ⟨j, hj, b1, b2⟩ := hx
    exact tr_pc_lt hs hj b1 b2
  unfold tr_muY
  have h3 : kH K k = 2 ∨ kH K k = 3 ∨ kH K k = 4 := by omega
  rcases h3 with e | e | e <;> rw [e] at hlt l2 l3 l4 ⊢ <;> omega
theorem tr_us_same {K : tr_C} {pr : Nat → Nat} {k : Nat} (hn : tr_mdn K pr k 25 = pr (kH K k)) : va_up pr (kH K k) (tr_mdn K pr k 25) = pr ∧ ∀ x y, x < 5 → y < 5 → tr_body K (tr_SY pr) k x y → tr_SY pr (kH K k) x y := by
  constructor
  · funext p
    unfold va_up
    split
    · rename_i e
      rw [e, hn]
    · rfl
  · intro x y hx hy hb
    unfold tr_SY
    have h1 := tr_mdn_bit K pr k 25 (i := 5 * x + y) (by omega)
    rw [← hn, h1, decide_eq_true (show 5 * x + y < 25 by omega), Bool.true_and, show (5 * x + y) / 5 = x by omega, show (5 * x + y) % 5 = y by omega, tr_b_t hb, Bool.or_true]
/-- a pass, rules below k used -/
def tr_yk (K : tr_C) (pr0 : Nat → Nat) (k : Nat) (pr : Nat → Nat) (mo : Nat) : Prop := tr_ys K pr ∧ mo < 2 ∧ ((mo = 0 ∧ pr = pr0 ∧ ∀ j, j < k → (kP K).testBit j = true → ∀ x y, x < 5 → y < 5 → tr_body K (tr_SY pr0) j x y → tr_SY pr0 (kH K j) x y) ∨ (mo = 1 ∧ tr_muY pr0 < tr_muY pr))
theorem tr_yk_0 {K : tr_C} {pr : Nat → Nat} (h : tr_ys K pr) : tr_yk K pr 0 pr 0 := ⟨h, by omega, Or.inl ⟨rfl, rfl, fun j hj => absurd hj (by omega)⟩⟩
theorem tr_yk_skip {K : tr_C} {pr0 pr : Nat → Nat} {k mo : Nat} (w : tr_yk K pr0 k pr mo) (h : (kP K).testBit k = false) : tr_yk K pr0 (k + 1) pr mo := by
  obtain ⟨w1, w2, w3⟩ := w
  refine ⟨w1, w2, w3.imp (fun ⟨e1, e2, e3⟩ => ⟨e1, e2, fun j hj hP => ?_⟩) id⟩
  rcases Nat.lt_or_ge j k with q | q
  · exact e3 j q hP
  · rw [show j = k by omega, h] at hP
    cases hP
theorem tr_yk_new {K : tr_C} {pr0 pr : Nat → Nat} {k mo : Nat} (ok : tr_ok K) (hk : k < 8) (hP : (kP K).testBit k = true) (w : tr_yk K pr0 k pr mo) (hn : tr_mdn K pr k 25 ≠ pr (kH K k)) : tr_yk K pr0 (k + 1) (va_up pr (kH K k) (tr_mdn K pr k 25)) 1 := by
  obtain ⟨w1, w2, w3⟩ := w
  refine ⟨tr_ys_use ok hk hP w1, by omega, Or.inr ⟨rfl, ?_⟩⟩
  have h1 := tr_us_mu ok hP w1.1.1 hn
  rcases w3 with ⟨e1, e2, e3⟩ | ⟨e1, e2⟩
  · rw [← e2]
    exact h1
  · exact Nat.lt_trans e2 h1
theorem tr_yk_same {K : tr_C} {pr0 pr : Nat → Nat} {k mo : Nat} (hP : (kP K).testBit k = true) (w : tr_yk K pr0 k pr mo) (hn : tr_mdn K pr k 25 = pr (kH K k)) : tr_yk K pr0 (k + 1) (va_up pr (kH K k) (tr_mdn K pr k 25)) mo := by
  obtain ⟨w1, w2, w3⟩ := w
  obtain ⟨s1, s2⟩ := tr_us_same hn
  rw [s1]
  refine ⟨w1, w2, w3.imp (fun ⟨e1, e2, e3⟩ => ⟨e1, e2, fun j hj hPj => ?_⟩) id⟩
  rcases Nat.lt_or_ge j k with q | q
  · exact e3 j q hPj
  · have e : j = k := by omega
    subst e
    subst e2
    exact s2
def tr_yo (K : tr_C) (r : Nat) (pr : Nat → Nat) (mo : Nat) : Prop := tr_ys K pr ∧ mo < 2 ∧ ((mo = 1 ∧ r ≤ tr_muY pr) ∨ (mo = 0 ∧ ∀ j, j < 8 → (kP K).testBit j = true → ∀ x y, x < 5 → y < 5 → tr_body K (tr_SY pr) j x y → tr_SY pr (kH K j) x y))
theorem tr_yo_next {K : tr_C} {r mo : Nat} {pr0 pr : Nat → Nat} (hr : r ≤ tr_muY pr0) (w : tr_yk K pr0 8 pr mo) : tr_yo K (r + 1) pr mo := by
  obtain ⟨w1, w2, w3⟩ := w
  refine ⟨w1, w2, ?_⟩
  rcases w3 with ⟨e1, e2, e3⟩ | ⟨e1, e2⟩
  · subst e2
    exact Or.inr ⟨e1, e3⟩
  · exact Or.inl ⟨e1, by omega⟩
theorem tr_yo_end {K : tr_C} {r mo : Nat} {pr : Nat → Nat} (w : tr_yo K r pr mo) (h : 76 ≤ r ∨ mo = 0) : tr_fx K pr := by
  obtain ⟨w1, w2, w3⟩ := w
  have hc : ∀ j, j < 8 → (kP K).testBit j = true → ∀ x y, x < 5 → y < 5 → tr_body K (tr_SY pr) j x y → tr_SY pr (kH K j) x y := by
    rcases w3 with ⟨e1, e2⟩ | ⟨e1, e2⟩
    · have h1 := tr_muY_bd pr
      omega
    · exact e2
  refine ⟨w1.1, fun p x y hp hx hy => tr_b_of ⟨fun hb => w1.2 p x y hp hx hy hb, fun hL => ?_⟩⟩
  exact hL (tr_SY pr) ⟨fun p x y hp hx hy hg => by unfold tr_SY; rw [w1.1.2 p x y hp hx hy]; exact hg, hc⟩
/-- says' loop -/
def tr_sw (K : tr_C) (pr : Nat → Nat) (k x y z : Nat) : Prop := (kF K k = 2 ∧ tr_SY pr (kQ K k) x z ∧ tr_SY pr (kR K k) z y) ∨ (kF K k = 4 ∧ tr_SY pr (kQ K k) x y ∧ tr_SY pr (kR K k) x z)
def tr_si (K : tr_C) (pr : Nat → Nat) (k x y i f : Nat) : Prop := f < 2 ∧ ((f = 1 ∧ ∃ z, z < i ∧ tr_sw K pr k x y z) ∨ (f = 0 ∧ ∀ z, z < i → ¬ tr_sw K pr k x y z))
theorem tr_si_0 (K : tr_C) (pr : Nat → Nat) (k x y : Nat) : tr_si K pr k x y 0 0 := ⟨by omega, Or.inr ⟨rfl, fun z hz => absurd hz (by omega)⟩⟩
theorem tr_si_old {K : tr_C} {pr : Nat → Nat} {k x y i f : Nat} (w : tr_si K pr k x y i f) (h : f ≠ 0) : tr_si K pr k x y (i + 1) 1 := by
  obtain ⟨w1, w2⟩ := w
  rcases w2 with ⟨e1, z, hz, hw⟩ | ⟨e1, e2⟩
  · exact ⟨by omega, Or.inl ⟨rfl, z, by omega, hw⟩⟩
  · omega
theorem tr_si_hit {K : tr_C} {pr : Nat → Nat} {k x y i : Nat} (h : tr_sw K pr k x y i) : tr_si K pr k x y (i + 1) 1 := ⟨by omega, Or.inl ⟨rfl, i, by omega, h⟩⟩
theorem tr_si_miss {K : tr_C} {pr : Nat → Nat} {k x y i f : Nat} (w : tr_si K pr k x y i f) (h : f = 0) (hn : ¬ tr_sw K pr k x y i) : tr_si K pr k x y (i + 1) 0 := by
  obtain ⟨w1, w2⟩ := w
  rcases w2 with ⟨e1, z, hz, hw⟩ | ⟨e1, e2⟩
  · omega
  · refine ⟨by omega, Or.inr ⟨rfl, fun z hz => ?_⟩⟩
    rcases Nat.lt_or_ge z i with q | q
    · exact e2 z q
    · rw [show z = i by omega]
      exact hn
theorem tr_si_end {K : tr_C} {pr : Nat → Nat} {k x y f : Nat} (h0 : kF K k ≠ 0) (h1 : kF K k ≠ 1) (h3 : kF K k ≠ 3) (w : tr_si K pr k x y 5 f) : f = (tr_b (tr_body K (tr_SY pr) k x y)).toNat := by
  obtain ⟨w1, w2⟩ := w
  rcases w2 with ⟨e1, z, hz, hw⟩ | ⟨e1, e2⟩
  · have hb : tr_body K (tr_SY pr) k x y := by
      rcases hw with ⟨f2, a, b⟩ | ⟨f4, a, b⟩
      · exact Or.inr (Or.inr (Or.inl ⟨f2, z, hz, a, b⟩))
      · exact Or.inr (Or.inr (Or.inr (Or.inr ⟨f4, a, z, hz, b⟩)))
    rw [tr_b_t hb]
    exact e1
  · have hb : ¬ tr_body K (tr_SY pr) k x y := by
      rintro (⟨f, a⟩ | ⟨f, a⟩ | ⟨f, z, hz, a, b⟩ | ⟨f, a, b⟩ | ⟨f, a, z, hz, b⟩)
      · exact h0 f
      · exact h1 f
      · exact e2 z hz (Or.inl ⟨f, a, b⟩)
      · exact h3 f
      · exact e2 z hz (Or.inr ⟨f, a, b⟩)
    rw [tr_b_f hb]
    exact e1
theorem tr_bd_0 {K : tr_C} {S : Nat → Nat → Nat → Prop} {k x y : Nat} (h : kF K k = 0) : tr_body K S k x y ↔ S (kQ K k) x y := by
  constructor
  · rintro (⟨f, a⟩ | ⟨f, a⟩ | ⟨f, z, hz, a, b⟩ | ⟨f, a, b⟩ | ⟨f, a, z, hz, b⟩)
    · exact a
    all_goals omega
  · exact fun a => Or.inl ⟨h, a⟩
theorem tr_bd_1 {K : tr_C} {S : Nat → Nat → Nat → Prop} {k x y : Nat} (h : kF K k = 1) : tr_body K S k x y ↔ S (kQ K k) y x := by
  constructor
  · rintro (⟨f, a⟩ | ⟨f, a⟩ | ⟨f, z, hz, a, b⟩ | ⟨f, a, b⟩ | ⟨f, a, z, hz, b⟩)
    · omega
    · exact a
    all_goals omega
  · exact fun a => Or.inr (Or.inl ⟨h, a⟩)
theorem tr_bd_3 {K : tr_C} {S : Nat → Nat → Nat → Prop} {k x y : Nat} (h : kF K k = 3) : tr_body K S k x y ↔ S (kQ K k) x y ∧ S (kR K k) x y := by
  constructor
  · rintro (⟨f, a⟩ | ⟨f, a⟩ | ⟨f, z, hz, a, b⟩ | ⟨f, a, b⟩ | ⟨f, a, z, hz, b⟩)
    · omega
    · omega
    · omega
    · exact ⟨a, b⟩
    · omega
  · exact fun ⟨a, b⟩ => Or.inr (Or.inr (Or.inr (Or.inl ⟨h, a, b⟩)))
/-- the model's numbers answer -/
theorem tr_fx_row {K : tr_C} {pr : Nat → Nat} {p x : Nat} (w : tr_fx K pr) (hp : p < 5) (hx : x < 5) : pr p / 2 ^ (5 * x) % 2 ^ 5 = tr_row K p x := by
  refine tr_num_eq (Nat.mod_lt _ (by omega)) (fun y hy => ?_)
  rw [Nat.testBit_mod_two_pow, decide_eq_true hy, Bool.true_and, Nat.testBit_div_two_pow, Nat.add_comm]
  first
    | exact w.2 p x y hp hx hy
    | (rw [Nat.add_comm]; exact w.2 p x y hp hx hy)
theorem tr_fx_bit {K : tr_C} {pr : Nat → Nat} {p c : Nat} (w : tr_fx K pr) (hp : p < 5) (hc : c < 25) : (pr p).testBit c = tr_b (tr_L K p (c / 5) (c % 5)) := by
  have h := w.2 p (c / 5) (c % 5) hp (by omega) (by omega)
  rw [show 5 * (c / 5) + c % 5 = c by omega] at h
  exact h
theorem tr_fx_cnt {K : tr_C} {pr : Nat → Nat} {p : Nat} (w : tr_fx K pr) (hp : p < 5) : tr_pc (pr p) 25 = tr_cnt K p := tr_sum_congr (fun c hc => by rw [tr_fx_bit w hp hc]; rfl)
theorem tr_fx_in {K : tr_C} {pr : Nat → Nat} {p r : Nat} (w : tr_fx K pr) (hp : p < 5) (hr : r < 5) : tr_num (fun i => (pr p).testBit i && !(pr r).testBit i) 25 = 0 ↔ tr_wP K p r := by
  rw [tr_num0]
  constructor
  · intro h x y hx hy hL
    have h1 := h (5 * x + y) (by omega)
    rw [w.2 p x y hp hx hy, w.2 r x y hr hx hy, tr_b_t hL, Bool.true_and] at h1
    exact tr_b_iff.mp (by simpa using h1)
  · intro h c hc
    rw [tr_fx_bit w hp hc, tr_fx_bit w hr hc]
    cases e1 : tr_b (tr_L K p (c / 5) (c % 5))
    · rfl
    · rw [tr_b_t (h (c / 5) (c % 5) (by omega) (by omega) (tr_b_iff.mp e1))]
      rfl
theorem tr_fx_eq {K : tr_C} {k : Nat} {pr pr2 : Nat → Nat} (ok : tr_ok K) (hk : k < 8) (w : tr_fx K pr) (w2 : tr_fx (tr_dp K k) pr2) : (pr 2 = pr2 2 ∧ pr 3 = pr2 3 ∧ pr 4 = pr2 4) ↔ tr_sP K k := by
  constructor
  · rintro ⟨h2, h3, h4⟩ p x y hp hx hy hL
    by_cases q : p < 2
    · exact (tr_L_g (tr_ok_dp ok hk) q hx hy).mpr ((tr_L_g ok q hx hy).mp hL)
    · have e : pr p = pr2 p := by
        have h : p = 2 ∨ p = 3 ∨ p = 4 := by omega
        rcases h with rfl | rfl | rfl
        · exact h2
        · exact h3
        · exact h4
      have h1 := w.2 p x y hp hx hy
      rw [e, w2.2 p x y hp hx hy, tr_b_t hL] at h1
      exact tr_b_iff.mp h1
  · intro h
    have e : ∀ p, p < 5 → pr p = pr2 p := fun p hp => tr_bits_eq (n := 25) (w.1.1 p) (w2.1.1 p) (fun c hc => by
      rw [tr_fx_bit w hp hc, tr_fx_bit w2 hp hc]
      exact tr_b_congr ⟨h p (c / 5) (c % 5) hp (by omega) (by omega), tr_L_dp ok hk⟩)
    exact ⟨e 2 (by omega), e 3 (by omega), e 4 (by omega)⟩
theorem tr_yi_gv {K : tr_C} {pr : Nat → Nat} {g x y : Nat} {b : Bool} (ok : tr_ok K) (h : tr_yi K pr) (hg : g < 2) (hx : x < 5) (hy : y < 5) : tr_yi (tr_gv K g x y b) (va_up pr g (tr_setb 25 (pr g) (5 * x + y) b)) := by
  refine ⟨fun p => ?_, fun p x' y' hp hx' hy' => ?_⟩
  · unfold va_up
    split
    · exact tr_setb_lt 25 _ _ _
    · exact h.1 p
  · show (va_up pr g (tr_setb 25 (pr g) (5 * x + y) b) p).testBit (5 * x' + y') = (va_up (kG K) (5 * g + x) (tr_setb 5 (kG K (5 * g + x)) y b) (5 * p + x')).testBit y'
    unfold va_up
    by_cases e : p = g
    · subst e
      rw [if_pos rfl, tr_setb_bit (h.1 p) (by omega)]
      by_cases e2 : x' = x
      · subst e2
        rw [if_pos rfl, tr_setb_bit (n := 5) (ok.1 _) hy]
        by_cases e3 : y' = y
        · subst e3
          rw [if_pos rfl, if_pos rfl]
        · rw [if_neg (by omega), if_neg e3]
          exact h.2 p x' y' hp hx' hy'
      · rw [if_neg (by omega), if_neg (by omega)]
        exact h.2 p x' y' hp hx' hy'
    · rw [if_neg e, if_neg (by omega)]
      exact h.2 p x' y' hp hx' hy'
/-- transitive's loop over x, y, z as c = 25 x + 5 y + z -/
def tr_tc (K : tr_C) (p c : Nat) : Prop := tr_L K p (c / 25) (c / 5 % 5) → tr_L K p (c / 5 % 5) (c % 5) → tr_L K p (c / 25) (c % 5)
theorem tr_tc_all {K : tr_C} {p : Nat} (h : ∀ c, c < 125 → tr_tc K p c) : tr_tP K p := by
  intro x y z hx hy hz h1 h2
  have h3 := h (25 * x + 5 * y + z) (by omega)
  unfold tr_tc at h3
  rw [show (25 * x + 5 * y + z) / 25 = x by omega, show (25 * x + 5 * y + z) / 5 % 5 = y by omega, show (25 * x + 5 * y + z) % 5 = z by omega] at h3
  exact h3 h1 h2
theorem tr_tc_one {K : tr_C} {p c : Nat} (h : tr_tP K p) (hc : c < 125) : tr_tc K p c := h _ _ _ (by omega) (by omega) (by omega)
end
section
/-! TabledRulesModel, first: printed by gen/y1.py -/
abbrev rmX1_five : Room := { frames := 0, cells := 0, slots := 0, locals := 0 }
set_option maxHeartbeats 4000000 in
set_option maxRecDepth 100000 in
/-- five(x) -/
theorem ty_five (l : Launch) (D : va_G) (dZ dN : ClassId) (q : Nat → Nat) (K : tr_C) (pr : Nat → Nat) (rx : Int32)  : tr_Mi l D (tr_YT dZ dN) yX1_five (ws_ yX1_five cX1_five 2 (some .boolean)) rmX1_five [.ref (q 0), .int rx] (tr_YW dZ dN q K pr) (fun (r : Int32) (u : Unit) => r = nI (tr_rg rx).toNat) (fun (u : Unit) => tr_YW dZ dN q K pr) := by
  refine tr_Mi.of (by decide) (Nat.le_of_ble_eq_true rfl) ?_
  intro p e s m args below meth c A Q ls hC hret hP hD hS hl
  have hC0 := hC
  obtain ⟨hx, hb, hlk, hml, hown, hts, hA, hK⟩ := hC0
  have hl : lv_has ls 2 [(0, .ref (q 0)), (1, .int rx)] := hl
  refine lv_iload_n hx hb dX1_five_0 rfl (lv_at hl 1 rfl) ?_
  refine lv_if_lt (tgt := 13) hx hb dX1_five_1 (by decide) (fun c1 => ?_) (fun c1 => ?_)
  · refine lv_iconst (v := (nI 0)) hx hb dX1_five_13 (by decide) ?_
    exact hret _ _ _ () _ _ dX1_five_14 (tr_nzv (by omega)) (by rw [tr_rg_f1 c1]; rfl) hP hD hS
  · refine lv_iload_n hx hb dX1_five_4 rfl (lv_at hl 1 rfl) ?_
    refine lv_iconst (v := (nI 4)) hx hb dX1_five_5 (by decide) ?_
    refine lv_icmp_gt (tgt := 13) hx hb dX1_five_6 (by decide) (fun c2 => ?_) (fun c2 => ?_)
    · refine lv_iconst (v := (nI 0)) hx hb dX1_five_13 (by decide) ?_
      exact hret _ _ _ () _ _ dX1_five_14 (tr_nzv (by omega)) (by rw [tr_rg_f2 (tr_45.mp c2)]; rfl) hP hD hS
    · refine lv_iconst (v := (nI 1)) hx hb dX1_five_9 (by decide) ?_
      refine lv_goto (tgt := 14) hx hb dX1_five_10 (by decide) ?_
      exact hret _ _ _ () _ _ dX1_five_14 (tr_nzv (by omega)) (by rw [tr_rg_t c1 (fun z => c2 (tr_45.mpr z))]; rfl) hP hD hS
abbrev rmX1_in : Room := { frames := 0, cells := 0, slots := 0, locals := 0 }
set_option maxHeartbeats 4000000 in
set_option maxRecDepth 100000 in
/-- in(p, x, y) -/
theorem ty_in (l : Launch) (D : va_G) (dZ dN : ClassId) (q : Nat → Nat) (K : tr_C) (pr : Nat → Nat) (rp rx ry : Nat) (lpr : ∀ p, pr p < 2 ^ 25) (lp : rp < 5) (lx : rx < 5) (ly : ry < 5) : tr_Mi l D (tr_YT dZ dN) yX1_in (ws_ yX1_in cX1_in 4 (some .boolean)) rmX1_in [.ref (q 0), .int (nI rp), .int (nI rx), .int (nI ry)] (tr_YW dZ dN q K pr) (fun (r : Int32) (u : Unit) => r = nI ((pr rp).testBit (5 * rx + ry)).toNat) (fun (u : Unit) => tr_YW dZ dN q K pr) := by
  refine tr_Mi.of (by decide) (Nat.le_of_ble_eq_true rfl) ?_
  intro p e s m args below meth c A Q ls hC hret hP hD hS hl
  have hC0 := hC
  obtain ⟨hx, hb, hlk, hml, hown, hts, hA, hK⟩ := hC0
  have hl : lv_has ls 4 [(0, .ref (q 0)), (1, .int (nI rp)), (2, .int (nI rx)), (3, .int (nI ry))] := hl
  have hb0 := lpr rp
  refine lv_aload_n hx hb dX1_in_0 rfl (lv_at hl 0 rfl) ?_
  refine yg_26 hC hP dX1_in_1 ?_
  refine lv_iload_n hx hb dX1_in_4 rfl (lv_at hl 1 rfl) ?_
  refine yl_6 hC hP (by omega) dX1_in_5 ?_
  refine lv_iconst (v := (nI 5)) hx hb dX1_in_6 (by decide) ?_
  refine lv_iload_n hx hb dX1_in_7 rfl (lv_at hl 2 rfl) ?_
  refine lv_imul hx hb dX1_in_8 ?_
  refine tr_top (v := (nI (5 * rx))) (pk_mul _ _) ?_
  refine lv_iload_n hx hb dX1_in_9 rfl (lv_at hl 3 rfl) ?_
  refine lv_iadd hx hb dX1_in_10 ?_
  refine tr_top (v := (nI ((5 * rx) + ry))) (nI_add _ _) ?_
  refine lv_ishr hx hb dX1_in_11 ?_
  refine lv_iconst (v := (nI 1)) hx hb dX1_in_12 (by decide) ?_
  refine lv_iand hx hb dX1_in_13 ?_
  refine tr_top (v := (nI ((pr rp).testBit ((5 * rx) + ry)).toNat)) (tr_bitI (by omega) (by omega)) ?_
  have hb1 := Bool.toNat_le ((pr rp).testBit (5 * rx + ry))
  refine lv_iconst (v := (nI 1)) hx hb dX1_in_14 (by decide) ?_
  refine ni_ne (tgt := 22) hx hb (by omega) (by omega) dX1_in_15 (by decide) (fun c1 => ?_) (fun c1 => ?_)
  · refine lv_iconst (v := (nI 0)) hx hb dX1_in_22 (by decide) ?_
    exact hret _ _ _ () _ _ dX1_in_23 (tr_nzv (by omega)) (by cases e : (pr rp).testBit (5 * rx + ry); rfl; rw [e] at c1; exact absurd rfl c1) hP hD hS
  · refine lv_iconst (v := (nI 1)) hx hb dX1_in_18 (by decide) ?_
    refine lv_goto (tgt := 23) hx hb dX1_in_19 (by decide) ?_
    exact hret _ _ _ () _ _ dX1_in_23 (tr_nzv (by omega)) (by cases e : (pr rp).testBit (5 * rx + ry); (rw [e] at c1; cases c1); rfl) hP hD hS
abbrev rmX1_is : Room := { frames := 0, cells := 0, slots := 0, locals := 0 }
set_option maxHeartbeats 4000000 in
set_option maxRecDepth 100000 in
/-- is(k) -/
theorem ty_is (l : Launch) (D : va_G) (dZ dN : ClassId) (q : Nat → Nat) (K : tr_C) (pr : Nat → Nat) (rk : Int32)  : tr_Mi l D (tr_YT dZ dN) yX1_is (ws_ yX1_is cX1_is 2 (some .boolean)) rmX1_is [.ref (q 0), .int rk] (tr_YW dZ dN q K pr) (fun (r : Int32) (u : Unit) => r = nI (tr_hs K rk).toNat) (fun (u : Unit) => tr_YW dZ dN q K pr) := by
  refine tr_Mi.of (by decide) (Nat.le_of_ble_eq_true rfl) ?_
  intro p e s m args below meth c A Q ls hC hret hP hD hS hl
  have hC0 := hC
  obtain ⟨hx, hb, hlk, hml, hown, hts, hA, hK⟩ := hC0
  have hl : lv_has ls 2 [(0, .ref (q 0)), (1, .int rk)] := hl
  refine lv_iload_n hx hb dX1_is_0 rfl (lv_at hl 1 rfl) ?_
  refine lv_if_lt (tgt := 23) hx hb dX1_is_1 (by decide) (fun c1 => ?_) (fun c1 => ?_)
  · refine lv_iconst (v := (nI 0)) hx hb dX1_is_23 (by decide) ?_
    exact hret _ _ _ () _ _ dX1_is_24 (tr_nzv (by omega)) (by rw [tr_hs_f (tr_r8_f1 c1)]; rfl) hP hD hS
  · refine lv_iload_n hx hb dX1_is_4 rfl (lv_at hl 1 rfl) ?_
    refine lv_bipush (v := (nI 7)) hx hb dX1_is_5 (by decide) ?_
    refine lv_icmp_gt (tgt := 23) hx hb dX1_is_7 (by decide) (fun c2 => ?_) (fun c2 => ?_)
    · refine lv_iconst (v := (nI 0)) hx hb dX1_is_23 (by decide) ?_
      exact hret _ _ _ () _ _ dX1_is_24 (tr_nzv (by omega)) (by rw [tr_hs_f (tr_r8_f2 (tr_78.mp c2))]; rfl) hP hD hS
    · obtain ⟨k, lk, rfl⟩ := tr_r8_n (tr_r8_t c1 (fun z => c2 (tr_78.mpr z)))
      refine lv_aload_n hx hb dX1_is_10 rfl (lv_at hl 0 rfl) ?_
      refine yg_7 hC hP dX1_is_11 ?_
      refine lv_iload_n hx hb dX1_is_14 rfl (lv_at hl 1 rfl) ?_
      refine yl_1 hC hP (by omega) dX1_is_15 ?_
      refine nb_eq (tgt := 23) hx hb dX1_is_16 (by decide) (fun c3 => ?_) (fun c3 => ?_)
      · refine lv_iconst (v := (nI 0)) hx hb dX1_is_23 (by decide) ?_
        exact hret _ _ _ () _ _ dX1_is_24 (tr_nzv (by omega)) (by rw [tr_hs_nI lk, c3]; rfl) hP hD hS
      · refine lv_iconst (v := (nI 1)) hx hb dX1_is_19 (by decide) ?_
        refine lv_goto (tgt := 24) hx hb dX1_is_20 (by decide) ?_
        exact hret _ _ _ () _ _ dX1_is_24 (tr_nzv (by omega)) (by rw [tr_hs_nI lk, c3]; rfl) hP hD hS
abbrev rmX1_ones : Room := { frames := 0, cells := 0, slots := 0, locals := 0 }
set_option maxHeartbeats 4000000 in
set_option maxRecDepth 100000 in
/-- ones(set) -/
theorem ty_ones (l : Launch) (D : va_G) (dZ dN : ClassId) (q : Nat → Nat) (K : tr_C) (pr : Nat → Nat) (ra : Nat) (la : ra < 2 ^ 25) : tr_Mi l D (tr_YT dZ dN) yX1_ones (ws_ yX1_ones cX1_ones 4 (some .int)) rmX1_ones [.ref (q 0), .int (nI ra)] (tr_YW dZ dN q K pr) (fun (r : Int32) (u : Unit) => r = nI (tr_pc ra 25)) (fun (u : Unit) => tr_YW dZ dN q K pr) := by
  refine tr_Mi.of (by decide) (Nat.le_of_ble_eq_true rfl) ?_
  intro p e s m args below meth c A Q ls hC hret hP hD hS hl
  have hC0 := hC
  obtain ⟨hx, hb, hlk, hml, hown, hts, hA, hK⟩ := hC0
  have hl : lv_has ls 4 [(0, .ref (q 0)), (1, .int (nI ra))] := hl
  refine lv_iconst (v := (nI 0)) hx hb dX1_ones_0 (by decide) ?_
  refine lv_istore_n (lv' := [(2, .int (nI 0)), (0, .ref (q 0)), (1, .int (nI ra))]) hx hb dX1_ones_1 rfl hl (by decide) rfl (fun ls hl => ?_)
  refine lv_iconst (v := (nI 0)) hx hb dX1_ones_2 (by decide) ?_
  refine lv_istore_n (lv' := [(3, .int (nI 0)), (2, .int (nI 0)), (0, .ref (q 0)), (1, .int (nI ra))]) hx hb dX1_ones_3 rfl hl (by decide) rfl (fun ls hl => ?_)
  have loop : ∀ (n : Nat) (i : Nat) (H : Heap) (locs : List Loc) (ls : Array Slot), i ≤ 25 → 25 + 1 ≤ i + n → va_P D tr_Cl (tr_YW dZ dN q K pr) H → va_D A (tr_YW dZ dN q K pr) → va_S A s.heap H locs → lv_has ls 4 [(0, .ref (q 0)), (1, .int (nI ra)), (2, .int (nI (tr_sum (fun j => (ra.testBit j).toNat) i))), (3, .int (nI i))] → W p l e rmX1_ones s m args below meth c H locs 0 0 Q (F0 m 4 ls []) := by
    intro n
    induction n with
    | zero =>
      intro i H locs ls h1 h2
      exact absurd h2 (by omega)
    | succ n ihloop =>
      intro i H locs ls hiloop hnloop  hP hD hS hl
      refine lv_iload_n hx hb dX1_ones_4 rfl (lv_at hl 3 rfl) ?_
      refine lv_bipush (v := (nI 25)) hx hb dX1_ones_5 (by decide) ?_
      refine ni_ge (tgt := 24) hx hb (by omega) (by omega) dX1_ones_7 (by decide) (fun c1 => ?_) (fun c1 => ?_)
      · refine lv_iload_n hx hb dX1_ones_24 rfl (lv_at hl 2 rfl) ?_
        have e5 : i = 25 := by omega
        subst e5
        exact hret _ _ _ () _ _ dX1_ones_25 rfl rfl hP hD hS
      · refine lv_iload_n hx hb dX1_ones_10 rfl (lv_at hl 2 rfl) ?_
        refine lv_iload_n hx hb dX1_ones_11 rfl (lv_at hl 1 rfl) ?_
        refine lv_iload_n hx hb dX1_ones_12 rfl (lv_at hl 3 rfl) ?_
        refine lv_ishr hx hb dX1_ones_13 ?_
        refine lv_iconst (v := (nI 1)) hx hb dX1_ones_14 (by decide) ?_
        refine lv_iand hx hb dX1_ones_15 ?_
        refine tr_top (v := (nI (ra.testBit i).toNat)) (tr_bitI (by omega) (by omega)) ?_
        refine lv_iadd hx hb dX1_ones_16 ?_
        refine tr_top (v := (nI ((tr_sum (fun j => (ra.testBit j).toNat) i) + (ra.testBit i).toNat))) (nI_add _ _) ?_
        refine tr_top (v := (nI (tr_sum (fun j => (ra.testBit j).toNat) (i + 1)))) rfl ?_
        refine lv_istore_n (lv' := [(2, .int (nI (tr_sum (fun j => (ra.testBit j).toNat) (i + 1)))), (0, .ref (q 0)), (1, .int (nI ra)), (3, .int (nI i))]) hx hb dX1_ones_17 rfl hl (by decide) rfl (fun ls hl => ?_)
        refine lv_iinc (v := (nI (i + 1))) (lv' := [(3, .int (nI (i + 1))), (2, .int (nI (tr_sum (fun j => (ra.testBit j).toNat) (i + 1)))), (0, .ref (q 0)), (1, .int (nI ra))]) hx hb dX1_ones_18 hl (k := 3) rfl (nI_1 _) (by decide) rfl (fun ls hl => ?_)
        refine lv_goto (tgt := 4) hx hb dX1_ones_21 (by decide) ?_
        exact ihloop (i + 1) _ _ _ (by omega) (by omega) hP hD hS (lv_sub hl [2, 3, 1, 0] rfl)
  have hl : lv_has ls 4 [(3, .int (nI 0)), (2, .int (nI (tr_sum (fun j => (ra.testBit j).toNat) 0))), (0, .ref (q 0)), (1, .int (nI ra))] := hl
  exact loop 26 0 _ _ _ (by omega) (by omega) hP hD hS (lv_sub hl [2, 3, 1, 0] rfl)
abbrev rmX1_says : Room := { frames := 1, cells := 0, slots := 0, locals := 23 }
set_option maxHeartbeats 4000000 in
set_option maxRecDepth 100000 in
/-- says(k, x, y) -/
theorem ty_says (l : Launch) (D : va_G) (dZ dN : ClassId) (q : Nat → Nat) (K : tr_C) (pr : Nat → Nat) (rk rx ry : Nat) (ok : tr_ok K) (lpr : ∀ p, pr p < 2 ^ 25) (lk : rk < 8) (lx : rx < 5) (ly : ry < 5) : tr_Mi l D (tr_YT dZ dN) yX1_says (ws_ yX1_says cX1_says 8 (some .boolean)) rmX1_says [.ref (q 0), .int (nI rk), .int (nI rx), .int (nI ry)] (tr_YW dZ dN q K pr) (fun (r : Int32) (u : Unit) => r = nI (tr_b (tr_body K (tr_SY pr) rk rx ry)).toNat) (fun (u : Unit) => tr_YW dZ dN q K pr) := by
  refine tr_Mi.of (by decide) (Nat.le_of_ble_eq_true rfl) ?_
  intro p e s m args below meth c A Q ls hC hret hP hD hS hl
  have hC0 := hC
  obtain ⟨hx, hb, hlk, hml, hown, hts, hA, hK⟩ := hC0
  have hl : lv_has ls 8 [(0, .ref (q 0)), (1, .int (nI rk)), (2, .int (nI rx)), (3, .int (nI ry))] := hl
  obtain ⟨b1, b2, b3, b4⟩ := ok.2.2.1 rk
  refine lv_aload_n hx hb dX1_says_0 rfl (lv_at hl 0 rfl) ?_
  refine yg_20 hC hP dX1_says_1 ?_
  refine lv_iload_n hx hb dX1_says_4 rfl (lv_at hl 1 rfl) ?_
  refine yl_4 hC hP (by omega) dX1_says_5 ?_
  refine lv_istore (lv' := [(4, .int (nI (kQ K rk))), (0, .ref (q 0)), (1, .int (nI rk)), (2, .int (nI rx)), (3, .int (nI ry))]) hx hb dX1_says_6 hl (by decide) rfl (fun ls hl => ?_)
  refine lv_aload_n hx hb dX1_says_8 rfl (lv_at hl 1 rfl) ?_
  refine yg_23 hC hP dX1_says_9 ?_
  refine lv_iload_n hx hb dX1_says_12 rfl (lv_at hl 2 rfl) ?_
  refine yl_5 hC hP (by omega) dX1_says_13 ?_
  refine lv_istore (lv' := [(5, .int (nI (kR K rk))), (4, .int (nI (kQ K rk))), (0, .ref (q 0)), (1, .int (nI rk)), (2, .int (nI rx)), (3, .int (nI ry))]) hx hb dX1_says_14 hl (by decide) rfl (fun ls hl => ?_)
  refine lv_aload_n hx hb dX1_says_16 rfl (lv_at hl 2 rfl) ?_
  refine yg_13 hC hP dX1_says_17 ?_
  refine lv_iload_n hx hb dX1_says_20 rfl (lv_at hl 3 rfl) ?_
  refine yl_2 hC hP (by omega) dX1_says_21 ?_
  refine nz_eq (tgt := 35) hx hb (by omega) dX1_says_22 (by decide) (fun c1 => ?_) (fun c1 => ?_)
  · refine lv_aload_n hx hb dX1_says_35 rfl (lv_at hl 2 rfl) ?_
    refine yg_13 hC hP dX1_says_36 ?_
    refine lv_iload_n hx hb dX1_says_39 rfl (lv_at hl 3 rfl) ?_
    refine yl_2 hC hP (by omega) dX1_says_40 ?_
    refine nz_ne (tgt := 55) hx hb (by omega) dX1_says_41 (by decide) (fun c2 => ?_) (fun c2 => ?_)
    · exact absurd c1 c2
    · refine lv_aload_n hx hb dX1_says_44 rfl (lv_at hl 2 rfl) ?_
      refine lv_iload hx hb dX1_says_45 (lv_at hl 1 rfl) ?_
      refine lv_iload_n hx hb dX1_says_47 rfl (lv_at hl 4 rfl) ?_
      refine lv_iload_n hx hb dX1_says_48 rfl (lv_at hl 5 rfl) ?_
      refine yc_i (n := 3) hC (ty_in l D dZ dN q K pr (kQ K rk) rx ry lpr b3 lx ly) (lw_V q231 q233 qs16 q20 q234) (by decide +kernel) rfl (by decide) hP hD hS hl.1 [] rfl (Nat.le_of_ble_eq_true rfl) dX1_says_49 (fun r u H locs hp hP hD hS => ?_)
      subst hp
      have hP : va_P D tr_Cl (tr_YW dZ dN q K pr) H := hP
      have hD : va_D A (tr_YW dZ dN q K pr) := hD
      refine lv_goto (tgt := 63) hx hb dX1_says_52 (by decide) ?_
      exact hret _ _ _ () _ _ dX1_says_63 (tr_nzv (Nat.lt_succ_of_le (Bool.toNat_le _))) (congrArg (fun b => nI (Bool.toNat b)) (tr_b_of (tr_bd_0 (S := tr_SY pr) c1).symm)) hP hD hS
  · refine lv_aload_n hx hb dX1_says_25 rfl (lv_at hl 2 rfl) ?_
    refine yg_13 hC hP dX1_says_26 ?_
    refine lv_iload_n hx hb dX1_says_29 rfl (lv_at hl 3 rfl) ?_
    refine yl_2 hC hP (by omega) dX1_says_30 ?_
    refine lv_iconst (v := (nI 1)) hx hb dX1_says_31 (by decide) ?_
    refine ni_ne (tgt := 64) hx hb (by omega) (by omega) dX1_says_32 (by decide) (fun c3 => ?_) (fun c3 => ?_)
    · refine lv_aload_n hx hb dX1_says_64 rfl (lv_at hl 2 rfl) ?_
      refine yg_13 hC hP dX1_says_65 ?_
      refine lv_iload_n hx hb dX1_says_68 rfl (lv_at hl 3 rfl) ?_
      refine yl_2 hC hP (by omega) dX1_says_69 ?_
      refine lv_iconst (v := (nI 3)) hx hb dX1_says_70 (by decide) ?_
      refine ni_ne (tgt := 102) hx hb (by omega) (by omega) dX1_says_71 (by decide) (fun c4 => ?_) (fun c4 => ?_)
      · refine lv_iconst (v := (nI 0)) hx hb dX1_says_102 (by decide) ?_
        refine lv_istore (lv' := [(6, .int (nI 0)), (5, .int (nI (kR K rk))), (4, .int (nI (kQ K rk))), (0, .ref (q 0)), (1, .int (nI rk)), (2, .int (nI rx)), (3, .int (nI ry))]) hx hb dX1_says_103 hl (by decide) rfl (fun ls hl => ?_)
        refine lv_iconst (v := (nI 0)) hx hb dX1_says_105 (by decide) ?_
        refine lv_istore (lv' := [(7, .int (nI 0)), (6, .int (nI 0)), (5, .int (nI (kR K rk))), (4, .int (nI (kQ K rk))), (0, .ref (q 0)), (1, .int (nI rk)), (2, .int (nI rx)), (3, .int (nI ry))]) hx hb dX1_says_106 hl (by decide) rfl (fun ls hl => ?_)
        have loop : ∀ (n : Nat) (i f : Nat) (H : Heap) (locs : List Loc) (ls : Array Slot), i ≤ 5 → 5 + 1 ≤ i + n → tr_si K pr rk rx ry i f → va_P D tr_Cl (tr_YW dZ dN q K pr) H → va_D A (tr_YW dZ dN q K pr) → va_S A s.heap H locs → lv_has ls 8 [(0, .ref (q 0)), (1, .int (nI rk)), (2, .int (nI rx)), (3, .int (nI ry)), (4, .int (nI (kQ K rk))), (5, .int (nI (kR K rk))), (6, .int (nI f)), (7, .int (nI i))] → W p l e rmX1_says s m args below meth c H locs 0 0 Q (F0 m 108 ls []) := by
          intro n
          induction n with
          | zero =>
            intro i f H locs ls h1 h2
            exact absurd h2 (by omega)
          | succ n ihloop =>
            intro i f H locs ls hiloop hnloop hI1 hP hD hS hl
            have lf := hI1.1
            refine lv_iload hx hb dX1_says_108 (lv_at hl 7 rfl) ?_
            refine lv_iconst (v := (nI 5)) hx hb dX1_says_110 (by decide) ?_
            refine ni_ge (tgt := 192) hx hb (by omega) (by omega) dX1_says_111 (by decide) (fun c5 => ?_) (fun c5 => ?_)
            · refine lv_iload hx hb dX1_says_192 (lv_at hl 6 rfl) ?_
              have e5 : i = 5 := by omega
              subst e5
              exact hret _ _ _ () _ _ dX1_says_194 (tr_nzv (by omega)) (congrArg nI (tr_si_end c1 c3 c4 hI1)) hP hD hS
            · refine lv_iload hx hb dX1_says_114 (lv_at hl 6 rfl) ?_
              refine nz_ne (tgt := 179) hx hb (by omega) dX1_says_116 (by decide) (fun c6 => ?_) (fun c6 => ?_)
              · refine lv_iconst (v := (nI 1)) hx hb dX1_says_179 (by decide) ?_
                refine lv_goto (tgt := 184) hx hb dX1_says_180 (by decide) ?_
                refine lv_istore (lv' := [(6, .int (nI 1)), (0, .ref (q 0)), (1, .int (nI rk)), (2, .int (nI rx)), (3, .int (nI ry)), (4, .int (nI (kQ K rk))), (5, .int (nI (kR K rk))), (7, .int (nI i))]) hx hb dX1_says_184 hl (by decide) rfl (fun ls hl => ?_)
                refine lv_iinc (v := (nI (i + 1))) (lv' := [(7, .int (nI (i + 1))), (6, .int (nI 1)), (0, .ref (q 0)), (1, .int (nI rk)), (2, .int (nI rx)), (3, .int (nI ry)), (4, .int (nI (kQ K rk))), (5, .int (nI (kR K rk)))]) hx hb dX1_says_186 hl (k := 7) rfl (nI_1 _) (by decide) rfl (fun ls hl => ?_)
                refine lv_goto (tgt := 108) hx hb dX1_says_189 (by decide) ?_
                exact ihloop (i + 1) 1 _ _ _ (by omega) (by omega) (tr_si_old hI1 c6) hP hD hS (lv_sub hl [2, 3, 4, 5, 6, 7, 1, 0] rfl)
              · refine lv_aload_n hx hb dX1_says_119 rfl (lv_at hl 0 rfl) ?_
                refine yg_13 hC hP dX1_says_120 ?_
                refine lv_iload_n hx hb dX1_says_123 rfl (lv_at hl 1 rfl) ?_
                refine yl_2 hC hP (by omega) dX1_says_124 ?_
                refine lv_iconst (v := (nI 2)) hx hb dX1_says_125 (by decide) ?_
                refine ni_ne (tgt := 156) hx hb (by omega) (by omega) dX1_says_126 (by decide) (fun c7 => ?_) (fun c7 => ?_)
                · have f4 : kF K rk = 4 := by omega
                  refine lv_aload_n hx hb dX1_says_156 rfl (lv_at hl 0 rfl) ?_
                  refine lv_iload hx hb dX1_says_157 (lv_at hl 4 rfl) ?_
                  refine lv_iload_n hx hb dX1_says_159 rfl (lv_at hl 2 rfl) ?_
                  refine lv_iload_n hx hb dX1_says_160 rfl (lv_at hl 3 rfl) ?_
                  refine yc_i (n := 3) hC (ty_in l D dZ dN q K pr (kQ K rk) rx ry lpr b3 lx ly) (lw_V q231 q233 qs16 q20 q234) (by decide +kernel) rfl (by decide) hP hD hS hl.1 [] rfl (Nat.le_of_ble_eq_true rfl) dX1_says_161 (fun r u H locs hp hP hD hS => ?_)
                  subst hp
                  have hP : va_P D tr_Cl (tr_YW dZ dN q K pr) H := hP
                  have hD : va_D A (tr_YW dZ dN q K pr) := hD
                  refine nb_eq (tgt := 183) hx hb dX1_says_164 (by decide) (fun c8 => ?_) (fun c8 => ?_)
                  · refine lv_iconst (v := (nI 0)) hx hb dX1_says_183 (by decide) ?_
                    refine lv_istore (lv' := [(6, .int (nI 0)), (0, .ref (q 0)), (1, .int (nI rk)), (2, .int (nI rx)), (3, .int (nI ry)), (4, .int (nI (kQ K rk))), (5, .int (nI (kR K rk))), (7, .int (nI i))]) hx hb dX1_says_184 hl (by decide) rfl (fun ls hl => ?_)
                    refine lv_iinc (v := (nI (i + 1))) (lv' := [(7, .int (nI (i + 1))), (6, .int (nI 0)), (0, .ref (q 0)), (1, .int (nI rk)), (2, .int (nI rx)), (3, .int (nI ry)), (4, .int (nI (kQ K rk))), (5, .int (nI (kR K rk)))]) hx hb dX1_says_186 hl (k := 7) rfl (nI_1 _) (by decide) rfl (fun ls hl => ?_)
                    refine lv_goto (tgt := 108) hx hb dX1_says_189 (by decide) ?_
                    exact ihloop (i + 1) 0 _ _ _ (by omega) (by omega) (tr_si_miss hI1 c6 (by rintro (⟨f2, a, b⟩ | ⟨_, a, b⟩); omega; exact absurd a (by unfold tr_SY; rw [c8]; decide))) hP hD hS (lv_sub hl [2, 3, 4, 5, 6, 7, 1, 0] rfl)
                  · refine lv_aload_n hx hb dX1_says_167 rfl (lv_at hl 0 rfl) ?_
                    refine lv_iload hx hb dX1_says_168 (lv_at hl 5 rfl) ?_
                    refine lv_iload_n hx hb dX1_says_170 rfl (lv_at hl 2 rfl) ?_
                    refine lv_iload hx hb dX1_says_171 (lv_at hl 7 rfl) ?_
                    refine yc_i (n := 3) hC (ty_in l D dZ dN q K pr (kR K rk) rx i lpr b4 lx c5) (lw_V q231 q233 qs16 q20 q234) (by decide +kernel) rfl (by decide) hP hD hS hl.1 [] rfl (Nat.le_of_ble_eq_true rfl) dX1_says_173 (fun r u H locs hp hP hD hS => ?_)
                    subst hp
                    have hP : va_P D tr_Cl (tr_YW dZ dN q K pr) H := hP
                    have hD : va_D A (tr_YW dZ dN q K pr) := hD
                    refine nb_eq (tgt := 183) hx hb dX1_says_176 (by decide) (fun c9 => ?_) (fun c9 => ?_)
                    · refine lv_iconst (v := (nI 0)) hx hb dX1_says_183 (by decide) ?_
                      refine lv_istore (lv' := [(6, .int (nI 0)), (0, .ref (q 0)), (1, .int (nI rk)), (2, .int (nI rx)), (3, .int (nI ry)), (4, .int (nI (kQ K rk))), (5, .int (nI (kR K rk))), (7, .int (nI i))]) hx hb dX1_says_184 hl (by decide) rfl (fun ls hl => ?_)
                      refine lv_iinc (v := (nI (i + 1))) (lv' := [(7, .int (nI (i + 1))), (6, .int (nI 0)), (0, .ref (q 0)), (1, .int (nI rk)), (2, .int (nI rx)), (3, .int (nI ry)), (4, .int (nI (kQ K rk))), (5, .int (nI (kR K rk)))]) hx hb dX1_says_186 hl (k := 7) rfl (nI_1 _) (by decide) rfl (fun ls hl => ?_)
                      refine lv_goto (tgt := 108) hx hb dX1_says_189 (by decide) ?_
                      exact ihloop (i + 1) 0 _ _ _ (by omega) (by omega) (tr_si_miss hI1 c6 (by rintro (⟨f2, a, b⟩ | ⟨_, a, b⟩); omega; exact absurd b (by unfold tr_SY; rw [c9]; decide))) hP hD hS (lv_sub hl [2, 3, 4, 5, 6, 7, 1, 0] rfl)
                    · refine lv_iconst (v := (nI 1)) hx hb dX1_says_179 (by decide) ?_
                      refine lv_goto (tgt := 184) hx hb dX1_says_180 (by decide) ?_
                      refine lv_istore (lv' := [(6, .int (nI 1)), (0, .ref (q 0)), (1, .int (nI rk)), (2, .int (nI rx)), (3, .int (nI ry)), (4, .int (nI (kQ K rk))), (5, .int (nI (kR K rk))), (7, .int (nI i))]) hx hb dX1_says_184 hl (by decide) rfl (fun ls hl => ?_)
                      refine lv_iinc (v := (nI (i + 1))) (lv' := [(7, .int (nI (i + 1))), (6, .int (nI 1)), (0, .ref (q 0)), (1, .int (nI rk)), (2, .int (nI rx)), (3, .int (nI ry)), (4, .int (nI (kQ K rk))), (5, .int (nI (kR K rk)))]) hx hb dX1_says_186 hl (k := 7) rfl (nI_1 _) (by decide) rfl (fun ls hl => ?_)
                      refine lv_goto (tgt := 108) hx hb dX1_says_189 (by decide) ?_
                      exact ihloop (i + 1) 1 _ _ _ (by omega) (by omega) (tr_si_hit (Or.inr ⟨f4, c8, c9⟩)) hP hD hS (lv_sub hl [2, 3, 4, 5, 6, 7, 1, 0] rfl)
                · refine lv_aload_n hx hb dX1_says_129 rfl (lv_at hl 0 rfl) ?_
                  refine lv_iload hx hb dX1_says_130 (lv_at hl 4 rfl) ?_
                  refine lv_iload_n hx hb dX1_says_132 rfl (lv_at hl 2 rfl) ?_
                  refine lv_iload hx hb dX1_says_133 (lv_at hl 7 rfl) ?_
                  refine yc_i (n := 3) hC (ty_in l D dZ dN q K pr (kQ K rk) rx i lpr b3 lx c5) (lw_V q231 q233 qs16 q20 q234) (by decide +kernel) rfl (by decide) hP hD hS hl.1 [] rfl (Nat.le_of_ble_eq_true rfl) dX1_says_135 (fun r u H locs hp hP hD hS => ?_)
                  subst hp
                  have hP : va_P D tr_Cl (tr_YW dZ dN q K pr) H := hP
                  have hD : va_D A (tr_YW dZ dN q K pr) := hD
                  refine nb_eq (tgt := 183) hx hb dX1_says_138 (by decide) (fun c8 => ?_) (fun c8 => ?_)
                  · refine lv_iconst (v := (nI 0)) hx hb dX1_says_183 (by decide) ?_
                    refine lv_istore (lv' := [(6, .int (nI 0)), (0, .ref (q 0)), (1, .int (nI rk)), (2, .int (nI rx)), (3, .int (nI ry)), (4, .int (nI (kQ K rk))), (5, .int (nI (kR K rk))), (7, .int (nI i))]) hx hb dX1_says_184 hl (by decide) rfl (fun ls hl => ?_)
                    refine lv_iinc (v := (nI (i + 1))) (lv' := [(7, .int (nI (i + 1))), (6, .int (nI 0)), (0, .ref (q 0)), (1, .int (nI rk)), (2, .int (nI rx)), (3, .int (nI ry)), (4, .int (nI (kQ K rk))), (5, .int (nI (kR K rk)))]) hx hb dX1_says_186 hl (k := 7) rfl (nI_1 _) (by decide) rfl (fun ls hl => ?_)
                    refine lv_goto (tgt := 108) hx hb dX1_says_189 (by decide) ?_
                    exact ihloop (i + 1) 0 _ _ _ (by omega) (by omega) (tr_si_miss hI1 c6 (by rintro (⟨f2, a, b⟩ | ⟨f4, a, b⟩); exact absurd a (by unfold tr_SY; rw [c8]; decide); omega)) hP hD hS (lv_sub hl [2, 3, 4, 5, 6, 7, 1, 0] rfl)
                  · refine lv_aload_n hx hb dX1_says_141 rfl (lv_at hl 0 rfl) ?_
                    refine lv_iload hx hb dX1_says_142 (lv_at hl 5 rfl) ?_
                    refine lv_iload hx hb dX1_says_144 (lv_at hl 7 rfl) ?_
                    refine lv_iload_n hx hb dX1_says_146 rfl (lv_at hl 3 rfl) ?_
                    refine yc_i (n := 3) hC (ty_in l D dZ dN q K pr (kR K rk) i ry lpr b4 c5 ly) (lw_V q231 q233 qs16 q20 q234) (by decide +kernel) rfl (by decide) hP hD hS hl.1 [] rfl (Nat.le_of_ble_eq_true rfl) dX1_says_147 (fun r u H locs hp hP hD hS => ?_)
                    subst hp
                    have hP : va_P D tr_Cl (tr_YW dZ dN q K pr) H := hP
                    have hD : va_D A (tr_YW dZ dN q K pr) := hD
                    refine nb_eq (tgt := 183) hx hb dX1_says_150 (by decide) (fun c9 => ?_) (fun c9 => ?_)
                    · refine lv_iconst (v := (nI 0)) hx hb dX1_says_183 (by decide) ?_
                      refine lv_istore (lv' := [(6, .int (nI 0)), (0, .ref (q 0)), (1, .int (nI rk)), (2, .int (nI rx)), (3, .int (nI ry)), (4, .int (nI (kQ K rk))), (5, .int (nI (kR K rk))), (7, .int (nI i))]) hx hb dX1_says_184 hl (by decide) rfl (fun ls hl => ?_)
                      refine lv_iinc (v := (nI (i + 1))) (lv' := [(7, .int (nI (i + 1))), (6, .int (nI 0)), (0, .ref (q 0)), (1, .int (nI rk)), (2, .int (nI rx)), (3, .int (nI ry)), (4, .int (nI (kQ K rk))), (5, .int (nI (kR K rk)))]) hx hb dX1_says_186 hl (k := 7) rfl (nI_1 _) (by decide) rfl (fun ls hl => ?_)
                      refine lv_goto (tgt := 108) hx hb dX1_says_189 (by decide) ?_
                      exact ihloop (i + 1) 0 _ _ _ (by omega) (by omega) (tr_si_miss hI1 c6 (by rintro (⟨f2, a, b⟩ | ⟨f4, a, b⟩); exact absurd b (by unfold tr_SY; rw [c9]; decide); omega)) hP hD hS (lv_sub hl [2, 3, 4, 5, 6, 7, 1, 0] rfl)
                    · refine lv_goto (tgt := 179) hx hb dX1_says_153 (by decide) ?_
                      refine lv_iconst (v := (nI 1)) hx hb dX1_says_179 (by decide) ?_
                      refine lv_goto (tgt := 184) hx hb dX1_says_180 (by decide) ?_
                      refine lv_istore (lv' := [(6, .int (nI 1)), (0, .ref (q 0)), (1, .int (nI rk)), (2, .int (nI rx)), (3, .int (nI ry)), (4, .int (nI (kQ K rk))), (5, .int (nI (kR K rk))), (7, .int (nI i))]) hx hb dX1_says_184 hl (by decide) rfl (fun ls hl => ?_)
                      refine lv_iinc (v := (nI (i + 1))) (lv' := [(7, .int (nI (i + 1))), (6, .int (nI 1)), (0, .ref (q 0)), (1, .int (nI rk)), (2, .int (nI rx)), (3, .int (nI ry)), (4, .int (nI (kQ K rk))), (5, .int (nI (kR K rk)))]) hx hb dX1_says_186 hl (k := 7) rfl (nI_1 _) (by decide) rfl (fun ls hl => ?_)
                      refine lv_goto (tgt := 108) hx hb dX1_says_189 (by decide) ?_
                      exact ihloop (i + 1) 1 _ _ _ (by omega) (by omega) (tr_si_hit (Or.inl ⟨c7, c8, c9⟩)) hP hD hS (lv_sub hl [2, 3, 4, 5, 6, 7, 1, 0] rfl)
        exact loop 6 0 0 _ _ _ (by omega) (by omega) (tr_si_0 K pr rk rx ry) hP hD hS (lv_sub hl [4, 5, 6, 7, 3, 2, 1, 0] rfl)
      · refine lv_aload_n hx hb dX1_says_74 rfl (lv_at hl 2 rfl) ?_
        refine lv_iload hx hb dX1_says_75 (lv_at hl 1 rfl) ?_
        refine lv_iload_n hx hb dX1_says_77 rfl (lv_at hl 4 rfl) ?_
        refine lv_iload_n hx hb dX1_says_78 rfl (lv_at hl 5 rfl) ?_
        refine yc_i (n := 3) hC (ty_in l D dZ dN q K pr (kQ K rk) rx ry lpr b3 lx ly) (lw_V q231 q233 qs16 q20 q234) (by decide +kernel) rfl (by decide) hP hD hS hl.1 [] rfl (Nat.le_of_ble_eq_true rfl) dX1_says_79 (fun r u H locs hp hP hD hS => ?_)
        subst hp
        have hP : va_P D tr_Cl (tr_YW dZ dN q K pr) H := hP
        have hD : va_D A (tr_YW dZ dN q K pr) := hD
        refine nb_eq (tgt := 100) hx hb dX1_says_82 (by decide) (fun c5 => ?_) (fun c5 => ?_)
        · refine lv_iconst (v := (nI 0)) hx hb dX1_says_100 (by decide) ?_
          exact hret _ _ _ () _ _ dX1_says_101 (tr_nzv (by omega)) (by rw [tr_b_f (show ¬ (tr_body K (tr_SY pr) rk rx ry) from fun z => by have a := ((tr_bd_3 (S := tr_SY pr) c4).mp z).1; unfold tr_SY at a; rw [c5] at a; cases a)]; rfl) hP hD hS
        · refine lv_aload_n hx hb dX1_says_85 rfl (lv_at hl 2 rfl) ?_
          refine lv_iload hx hb dX1_says_86 (lv_at hl 0 rfl) ?_
          refine lv_iload_n hx hb dX1_says_88 rfl (lv_at hl 4 rfl) ?_
          refine lv_iload_n hx hb dX1_says_89 rfl (lv_at hl 5 rfl) ?_
          refine yc_i (n := 3) hC (ty_in l D dZ dN q K pr (kR K rk) rx ry lpr b4 lx ly) (lw_V q231 q233 qs16 q20 q234) (by decide +kernel) rfl (by decide) hP hD hS hl.1 [] rfl (Nat.le_of_ble_eq_true rfl) dX1_says_90 (fun r u H locs hp hP hD hS => ?_)
          subst hp
          have hP : va_P D tr_Cl (tr_YW dZ dN q K pr) H := hP
          have hD : va_D A (tr_YW dZ dN q K pr) := hD
          refine nb_eq (tgt := 100) hx hb dX1_says_93 (by decide) (fun c6 => ?_) (fun c6 => ?_)
          · refine lv_iconst (v := (nI 0)) hx hb dX1_says_100 (by decide) ?_
            exact hret _ _ _ () _ _ dX1_says_101 (tr_nzv (by omega)) (by rw [tr_b_f (show ¬ (tr_body K (tr_SY pr) rk rx ry) from fun z => by have a := ((tr_bd_3 (S := tr_SY pr) c4).mp z).2; unfold tr_SY at a; rw [c6] at a; cases a)]; rfl) hP hD hS
          · refine lv_iconst (v := (nI 1)) hx hb dX1_says_96 (by decide) ?_
            refine lv_goto (tgt := 101) hx hb dX1_says_97 (by decide) ?_
            exact hret _ _ _ () _ _ dX1_says_101 (tr_nzv (by omega)) (by rw [tr_b_t (show (tr_body K (tr_SY pr) rk rx ry) from (tr_bd_3 (S := tr_SY pr) c4).mpr ⟨c5, c6⟩)]; rfl) hP hD hS
    · refine lv_aload_n hx hb dX1_says_35 rfl (lv_at hl 2 rfl) ?_
      refine yg_13 hC hP dX1_says_36 ?_
      refine lv_iload_n hx hb dX1_says_39 rfl (lv_at hl 3 rfl) ?_
      refine yl_2 hC hP (by omega) dX1_says_40 ?_
      refine nz_ne (tgt := 55) hx hb (by omega) dX1_says_41 (by decide) (fun c4 => ?_) (fun c4 => ?_)
      · refine lv_aload_n hx hb dX1_says_55 rfl (lv_at hl 2 rfl) ?_
        refine lv_iload hx hb dX1_says_56 (lv_at hl 1 rfl) ?_
        refine lv_iload_n hx hb dX1_says_58 rfl (lv_at hl 5 rfl) ?_
        refine lv_iload_n hx hb dX1_says_59 rfl (lv_at hl 4 rfl) ?_
        refine yc_i (n := 3) hC (ty_in l D dZ dN q K pr (kQ K rk) ry rx lpr b3 ly lx) (lw_V q231 q233 qs16 q20 q234) (by decide +kernel) rfl (by decide) hP hD hS hl.1 [] rfl (Nat.le_of_ble_eq_true rfl) dX1_says_60 (fun r u H locs hp hP hD hS => ?_)
        subst hp
        have hP : va_P D tr_Cl (tr_YW dZ dN q K pr) H := hP
        have hD : va_D A (tr_YW dZ dN q K pr) := hD
        exact hret _ _ _ () _ _ dX1_says_63 (tr_nzv (Nat.lt_succ_of_le (Bool.toNat_le _))) (congrArg (fun b => nI (Bool.toNat b)) (tr_b_of (tr_bd_1 (S := tr_SY pr) c3).symm)) hP hD hS
      · exact absurd c4 c1
abbrev rmX1_use : Room := { frames := 2, cells := 0, slots := 0, locals := 50 }
set_option maxHeartbeats 4000000 in
set_option maxRecDepth 100000 in
/-- use(k) -/
theorem ty_use (l : Launch) (D : va_G) (dZ dN : ClassId) (q : Nat → Nat) (K : tr_C) (pr : Nat → Nat) (rk : Nat) (ok : tr_ok K) (lpr : ∀ p, pr p < 2 ^ 25) (lk : rk < 8) : tr_Mi l D (tr_YT dZ dN) yX1_use (ws_ yX1_use cX1_use 5 (some .boolean)) rmX1_use [.ref (q 0), .int (nI rk)] (tr_YW dZ dN q K pr) (fun (r : Int32) (u : Unit) => r = nI (decide (tr_mdn K pr rk 25 ≠ pr (kH K rk))).toNat) (fun (u : Unit) => tr_YW dZ dN q K (va_up pr (kH K rk) (tr_mdn K pr rk 25))) := by
  refine tr_Mi.of (by decide) (Nat.le_of_ble_eq_true rfl) ?_
  intro p e s m args below meth c A Q ls hC hret hP hD hS hl
  have hC0 := hC
  obtain ⟨hx, hb, hlk, hml, hown, hts, hA, hK⟩ := hC0
  have hl : lv_has ls 5 [(0, .ref (q 0)), (1, .int (nI rk))] := hl
  obtain ⟨b1, b2, b3, b4⟩ := ok.2.2.1 rk
  have hb0 := lpr (kH K rk)
  refine lv_aload_n hx hb dX1_use_0 rfl (lv_at hl 0 rfl) ?_
  refine yg_26 hC hP dX1_use_1 ?_
  refine lv_aload_n hx hb dX1_use_4 rfl (lv_at hl 0 rfl) ?_
  refine yg_17 hC hP dX1_use_5 ?_
  refine lv_iload_n hx hb dX1_use_8 rfl (lv_at hl 1 rfl) ?_
  refine yl_3 hC hP (by omega) dX1_use_9 ?_
  refine yl_6 hC hP (by omega) dX1_use_10 ?_
  refine lv_istore_n (lv' := [(2, .int (nI (pr (kH K rk)))), (0, .ref (q 0)), (1, .int (nI rk))]) hx hb dX1_use_11 rfl hl (by decide) rfl (fun ls hl => ?_)
  refine lv_iload_n hx hb dX1_use_12 rfl (lv_at hl 0 rfl) ?_
  refine lv_istore_n (lv' := [(3, .int (nI (pr (kH K rk)))), (2, .int (nI (pr (kH K rk)))), (0, .ref (q 0)), (1, .int (nI rk))]) hx hb dX1_use_13 rfl hl (by decide) rfl (fun ls hl => ?_)
  refine lv_iconst (v := (nI 0)) hx hb dX1_use_14 (by decide) ?_
  refine lv_istore (lv' := [(4, .int (nI 0)), (3, .int (nI (pr (kH K rk)))), (2, .int (nI (pr (kH K rk)))), (0, .ref (q 0)), (1, .int (nI rk))]) hx hb dX1_use_15 hl (by decide) rfl (fun ls hl => ?_)
  have loop : ∀ (n : Nat) (i : Nat) (H : Heap) (locs : List Loc) (ls : Array Slot), i ≤ 25 → 25 + 1 ≤ i + n → va_P D tr_Cl (tr_YW dZ dN q K pr) H → va_D A (tr_YW dZ dN q K pr) → va_S A s.heap H locs → lv_has ls 5 [(0, .ref (q 0)), (1, .int (nI rk)), (2, .int (nI (pr (kH K rk)))), (3, .int (nI (tr_mdn K pr rk i))), (4, .int (nI i))] → W p l e rmX1_use s m args below meth c H locs 0 0 Q (F0 m 17 ls []) := by
    intro n
    induction n with
    | zero =>
      intro i H locs ls h1 h2
      exact absurd h2 (by omega)
    | succ n ihloop =>
      intro i H locs ls hiloop hnloop  hP hD hS hl
      refine lv_iload hx hb dX1_use_17 (lv_at hl 4 rfl) ?_
      refine lv_bipush (v := (nI 25)) hx hb dX1_use_19 (by decide) ?_
      refine ni_ge (tgt := 57) hx hb (by omega) (by omega) dX1_use_21 (by decide) (fun c1 => ?_) (fun c1 => ?_)
      · have e5 : i = 25 := by omega
        subst e5
        have hm0 := tr_mdn_lt K pr rk 25
        refine lv_aload_n hx hb dX1_use_57 rfl (lv_at hl 0 rfl) ?_
        refine yg_26 hC hP dX1_use_58 ?_
        refine lv_aload_n hx hb dX1_use_61 rfl (lv_at hl 0 rfl) ?_
        refine yg_17 hC hP dX1_use_62 ?_
        refine lv_iload_n hx hb dX1_use_65 rfl (lv_at hl 1 rfl) ?_
        refine yl_3 hC hP (by omega) dX1_use_66 ?_
        refine lv_iload_n hx hb dX1_use_67 rfl (lv_at hl 3 rfl) ?_
        refine ys_6 hC hP hD hS (by omega) dX1_use_68 (fun H locs hP hD hS => ?_)
        have hP : va_P D tr_Cl (tr_YW dZ dN q K (va_up pr (kH K rk) (tr_mdn K pr rk 25))) H := hP
        have hD : va_D A (tr_YW dZ dN q K (va_up pr (kH K rk) (tr_mdn K pr rk 25))) := hD
        refine lv_iload_n hx hb dX1_use_69 rfl (lv_at hl 3 rfl) ?_
        refine lv_iload_n hx hb dX1_use_70 rfl (lv_at hl 2 rfl) ?_
        refine ni_eq (tgt := 78) hx hb (by omega) (by omega) dX1_use_71 (by decide) (fun c2 => ?_) (fun c2 => ?_)
        · refine lv_iconst (v := (nI 0)) hx hb dX1_use_78 (by decide) ?_
          exact hret _ _ _ () _ _ dX1_use_79 (tr_nzv (by omega)) (by rw [decide_eq_false (fun z => z c2)]; rfl) hP hD hS
        · refine lv_iconst (v := (nI 1)) hx hb dX1_use_74 (by decide) ?_
          refine lv_goto (tgt := 79) hx hb dX1_use_75 (by decide) ?_
          exact hret _ _ _ () _ _ dX1_use_79 (tr_nzv (by omega)) (by rw [decide_eq_true c2]; rfl) hP hD hS
      · refine lv_aload_n hx hb dX1_use_24 rfl (lv_at hl 0 rfl) ?_
        refine lv_iload_n hx hb dX1_use_25 rfl (lv_at hl 1 rfl) ?_
        refine lv_iload hx hb dX1_use_26 (lv_at hl 4 rfl) ?_
        refine lv_iconst (v := (nI 5)) hx hb dX1_use_28 (by decide) ?_
        refine lv_idiv hx hb dX1_use_29 (by decide) ?_
        refine tr_top (v := (nI (i / 5))) (pk_div (by omega) (by omega) (by omega)) ?_
        refine lv_iload hx hb dX1_use_30 (lv_at hl 4 rfl) ?_
        refine lv_iconst (v := (nI 5)) hx hb dX1_use_32 (by decide) ?_
        refine lv_irem hx hb dX1_use_33 (by decide) ?_
        refine tr_top (v := (nI (i % 5))) (pk_rem (by omega) (by omega) (by omega)) ?_
        refine yc_i (n := 3) hC (ty_says l D dZ dN q K pr rk (i / 5) (i % 5) ok lpr lk (by omega) (by omega)) (lw_V q227 q229 qs15 q20 q230) (by decide +kernel) rfl (by decide) hP hD hS hl.1 [] rfl (Nat.le_of_ble_eq_true rfl) dX1_use_34 (fun r u H locs hp hP hD hS => ?_)
        subst hp
        have hP : va_P D tr_Cl (tr_YW dZ dN q K pr) H := hP
        have hD : va_D A (tr_YW dZ dN q K pr) := hD
        refine nb_eq (tgt := 49) hx hb dX1_use_37 (by decide) (fun c2 => ?_) (fun c2 => ?_)
        · refine lv_iload_n hx hb dX1_use_49 rfl (lv_at hl 3 rfl) ?_
          refine tr_top (v := (nI (tr_mdn K pr rk (i + 1)))) (congrArg nI (tr_mdn_f c2)) ?_
          refine lv_istore_n (lv' := [(3, .int (nI (tr_mdn K pr rk (i + 1)))), (0, .ref (q 0)), (1, .int (nI rk)), (2, .int (nI (pr (kH K rk)))), (4, .int (nI i))]) hx hb dX1_use_50 rfl hl (by decide) rfl (fun ls hl => ?_)
          refine lv_iinc (v := (nI (i + 1))) (lv' := [(4, .int (nI (i + 1))), (3, .int (nI (tr_mdn K pr rk (i + 1)))), (0, .ref (q 0)), (1, .int (nI rk)), (2, .int (nI (pr (kH K rk))))]) hx hb dX1_use_51 hl (k := 4) rfl (nI_1 _) (by decide) rfl (fun ls hl => ?_)
          refine lv_goto (tgt := 17) hx hb dX1_use_54 (by decide) ?_
          exact ihloop (i + 1) _ _ _ (by omega) (by omega) hP hD hS (lv_sub hl [2, 3, 4, 1, 0] rfl)
        · refine lv_iload_n hx hb dX1_use_40 rfl (lv_at hl 3 rfl) ?_
          refine lv_iconst (v := (nI 1)) hx hb dX1_use_41 (by decide) ?_
          refine lv_iload hx hb dX1_use_42 (lv_at hl 4 rfl) ?_
          refine lv_ishl hx hb dX1_use_44 ?_
          refine tr_top (v := (nI (2 ^ i))) (tr_shlI (by omega)) ?_
          refine lv_ior hx hb dX1_use_45 ?_
          refine tr_top (v := (nI ((tr_mdn K pr rk i) ||| (2 ^ i)))) (nx_or _ _) ?_
          refine tr_top (v := (nI (tr_mdn K pr rk (i + 1)))) (congrArg nI (tr_mdn_t c1 c2)) ?_
          refine lv_goto (tgt := 50) hx hb dX1_use_46 (by decide) ?_
          refine lv_istore_n (lv' := [(3, .int (nI (tr_mdn K pr rk (i + 1)))), (0, .ref (q 0)), (1, .int (nI rk)), (2, .int (nI (pr (kH K rk)))), (4, .int (nI i))]) hx hb dX1_use_50 rfl hl (by decide) rfl (fun ls hl => ?_)
          refine lv_iinc (v := (nI (i + 1))) (lv' := [(4, .int (nI (i + 1))), (3, .int (nI (tr_mdn K pr rk (i + 1)))), (0, .ref (q 0)), (1, .int (nI rk)), (2, .int (nI (pr (kH K rk))))]) hx hb dX1_use_51 hl (k := 4) rfl (nI_1 _) (by decide) rfl (fun ls hl => ?_)
          refine lv_goto (tgt := 17) hx hb dX1_use_54 (by decide) ?_
          exact ihloop (i + 1) _ _ _ (by omega) (by omega) hP hD hS (lv_sub hl [2, 3, 4, 1, 0] rfl)
  have hl : lv_has ls 5 [(4, .int (nI 0)), (3, .int (nI (tr_mdn K pr rk 0))), (2, .int (nI (pr (kH K rk)))), (0, .ref (q 0)), (1, .int (nI rk))] := by rw [← tr_mdn_0 hb0]; exact hl
  exact loop 26 0 _ _ _ (by omega) (by omega) hP hD hS (lv_sub hl [3, 4, 2, 1, 0] rfl)
abbrev rmX1_work : Room := { frames := 3, cells := 0, slots := 0, locals := 74 }
set_option maxHeartbeats 4000000 in
set_option maxRecDepth 100000 in
/-- work() -/
theorem ty_work (l : Launch) (D : va_G) (dZ dN : ClassId) (q : Nat → Nat) (K : tr_C) (pr : Nat → Nat)  (ok : tr_ok K) (yi : tr_yi K pr) : tr_Mv l D (tr_YT dZ dN) yX1_work (ws_ yX1_work cX1_work 4 none) rmX1_work [.ref (q 0)] (tr_YW dZ dN q K pr) (fun (u : Nat → Nat) => tr_fx K u) (fun (u : Nat → Nat) => tr_YW dZ dN q K u) := by
  refine tr_Mv.of (by decide) (Nat.le_of_ble_eq_true rfl) ?_
  intro p e s m args below meth c A Q ls hC hret hP hD hS hl
  have hC0 := hC
  obtain ⟨hx, hb, hlk, hml, hown, hts, hA, hK⟩ := hC0
  have hl : lv_has ls 4 [(0, .ref (q 0))] := hl
  refine lv_aload_n hx hb dX1_work_0 rfl (lv_at hl 0 rfl) ?_
  refine yg_26 hC hP dX1_work_1 ?_
  refine lv_iconst (v := (nI 2)) hx hb dX1_work_4 (by decide) ?_
  refine lv_iconst (v := (nI 0)) hx hb dX1_work_5 (by decide) ?_
  refine ys_6 hC hP hD hS (by omega) dX1_work_6 (fun H locs hP hD hS => ?_)
  have hP : va_P D tr_Cl (tr_YW dZ dN q K (va_up pr 2 0)) H := hP
  have hD : va_D A (tr_YW dZ dN q K (va_up pr 2 0)) := hD
  refine lv_aload_n hx hb dX1_work_7 rfl (lv_at hl 0 rfl) ?_
  refine yg_26 hC hP dX1_work_8 ?_
  refine lv_iconst (v := (nI 3)) hx hb dX1_work_11 (by decide) ?_
  refine lv_iconst (v := (nI 0)) hx hb dX1_work_12 (by decide) ?_
  refine ys_6 hC hP hD hS (by omega) dX1_work_13 (fun H locs hP hD hS => ?_)
  have hP : va_P D tr_Cl (tr_YW dZ dN q K (va_up (va_up pr 2 0) 3 0)) H := hP
  have hD : va_D A (tr_YW dZ dN q K (va_up (va_up pr 2 0) 3 0)) := hD
  refine lv_aload_n hx hb dX1_work_14 rfl (lv_at hl 0 rfl) ?_
  refine yg_26 hC hP dX1_work_15 ?_
  refine lv_iconst (v := (nI 4)) hx hb dX1_work_18 (by decide) ?_
  refine lv_iconst (v := (nI 0)) hx hb dX1_work_19 (by decide) ?_
  refine ys_6 hC hP hD hS (by omega) dX1_work_20 (fun H locs hP hD hS => ?_)
  have hP : va_P D tr_Cl (tr_YW dZ dN q K (va_up (va_up (va_up pr 2 0) 3 0) 4 0)) H := hP
  have hD : va_D A (tr_YW dZ dN q K (va_up (va_up (va_up pr 2 0) 3 0) 4 0)) := hD
  refine lv_iconst (v := (nI 1)) hx hb dX1_work_21 (by decide) ?_
  refine lv_istore_n (lv' := [(1, .int (nI 1)), (0, .ref (q 0))]) hx hb dX1_work_22 rfl hl (by decide) rfl (fun ls hl => ?_)
  refine lv_iconst (v := (nI 0)) hx hb dX1_work_23 (by decide) ?_
  refine lv_istore_n (lv' := [(2, .int (nI 0)), (1, .int (nI 1)), (0, .ref (q 0))]) hx hb dX1_work_24 rfl hl (by decide) rfl (fun ls hl => ?_)
  have loop : ∀ (n : Nat) (i mo : Nat) (pr1 : Nat → Nat) (H : Heap) (locs : List Loc) (ls : Array Slot), i ≤ 76 → 76 + 1 ≤ i + n → tr_yo K i pr1 mo → va_P D tr_Cl (tr_YW dZ dN q K pr1) H → va_D A (tr_YW dZ dN q K pr1) → va_S A s.heap H locs → lv_has ls 4 [(0, .ref (q 0)), (1, .int (nI mo)), (2, .int (nI i))] → W p l e rmX1_work s m args below meth c H locs 0 0 Q (F0 m 25 ls []) := by
    intro n
    induction n with
    | zero =>
      intro i mo pr1 H locs ls h1 h2
      exact absurd h2 (by omega)
    | succ n ihloop =>
      intro i mo pr1 H locs ls hiloop hnloop hI1 hP hD hS hl
      have lm1 := hI1.2.1
      refine lv_iload_n hx hb dX1_work_25 rfl (lv_at hl 2 rfl) ?_
      refine lv_bipush (v := (nI 76)) hx hb dX1_work_26 (by decide) ?_
      refine ni_ge (tgt := 84) hx hb (by omega) (by omega) dX1_work_28 (by decide) (fun c1 => ?_) (fun c1 => ?_)
      · exact hret _ _ pr1 _ _ dX1_work_84 (tr_yo_end hI1 (Or.inl c1)) hP hD hS
      · refine lv_iload_n hx hb dX1_work_31 rfl (lv_at hl 1 rfl) ?_
        refine nz_eq (tgt := 84) hx hb (by omega) dX1_work_32 (by decide) (fun c2 => ?_) (fun c2 => ?_)
        · exact hret _ _ pr1 _ _ dX1_work_84 (tr_yo_end hI1 (Or.inr c2)) hP hD hS
        · have hr1 : i ≤ tr_muY pr1 := by rcases hI1.2.2 with z | z <;> omega
          have ys1 := hI1.1
          refine lv_iconst (v := (nI 0)) hx hb dX1_work_35 (by decide) ?_
          refine lv_istore_n (lv' := [(1, .int (nI 0)), (0, .ref (q 0)), (2, .int (nI i))]) hx hb dX1_work_36 rfl hl (by decide) rfl (fun ls hl => ?_)
          refine lv_iconst (v := (nI 0)) hx hb dX1_work_37 (by decide) ?_
          refine lv_istore_n (lv' := [(3, .int (nI 0)), (1, .int (nI 0)), (0, .ref (q 0)), (2, .int (nI i))]) hx hb dX1_work_38 rfl hl (by decide) rfl (fun ls hl => ?_)
          have inner : ∀ (n : Nat) (j mo2 : Nat) (pr2 : Nat → Nat) (H : Heap) (locs : List Loc) (ls : Array Slot), j ≤ 8 → 8 + 1 ≤ j + n → tr_yk K pr1 j pr2 mo2 → va_P D tr_Cl (tr_YW dZ dN q K pr2) H → va_D A (tr_YW dZ dN q K pr2) → va_S A s.heap H locs → lv_has ls 4 [(0, .ref (q 0)), (1, .int (nI mo2)), (2, .int (nI i)), (3, .int (nI j))] → W p l e rmX1_work s m args below meth c H locs 0 0 Q (F0 m 39 ls []) := by
            intro n
            induction n with
            | zero =>
              intro j mo2 pr2 H locs ls h1 h2
              exact absurd h2 (by omega)
            | succ n ihinner =>
              intro j mo2 pr2 H locs ls hiinner hninner hI1 hP hD hS hl
              have lm2 := hI1.2.1
              have lpr := hI1.1.1.1
              refine lv_iload_n hx hb dX1_work_39 rfl (lv_at hl 3 rfl) ?_
              refine lv_bipush (v := (nI 8)) hx hb dX1_work_40 (by decide) ?_
              refine ni_ge (tgt := 78) hx hb (by omega) (by omega) dX1_work_42 (by decide) (fun c3 => ?_) (fun c3 => ?_)
              · have e8 : j = 8 := by omega
                rw [e8] at hI1
                refine lv_iinc (v := (nI (i + 1))) (lv' := [(2, .int (nI (i + 1))), (0, .ref (q 0)), (1, .int (nI mo2)), (3, .int (nI j))]) hx hb dX1_work_78 hl (k := 2) rfl (nI_1 _) (by decide) rfl (fun ls hl => ?_)
                refine lv_goto (tgt := 25) hx hb dX1_work_81 (by decide) ?_
                exact ihloop (i + 1) mo2 pr2 _ _ _ (by omega) (by omega) (tr_yo_next hr1 hI1) hP hD hS (lv_sub hl [1, 2, 0] rfl)
              · refine lv_aload_n hx hb dX1_work_45 rfl (lv_at hl 0 rfl) ?_
                refine yg_7 hC hP dX1_work_46 ?_
                refine lv_iload_n hx hb dX1_work_49 rfl (lv_at hl 3 rfl) ?_
                refine yl_1 hC hP (by omega) dX1_work_50 ?_
                refine nb_eq (tgt := 62) hx hb dX1_work_51 (by decide) (fun c4 => ?_) (fun c4 => ?_)
                · refine lv_iload_n hx hb dX1_work_62 rfl (lv_at hl 1 rfl) ?_
                  refine nz_eq (tgt := 70) hx hb (by omega) dX1_work_63 (by decide) (fun c6 => ?_) (fun c6 => ?_)
                  · refine lv_iconst (v := (nI 0)) hx hb dX1_work_70 (by decide) ?_
                    refine lv_istore_n (lv' := [(1, .int (nI 0)), (0, .ref (q 0)), (2, .int (nI i)), (3, .int (nI j))]) hx hb dX1_work_71 rfl hl (by decide) rfl (fun ls hl => ?_)
                    refine lv_iinc (v := (nI (j + 1))) (lv' := [(3, .int (nI (j + 1))), (1, .int (nI 0)), (0, .ref (q 0)), (2, .int (nI i))]) hx hb dX1_work_72 hl (k := 3) rfl (nI_1 _) (by decide) rfl (fun ls hl => ?_)
                    refine lv_goto (tgt := 39) hx hb dX1_work_75 (by decide) ?_
                    exact ihinner (j + 1) 0 pr2 _ _ _ (by omega) (by omega) (by rw [← c6]; exact tr_yk_skip hI1 c4) hP hD hS (lv_sub hl [2, 1, 3, 0] rfl)
                  · refine lv_iconst (v := (nI 1)) hx hb dX1_work_66 (by decide) ?_
                    refine lv_goto (tgt := 71) hx hb dX1_work_67 (by decide) ?_
                    refine lv_istore_n (lv' := [(1, .int (nI 1)), (0, .ref (q 0)), (2, .int (nI i)), (3, .int (nI j))]) hx hb dX1_work_71 rfl hl (by decide) rfl (fun ls hl => ?_)
                    refine lv_iinc (v := (nI (j + 1))) (lv' := [(3, .int (nI (j + 1))), (1, .int (nI 1)), (0, .ref (q 0)), (2, .int (nI i))]) hx hb dX1_work_72 hl (k := 3) rfl (nI_1 _) (by decide) rfl (fun ls hl => ?_)
                    refine lv_goto (tgt := 39) hx hb dX1_work_75 (by decide) ?_
                    exact ihinner (j + 1) 1 pr2 _ _ _ (by omega) (by omega) (by have z := tr_yk_skip hI1 c4; rw [show mo2 = 1 by omega] at z; exact z) hP hD hS (lv_sub hl [2, 1, 3, 0] rfl)
                · refine lv_aload_n hx hb dX1_work_54 rfl (lv_at hl 0 rfl) ?_
                  refine lv_iload_n hx hb dX1_work_55 rfl (lv_at hl 3 rfl) ?_
                  refine yc_i (n := 1) hC (ty_use l D dZ dN q K pr2 j ok lpr c3) (lw_V q223 q225 qs14 q20 q226) (by decide +kernel) rfl (by decide) hP hD hS hl.1 [] rfl (Nat.le_of_ble_eq_true rfl) dX1_work_56 (fun r u H locs hp hP hD hS => ?_)
                  subst hp
                  have hP : va_P D tr_Cl (tr_YW dZ dN q K (va_up pr2 (kH K j) (tr_mdn K pr2 j 25))) H := hP
                  have hD : va_D A (tr_YW dZ dN q K (va_up pr2 (kH K j) (tr_mdn K pr2 j 25))) := hD
                  refine nb_ne (tgt := 66) hx hb dX1_work_59 (by decide) (fun c5 => ?_) (fun c5 => ?_)
                  · refine lv_iconst (v := (nI 1)) hx hb dX1_work_66 (by decide) ?_
                    refine lv_goto (tgt := 71) hx hb dX1_work_67 (by decide) ?_
                    refine lv_istore_n (lv' := [(1, .int (nI 1)), (0, .ref (q 0)), (2, .int (nI i)), (3, .int (nI j))]) hx hb dX1_work_71 rfl hl (by decide) rfl (fun ls hl => ?_)
                    refine lv_iinc (v := (nI (j + 1))) (lv' := [(3, .int (nI (j + 1))), (1, .int (nI 1)), (0, .ref (q 0)), (2, .int (nI i))]) hx hb dX1_work_72 hl (k := 3) rfl (nI_1 _) (by decide) rfl (fun ls hl => ?_)
                    refine lv_goto (tgt := 39) hx hb dX1_work_75 (by decide) ?_
                    exact ihinner (j + 1) 1 (va_up pr2 (kH K j) (tr_mdn K pr2 j 25)) _ _ _ (by omega) (by omega) (tr_yk_new ok c3 c4 hI1 (of_decide_eq_true c5)) hP hD hS (lv_sub hl [2, 1, 3, 0] rfl)
                  · have hsm : tr_mdn K pr2 j 25 = pr2 (kH K j) := Classical.byContradiction (of_decide_eq_false c5)
                    refine lv_iload_n hx hb dX1_work_62 rfl (lv_at hl 1 rfl) ?_
                    refine nz_eq (tgt := 70) hx hb (by omega) dX1_work_63 (by decide) (fun c6 => ?_) (fun c6 => ?_)
                    · refine lv_iconst (v := (nI 0)) hx hb dX1_work_70 (by decide) ?_
                      refine lv_istore_n (lv' := [(1, .int (nI 0)), (0, .ref (q 0)), (2, .int (nI i)), (3, .int (nI j))]) hx hb dX1_work_71 rfl hl (by decide) rfl (fun ls hl => ?_)
                      refine lv_iinc (v := (nI (j + 1))) (lv' := [(3, .int (nI (j + 1))), (1, .int (nI 0)), (0, .ref (q 0)), (2, .int (nI i))]) hx hb dX1_work_72 hl (k := 3) rfl (nI_1 _) (by decide) rfl (fun ls hl => ?_)
                      refine lv_goto (tgt := 39) hx hb dX1_work_75 (by decide) ?_
                      exact ihinner (j + 1) 0 (va_up pr2 (kH K j) (tr_mdn K pr2 j 25)) _ _ _ (by omega) (by omega) (by rw [← c6]; exact tr_yk_same c4 hI1 hsm) hP hD hS (lv_sub hl [2, 1, 3, 0] rfl)
                    · refine lv_iconst (v := (nI 1)) hx hb dX1_work_66 (by decide) ?_
                      refine lv_goto (tgt := 71) hx hb dX1_work_67 (by decide) ?_
                      refine lv_istore_n (lv' := [(1, .int (nI 1)), (0, .ref (q 0)), (2, .int (nI i)), (3, .int (nI j))]) hx hb dX1_work_71 rfl hl (by decide) rfl (fun ls hl => ?_)
                      refine lv_iinc (v := (nI (j + 1))) (lv' := [(3, .int (nI (j + 1))), (1, .int (nI 1)), (0, .ref (q 0)), (2, .int (nI i))]) hx hb dX1_work_72 hl (k := 3) rfl (nI_1 _) (by decide) rfl (fun ls hl => ?_)
                      refine lv_goto (tgt := 39) hx hb dX1_work_75 (by decide) ?_
                      exact ihinner (j + 1) 1 (va_up pr2 (kH K j) (tr_mdn K pr2 j 25)) _ _ _ (by omega) (by omega) (by have z := tr_yk_same c4 hI1 hsm; rw [show mo2 = 1 by omega] at z; exact z) hP hD hS (lv_sub hl [2, 1, 3, 0] rfl)
          exact inner 9 0 0 pr1 _ _ _ (by omega) (by omega) (tr_yk_0 ys1) hP hD hS (lv_sub hl [2, 1, 3, 0] rfl)
  exact loop 77 0 1 _ _ _ _ (by omega) (by omega) (⟨tr_ys_0 ok yi, by omega, Or.inl ⟨rfl, Nat.zero_le _⟩⟩) hP hD hS (lv_sub hl [2, 1, 0] rfl)
end
section
/-! TabledRulesModel, second: printed by gen/y2.py -/
theorem tr_r2_0 {x : Int32} (h : x = 0) : tr_r2 x = true := by rw [h, ← nI_0]; exact tr_r2_nI (by omega)
theorem tr_r2_1 {x : Int32} (h : x = nI 1) : tr_r2 x = true := by rw [h]; exact tr_r2_nI (by omega)
theorem tr_fx_yi {K : tr_C} {pr : Nat → Nat} (h : tr_fx K pr) : tr_yi K pr := h.1
/-- transitive's loop -/
def tr_ti (K : tr_C) (rp : Int32) (i f : Nat) : Prop := f < 2 ∧ ((f = 1 ∧ tr_rg rp = true ∧ ∀ c, c < i → tr_tc K (tr_c rp) c) ∨ (f = 0 ∧ tr_tB K rp = false))
theorem tr_ti_0 (K : tr_C) (rp : Int32) : tr_ti K rp 0 (tr_rg rp).toNat := by
  cases e : tr_rg rp
  · exact ⟨by decide, Or.inr ⟨rfl, tr_tB_f e⟩⟩
  · exact ⟨by decide, Or.inl ⟨rfl, e, fun c hc => absurd hc (by omega)⟩⟩
theorem tr_ti_rg {K : tr_C} {rp : Int32} {i f : Nat} (w : tr_ti K rp i f) (h : f ≠ 0) : tr_rg rp = true := by
  rcases w.2 with ⟨_, z, _⟩ | ⟨z, _⟩
  · exact z
  · exact absurd z h
theorem tr_ti_end {K : tr_C} {rp : Int32} {i f : Nat} (w : tr_ti K rp i f) (h : 125 ≤ i ∨ f = 0) : f = (tr_tB K rp).toNat := by
  rcases w.2 with ⟨e1, e2, e3⟩ | ⟨e1, e2⟩
  · rw [tr_tB, e2, tr_b_t (tr_tc_all (fun c hc => e3 c (by omega)))]
    exact e1
  · rw [e2]
    exact e1
theorem tr_ti_ok {K : tr_C} {p i f : Nat} (hp : p < 5) (w : tr_ti K (nI p) i f) (h : f ≠ 0) (ht : tr_tc K p i) : tr_ti K (nI p) (i + 1) 1 := by
  rcases w.2 with ⟨e1, e2, e3⟩ | ⟨e1, e2⟩
  · refine ⟨by omega, Or.inl ⟨rfl, e2, fun c hc => ?_⟩⟩
    rcases Nat.lt_or_ge c i with q | q
    · exact e3 c q
    · rw [tr_c_nI hp, show c = i by omega]
      exact ht
  · exact absurd e1 h
theorem tr_ti_bad {K : tr_C} {p i : Nat} (hp : p < 5) (hi : i < 125) (ht : ¬ tr_tc K p i) : tr_ti K (nI p) (i + 1) 0 := ⟨by omega, Or.inr ⟨rfl, by rw [tr_tB_n hp, tr_b_f (fun z => ht (tr_tc_one z hi))]⟩⟩
theorem tr_fx_L {K : tr_C} {pr : Nat → Nat} {p x y : Nat} (w : tr_fx K pr) (hp : p < 5) (hx : x < 5) (hy : y < 5) (h : (pr p).testBit (5 * x + y) = true) : tr_L K p x y := tr_b_iff.mp (by rw [← w.2 p x y hp hx hy]; exact h)
theorem tr_fx_nL {K : tr_C} {pr : Nat → Nat} {p x y : Nat} (w : tr_fx K pr) (hp : p < 5) (hx : x < 5) (hy : y < 5) (h : (pr p).testBit (5 * x + y) = false) : ¬ tr_L K p x y := fun z => by rw [w.2 p x y hp hx hy, tr_b_t z] at h; cases h
abbrev rmX1_give : Room := { frames := 1, cells := 0, slots := 0, locals := 21 }
set_option maxHeartbeats 4000000 in
set_option maxRecDepth 100000 in
/-- give -/
theorem ty_give (l : Launch) (D : va_G) (dZ dN : ClassId) (q : Nat → Nat) (K : tr_C) (pr : Nat → Nat) (rg rx ry : Int32) (b : Bool) (ok : tr_ok K) (yi : tr_yi K pr) : tr_Mi l D (tr_YT dZ dN) yX1_give (ws_ yX1_give cX1_give 6 (some .boolean)) rmX1_give [.ref (q 0), .int rg, .int rx, .int ry, .int (nI b.toNat)] (tr_YW dZ dN q K pr) (fun (r : Int32) (u : Nat → Nat) => r = nI (tr_gc rg rx ry).toNat ∧ tr_yi (tr_gK K rg rx ry b) u) (fun (u : Nat → Nat) => tr_YW dZ dN q (tr_gK K rg rx ry b) u) := by
  refine tr_Mi.of (by decide) (Nat.le_of_ble_eq_true rfl) ?_
  intro p e s m args below meth c A Q ls hC hret hP hD hS hl
  have hC0 := hC
  obtain ⟨hx, hb, hlk, hml, hown, hts, hA, hK⟩ := hC0
  have hl : lv_has ls 6 [(0, .ref (q 0)), (1, .int rg), (2, .int rx), (3, .int ry), (4, .int (nI b.toNat))] := hl
  refine lv_iload_n hx hb dX1_give_0 rfl (lv_at hl 1 rfl) ?_
  refine lv_if_eq (tgt := 9) hx hb dX1_give_1 (by decide) (fun c1 => ?_) (fun c1 => ?_)
  · have hr2 := tr_r2_0 c1
    refine lv_aload_n hx hb dX1_give_9 rfl (lv_at hl 0 rfl) ?_
    refine lv_iload_n hx hb dX1_give_10 rfl (lv_at hl 2 rfl) ?_
    refine yc_i (n := 1) hC (ty_five l D dZ dN q K pr rx) (lw_V q195 q197 qs11 q20 q198) (by decide +kernel) rfl (by decide) hP hD hS hl.1 [] rfl (Nat.le_of_ble_eq_true rfl) dX1_give_11 (fun r u H locs hp hP hD hS => ?_)
    subst hp
    have hP : va_P D tr_Cl (tr_YW dZ dN q K pr) H := hP
    have hD : va_D A (tr_YW dZ dN q K pr) := hD
    refine nb_eq (tgt := 25) hx hb dX1_give_14 (by decide) (fun c3 => ?_) (fun c3 => ?_)
    · refine lv_iconst (v := (nI 0)) hx hb dX1_give_25 (by decide) ?_
      have hcf : tr_gc rg rx ry = false := by rw [tr_gc, c3]; simp
      exact hret _ _ _ pr _ _ dX1_give_26 (tr_nzv (by omega)) (⟨by rw [hcf]; rfl, by rw [tr_gK_f hcf]; exact yi⟩) (by rw [tr_gK_f hcf]; exact hP) (by rw [tr_gK_f hcf]; exact hD) hS
    · refine lv_aload_n hx hb dX1_give_17 rfl (lv_at hl 0 rfl) ?_
      refine lv_iload_n hx hb dX1_give_18 rfl (lv_at hl 3 rfl) ?_
      refine yc_i (n := 1) hC (ty_five l D dZ dN q K pr ry) (lw_V q195 q197 qs11 q20 q198) (by decide +kernel) rfl (by decide) hP hD hS hl.1 [] rfl (Nat.le_of_ble_eq_true rfl) dX1_give_19 (fun r u H locs hp hP hD hS => ?_)
      subst hp
      have hP : va_P D tr_Cl (tr_YW dZ dN q K pr) H := hP
      have hD : va_D A (tr_YW dZ dN q K pr) := hD
      refine nb_ne (tgt := 27) hx hb dX1_give_22 (by decide) (fun c4 => ?_) (fun c4 => ?_)
      · obtain ⟨g, lg, rfl⟩ := tr_r2_n hr2
        obtain ⟨x1, lx, rfl⟩ := tr_rg_n c3
        obtain ⟨y1, ly, rfl⟩ := tr_rg_n c4
        have hb0 := yi.1 g
        refine lv_iconst (v := (nI 1)) hx hb dX1_give_27 (by decide) ?_
        refine lv_iconst (v := (nI 5)) hx hb dX1_give_28 (by decide) ?_
        refine lv_iload_n hx hb dX1_give_29 rfl (lv_at hl 2 rfl) ?_
        refine lv_imul hx hb dX1_give_30 ?_
        refine tr_top (v := (nI (5 * x1))) (pk_mul _ _) ?_
        refine lv_iload_n hx hb dX1_give_31 rfl (lv_at hl 3 rfl) ?_
        refine lv_iadd hx hb dX1_give_32 ?_
        refine tr_top (v := (nI ((5 * x1) + y1))) (nI_add _ _) ?_
        refine lv_ishl hx hb dX1_give_33 ?_
        refine tr_top (v := (nI (2 ^ ((5 * x1) + y1)))) (tr_shlI (by omega)) ?_
        refine lv_istore (lv' := [(5, .int (nI (2 ^ ((5 * x1) + y1)))), (0, .ref (q 0)), (1, .int (nI g)), (2, .int (nI x1)), (3, .int (nI y1)), (4, .int (nI b.toNat))]) hx hb dX1_give_34 hl (by decide) rfl (fun ls hl => ?_)
        refine lv_aload_n hx hb dX1_give_36 rfl (lv_at hl 1 rfl) ?_
        refine yg_26 hC hP dX1_give_37 ?_
        refine lv_iload_n hx hb dX1_give_40 rfl (lv_at hl 2 rfl) ?_
        refine lv_iload hx hb dX1_give_41 (lv_at hl 5 rfl) ?_
        refine nb_eq (tgt := 58) hx hb dX1_give_43 (by decide) (fun c5 => ?_) (fun c5 => ?_)
        · subst c5
          refine lv_aload_n hx hb dX1_give_58 rfl (lv_at hl 1 rfl) ?_
          refine yg_26 hC hP dX1_give_59 ?_
          refine lv_iload_n hx hb dX1_give_62 rfl (lv_at hl 2 rfl) ?_
          refine yl_6 hC hP (by omega) dX1_give_63 ?_
          refine lv_iload hx hb dX1_give_64 (lv_at hl 0 rfl) ?_
          refine lv_iconst (v := (-1)) hx hb dX1_give_66 (by decide) ?_
          refine lv_ixor hx hb dX1_give_67 ?_
          refine lv_iand hx hb dX1_give_68 ?_
          refine tr_top (v := (nI (tr_setb 25 (pr g) (5 * x1 + y1) false))) (tr_clrI (n := 25) (by omega) hb0 (by omega)) ?_
          refine ys_6 hC hP hD hS (by omega) dX1_give_69 (fun H locs hP hD hS => ?_)
          have hP : va_P D tr_Cl (tr_YW dZ dN q K (va_up pr g (tr_setb 25 (pr g) (5 * x1 + y1) false))) H := hP
          have hD : va_D A (tr_YW dZ dN q K (va_up pr g (tr_setb 25 (pr g) (5 * x1 + y1) false))) := hD
          refine lv_iconst (v := (nI 1)) hx hb dX1_give_70 (by decide) ?_
          exact hret _ _ _ (va_up pr g (tr_setb 25 (pr g) (5 * x1 + y1) false)) _ _ dX1_give_71 (tr_nzv (by omega)) (⟨by rw [tr_gc_n lg lx ly]; rfl, by rw [tr_gK_n lg lx ly]; exact tr_yi_gv ok yi lg lx ly⟩) (by rw [tr_gK_n lg lx ly]; exact hP) (by rw [tr_gK_n lg lx ly]; exact hD) hS
        · subst c5
          refine lv_aload_n hx hb dX1_give_46 rfl (lv_at hl 1 rfl) ?_
          refine yg_26 hC hP dX1_give_47 ?_
          refine lv_iload_n hx hb dX1_give_50 rfl (lv_at hl 2 rfl) ?_
          refine yl_6 hC hP (by omega) dX1_give_51 ?_
          refine lv_iload hx hb dX1_give_52 (lv_at hl 0 rfl) ?_
          refine lv_ior hx hb dX1_give_54 ?_
          refine tr_top (v := (nI ((pr g) ||| (2 ^ ((5 * x1) + y1))))) (nx_or _ _) ?_
          refine tr_top (v := (nI (tr_setb 25 (pr g) (5 * x1 + y1) true))) (by rw [tr_setb_or (n := 25) hb0 (by omega)]) ?_
          refine lv_goto (tgt := 69) hx hb dX1_give_55 (by decide) ?_
          refine ys_6 hC hP hD hS (by omega) dX1_give_69 (fun H locs hP hD hS => ?_)
          have hP : va_P D tr_Cl (tr_YW dZ dN q K (va_up pr g (tr_setb 25 (pr g) (5 * x1 + y1) true))) H := hP
          have hD : va_D A (tr_YW dZ dN q K (va_up pr g (tr_setb 25 (pr g) (5 * x1 + y1) true))) := hD
          refine lv_iconst (v := (nI 1)) hx hb dX1_give_70 (by decide) ?_
          exact hret _ _ _ (va_up pr g (tr_setb 25 (pr g) (5 * x1 + y1) true)) _ _ dX1_give_71 (tr_nzv (by omega)) (⟨by rw [tr_gc_n lg lx ly]; rfl, by rw [tr_gK_n lg lx ly]; exact tr_yi_gv ok yi lg lx ly⟩) (by rw [tr_gK_n lg lx ly]; exact hP) (by rw [tr_gK_n lg lx ly]; exact hD) hS
      · refine lv_iconst (v := (nI 0)) hx hb dX1_give_25 (by decide) ?_
        have hcf : tr_gc rg rx ry = false := by rw [tr_gc, c4]; simp
        exact hret _ _ _ pr _ _ dX1_give_26 (tr_nzv (by omega)) (⟨by rw [hcf]; rfl, by rw [tr_gK_f hcf]; exact yi⟩) (by rw [tr_gK_f hcf]; exact hP) (by rw [tr_gK_f hcf]; exact hD) hS
  · refine lv_iload_n hx hb dX1_give_4 rfl (lv_at hl 1 rfl) ?_
    refine lv_iconst (v := (nI 1)) hx hb dX1_give_5 (by decide) ?_
    refine lv_icmp_ne (tgt := 25) hx hb dX1_give_6 (by decide) (fun c2 => ?_) (fun c2 => ?_)
    · refine lv_iconst (v := (nI 0)) hx hb dX1_give_25 (by decide) ?_
      have hcf : tr_gc rg rx ry = false := by rw [tr_gc, tr_r2_ne c1 c2]; simp
      exact hret _ _ _ pr _ _ dX1_give_26 (tr_nzv (by omega)) (⟨by rw [hcf]; rfl, by rw [tr_gK_f hcf]; exact yi⟩) (by rw [tr_gK_f hcf]; exact hP) (by rw [tr_gK_f hcf]; exact hD) hS
    · have hr2 := tr_r2_1 c2
      refine lv_aload_n hx hb dX1_give_9 rfl (lv_at hl 0 rfl) ?_
      refine lv_iload_n hx hb dX1_give_10 rfl (lv_at hl 2 rfl) ?_
      refine yc_i (n := 1) hC (ty_five l D dZ dN q K pr rx) (lw_V q195 q197 qs11 q20 q198) (by decide +kernel) rfl (by decide) hP hD hS hl.1 [] rfl (Nat.le_of_ble_eq_true rfl) dX1_give_11 (fun r u H locs hp hP hD hS => ?_)
      subst hp
      have hP : va_P D tr_Cl (tr_YW dZ dN q K pr) H := hP
      have hD : va_D A (tr_YW dZ dN q K pr) := hD
      refine nb_eq (tgt := 25) hx hb dX1_give_14 (by decide) (fun c3 => ?_) (fun c3 => ?_)
      · refine lv_iconst (v := (nI 0)) hx hb dX1_give_25 (by decide) ?_
        have hcf : tr_gc rg rx ry = false := by rw [tr_gc, c3]; simp
        exact hret _ _ _ pr _ _ dX1_give_26 (tr_nzv (by omega)) (⟨by rw [hcf]; rfl, by rw [tr_gK_f hcf]; exact yi⟩) (by rw [tr_gK_f hcf]; exact hP) (by rw [tr_gK_f hcf]; exact hD) hS
      · refine lv_aload_n hx hb dX1_give_17 rfl (lv_at hl 0 rfl) ?_
        refine lv_iload_n hx hb dX1_give_18 rfl (lv_at hl 3 rfl) ?_
        refine yc_i (n := 1) hC (ty_five l D dZ dN q K pr ry) (lw_V q195 q197 qs11 q20 q198) (by decide +kernel) rfl (by decide) hP hD hS hl.1 [] rfl (Nat.le_of_ble_eq_true rfl) dX1_give_19 (fun r u H locs hp hP hD hS => ?_)
        subst hp
        have hP : va_P D tr_Cl (tr_YW dZ dN q K pr) H := hP
        have hD : va_D A (tr_YW dZ dN q K pr) := hD
        refine nb_ne (tgt := 27) hx hb dX1_give_22 (by decide) (fun c4 => ?_) (fun c4 => ?_)
        · obtain ⟨g, lg, rfl⟩ := tr_r2_n hr2
          obtain ⟨x1, lx, rfl⟩ := tr_rg_n c3
          obtain ⟨y1, ly, rfl⟩ := tr_rg_n c4
          have hb0 := yi.1 g
          refine lv_iconst (v := (nI 1)) hx hb dX1_give_27 (by decide) ?_
          refine lv_iconst (v := (nI 5)) hx hb dX1_give_28 (by decide) ?_
          refine lv_iload_n hx hb dX1_give_29 rfl (lv_at hl 2 rfl) ?_
          refine lv_imul hx hb dX1_give_30 ?_
          refine tr_top (v := (nI (5 * x1))) (pk_mul _ _) ?_
          refine lv_iload_n hx hb dX1_give_31 rfl (lv_at hl 3 rfl) ?_
          refine lv_iadd hx hb dX1_give_32 ?_
          refine tr_top (v := (nI ((5 * x1) + y1))) (nI_add _ _) ?_
          refine lv_ishl hx hb dX1_give_33 ?_
          refine tr_top (v := (nI (2 ^ ((5 * x1) + y1)))) (tr_shlI (by omega)) ?_
          refine lv_istore (lv' := [(5, .int (nI (2 ^ ((5 * x1) + y1)))), (0, .ref (q 0)), (1, .int (nI g)), (2, .int (nI x1)), (3, .int (nI y1)), (4, .int (nI b.toNat))]) hx hb dX1_give_34 hl (by decide) rfl (fun ls hl => ?_)
          refine lv_aload_n hx hb dX1_give_36 rfl (lv_at hl 1 rfl) ?_
          refine yg_26 hC hP dX1_give_37 ?_
          refine lv_iload_n hx hb dX1_give_40 rfl (lv_at hl 2 rfl) ?_
          refine lv_iload hx hb dX1_give_41 (lv_at hl 5 rfl) ?_
          refine nb_eq (tgt := 58) hx hb dX1_give_43 (by decide) (fun c5 => ?_) (fun c5 => ?_)
          · subst c5
            refine lv_aload_n hx hb dX1_give_58 rfl (lv_at hl 1 rfl) ?_
            refine yg_26 hC hP dX1_give_59 ?_
            refine lv_iload_n hx hb dX1_give_62 rfl (lv_at hl 2 rfl) ?_
            refine yl_6 hC hP (by omega) dX1_give_63 ?_
            refine lv_iload hx hb dX1_give_64 (lv_at hl 0 rfl) ?_
            refine lv_iconst (v := (-1)) hx hb dX1_give_66 (by decide) ?_
            refine lv_ixor hx hb dX1_give_67 ?_
            refine lv_iand hx hb dX1_give_68 ?_
            refine tr_top (v := (nI (tr_setb 25 (pr g) (5 * x1 + y1) false))) (tr_clrI (n := 25) (by omega) hb0 (by omega)) ?_
            refine ys_6 hC hP hD hS (by omega) dX1_give_69 (fun H locs hP hD hS => ?_)
            have hP : va_P D tr_Cl (tr_YW dZ dN q K (va_up pr g (tr_setb 25 (pr g) (5 * x1 + y1) false))) H := hP
            have hD : va_D A (tr_YW dZ dN q K (va_up pr g (tr_setb 25 (pr g) (5 * x1 + y1) false))) := hD
            refine lv_iconst (v := (nI 1)) hx hb dX1_give_70 (by decide) ?_
            exact hret _ _ _ (va_up pr g (tr_setb 25 (pr g) (5 * x1 + y1) false)) _ _ dX1_give_71 (tr_nzv (by omega)) (⟨by rw [tr_gc_n lg lx ly]; rfl, by rw [tr_gK_n lg lx ly]; exact tr_yi_gv ok yi lg lx ly⟩) (by rw [tr_gK_n lg lx ly]; exact hP) (by rw [tr_gK_n lg lx ly]; exact hD) hS
          · subst c5
            refine lv_aload_n hx hb dX1_give_46 rfl (lv_at hl 1 rfl) ?_
            refine yg_26 hC hP dX1_give_47 ?_
            refine lv_iload_n hx hb dX1_give_50 rfl (lv_at hl 2 rfl) ?_
            refine yl_6 hC hP (by omega) dX1_give_51 ?_
            refine lv_iload hx hb dX1_give_52 (lv_at hl 0 rfl) ?_
            refine lv_ior hx hb dX1_give_54 ?_
            refine tr_top (v := (nI ((pr g) ||| (2 ^ ((5 * x1) + y1))))) (nx_or _ _) ?_
            refine tr_top (v := (nI (tr_setb 25 (pr g) (5 * x1 + y1) true))) (by rw [tr_setb_or (n := 25) hb0 (by omega)]) ?_
            refine lv_goto (tgt := 69) hx hb dX1_give_55 (by decide) ?_
            refine ys_6 hC hP hD hS (by omega) dX1_give_69 (fun H locs hP hD hS => ?_)
            have hP : va_P D tr_Cl (tr_YW dZ dN q K (va_up pr g (tr_setb 25 (pr g) (5 * x1 + y1) true))) H := hP
            have hD : va_D A (tr_YW dZ dN q K (va_up pr g (tr_setb 25 (pr g) (5 * x1 + y1) true))) := hD
            refine lv_iconst (v := (nI 1)) hx hb dX1_give_70 (by decide) ?_
            exact hret _ _ _ (va_up pr g (tr_setb 25 (pr g) (5 * x1 + y1) true)) _ _ dX1_give_71 (tr_nzv (by omega)) (⟨by rw [tr_gc_n lg lx ly]; rfl, by rw [tr_gK_n lg lx ly]; exact tr_yi_gv ok yi lg lx ly⟩) (by rw [tr_gK_n lg lx ly]; exact hP) (by rw [tr_gK_n lg lx ly]; exact hD) hS
        · refine lv_iconst (v := (nI 0)) hx hb dX1_give_25 (by decide) ?_
          have hcf : tr_gc rg rx ry = false := by rw [tr_gc, c4]; simp
          exact hret _ _ _ pr _ _ dX1_give_26 (tr_nzv (by omega)) (⟨by rw [hcf]; rfl, by rw [tr_gK_f hcf]; exact yi⟩) (by rw [tr_gK_f hcf]; exact hP) (by rw [tr_gK_f hcf]; exact hD) hS
abbrev rmX1_rule : Room := { frames := 1, cells := 0, slots := 0, locals := 21 }
set_option maxHeartbeats 4000000 in
set_option maxRecDepth 100000 in
/-- rule -/
theorem ty_rule (l : Launch) (D : va_G) (dZ dN : ClassId) (q : Nat → Nat) (K : tr_C) (pr : Nat → Nat) (rf rh rz : Int32) (ok : tr_ok K) (yi : tr_yi K pr) : tr_Mi l D (tr_YT dZ dN) yX1_rule (ws_ yX1_rule cX1_rule 5 (some .int)) rmX1_rule [.ref (q 0), .int rf, .int rh, .int rz] (tr_YW dZ dN q K pr) (fun (r : Int32) (u : Nat → Nat) => r = tr_rR K rf rh rz ∧ tr_yi (tr_rK K rf rh rz) u) (fun (u : Nat → Nat) => tr_YW dZ dN q (tr_rK K rf rh rz) u) := by
  refine tr_Mi.of (by decide) (Nat.le_of_ble_eq_true rfl) ?_
  intro p e s m args below meth c A Q ls hC hret hP hD hS hl
  have hC0 := hC
  obtain ⟨hx, hb, hlk, hml, hown, hts, hA, hK⟩ := hC0
  have hl : lv_has ls 5 [(0, .ref (q 0)), (1, .int rf), (2, .int rh), (3, .int rz)] := hl
  refine lv_iload_n hx hb dX1_rule_0 rfl (lv_at hl 1 rfl) ?_
  refine lv_if_lt (tgt := 40) hx hb dX1_rule_1 (by decide) (fun c1 => ?_) (fun c1 => ?_)
  · refine lv_iconst (v := (-1)) hx hb dX1_rule_40 (by decide) ?_
    have hcf : tr_rc rf rh rz = false := by rw [tr_rc, show tr_rf rf = false from decide_eq_false (fun z => z.1 c1)]; simp
    exact hret _ _ _ pr _ _ dX1_rule_41 rfl (⟨(tr_rR_f hcf).1.symm, by rw [(tr_rR_f hcf).2]; exact yi⟩) (by rw [(tr_rR_f hcf).2]; exact hP) (by rw [(tr_rR_f hcf).2]; exact hD) hS
  · refine lv_iload_n hx hb dX1_rule_4 rfl (lv_at hl 1 rfl) ?_
    refine lv_iconst (v := (nI 4)) hx hb dX1_rule_5 (by decide) ?_
    refine lv_icmp_gt (tgt := 40) hx hb dX1_rule_6 (by decide) (fun c2 => ?_) (fun c2 => ?_)
    · refine lv_iconst (v := (-1)) hx hb dX1_rule_40 (by decide) ?_
      have hcf : tr_rc rf rh rz = false := by rw [tr_rc, show tr_rf rf = false from decide_eq_false (fun z => z.2 c2)]; simp
      exact hret _ _ _ pr _ _ dX1_rule_41 rfl (⟨(tr_rR_f hcf).1.symm, by rw [(tr_rR_f hcf).2]; exact yi⟩) (by rw [(tr_rR_f hcf).2]; exact hP) (by rw [(tr_rR_f hcf).2]; exact hD) hS
    · refine lv_iload_n hx hb dX1_rule_9 rfl (lv_at hl 2 rfl) ?_
      refine lv_iconst (v := (nI 2)) hx hb dX1_rule_10 (by decide) ?_
      refine lv_icmp_lt (tgt := 40) hx hb dX1_rule_11 (by decide) (fun c3 => ?_) (fun c3 => ?_)
      · refine lv_iconst (v := (-1)) hx hb dX1_rule_40 (by decide) ?_
        have hcf : tr_rc rf rh rz = false := by rw [tr_rc, show tr_rh rh = false from decide_eq_false (fun z => z.1 c3)]; simp
        exact hret _ _ _ pr _ _ dX1_rule_41 rfl (⟨(tr_rR_f hcf).1.symm, by rw [(tr_rR_f hcf).2]; exact yi⟩) (by rw [(tr_rR_f hcf).2]; exact hP) (by rw [(tr_rR_f hcf).2]; exact hD) hS
      · refine lv_iload_n hx hb dX1_rule_14 rfl (lv_at hl 2 rfl) ?_
        refine lv_iconst (v := (nI 4)) hx hb dX1_rule_15 (by decide) ?_
        refine lv_icmp_gt (tgt := 40) hx hb dX1_rule_16 (by decide) (fun c4 => ?_) (fun c4 => ?_)
        · refine lv_iconst (v := (-1)) hx hb dX1_rule_40 (by decide) ?_
          have hcf : tr_rc rf rh rz = false := by rw [tr_rc, show tr_rh rh = false from decide_eq_false (fun z => z.2 c4)]; simp
          exact hret _ _ _ pr _ _ dX1_rule_41 rfl (⟨(tr_rR_f hcf).1.symm, by rw [(tr_rR_f hcf).2]; exact yi⟩) (by rw [(tr_rR_f hcf).2]; exact hP) (by rw [(tr_rR_f hcf).2]; exact hD) hS
        · refine lv_aload_n hx hb dX1_rule_19 rfl (lv_at hl 0 rfl) ?_
          refine lv_iload_n hx hb dX1_rule_20 rfl (lv_at hl 3 rfl) ?_
          refine lv_bipush (v := (nI 7)) hx hb dX1_rule_21 (by decide) ?_
          refine lv_iand hx hb dX1_rule_23 ?_
          refine yc_i (n := 1) hC (ty_five l D dZ dN q K pr (rz &&& nI 7)) (lw_V q195 q197 qs11 q20 q198) (by decide +kernel) rfl (by decide) hP hD hS hl.1 [] rfl (Nat.le_of_ble_eq_true rfl) dX1_rule_24 (fun r u H locs hp hP hD hS => ?_)
          subst hp
          have hP : va_P D tr_Cl (tr_YW dZ dN q K pr) H := hP
          have hD : va_D A (tr_YW dZ dN q K pr) := hD
          refine nb_eq (tgt := 40) hx hb dX1_rule_27 (by decide) (fun c5 => ?_) (fun c5 => ?_)
          · refine lv_iconst (v := (-1)) hx hb dX1_rule_40 (by decide) ?_
            have hcf : tr_rc rf rh rz = false := by rw [tr_rc, c5]; simp
            exact hret _ _ _ pr _ _ dX1_rule_41 rfl (⟨(tr_rR_f hcf).1.symm, by rw [(tr_rR_f hcf).2]; exact yi⟩) (by rw [(tr_rR_f hcf).2]; exact hP) (by rw [(tr_rR_f hcf).2]; exact hD) hS
          · refine lv_aload_n hx hb dX1_rule_30 rfl (lv_at hl 0 rfl) ?_
            refine lv_iload_n hx hb dX1_rule_31 rfl (lv_at hl 3 rfl) ?_
            refine lv_iconst (v := (nI 3)) hx hb dX1_rule_32 (by decide) ?_
            refine lv_ishr hx hb dX1_rule_33 ?_
            refine yc_i (n := 1) hC (ty_five l D dZ dN q K pr (rz >>> (nI 3 &&& 31))) (lw_V q195 q197 qs11 q20 q198) (by decide +kernel) rfl (by decide) hP hD hS hl.1 [] rfl (Nat.le_of_ble_eq_true rfl) dX1_rule_34 (fun r u H locs hp hP hD hS => ?_)
            subst hp
            have hP : va_P D tr_Cl (tr_YW dZ dN q K pr) H := hP
            have hD : va_D A (tr_YW dZ dN q K pr) := hD
            refine nb_ne (tgt := 42) hx hb dX1_rule_37 (by decide) (fun c6 => ?_) (fun c6 => ?_)
            · have hcc : tr_rc rf rh rz = true := by rw [tr_rc, show tr_rf rf = true from decide_eq_true ⟨c1, c2⟩, show tr_rh rh = true from decide_eq_true ⟨c3, c4⟩, c5, c6]; rfl
              obtain ⟨n1, l1, e1⟩ := tr_rf_n (show tr_rf rf = true from decide_eq_true ⟨c1, c2⟩)
              obtain ⟨n2, g2, l2, e2⟩ := tr_rh_n (show tr_rh rh = true from decide_eq_true ⟨c3, c4⟩)
              obtain ⟨n3, l3, e3⟩ := tr_rg_n c5
              obtain ⟨n4, l4, e4⟩ := tr_rg_n c6
              have hp8 := ok.2.1
              have E : ∀ k, tr_ff (kP K) = k → k < 8 → tr_rR K rf rh rz = nI k ∧ tr_rK K rf rh rz = tr_wr K k n1 n2 n3 n4 := by
                intro k ek hk
                refine ⟨by rw [tr_rR, if_pos hcc, ek, if_pos hk], ?_⟩
                rw [tr_rK, if_pos ⟨hcc, by rw [ek]; exact hk⟩, ek, show tr_qa rz = nI n3 from e3, show tr_qb rz = nI n4 from e4, e1, e2, tr_c_nI l1, tr_c_nI l2, tr_c_nI l3, tr_c_nI l4]
              rw [e1, e2] at hl
              refine lv_iconst (v := (nI 0)) hx hb dX1_rule_42 (by decide) ?_
              refine lv_istore (lv' := [(4, .int (nI 0)), (0, .ref (q 0)), (1, .int (nI n1)), (2, .int (nI n2)), (3, .int rz)]) hx hb dX1_rule_43 hl (by decide) rfl (fun ls hl => ?_)
              have loop : ∀ (n : Nat) (i : Nat) (H : Heap) (locs : List Loc) (ls : Array Slot), i ≤ 8 → 8 + 1 ≤ i + n → (∀ j, j < i → (kP K).testBit j = true) → va_P D tr_Cl (tr_YW dZ dN q K pr) H → va_D A (tr_YW dZ dN q K pr) → va_S A s.heap H locs → lv_has ls 5 [(0, .ref (q 0)), (1, .int (nI n1)), (2, .int (nI n2)), (3, .int rz), (4, .int (nI i))] → W p l e rmX1_rule s m args below meth c H locs 0 0 Q (F0 m 45 ls []) := by
                intro n
                induction n with
                | zero =>
                  intro i H locs ls h1 h2
                  exact absurd h2 (by omega)
                | succ n ihloop =>
                  intro i H locs ls hiloop hnloop hI1 hP hD hS hl
                  refine lv_iload hx hb dX1_rule_45 (lv_at hl 4 rfl) ?_
                  refine lv_bipush (v := (nI 8)) hx hb dX1_rule_47 (by decide) ?_
                  refine ni_ge (tgt := 116) hx hb (by omega) (by omega) dX1_rule_49 (by decide) (fun c1 => ?_) (fun c1 => ?_)
                  · refine lv_bipush (v := (-2)) hx hb dX1_rule_116 (by decide) ?_
                    have hfl : tr_ff (kP K) = 8 := tr_ff_no (fun j hj => hI1 j (by omega))
                    have hk9 : tr_rK K rf rh rz = K := if_neg (fun z => by have := z.2; omega)
                    exact hret _ _ _ pr _ _ dX1_rule_118 rfl (⟨by rw [tr_rR, if_pos hcc, if_neg (by omega)], by rw [hk9]; exact yi⟩) (by rw [hk9]; exact hP) (by rw [hk9]; exact hD) hS
                  · refine lv_aload_n hx hb dX1_rule_52 rfl (lv_at hl 0 rfl) ?_
                    refine yg_7 hC hP dX1_rule_53 ?_
                    refine lv_iload hx hb dX1_rule_56 (lv_at hl 4 rfl) ?_
                    refine yl_1 hC hP (by omega) dX1_rule_58 ?_
                    refine nb_ne (tgt := 110) hx hb dX1_rule_59 (by decide) (fun c2 => ?_) (fun c2 => ?_)
                    · refine lv_iinc (v := (nI (i + 1))) (lv' := [(4, .int (nI (i + 1))), (0, .ref (q 0)), (1, .int (nI n1)), (2, .int (nI n2)), (3, .int rz)]) hx hb dX1_rule_110 hl (k := 4) rfl (nI_1 _) (by decide) rfl (fun ls hl => ?_)
                      refine lv_goto (tgt := 45) hx hb dX1_rule_113 (by decide) ?_
                      exact ihloop (i + 1) _ _ _ (by omega) (by omega) (fun j hj => (Nat.lt_or_ge j i).elim (fun z => hI1 j z) (fun z => by rw [show j = i by omega]; exact c2)) hP hD hS (lv_sub hl [1, 2, 3, 4, 0] rfl)
                    · obtain ⟨er, ek⟩ := E i (tr_ff_at c2 c1 hI1) c1
                      refine lv_aload_n hx hb dX1_rule_62 rfl (lv_at hl 0 rfl) ?_
                      refine yg_7 hC hP dX1_rule_63 ?_
                      refine lv_iload hx hb dX1_rule_66 (lv_at hl 4 rfl) ?_
                      refine lv_iconst (v := (nI 1)) hx hb dX1_rule_68 (by decide) ?_
                      refine tr_top (v := nI (true).toNat) rfl ?_
                      refine ys_1 hC hP hD hS (by omega) hp8 dX1_rule_69 (fun H locs hP hD hS => ?_)
                      have hP : va_P D tr_Cl (tr_YW dZ dN q (K.1, tr_setb 8 (kP K) i true, K.2.2) pr) H := hP
                      have hD : va_D A (tr_YW dZ dN q (K.1, tr_setb 8 (kP K) i true, K.2.2) pr) := hD
                      refine lv_aload_n hx hb dX1_rule_70 rfl (lv_at hl 0 rfl) ?_
                      refine yg_13 hC hP dX1_rule_71 ?_
                      refine lv_iload hx hb dX1_rule_74 (lv_at hl 4 rfl) ?_
                      refine lv_iload_n hx hb dX1_rule_76 rfl (lv_at hl 1 rfl) ?_
                      refine ys_2 hC hP hD hS (by omega) dX1_rule_77 (fun H locs hP hD hS => ?_)
                      have hP : va_P D tr_Cl (tr_YW dZ dN q (K.1, tr_setb 8 (kP K) i true, va_up (kF K) i n1, K.2.2.2) pr) H := hP
                      have hD : va_D A (tr_YW dZ dN q (K.1, tr_setb 8 (kP K) i true, va_up (kF K) i n1, K.2.2.2) pr) := hD
                      refine lv_aload_n hx hb dX1_rule_78 rfl (lv_at hl 0 rfl) ?_
                      refine yg_17 hC hP dX1_rule_79 ?_
                      refine lv_iload hx hb dX1_rule_82 (lv_at hl 4 rfl) ?_
                      refine lv_iload_n hx hb dX1_rule_84 rfl (lv_at hl 2 rfl) ?_
                      refine ys_3 hC hP hD hS (by omega) dX1_rule_85 (fun H locs hP hD hS => ?_)
                      have hP : va_P D tr_Cl (tr_YW dZ dN q (K.1, tr_setb 8 (kP K) i true, va_up (kF K) i n1, va_up (kH K) i n2, K.2.2.2.2) pr) H := hP
                      have hD : va_D A (tr_YW dZ dN q (K.1, tr_setb 8 (kP K) i true, va_up (kF K) i n1, va_up (kH K) i n2, K.2.2.2.2) pr) := hD
                      refine lv_aload_n hx hb dX1_rule_86 rfl (lv_at hl 0 rfl) ?_
                      refine yg_20 hC hP dX1_rule_87 ?_
                      refine lv_iload hx hb dX1_rule_90 (lv_at hl 4 rfl) ?_
                      refine lv_iload_n hx hb dX1_rule_92 rfl (lv_at hl 3 rfl) ?_
                      refine lv_bipush (v := (nI 7)) hx hb dX1_rule_93 (by decide) ?_
                      refine lv_iand hx hb dX1_rule_95 ?_
                      refine tr_top (v := (nI n3)) e3 ?_
                      refine ys_4 hC hP hD hS (by omega) dX1_rule_96 (fun H locs hP hD hS => ?_)
                      have hP : va_P D tr_Cl (tr_YW dZ dN q (K.1, tr_setb 8 (kP K) i true, va_up (kF K) i n1, va_up (kH K) i n2, va_up (kQ K) i n3, K.2.2.2.2.2) pr) H := hP
                      have hD : va_D A (tr_YW dZ dN q (K.1, tr_setb 8 (kP K) i true, va_up (kF K) i n1, va_up (kH K) i n2, va_up (kQ K) i n3, K.2.2.2.2.2) pr) := hD
                      refine lv_aload_n hx hb dX1_rule_97 rfl (lv_at hl 0 rfl) ?_
                      refine yg_23 hC hP dX1_rule_98 ?_
                      refine lv_iload hx hb dX1_rule_101 (lv_at hl 4 rfl) ?_
                      refine lv_iload_n hx hb dX1_rule_103 rfl (lv_at hl 3 rfl) ?_
                      refine lv_iconst (v := (nI 3)) hx hb dX1_rule_104 (by decide) ?_
                      refine lv_ishr hx hb dX1_rule_105 ?_
                      refine tr_top (v := (nI n4)) e4 ?_
                      refine ys_5 hC hP hD hS (by omega) dX1_rule_106 (fun H locs hP hD hS => ?_)
                      have hP : va_P D tr_Cl (tr_YW dZ dN q (tr_wr K i n1 n2 n3 n4) pr) H := hP
                      have hD : va_D A (tr_YW dZ dN q (tr_wr K i n1 n2 n3 n4) pr) := hD
                      refine lv_iload hx hb dX1_rule_107 (lv_at hl 4 rfl) ?_
                      exact hret _ _ _ pr _ _ dX1_rule_109 rfl (⟨er.symm, by rw [ek]; exact yi⟩) (by rw [ek]; exact hP) (by rw [ek]; exact hD) hS
              exact loop 9 0 _ _ _ (by omega) (by omega) (fun j hj => absurd hj (by omega)) hP hD hS (lv_sub hl [1, 2, 3, 4, 0] rfl)
            · refine lv_iconst (v := (-1)) hx hb dX1_rule_40 (by decide) ?_
              have hcf : tr_rc rf rh rz = false := by rw [tr_rc, c6]; simp
              exact hret _ _ _ pr _ _ dX1_rule_41 rfl (⟨(tr_rR_f hcf).1.symm, by rw [(tr_rR_f hcf).2]; exact yi⟩) (by rw [(tr_rR_f hcf).2]; exact hP) (by rw [(tr_rR_f hcf).2]; exact hD) hS
abbrev rmX1_drop : Room := { frames := 1, cells := 0, slots := 0, locals := 21 }
set_option maxHeartbeats 4000000 in
set_option maxRecDepth 100000 in
/-- drop -/
theorem ty_drop (l : Launch) (D : va_G) (dZ dN : ClassId) (q : Nat → Nat) (K : tr_C) (pr : Nat → Nat) (rk : Int32) (ok : tr_ok K) (yi : tr_yi K pr) : tr_Mi l D (tr_YT dZ dN) yX1_drop (ws_ yX1_drop cX1_drop 2 (some .boolean)) rmX1_drop [.ref (q 0), .int rk] (tr_YW dZ dN q K pr) (fun (r : Int32) (u : Nat → Nat) => r = nI (tr_hs K rk).toNat ∧ tr_yi (tr_dK K rk) u) (fun (u : Nat → Nat) => tr_YW dZ dN q (tr_dK K rk) u) := by
  refine tr_Mi.of (by decide) (Nat.le_of_ble_eq_true rfl) ?_
  intro p e s m args below meth c A Q ls hC hret hP hD hS hl
  have hC0 := hC
  obtain ⟨hx, hb, hlk, hml, hown, hts, hA, hK⟩ := hC0
  have hl : lv_has ls 2 [(0, .ref (q 0)), (1, .int rk)] := hl
  refine lv_aload_n hx hb dX1_drop_0 rfl (lv_at hl 0 rfl) ?_
  refine lv_iload_n hx hb dX1_drop_1 rfl (lv_at hl 1 rfl) ?_
  refine yc_i (n := 1) hC (ty_is l D dZ dN q K pr rk) (lw_V q207 q209 qs12 q20 q210) (by decide +kernel) rfl (by decide) hP hD hS hl.1 [] rfl (Nat.le_of_ble_eq_true rfl) dX1_drop_2 (fun r u H locs hp hP hD hS => ?_)
  subst hp
  have hP : va_P D tr_Cl (tr_YW dZ dN q K pr) H := hP
  have hD : va_D A (tr_YW dZ dN q K pr) := hD
  refine nb_ne (tgt := 10) hx hb dX1_drop_5 (by decide) (fun c1 => ?_) (fun c1 => ?_)
  · have hk9 : tr_dK K rk = tr_dp K (tr_c rk) := if_pos c1
    obtain ⟨k, lk, rfl, hb9⟩ := tr_hs_n c1
    rw [tr_c8 lk] at hk9
    have hp8 := ok.2.1
    refine lv_aload_n hx hb dX1_drop_10 rfl (lv_at hl 0 rfl) ?_
    refine yg_7 hC hP dX1_drop_11 ?_
    refine lv_iload_n hx hb dX1_drop_14 rfl (lv_at hl 1 rfl) ?_
    refine lv_iconst (v := (nI 0)) hx hb dX1_drop_15 (by decide) ?_
    refine tr_top (v := nI (false).toNat) rfl ?_
    refine ys_1 hC hP hD hS (by omega) hp8 dX1_drop_16 (fun H locs hP hD hS => ?_)
    have hP : va_P D tr_Cl (tr_YW dZ dN q (tr_dp K k) pr) H := hP
    have hD : va_D A (tr_YW dZ dN q (tr_dp K k) pr) := hD
    refine lv_iconst (v := (nI 1)) hx hb dX1_drop_17 (by decide) ?_
    exact hret _ _ _ pr _ _ dX1_drop_18 (tr_nzv (by omega)) (⟨by rw [c1]; rfl, by rw [hk9]; exact yi⟩) (by rw [hk9]; exact hP) (by rw [hk9]; exact hD) hS
  · refine lv_iconst (v := (nI 0)) hx hb dX1_drop_8 (by decide) ?_
    have hk9 : tr_dK K rk = K := if_neg (by rw [c1]; decide)
    exact hret _ _ _ pr _ _ dX1_drop_9 (tr_nzv (by omega)) (⟨by rw [c1]; rfl, by rw [hk9]; exact yi⟩) (by rw [hk9]; exact hP) (by rw [hk9]; exact hD) hS
abbrev rmX1_rules : Room := { frames := 0, cells := 0, slots := 0, locals := 0 }
set_option maxHeartbeats 4000000 in
set_option maxRecDepth 100000 in
/-- rules -/
theorem ty_rules (l : Launch) (D : va_G) (dZ dN : ClassId) (q : Nat → Nat) (K : tr_C) (pr : Nat → Nat)  (ok : tr_ok K) : tr_Mi l D (tr_YT dZ dN) yX1_rules (ws_ yX1_rules cX1_rules 3 (some .int)) rmX1_rules [.ref (q 0)] (tr_YW dZ dN q K pr) (fun (r : Int32) (u : Unit) => r = nI (kP K)) (fun (u : Unit) => tr_YW dZ dN q K pr) := by
  refine tr_Mi.of (by decide) (Nat.le_of_ble_eq_true rfl) ?_
  intro p e s m args below meth c A Q ls hC hret hP hD hS hl
  have hC0 := hC
  obtain ⟨hx, hb, hlk, hml, hown, hts, hA, hK⟩ := hC0
  have hl : lv_has ls 3 [(0, .ref (q 0))] := hl
  refine lv_iconst (v := (nI 0)) hx hb dX1_rules_0 (by decide) ?_
  refine lv_istore_n (lv' := [(1, .int (nI 0)), (0, .ref (q 0))]) hx hb dX1_rules_1 rfl hl (by decide) rfl (fun ls hl => ?_)
  refine lv_iconst (v := (nI 0)) hx hb dX1_rules_2 (by decide) ?_
  refine lv_istore_n (lv' := [(2, .int (nI 0)), (1, .int (nI 0)), (0, .ref (q 0))]) hx hb dX1_rules_3 rfl hl (by decide) rfl (fun ls hl => ?_)
  have loop : ∀ (n : Nat) (i : Nat) (H : Heap) (locs : List Loc) (ls : Array Slot), i ≤ 8 → 8 + 1 ≤ i + n → va_P D tr_Cl (tr_YW dZ dN q K pr) H → va_D A (tr_YW dZ dN q K pr) → va_S A s.heap H locs → lv_has ls 3 [(0, .ref (q 0)), (1, .int (nI (tr_num (fun k => (kP K).testBit k) i))), (2, .int (nI i))] → W p l e rmX1_rules s m args below meth c H locs 0 0 Q (F0 m 4 ls []) := by
    intro n
    induction n with
    | zero =>
      intro i H locs ls h1 h2
      exact absurd h2 (by omega)
    | succ n ihloop =>
      intro i H locs ls hiloop hnloop  hP hD hS hl
      refine lv_iload_n hx hb dX1_rules_4 rfl (lv_at hl 2 rfl) ?_
      refine lv_bipush (v := (nI 8)) hx hb dX1_rules_5 (by decide) ?_
      refine ni_ge (tgt := 35) hx hb (by omega) (by omega) dX1_rules_7 (by decide) (fun c1 => ?_) (fun c1 => ?_)
      · refine lv_iload_n hx hb dX1_rules_35 rfl (lv_at hl 1 rfl) ?_
        have e5 : i = 8 := by omega
        subst e5
        exact hret _ _ _ () _ _ dX1_rules_36 rfl (congrArg nI (tr_num_eq (n := 8) ok.2.1 (fun _ _ => rfl)).symm) hP hD hS
      · refine lv_aload_n hx hb dX1_rules_10 rfl (lv_at hl 0 rfl) ?_
        refine yg_7 hC hP dX1_rules_11 ?_
        refine lv_iload_n hx hb dX1_rules_14 rfl (lv_at hl 2 rfl) ?_
        refine yl_1 hC hP (by omega) dX1_rules_15 ?_
        refine nb_eq (tgt := 27) hx hb dX1_rules_16 (by decide) (fun c2 => ?_) (fun c2 => ?_)
        · refine lv_iload_n hx hb dX1_rules_27 rfl (lv_at hl 1 rfl) ?_
          refine tr_top (v := (nI (tr_num (fun k => (kP K).testBit k) (i + 1)))) (by rw [tr_num_or, c2]; simp) ?_
          refine lv_istore_n (lv' := [(1, .int (nI (tr_num (fun k => (kP K).testBit k) (i + 1)))), (0, .ref (q 0)), (2, .int (nI i))]) hx hb dX1_rules_28 rfl hl (by decide) rfl (fun ls hl => ?_)
          refine lv_iinc (v := (nI (i + 1))) (lv' := [(2, .int (nI (i + 1))), (1, .int (nI (tr_num (fun k => (kP K).testBit k) (i + 1)))), (0, .ref (q 0))]) hx hb dX1_rules_29 hl (k := 2) rfl (nI_1 _) (by decide) rfl (fun ls hl => ?_)
          refine lv_goto (tgt := 4) hx hb dX1_rules_32 (by decide) ?_
          exact ihloop (i + 1) _ _ _ (by omega) (by omega) hP hD hS (lv_sub hl [2, 1, 0] rfl)
        · refine lv_iload_n hx hb dX1_rules_19 rfl (lv_at hl 1 rfl) ?_
          refine lv_iconst (v := (nI 1)) hx hb dX1_rules_20 (by decide) ?_
          refine lv_iload_n hx hb dX1_rules_21 rfl (lv_at hl 2 rfl) ?_
          refine lv_ishl hx hb dX1_rules_22 ?_
          refine tr_top (v := (nI (2 ^ i))) (tr_shlI (by omega)) ?_
          refine lv_ior hx hb dX1_rules_23 ?_
          refine tr_top (v := (nI ((tr_num (fun k => (kP K).testBit k) i) ||| (2 ^ i)))) (nx_or _ _) ?_
          refine tr_top (v := (nI (tr_num (fun k => (kP K).testBit k) (i + 1)))) (by rw [tr_num_or, c2]; simp [Nat.shiftLeft_eq]) ?_
          refine lv_goto (tgt := 28) hx hb dX1_rules_24 (by decide) ?_
          refine lv_istore_n (lv' := [(1, .int (nI (tr_num (fun k => (kP K).testBit k) (i + 1)))), (0, .ref (q 0)), (2, .int (nI i))]) hx hb dX1_rules_28 rfl hl (by decide) rfl (fun ls hl => ?_)
          refine lv_iinc (v := (nI (i + 1))) (lv' := [(2, .int (nI (i + 1))), (1, .int (nI (tr_num (fun k => (kP K).testBit k) (i + 1)))), (0, .ref (q 0))]) hx hb dX1_rules_29 hl (k := 2) rfl (nI_1 _) (by decide) rfl (fun ls hl => ?_)
          refine lv_goto (tgt := 4) hx hb dX1_rules_32 (by decide) ?_
          exact ihloop (i + 1) _ _ _ (by omega) (by omega) hP hD hS (lv_sub hl [2, 1, 0] rfl)
  have hl : lv_has ls 3 [(2, .int (nI 0)), (1, .int (nI (tr_num (fun k => (kP K).testBit k) 0))), (0, .ref (q 0))] := hl
  exact loop 9 0 _ _ _ (by omega) (by omega) hP hD hS (lv_sub hl [2, 1, 0] rfl)
abbrev rmX1_holds : Room := { frames := 4, cells := 0, slots := 0, locals := 97 }
set_option maxHeartbeats 4000000 in
set_option maxRecDepth 100000 in
/-- holds -/
theorem ty_holds (l : Launch) (D : va_G) (dZ dN : ClassId) (q : Nat → Nat) (K : tr_C) (pr : Nat → Nat) (rp rx ry : Int32) (ok : tr_ok K) (yi : tr_yi K pr) : tr_Mi l D (tr_YT dZ dN) yX1_holds (ws_ yX1_holds cX1_holds 4 (some .boolean)) rmX1_holds [.ref (q 0), .int rp, .int rx, .int ry] (tr_YW dZ dN q K pr) (fun (r : Int32) (u : Nat → Nat) => r = nI (tr_hB K rp rx ry).toNat ∧ tr_yi K u) (fun (u : Nat → Nat) => tr_YW dZ dN q K u) := by
  refine tr_Mi.of (by decide) (Nat.le_of_ble_eq_true rfl) ?_
  intro p e s m args below meth c A Q ls hC hret hP hD hS hl
  have hC0 := hC
  obtain ⟨hx, hb, hlk, hml, hown, hts, hA, hK⟩ := hC0
  have hl : lv_has ls 4 [(0, .ref (q 0)), (1, .int rp), (2, .int rx), (3, .int ry)] := hl
  refine lv_aload_n hx hb dX1_holds_0 rfl (lv_at hl 0 rfl) ?_
  refine yc_v (n := 0) hC (ty_work l D dZ dN q K pr ok yi) (lw_V q219 q221 qs13 q20 q222) (by decide +kernel) rfl (by decide) hP hD hS hl.1 [] rfl (Nat.le_of_ble_eq_true rfl) dX1_holds_1 (fun u H locs hp hP hD hS => ?_)
  obtain ⟨pr1, eu⟩ : ∃ z, z = u := ⟨_, rfl⟩
  rw [← eu] at hp hP hD
  have hP : va_P D tr_Cl (tr_YW dZ dN q K pr1) H := hP
  have hD : va_D A (tr_YW dZ dN q K pr1) := hD
  have fx1 : tr_fx K pr1 := hp
  have lpr := fx1.1.1
  refine lv_aload_n hx hb dX1_holds_4 rfl (lv_at hl 0 rfl) ?_
  refine lv_iload_n hx hb dX1_holds_5 rfl (lv_at hl 1 rfl) ?_
  refine yc_i (n := 1) hC (ty_five l D dZ dN q K pr1 rp) (lw_V q195 q197 qs11 q20 q198) (by decide +kernel) rfl (by decide) hP hD hS hl.1 [] rfl (Nat.le_of_ble_eq_true rfl) dX1_holds_6 (fun r u H locs hp hP hD hS => ?_)
  subst hp
  have hP : va_P D tr_Cl (tr_YW dZ dN q K pr1) H := hP
  have hD : va_D A (tr_YW dZ dN q K pr1) := hD
  refine nb_eq (tgt := 42) hx hb dX1_holds_9 (by decide) (fun c1 => ?_) (fun c1 => ?_)
  · refine lv_iconst (v := (nI 0)) hx hb dX1_holds_42 (by decide) ?_
    exact hret _ _ _ pr1 _ _ dX1_holds_43 (tr_nzv (by omega)) (⟨by rw [tr_hB_f (Or.inl c1)]; rfl, fx1.1⟩) hP hD hS
  · refine lv_aload_n hx hb dX1_holds_12 rfl (lv_at hl 0 rfl) ?_
    refine lv_iload_n hx hb dX1_holds_13 rfl (lv_at hl 2 rfl) ?_
    refine yc_i (n := 1) hC (ty_five l D dZ dN q K pr1 rx) (lw_V q195 q197 qs11 q20 q198) (by decide +kernel) rfl (by decide) hP hD hS hl.1 [] rfl (Nat.le_of_ble_eq_true rfl) dX1_holds_14 (fun r u H locs hp hP hD hS => ?_)
    subst hp
    have hP : va_P D tr_Cl (tr_YW dZ dN q K pr1) H := hP
    have hD : va_D A (tr_YW dZ dN q K pr1) := hD
    refine nb_eq (tgt := 42) hx hb dX1_holds_17 (by decide) (fun c2 => ?_) (fun c2 => ?_)
    · refine lv_iconst (v := (nI 0)) hx hb dX1_holds_42 (by decide) ?_
      exact hret _ _ _ pr1 _ _ dX1_holds_43 (tr_nzv (by omega)) (⟨by rw [tr_hB_f (Or.inr (Or.inl c2))]; rfl, fx1.1⟩) hP hD hS
    · refine lv_aload_n hx hb dX1_holds_20 rfl (lv_at hl 0 rfl) ?_
      refine lv_iload_n hx hb dX1_holds_21 rfl (lv_at hl 3 rfl) ?_
      refine yc_i (n := 1) hC (ty_five l D dZ dN q K pr1 ry) (lw_V q195 q197 qs11 q20 q198) (by decide +kernel) rfl (by decide) hP hD hS hl.1 [] rfl (Nat.le_of_ble_eq_true rfl) dX1_holds_22 (fun r u H locs hp hP hD hS => ?_)
      subst hp
      have hP : va_P D tr_Cl (tr_YW dZ dN q K pr1) H := hP
      have hD : va_D A (tr_YW dZ dN q K pr1) := hD
      refine nb_eq (tgt := 42) hx hb dX1_holds_25 (by decide) (fun c3 => ?_) (fun c3 => ?_)
      · refine lv_iconst (v := (nI 0)) hx hb dX1_holds_42 (by decide) ?_
        exact hret _ _ _ pr1 _ _ dX1_holds_43 (tr_nzv (by omega)) (⟨by rw [tr_hB_f (Or.inr (Or.inr c3))]; rfl, fx1.1⟩) hP hD hS
      · obtain ⟨n1, l1, rfl⟩ := tr_rg_n c1
        obtain ⟨n2, l2, rfl⟩ := tr_rg_n c2
        obtain ⟨n3, l3, rfl⟩ := tr_rg_n c3
        refine lv_aload_n hx hb dX1_holds_28 rfl (lv_at hl 0 rfl) ?_
        refine lv_iload_n hx hb dX1_holds_29 rfl (lv_at hl 1 rfl) ?_
        refine lv_iload_n hx hb dX1_holds_30 rfl (lv_at hl 2 rfl) ?_
        refine lv_iload_n hx hb dX1_holds_31 rfl (lv_at hl 3 rfl) ?_
        refine yc_i (n := 3) hC (ty_in l D dZ dN q K pr1 n1 n2 n3 lpr l1 l2 l3) (lw_V q231 q233 qs16 q20 q234) (by decide +kernel) rfl (by decide) hP hD hS hl.1 [] rfl (Nat.le_of_ble_eq_true rfl) dX1_holds_32 (fun r u H locs hp hP hD hS => ?_)
        subst hp
        have hP : va_P D tr_Cl (tr_YW dZ dN q K pr1) H := hP
        have hD : va_D A (tr_YW dZ dN q K pr1) := hD
        refine nb_eq (tgt := 42) hx hb dX1_holds_35 (by decide) (fun c4 => ?_) (fun c4 => ?_)
        · refine lv_iconst (v := (nI 0)) hx hb dX1_holds_42 (by decide) ?_
          exact hret _ _ _ pr1 _ _ dX1_holds_43 (tr_nzv (by omega)) (⟨by rw [tr_hB_n l1 l2 l3, ← fx1.2 n1 n2 n3 l1 l2 l3, c4]; rfl, fx1.1⟩) hP hD hS
        · refine lv_iconst (v := (nI 1)) hx hb dX1_holds_38 (by decide) ?_
          refine lv_goto (tgt := 43) hx hb dX1_holds_39 (by decide) ?_
          exact hret _ _ _ pr1 _ _ dX1_holds_43 (tr_nzv (by omega)) (⟨by rw [tr_hB_n l1 l2 l3, ← fx1.2 n1 n2 n3 l1 l2 l3, c4]; rfl, fx1.1⟩) hP hD hS
abbrev rmX1_from : Room := { frames := 4, cells := 0, slots := 0, locals := 97 }
set_option maxHeartbeats 4000000 in
set_option maxRecDepth 100000 in
/-- from -/
theorem ty_from (l : Launch) (D : va_G) (dZ dN : ClassId) (q : Nat → Nat) (K : tr_C) (pr : Nat → Nat) (rp rx : Int32) (ok : tr_ok K) (yi : tr_yi K pr) : tr_Mi l D (tr_YT dZ dN) yX1_from (ws_ yX1_from cX1_from 3 (some .int)) rmX1_from [.ref (q 0), .int rp, .int rx] (tr_YW dZ dN q K pr) (fun (r : Int32) (u : Nat → Nat) => r = nI (tr_fN K rp rx) ∧ tr_yi K u) (fun (u : Nat → Nat) => tr_YW dZ dN q K u) := by
  refine tr_Mi.of (by decide) (Nat.le_of_ble_eq_true rfl) ?_
  intro p e s m args below meth c A Q ls hC hret hP hD hS hl
  have hC0 := hC
  obtain ⟨hx, hb, hlk, hml, hown, hts, hA, hK⟩ := hC0
  have hl : lv_has ls 3 [(0, .ref (q 0)), (1, .int rp), (2, .int rx)] := hl
  refine lv_aload_n hx hb dX1_from_0 rfl (lv_at hl 0 rfl) ?_
  refine yc_v (n := 0) hC (ty_work l D dZ dN q K pr ok yi) (lw_V q219 q221 qs13 q20 q222) (by decide +kernel) rfl (by decide) hP hD hS hl.1 [] rfl (Nat.le_of_ble_eq_true rfl) dX1_from_1 (fun u H locs hp hP hD hS => ?_)
  obtain ⟨pr1, eu⟩ : ∃ z, z = u := ⟨_, rfl⟩
  rw [← eu] at hp hP hD
  have hP : va_P D tr_Cl (tr_YW dZ dN q K pr1) H := hP
  have hD : va_D A (tr_YW dZ dN q K pr1) := hD
  have fx1 : tr_fx K pr1 := hp
  have lpr := fx1.1.1
  refine lv_aload_n hx hb dX1_from_4 rfl (lv_at hl 0 rfl) ?_
  refine lv_iload_n hx hb dX1_from_5 rfl (lv_at hl 1 rfl) ?_
  refine yc_i (n := 1) hC (ty_five l D dZ dN q K pr1 rp) (lw_V q195 q197 qs11 q20 q198) (by decide +kernel) rfl (by decide) hP hD hS hl.1 [] rfl (Nat.le_of_ble_eq_true rfl) dX1_from_6 (fun r u H locs hp hP hD hS => ?_)
  subst hp
  have hP : va_P D tr_Cl (tr_YW dZ dN q K pr1) H := hP
  have hD : va_D A (tr_YW dZ dN q K pr1) := hD
  refine nb_eq (tgt := 36) hx hb dX1_from_9 (by decide) (fun c1 => ?_) (fun c1 => ?_)
  · refine lv_iconst (v := (nI 0)) hx hb dX1_from_36 (by decide) ?_
    exact hret _ _ _ pr1 _ _ dX1_from_37 rfl (⟨by rw [tr_fN_f (Or.inl c1)], fx1.1⟩) hP hD hS
  · refine lv_aload_n hx hb dX1_from_12 rfl (lv_at hl 0 rfl) ?_
    refine lv_iload_n hx hb dX1_from_13 rfl (lv_at hl 2 rfl) ?_
    refine yc_i (n := 1) hC (ty_five l D dZ dN q K pr1 rx) (lw_V q195 q197 qs11 q20 q198) (by decide +kernel) rfl (by decide) hP hD hS hl.1 [] rfl (Nat.le_of_ble_eq_true rfl) dX1_from_14 (fun r u H locs hp hP hD hS => ?_)
    subst hp
    have hP : va_P D tr_Cl (tr_YW dZ dN q K pr1) H := hP
    have hD : va_D A (tr_YW dZ dN q K pr1) := hD
    refine nb_eq (tgt := 36) hx hb dX1_from_17 (by decide) (fun c2 => ?_) (fun c2 => ?_)
    · refine lv_iconst (v := (nI 0)) hx hb dX1_from_36 (by decide) ?_
      exact hret _ _ _ pr1 _ _ dX1_from_37 rfl (⟨by rw [tr_fN_f (Or.inr c2)], fx1.1⟩) hP hD hS
    · obtain ⟨n1, l1, rfl⟩ := tr_rg_n c1
      obtain ⟨n2, l2, rfl⟩ := tr_rg_n c2
      have hb0 := lpr n1
      refine lv_aload_n hx hb dX1_from_20 rfl (lv_at hl 0 rfl) ?_
      refine yg_26 hC hP dX1_from_21 ?_
      refine lv_iload_n hx hb dX1_from_24 rfl (lv_at hl 1 rfl) ?_
      refine yl_6 hC hP (by omega) dX1_from_25 ?_
      refine lv_iconst (v := (nI 5)) hx hb dX1_from_26 (by decide) ?_
      refine lv_iload_n hx hb dX1_from_27 rfl (lv_at hl 2 rfl) ?_
      refine lv_imul hx hb dX1_from_28 ?_
      refine tr_top (v := (nI (5 * n2))) (pk_mul _ _) ?_
      refine lv_ishr hx hb dX1_from_29 ?_
      refine tr_top (v := (nI (pr1 n1 / 2 ^ (5 * n2)))) (pk_shrN (by omega) _ (5 * n2) (s_l (5 * n2) (by omega))) ?_
      refine lv_bipush (v := (nI 31)) hx hb dX1_from_30 (by decide) ?_
      have hb2 : pr1 n1 / 2 ^ (5 * n2) ≤ pr1 n1 := Nat.div_le_self _ _
      generalize hq9 : pr1 n1 / 2 ^ (5 * n2) = z9 at hb2 ⊢
      refine lv_iand hx hb dX1_from_32 ?_
      refine tr_top (v := (nI (z9 % 2 ^ 5))) (pk_andN (by omega) 5 (by decide)) ?_
      refine lv_goto (tgt := 37) hx hb dX1_from_33 (by decide) ?_
      exact hret _ _ _ pr1 _ _ dX1_from_37 rfl (⟨by rw [tr_fN_n l1 l2, ← tr_fx_row fx1 l1 l2, hq9], fx1.1⟩) hP hD hS
abbrev rmX1_to : Room := { frames := 4, cells := 0, slots := 0, locals := 97 }
set_option maxHeartbeats 4000000 in
set_option maxRecDepth 100000 in
/-- to -/
theorem ty_to (l : Launch) (D : va_G) (dZ dN : ClassId) (q : Nat → Nat) (K : tr_C) (pr : Nat → Nat) (rp ry : Int32) (ok : tr_ok K) (yi : tr_yi K pr) : tr_Mi l D (tr_YT dZ dN) yX1_to (ws_ yX1_to cX1_to 5 (some .int)) rmX1_to [.ref (q 0), .int rp, .int ry] (tr_YW dZ dN q K pr) (fun (r : Int32) (u : Nat → Nat) => r = nI (tr_tN K rp ry) ∧ tr_yi K u) (fun (u : Nat → Nat) => tr_YW dZ dN q K u) := by
  refine tr_Mi.of (by decide) (Nat.le_of_ble_eq_true rfl) ?_
  intro p e s m args below meth c A Q ls hC hret hP hD hS hl
  have hC0 := hC
  obtain ⟨hx, hb, hlk, hml, hown, hts, hA, hK⟩ := hC0
  have hl : lv_has ls 5 [(0, .ref (q 0)), (1, .int rp), (2, .int ry)] := hl
  refine lv_aload_n hx hb dX1_to_0 rfl (lv_at hl 0 rfl) ?_
  refine yc_v (n := 0) hC (ty_work l D dZ dN q K pr ok yi) (lw_V q219 q221 qs13 q20 q222) (by decide +kernel) rfl (by decide) hP hD hS hl.1 [] rfl (Nat.le_of_ble_eq_true rfl) dX1_to_1 (fun u H locs hp hP hD hS => ?_)
  obtain ⟨pr1, eu⟩ : ∃ z, z = u := ⟨_, rfl⟩
  rw [← eu] at hp hP hD
  have hP : va_P D tr_Cl (tr_YW dZ dN q K pr1) H := hP
  have hD : va_D A (tr_YW dZ dN q K pr1) := hD
  have fx1 : tr_fx K pr1 := hp
  have lpr := fx1.1.1
  refine lv_iconst (v := (nI 0)) hx hb dX1_to_4 (by decide) ?_
  refine lv_istore_n (lv' := [(3, .int (nI 0)), (0, .ref (q 0)), (1, .int rp), (2, .int ry)]) hx hb dX1_to_5 rfl hl (by decide) rfl (fun ls hl => ?_)
  refine lv_iconst (v := (nI 0)) hx hb dX1_to_6 (by decide) ?_
  refine lv_istore (lv' := [(4, .int (nI 0)), (3, .int (nI 0)), (0, .ref (q 0)), (1, .int rp), (2, .int ry)]) hx hb dX1_to_7 hl (by decide) rfl (fun ls hl => ?_)
  have loop : ∀ (n : Nat) (i : Nat) (H : Heap) (locs : List Loc) (ls : Array Slot), i ≤ 5 → 5 + 1 ≤ i + n → va_P D tr_Cl (tr_YW dZ dN q K pr1) H → va_D A (tr_YW dZ dN q K pr1) → va_S A s.heap H locs → lv_has ls 5 [(0, .ref (q 0)), (1, .int rp), (2, .int ry), (3, .int (nI (tr_num (fun x => tr_hB K rp (nI x) ry) i))), (4, .int (nI i))] → W p l e rmX1_to s m args below meth c H locs 0 0 Q (F0 m 9 ls []) := by
    intro n
    induction n with
    | zero =>
      intro i H locs ls h1 h2
      exact absurd h2 (by omega)
    | succ n ihloop =>
      intro i H locs ls hiloop hnloop  hP hD hS hl
      refine lv_iload hx hb dX1_to_9 (lv_at hl 4 rfl) ?_
      refine lv_iconst (v := (nI 5)) hx hb dX1_to_11 (by decide) ?_
      refine ni_ge (tgt := 59) hx hb (by omega) (by omega) dX1_to_12 (by decide) (fun c1 => ?_) (fun c1 => ?_)
      · refine lv_iload_n hx hb dX1_to_59 rfl (lv_at hl 3 rfl) ?_
        have e5 : i = 5 := by omega
        subst e5
        exact hret _ _ _ pr1 _ _ dX1_to_60 rfl (⟨rfl, fx1.1⟩) hP hD hS
      · refine lv_aload_n hx hb dX1_to_15 rfl (lv_at hl 0 rfl) ?_
        refine lv_iload_n hx hb dX1_to_16 rfl (lv_at hl 1 rfl) ?_
        refine yc_i (n := 1) hC (ty_five l D dZ dN q K pr1 rp) (lw_V q195 q197 qs11 q20 q198) (by decide +kernel) rfl (by decide) hP hD hS hl.1 [] rfl (Nat.le_of_ble_eq_true rfl) dX1_to_17 (fun r u H locs hp hP hD hS => ?_)
        subst hp
        have hP : va_P D tr_Cl (tr_YW dZ dN q K pr1) H := hP
        have hD : va_D A (tr_YW dZ dN q K pr1) := hD
        refine nb_eq (tgt := 59) hx hb dX1_to_20 (by decide) (fun c2 => ?_) (fun c2 => ?_)
        · refine lv_iload_n hx hb dX1_to_59 rfl (lv_at hl 3 rfl) ?_
          have hz : ∀ n, tr_num (fun x => tr_hB K rp (nI x) ry) n = 0 := fun n => tr_num0.mpr (fun x _ => tr_hB_f (Or.inl c2))
          exact hret _ _ _ pr1 _ _ dX1_to_60 rfl (⟨by rw [tr_tN, hz, hz], fx1.1⟩) hP hD hS
        · refine lv_aload_n hx hb dX1_to_23 rfl (lv_at hl 0 rfl) ?_
          refine lv_iload_n hx hb dX1_to_24 rfl (lv_at hl 2 rfl) ?_
          refine yc_i (n := 1) hC (ty_five l D dZ dN q K pr1 ry) (lw_V q195 q197 qs11 q20 q198) (by decide +kernel) rfl (by decide) hP hD hS hl.1 [] rfl (Nat.le_of_ble_eq_true rfl) dX1_to_25 (fun r u H locs hp hP hD hS => ?_)
          subst hp
          have hP : va_P D tr_Cl (tr_YW dZ dN q K pr1) H := hP
          have hD : va_D A (tr_YW dZ dN q K pr1) := hD
          refine nb_eq (tgt := 59) hx hb dX1_to_28 (by decide) (fun c3 => ?_) (fun c3 => ?_)
          · refine lv_iload_n hx hb dX1_to_59 rfl (lv_at hl 3 rfl) ?_
            have hz : ∀ n, tr_num (fun x => tr_hB K rp (nI x) ry) n = 0 := fun n => tr_num0.mpr (fun x _ => tr_hB_f (Or.inr (Or.inr c3)))
            exact hret _ _ _ pr1 _ _ dX1_to_60 rfl (⟨by rw [tr_tN, hz, hz], fx1.1⟩) hP hD hS
          · obtain ⟨n1, l1, rfl⟩ := tr_rg_n c2
            obtain ⟨n2, l2, rfl⟩ := tr_rg_n c3
            have hbit := tr_hB_n (K := K) l1 c1 l2
            rw [← fx1.2 n1 i n2 l1 c1 l2] at hbit
            refine lv_aload_n hx hb dX1_to_31 rfl (lv_at hl 0 rfl) ?_
            refine lv_iload_n hx hb dX1_to_32 rfl (lv_at hl 1 rfl) ?_
            refine lv_iload hx hb dX1_to_33 (lv_at hl 4 rfl) ?_
            refine lv_iload_n hx hb dX1_to_35 rfl (lv_at hl 2 rfl) ?_
            refine yc_i (n := 3) hC (ty_in l D dZ dN q K pr1 n1 i n2 lpr l1 c1 l2) (lw_V q231 q233 qs16 q20 q234) (by decide +kernel) rfl (by decide) hP hD hS hl.1 [] rfl (Nat.le_of_ble_eq_true rfl) dX1_to_36 (fun r u H locs hp hP hD hS => ?_)
            subst hp
            have hP : va_P D tr_Cl (tr_YW dZ dN q K pr1) H := hP
            have hD : va_D A (tr_YW dZ dN q K pr1) := hD
            refine nb_eq (tgt := 51) hx hb dX1_to_39 (by decide) (fun c4 => ?_) (fun c4 => ?_)
            · refine lv_iload_n hx hb dX1_to_51 rfl (lv_at hl 3 rfl) ?_
              refine tr_top (v := (nI (tr_num (fun x => tr_hB K (nI n1) (nI x) (nI n2)) (i + 1)))) (by rw [tr_num_or, hbit, c4]; simp) ?_
              refine lv_istore_n (lv' := [(3, .int (nI (tr_num (fun x => tr_hB K (nI n1) (nI x) (nI n2)) (i + 1)))), (0, .ref (q 0)), (1, .int (nI n1)), (2, .int (nI n2)), (4, .int (nI i))]) hx hb dX1_to_52 rfl hl (by decide) rfl (fun ls hl => ?_)
              refine lv_iinc (v := (nI (i + 1))) (lv' := [(4, .int (nI (i + 1))), (3, .int (nI (tr_num (fun x => tr_hB K (nI n1) (nI x) (nI n2)) (i + 1)))), (0, .ref (q 0)), (1, .int (nI n1)), (2, .int (nI n2))]) hx hb dX1_to_53 hl (k := 4) rfl (nI_1 _) (by decide) rfl (fun ls hl => ?_)
              refine lv_goto (tgt := 9) hx hb dX1_to_56 (by decide) ?_
              exact ihloop (i + 1) _ _ _ (by omega) (by omega) hP hD hS (lv_sub hl [2, 3, 4, 1, 0] rfl)
            · refine lv_iload_n hx hb dX1_to_42 rfl (lv_at hl 3 rfl) ?_
              refine lv_iconst (v := (nI 1)) hx hb dX1_to_43 (by decide) ?_
              refine lv_iload hx hb dX1_to_44 (lv_at hl 4 rfl) ?_
              refine lv_ishl hx hb dX1_to_46 ?_
              refine tr_top (v := (nI (2 ^ i))) (tr_shlI (by omega)) ?_
              refine lv_ior hx hb dX1_to_47 ?_
              refine tr_top (v := (nI ((tr_num (fun x => tr_hB K (nI n1) (nI x) (nI n2)) i) ||| (2 ^ i)))) (nx_or _ _) ?_
              refine tr_top (v := (nI (tr_num (fun x => tr_hB K (nI n1) (nI x) (nI n2)) (i + 1)))) (by rw [tr_num_or, hbit, c4]; simp [Nat.shiftLeft_eq]) ?_
              refine lv_goto (tgt := 52) hx hb dX1_to_48 (by decide) ?_
              refine lv_istore_n (lv' := [(3, .int (nI (tr_num (fun x => tr_hB K (nI n1) (nI x) (nI n2)) (i + 1)))), (0, .ref (q 0)), (1, .int (nI n1)), (2, .int (nI n2)), (4, .int (nI i))]) hx hb dX1_to_52 rfl hl (by decide) rfl (fun ls hl => ?_)
              refine lv_iinc (v := (nI (i + 1))) (lv' := [(4, .int (nI (i + 1))), (3, .int (nI (tr_num (fun x => tr_hB K (nI n1) (nI x) (nI n2)) (i + 1)))), (0, .ref (q 0)), (1, .int (nI n1)), (2, .int (nI n2))]) hx hb dX1_to_53 hl (k := 4) rfl (nI_1 _) (by decide) rfl (fun ls hl => ?_)
              refine lv_goto (tgt := 9) hx hb dX1_to_56 (by decide) ?_
              exact ihloop (i + 1) _ _ _ (by omega) (by omega) hP hD hS (lv_sub hl [2, 3, 4, 1, 0] rfl)
  have hl : lv_has ls 5 [(4, .int (nI 0)), (3, .int (nI (tr_num (fun x => tr_hB K rp (nI x) ry) 0))), (0, .ref (q 0)), (1, .int rp), (2, .int ry)] := hl
  exact loop 6 0 _ _ _ (by omega) (by omega) hP hD hS (lv_sub hl [2, 3, 4, 1, 0] rfl)
abbrev rmX1_count : Room := { frames := 4, cells := 0, slots := 0, locals := 97 }
set_option maxHeartbeats 4000000 in
set_option maxRecDepth 100000 in
/-- count -/
theorem ty_count (l : Launch) (D : va_G) (dZ dN : ClassId) (q : Nat → Nat) (K : tr_C) (pr : Nat → Nat) (rp : Int32) (ok : tr_ok K) (yi : tr_yi K pr) : tr_Mi l D (tr_YT dZ dN) yX1_count (ws_ yX1_count cX1_count 2 (some .int)) rmX1_count [.ref (q 0), .int rp] (tr_YW dZ dN q K pr) (fun (r : Int32) (u : Nat → Nat) => r = tr_cI K rp ∧ tr_yi K u) (fun (u : Nat → Nat) => tr_YW dZ dN q K u) := by
  refine tr_Mi.of (by decide) (Nat.le_of_ble_eq_true rfl) ?_
  intro p e s m args below meth c A Q ls hC hret hP hD hS hl
  have hC0 := hC
  obtain ⟨hx, hb, hlk, hml, hown, hts, hA, hK⟩ := hC0
  have hl : lv_has ls 2 [(0, .ref (q 0)), (1, .int rp)] := hl
  refine lv_aload_n hx hb dX1_count_0 rfl (lv_at hl 0 rfl) ?_
  refine yc_v (n := 0) hC (ty_work l D dZ dN q K pr ok yi) (lw_V q219 q221 qs13 q20 q222) (by decide +kernel) rfl (by decide) hP hD hS hl.1 [] rfl (Nat.le_of_ble_eq_true rfl) dX1_count_1 (fun u H locs hp hP hD hS => ?_)
  obtain ⟨pr1, eu⟩ : ∃ z, z = u := ⟨_, rfl⟩
  rw [← eu] at hp hP hD
  have hP : va_P D tr_Cl (tr_YW dZ dN q K pr1) H := hP
  have hD : va_D A (tr_YW dZ dN q K pr1) := hD
  have fx1 : tr_fx K pr1 := hp
  have lpr := fx1.1.1
  refine lv_aload_n hx hb dX1_count_4 rfl (lv_at hl 0 rfl) ?_
  refine lv_iload_n hx hb dX1_count_5 rfl (lv_at hl 1 rfl) ?_
  refine yc_i (n := 1) hC (ty_five l D dZ dN q K pr1 rp) (lw_V q195 q197 qs11 q20 q198) (by decide +kernel) rfl (by decide) hP hD hS hl.1 [] rfl (Nat.le_of_ble_eq_true rfl) dX1_count_6 (fun r u H locs hp hP hD hS => ?_)
  subst hp
  have hP : va_P D tr_Cl (tr_YW dZ dN q K pr1) H := hP
  have hD : va_D A (tr_YW dZ dN q K pr1) := hD
  refine nb_eq (tgt := 25) hx hb dX1_count_9 (by decide) (fun c1 => ?_) (fun c1 => ?_)
  · refine lv_iconst (v := (-1)) hx hb dX1_count_25 (by decide) ?_
    exact hret _ _ _ pr1 _ _ dX1_count_26 rfl (⟨by rw [tr_cI_f c1], fx1.1⟩) hP hD hS
  · obtain ⟨n1, l1, rfl⟩ := tr_rg_n c1
    refine lv_aload_n hx hb dX1_count_12 rfl (lv_at hl 0 rfl) ?_
    refine lv_aload_n hx hb dX1_count_13 rfl (lv_at hl 0 rfl) ?_
    refine yg_26 hC hP dX1_count_14 ?_
    refine lv_iload_n hx hb dX1_count_17 rfl (lv_at hl 1 rfl) ?_
    refine yl_6 hC hP (by omega) dX1_count_18 ?_
    refine yc_i (n := 1) hC (ty_ones l D dZ dN q K pr1 (pr1 n1) (lpr n1)) (lw_V q247 q249 qs17 q20 q250) (by decide +kernel) rfl (by decide) hP hD hS hl.1 [] rfl (Nat.le_of_ble_eq_true rfl) dX1_count_19 (fun r u H locs hp hP hD hS => ?_)
    subst hp
    have hP : va_P D tr_Cl (tr_YW dZ dN q K pr1) H := hP
    have hD : va_D A (tr_YW dZ dN q K pr1) := hD
    refine lv_goto (tgt := 26) hx hb dX1_count_22 (by decide) ?_
    exact hret _ _ _ pr1 _ _ dX1_count_26 rfl (⟨by rw [tr_cI_n l1, tr_fx_cnt fx1 l1], fx1.1⟩) hP hD hS
abbrev rmX1_within : Room := { frames := 4, cells := 0, slots := 0, locals := 97 }
set_option maxHeartbeats 4000000 in
set_option maxRecDepth 100000 in
/-- within -/
theorem ty_within (l : Launch) (D : va_G) (dZ dN : ClassId) (q : Nat → Nat) (K : tr_C) (pr : Nat → Nat) (rp rr : Int32) (ok : tr_ok K) (yi : tr_yi K pr) : tr_Mi l D (tr_YT dZ dN) yX1_within (ws_ yX1_within cX1_within 3 (some .boolean)) rmX1_within [.ref (q 0), .int rp, .int rr] (tr_YW dZ dN q K pr) (fun (r : Int32) (u : Nat → Nat) => r = nI (tr_wB K rp rr).toNat ∧ tr_yi K u) (fun (u : Nat → Nat) => tr_YW dZ dN q K u) := by
  refine tr_Mi.of (by decide) (Nat.le_of_ble_eq_true rfl) ?_
  intro p e s m args below meth c A Q ls hC hret hP hD hS hl
  have hC0 := hC
  obtain ⟨hx, hb, hlk, hml, hown, hts, hA, hK⟩ := hC0
  have hl : lv_has ls 3 [(0, .ref (q 0)), (1, .int rp), (2, .int rr)] := hl
  refine lv_aload_n hx hb dX1_within_0 rfl (lv_at hl 0 rfl) ?_
  refine yc_v (n := 0) hC (ty_work l D dZ dN q K pr ok yi) (lw_V q219 q221 qs13 q20 q222) (by decide +kernel) rfl (by decide) hP hD hS hl.1 [] rfl (Nat.le_of_ble_eq_true rfl) dX1_within_1 (fun u H locs hp hP hD hS => ?_)
  obtain ⟨pr1, eu⟩ : ∃ z, z = u := ⟨_, rfl⟩
  rw [← eu] at hp hP hD
  have hP : va_P D tr_Cl (tr_YW dZ dN q K pr1) H := hP
  have hD : va_D A (tr_YW dZ dN q K pr1) := hD
  have fx1 : tr_fx K pr1 := hp
  have lpr := fx1.1.1
  refine lv_aload_n hx hb dX1_within_4 rfl (lv_at hl 0 rfl) ?_
  refine lv_iload_n hx hb dX1_within_5 rfl (lv_at hl 1 rfl) ?_
  refine yc_i (n := 1) hC (ty_five l D dZ dN q K pr1 rp) (lw_V q195 q197 qs11 q20 q198) (by decide +kernel) rfl (by decide) hP hD hS hl.1 [] rfl (Nat.le_of_ble_eq_true rfl) dX1_within_6 (fun r u H locs hp hP hD hS => ?_)
  subst hp
  have hP : va_P D tr_Cl (tr_YW dZ dN q K pr1) H := hP
  have hD : va_D A (tr_YW dZ dN q K pr1) := hD
  refine nb_eq (tgt := 42) hx hb dX1_within_9 (by decide) (fun c1 => ?_) (fun c1 => ?_)
  · refine lv_iconst (v := (nI 0)) hx hb dX1_within_42 (by decide) ?_
    exact hret _ _ _ pr1 _ _ dX1_within_43 (tr_nzv (by omega)) (⟨by rw [tr_wB_f (Or.inl c1)]; rfl, fx1.1⟩) hP hD hS
  · refine lv_aload_n hx hb dX1_within_12 rfl (lv_at hl 0 rfl) ?_
    refine lv_iload_n hx hb dX1_within_13 rfl (lv_at hl 2 rfl) ?_
    refine yc_i (n := 1) hC (ty_five l D dZ dN q K pr1 rr) (lw_V q195 q197 qs11 q20 q198) (by decide +kernel) rfl (by decide) hP hD hS hl.1 [] rfl (Nat.le_of_ble_eq_true rfl) dX1_within_14 (fun r u H locs hp hP hD hS => ?_)
    subst hp
    have hP : va_P D tr_Cl (tr_YW dZ dN q K pr1) H := hP
    have hD : va_D A (tr_YW dZ dN q K pr1) := hD
    refine nb_eq (tgt := 42) hx hb dX1_within_17 (by decide) (fun c2 => ?_) (fun c2 => ?_)
    · refine lv_iconst (v := (nI 0)) hx hb dX1_within_42 (by decide) ?_
      exact hret _ _ _ pr1 _ _ dX1_within_43 (tr_nzv (by omega)) (⟨by rw [tr_wB_f (Or.inr c2)]; rfl, fx1.1⟩) hP hD hS
    · obtain ⟨n1, l1, rfl⟩ := tr_rg_n c1
      obtain ⟨n2, l2, rfl⟩ := tr_rg_n c2
      refine lv_aload_n hx hb dX1_within_20 rfl (lv_at hl 0 rfl) ?_
      refine yg_26 hC hP dX1_within_21 ?_
      refine lv_iload_n hx hb dX1_within_24 rfl (lv_at hl 1 rfl) ?_
      refine yl_6 hC hP (by omega) dX1_within_25 ?_
      refine lv_aload_n hx hb dX1_within_26 rfl (lv_at hl 0 rfl) ?_
      refine yg_26 hC hP dX1_within_27 ?_
      refine lv_iload_n hx hb dX1_within_30 rfl (lv_at hl 2 rfl) ?_
      refine yl_6 hC hP (by omega) dX1_within_31 ?_
      refine lv_iconst (v := (-1)) hx hb dX1_within_32 (by decide) ?_
      refine lv_ixor hx hb dX1_within_33 ?_
      refine lv_iand hx hb dX1_within_34 ?_
      refine tr_top (v := (nI (tr_num (fun i => (pr1 n1).testBit i && !(pr1 n2).testBit i) 25))) (tr_andn (n := 25) (by omega) (lpr n1)) ?_
      have hz5 := tr_num_lt (fun i => (pr1 n1).testBit i && !(pr1 n2).testBit i) 25
      refine nz_ne (tgt := 42) hx hb (by omega) dX1_within_35 (by decide) (fun c3 => ?_) (fun c3 => ?_)
      · refine lv_iconst (v := (nI 0)) hx hb dX1_within_42 (by decide) ?_
        exact hret _ _ _ pr1 _ _ dX1_within_43 (tr_nzv (by omega)) (⟨by rw [tr_wB_n l1 l2, tr_b_f (fun z => c3 ((tr_fx_in fx1 l1 l2).mpr z))]; rfl, fx1.1⟩) hP hD hS
      · refine lv_iconst (v := (nI 1)) hx hb dX1_within_38 (by decide) ?_
        refine lv_goto (tgt := 43) hx hb dX1_within_39 (by decide) ?_
        exact hret _ _ _ pr1 _ _ dX1_within_43 (tr_nzv (by omega)) (⟨by rw [tr_wB_n l1 l2, tr_b_t ((tr_fx_in fx1 l1 l2).mp c3)]; rfl, fx1.1⟩) hP hD hS
abbrev rmX1_redundant : Room := { frames := 4, cells := 0, slots := 0, locals := 97 }
set_option maxHeartbeats 4000000 in
set_option maxRecDepth 100000 in
/-- redundant -/
theorem ty_redundant (l : Launch) (D : va_G) (dZ dN : ClassId) (q : Nat → Nat) (K : tr_C) (pr : Nat → Nat) (rk : Int32) (ok : tr_ok K) (yi : tr_yi K pr) : tr_Mi l D (tr_YT dZ dN) yX1_redundant (ws_ yX1_redundant cX1_redundant 5 (some .boolean)) rmX1_redundant [.ref (q 0), .int rk] (tr_YW dZ dN q K pr) (fun (r : Int32) (u : Nat → Nat) => r = nI (tr_eB K rk).toNat ∧ tr_yi K u) (fun (u : Nat → Nat) => tr_YW dZ dN q K u) := by
  refine tr_Mi.of (by decide) (Nat.le_of_ble_eq_true rfl) ?_
  intro p e s m args below meth c A Q ls hC hret hP hD hS hl
  have hC0 := hC
  obtain ⟨hx, hb, hlk, hml, hown, hts, hA, hK⟩ := hC0
  have hl : lv_has ls 5 [(0, .ref (q 0)), (1, .int rk)] := hl
  refine lv_aload_n hx hb dX1_redundant_0 rfl (lv_at hl 0 rfl) ?_
  refine lv_iload_n hx hb dX1_redundant_1 rfl (lv_at hl 1 rfl) ?_
  refine yc_i (n := 1) hC (ty_is l D dZ dN q K pr rk) (lw_V q207 q209 qs12 q20 q210) (by decide +kernel) rfl (by decide) hP hD hS hl.1 [] rfl (Nat.le_of_ble_eq_true rfl) dX1_redundant_2 (fun r u H locs hp hP hD hS => ?_)
  subst hp
  have hP : va_P D tr_Cl (tr_YW dZ dN q K pr) H := hP
  have hD : va_D A (tr_YW dZ dN q K pr) := hD
  refine nb_ne (tgt := 10) hx hb dX1_redundant_5 (by decide) (fun c1 => ?_) (fun c1 => ?_)
  · obtain ⟨k, lk, rfl, hb9⟩ := tr_hs_n c1
    have hp8 := ok.2.1
    have okd := tr_ok_dp ok lk
    have hpd : kP (tr_dp K k) < 256 := okd.2.1
    refine lv_aload_n hx hb dX1_redundant_10 rfl (lv_at hl 0 rfl) ?_
    refine yc_v (n := 0) hC (ty_work l D dZ dN q K pr ok yi) (lw_V q219 q221 qs13 q20 q222) (by decide +kernel) rfl (by decide) hP hD hS hl.1 [] rfl (Nat.le_of_ble_eq_true rfl) dX1_redundant_11 (fun u H locs hp hP hD hS => ?_)
    obtain ⟨pr1, eu⟩ : ∃ z, z = u := ⟨_, rfl⟩
    rw [← eu] at hp hP hD
    have hP : va_P D tr_Cl (tr_YW dZ dN q K pr1) H := hP
    have hD : va_D A (tr_YW dZ dN q K pr1) := hD
    have fx1 : tr_fx K pr1 := hp
    have lpr := fx1.1.1
    have u2 := lpr 2
    have u3 := lpr 3
    have u4 := lpr 4
    refine lv_aload_n hx hb dX1_redundant_14 rfl (lv_at hl 0 rfl) ?_
    refine yg_26 hC hP dX1_redundant_15 ?_
    refine lv_iconst (v := (nI 2)) hx hb dX1_redundant_18 (by decide) ?_
    refine yl_6 hC hP (by omega) dX1_redundant_19 ?_
    refine lv_istore_n (lv' := [(2, .int (nI (pr1 2))), (0, .ref (q 0)), (1, .int (nI k))]) hx hb dX1_redundant_20 rfl hl (by decide) rfl (fun ls hl => ?_)
    refine lv_aload_n hx hb dX1_redundant_21 rfl (lv_at hl 1 rfl) ?_
    refine yg_26 hC hP dX1_redundant_22 ?_
    refine lv_iconst (v := (nI 3)) hx hb dX1_redundant_25 (by decide) ?_
    refine yl_6 hC hP (by omega) dX1_redundant_26 ?_
    refine lv_istore_n (lv' := [(3, .int (nI (pr1 3))), (2, .int (nI (pr1 2))), (0, .ref (q 0)), (1, .int (nI k))]) hx hb dX1_redundant_27 rfl hl (by decide) rfl (fun ls hl => ?_)
    refine lv_aload_n hx hb dX1_redundant_28 rfl (lv_at hl 2 rfl) ?_
    refine yg_26 hC hP dX1_redundant_29 ?_
    refine lv_iconst (v := (nI 4)) hx hb dX1_redundant_32 (by decide) ?_
    refine yl_6 hC hP (by omega) dX1_redundant_33 ?_
    refine lv_istore (lv' := [(4, .int (nI (pr1 4))), (3, .int (nI (pr1 3))), (2, .int (nI (pr1 2))), (0, .ref (q 0)), (1, .int (nI k))]) hx hb dX1_redundant_34 hl (by decide) rfl (fun ls hl => ?_)
    refine lv_aload_n hx hb dX1_redundant_36 rfl (lv_at hl 3 rfl) ?_
    refine yg_7 hC hP dX1_redundant_37 ?_
    refine lv_iload_n hx hb dX1_redundant_40 rfl (lv_at hl 4 rfl) ?_
    refine lv_iconst (v := (nI 0)) hx hb dX1_redundant_41 (by decide) ?_
    refine tr_top (v := nI (false).toNat) rfl ?_
    refine ys_1 hC hP hD hS (by omega) hp8 dX1_redundant_42 (fun H locs hP hD hS => ?_)
    have hP : va_P D tr_Cl (tr_YW dZ dN q (tr_dp K k) pr1) H := hP
    have hD : va_D A (tr_YW dZ dN q (tr_dp K k) pr1) := hD
    refine lv_aload_n hx hb dX1_redundant_43 rfl (lv_at hl 3 rfl) ?_
    refine yc_v (n := 0) hC (ty_work l D dZ dN q (tr_dp K k) pr1 okd (show tr_yi (tr_dp K k) pr1 from fx1.1)) (lw_V q219 q221 qs13 q20 q222) (by decide +kernel) rfl (by decide) hP hD hS hl.1 [] rfl (Nat.le_of_ble_eq_true rfl) dX1_redundant_44 (fun u H locs hp hP hD hS => ?_)
    obtain ⟨pr2, eu⟩ : ∃ z, z = u := ⟨_, rfl⟩
    rw [← eu] at hp hP hD
    have hP : va_P D tr_Cl (tr_YW dZ dN q (tr_dp K k) pr2) H := hP
    have hD : va_D A (tr_YW dZ dN q (tr_dp K k) pr2) := hD
    have fx2 : tr_fx (tr_dp K k) pr2 := hp
    have lpr := fx2.1.1
    have v2 := lpr 2
    have v3 := lpr 3
    have v4 := lpr 4
    refine lv_aload_n hx hb dX1_redundant_47 rfl (lv_at hl 3 rfl) ?_
    refine yg_7 hC hP dX1_redundant_48 ?_
    refine lv_iload_n hx hb dX1_redundant_51 rfl (lv_at hl 4 rfl) ?_
    refine lv_iconst (v := (nI 1)) hx hb dX1_redundant_52 (by decide) ?_
    refine tr_top (v := nI (true).toNat) rfl ?_
    refine ys_1 hC hP hD hS (by omega) hpd dX1_redundant_53 (fun H locs hP hD hS => ?_)
    have hP : va_P D tr_Cl (tr_YW dZ dN q (K.1, tr_setb 8 (tr_setb 8 (kP K) k false) k true, K.2.2) pr2) H := hP
    have hD : va_D A (tr_YW dZ dN q (K.1, tr_setb 8 (tr_setb 8 (kP K) k false) k true, K.2.2) pr2) := hD
    rw [tr_dp_back ok lk hb9] at hP hD
    have hyi : tr_yi K pr2 := fx2.1
    refine lv_iload_n hx hb dX1_redundant_54 rfl (lv_at hl 2 rfl) ?_
    refine lv_aload_n hx hb dX1_redundant_55 rfl (lv_at hl 3 rfl) ?_
    refine yg_26 hC hP dX1_redundant_56 ?_
    refine lv_iconst (v := (nI 2)) hx hb dX1_redundant_59 (by decide) ?_
    refine yl_6 hC hP (by omega) dX1_redundant_60 ?_
    refine ni_ne (tgt := 89) hx hb (by omega) (by omega) dX1_redundant_61 (by decide) (fun c2 => ?_) (fun c2 => ?_)
    · refine lv_iconst (v := (nI 0)) hx hb dX1_redundant_89 (by decide) ?_
      exact hret _ _ _ pr2 _ _ dX1_redundant_90 (tr_nzv (by omega)) (⟨by rw [tr_eB_n lk hb9, tr_b_f (fun z => c2 ((tr_fx_eq ok lk fx1 fx2).mpr z).1)]; rfl, hyi⟩) hP hD hS
    · refine lv_iload_n hx hb dX1_redundant_64 rfl (lv_at hl 1 rfl) ?_
      refine lv_aload_n hx hb dX1_redundant_65 rfl (lv_at hl 3 rfl) ?_
      refine yg_26 hC hP dX1_redundant_66 ?_
      refine lv_iconst (v := (nI 3)) hx hb dX1_redundant_69 (by decide) ?_
      refine yl_6 hC hP (by omega) dX1_redundant_70 ?_
      refine ni_ne (tgt := 89) hx hb (by omega) (by omega) dX1_redundant_71 (by decide) (fun c3 => ?_) (fun c3 => ?_)
      · refine lv_iconst (v := (nI 0)) hx hb dX1_redundant_89 (by decide) ?_
        exact hret _ _ _ pr2 _ _ dX1_redundant_90 (tr_nzv (by omega)) (⟨by rw [tr_eB_n lk hb9, tr_b_f (fun z => c3 ((tr_fx_eq ok lk fx1 fx2).mpr z).2.1)]; rfl, hyi⟩) hP hD hS
      · refine lv_iload hx hb dX1_redundant_74 (lv_at hl 0 rfl) ?_
        refine lv_aload_n hx hb dX1_redundant_76 rfl (lv_at hl 3 rfl) ?_
        refine yg_26 hC hP dX1_redundant_77 ?_
        refine lv_iconst (v := (nI 4)) hx hb dX1_redundant_80 (by decide) ?_
        refine yl_6 hC hP (by omega) dX1_redundant_81 ?_
        refine ni_ne (tgt := 89) hx hb (by omega) (by omega) dX1_redundant_82 (by decide) (fun c4 => ?_) (fun c4 => ?_)
        · refine lv_iconst (v := (nI 0)) hx hb dX1_redundant_89 (by decide) ?_
          exact hret _ _ _ pr2 _ _ dX1_redundant_90 (tr_nzv (by omega)) (⟨by rw [tr_eB_n lk hb9, tr_b_f (fun z => c4 ((tr_fx_eq ok lk fx1 fx2).mpr z).2.2)]; rfl, hyi⟩) hP hD hS
        · refine lv_iconst (v := (nI 1)) hx hb dX1_redundant_85 (by decide) ?_
          refine lv_goto (tgt := 90) hx hb dX1_redundant_86 (by decide) ?_
          exact hret _ _ _ pr2 _ _ dX1_redundant_90 (tr_nzv (by omega)) (⟨by rw [tr_eB_n lk hb9, tr_b_t ((tr_fx_eq ok lk fx1 fx2).mp ⟨c2, c3, c4⟩)]; rfl, hyi⟩) hP hD hS
  · refine lv_iconst (v := (nI 0)) hx hb dX1_redundant_8 (by decide) ?_
    exact hret _ _ _ pr _ _ dX1_redundant_9 (tr_nzv (by omega)) (⟨by rw [tr_eB_f c1]; rfl, yi⟩) hP hD hS
abbrev rmX1_loss : Room := { frames := 5, cells := 0, slots := 0, locals := 118 }
set_option maxHeartbeats 4000000 in
set_option maxRecDepth 100000 in
/-- loss -/
theorem ty_loss (l : Launch) (D : va_G) (dZ dN : ClassId) (q : Nat → Nat) (K : tr_C) (pr : Nat → Nat) (rp rg rx ry : Int32) (ok : tr_ok K) (yi : tr_yi K pr) : tr_Mi l D (tr_YT dZ dN) yX1_loss (ws_ yX1_loss cX1_loss 7 (some .int)) rmX1_loss [.ref (q 0), .int rp, .int rg, .int rx, .int ry] (tr_YW dZ dN q K pr) (fun (r : Int32) (u : Nat → Nat) => r = tr_lI K rp rg rx ry ∧ tr_yi K u) (fun (u : Nat → Nat) => tr_YW dZ dN q K u) := by
  refine tr_Mi.of (by decide) (Nat.le_of_ble_eq_true rfl) ?_
  intro p e s m args below meth c A Q ls hC hret hP hD hS hl
  have hC0 := hC
  obtain ⟨hx, hb, hlk, hml, hown, hts, hA, hK⟩ := hC0
  have hl : lv_has ls 7 [(0, .ref (q 0)), (1, .int rp), (2, .int rg), (3, .int rx), (4, .int ry)] := hl
  have lpr := yi.1
  refine lv_iload_n hx hb dX1_loss_0 rfl (lv_at hl 2 rfl) ?_
  refine lv_if_eq (tgt := 9) hx hb dX1_loss_1 (by decide) (fun c1 => ?_) (fun c1 => ?_)
  · have hr2 := tr_r2_0 c1
    refine lv_aload_n hx hb dX1_loss_9 rfl (lv_at hl 0 rfl) ?_
    refine lv_iload_n hx hb dX1_loss_10 rfl (lv_at hl 1 rfl) ?_
    refine yc_i (n := 1) hC (ty_five l D dZ dN q K pr rp) (lw_V q195 q197 qs11 q20 q198) (by decide +kernel) rfl (by decide) hP hD hS hl.1 [] rfl (Nat.le_of_ble_eq_true rfl) dX1_loss_11 (fun r u H locs hp hP hD hS => ?_)
    subst hp
    have hP : va_P D tr_Cl (tr_YW dZ dN q K pr) H := hP
    have hD : va_D A (tr_YW dZ dN q K pr) := hD
    refine nb_eq (tgt := 34) hx hb dX1_loss_14 (by decide) (fun c3 => ?_) (fun c3 => ?_)
    · refine lv_iconst (v := (-1)) hx hb dX1_loss_34 (by decide) ?_
      exact hret _ _ _ pr _ _ dX1_loss_35 rfl (⟨by rw [tr_lI_f (Or.inl c3)], yi⟩) hP hD hS
    · refine lv_aload_n hx hb dX1_loss_17 rfl (lv_at hl 0 rfl) ?_
      refine lv_iload_n hx hb dX1_loss_18 rfl (lv_at hl 3 rfl) ?_
      refine yc_i (n := 1) hC (ty_five l D dZ dN q K pr rx) (lw_V q195 q197 qs11 q20 q198) (by decide +kernel) rfl (by decide) hP hD hS hl.1 [] rfl (Nat.le_of_ble_eq_true rfl) dX1_loss_19 (fun r u H locs hp hP hD hS => ?_)
      subst hp
      have hP : va_P D tr_Cl (tr_YW dZ dN q K pr) H := hP
      have hD : va_D A (tr_YW dZ dN q K pr) := hD
      refine nb_eq (tgt := 34) hx hb dX1_loss_22 (by decide) (fun c4 => ?_) (fun c4 => ?_)
      · refine lv_iconst (v := (-1)) hx hb dX1_loss_34 (by decide) ?_
        exact hret _ _ _ pr _ _ dX1_loss_35 rfl (⟨by rw [tr_lI_f (Or.inr (Or.inr (Or.inl c4)))], yi⟩) hP hD hS
      · refine lv_aload_n hx hb dX1_loss_25 rfl (lv_at hl 0 rfl) ?_
        refine lv_iload hx hb dX1_loss_26 (lv_at hl 4 rfl) ?_
        refine yc_i (n := 1) hC (ty_five l D dZ dN q K pr ry) (lw_V q195 q197 qs11 q20 q198) (by decide +kernel) rfl (by decide) hP hD hS hl.1 [] rfl (Nat.le_of_ble_eq_true rfl) dX1_loss_28 (fun r u H locs hp hP hD hS => ?_)
        subst hp
        have hP : va_P D tr_Cl (tr_YW dZ dN q K pr) H := hP
        have hD : va_D A (tr_YW dZ dN q K pr) := hD
        refine nb_ne (tgt := 36) hx hb dX1_loss_31 (by decide) (fun c5 => ?_) (fun c5 => ?_)
        · obtain ⟨n1, l1, rfl⟩ := tr_rg_n c3
          obtain ⟨g, lg, rfl⟩ := tr_r2_n hr2
          obtain ⟨n3, l3, rfl⟩ := tr_rg_n c4
          obtain ⟨n4, l4, rfl⟩ := tr_rg_n c5
          refine lv_aload_n hx hb dX1_loss_36 rfl (lv_at hl 0 rfl) ?_
          refine lv_iload_n hx hb dX1_loss_37 rfl (lv_at hl 2 rfl) ?_
          refine lv_iload_n hx hb dX1_loss_38 rfl (lv_at hl 3 rfl) ?_
          refine lv_iload hx hb dX1_loss_39 (lv_at hl 4 rfl) ?_
          refine yc_i (n := 3) hC (ty_in l D dZ dN q K pr g n3 n4 lpr (by omega) l3 l4) (lw_V q231 q233 qs16 q20 q234) (by decide +kernel) rfl (by decide) hP hD hS hl.1 [] rfl (Nat.le_of_ble_eq_true rfl) dX1_loss_41 (fun r u H locs hp hP hD hS => ?_)
          subst hp
          have hP : va_P D tr_Cl (tr_YW dZ dN q K pr) H := hP
          have hD : va_D A (tr_YW dZ dN q K pr) := hD
          refine tr_top (v := (nI ((kG K (5 * g + n3)).testBit n4).toNat)) (by rw [yi.2 g n3 n4 lg l3 l4]) ?_
          refine nb_ne (tgt := 49) hx hb dX1_loss_44 (by decide) (fun c6 => ?_) (fun c6 => ?_)
          · refine lv_aload_n hx hb dX1_loss_49 rfl (lv_at hl 0 rfl) ?_
            refine lv_iload_n hx hb dX1_loss_50 rfl (lv_at hl 1 rfl) ?_
            refine yc_i (n := 1) hC (ty_count l D dZ dN q K pr (nI n1) ok yi) (lw_V q263 q244 q245 q20 q246) (by decide +kernel) rfl (by decide) hP hD hS hl.1 [] rfl (Nat.le_of_ble_eq_true rfl) dX1_loss_51 (fun r u H locs hp hP hD hS => ?_)
            obtain ⟨pr1, eu⟩ : ∃ z, z = u := ⟨_, rfl⟩
            rw [← eu] at hp hP hD
            obtain ⟨rfl, y1⟩ := hp
            have hP : va_P D tr_Cl (tr_YW dZ dN q K pr1) H := hP
            have hD : va_D A (tr_YW dZ dN q K pr1) := hD
            refine tr_top (v := (nI (tr_cnt K n1))) (tr_cI_n l1) ?_
            refine lv_istore (lv' := [(5, .int (nI (tr_cnt K n1))), (0, .ref (q 0)), (1, .int (nI n1)), (2, .int (nI g)), (3, .int (nI n3)), (4, .int (nI n4))]) hx hb dX1_loss_54 hl (by decide) rfl (fun ls hl => ?_)
            refine lv_aload_n hx hb dX1_loss_56 rfl (lv_at hl 1 rfl) ?_
            refine lv_iload_n hx hb dX1_loss_57 rfl (lv_at hl 3 rfl) ?_
            refine lv_iload_n hx hb dX1_loss_58 rfl (lv_at hl 4 rfl) ?_
            refine lv_iload hx hb dX1_loss_59 (lv_at hl 5 rfl) ?_
            refine lv_iconst (v := (nI 0)) hx hb dX1_loss_61 (by decide) ?_
            refine tr_top (v := nI (false).toNat) rfl ?_
            refine yc_i (n := 4) hC (ty_give l D dZ dN q K pr1 (nI g) (nI n3) (nI n4) false ok y1) (lw_V q264 q192 q193 q20 q194) (by decide +kernel) rfl (by decide) hP hD hS hl.1 [] rfl (Nat.le_of_ble_eq_true rfl) dX1_loss_62 (fun r u H locs hp hP hD hS => ?_)
            obtain ⟨pr2, eu⟩ : ∃ z, z = u := ⟨_, rfl⟩
            rw [← eu] at hp hP hD
            obtain ⟨rfl, y2⟩ := hp
            rw [tr_gK_n lg l3 l4] at y2 hP hD
            have hP : va_P D tr_Cl (tr_YW dZ dN q (tr_gv K g n3 n4 false) pr2) H := hP
            have hD : va_D A (tr_YW dZ dN q (tr_gv K g n3 n4 false) pr2) := hD
            have ok2 : tr_ok (tr_gv K g n3 n4 false) := tr_ok_gv ok
            refine lv_pop hx hb dX1_loss_65 rfl ?_
            refine lv_aload_n hx hb dX1_loss_66 rfl (lv_at hl 1 rfl) ?_
            refine lv_iload_n hx hb dX1_loss_67 rfl (lv_at hl 2 rfl) ?_
            refine yc_i (n := 1) hC (ty_count l D dZ dN q (tr_gv K g n3 n4 false) pr2 (nI n1) ok2 y2) (lw_V q263 q244 q245 q20 q246) (by decide +kernel) rfl (by decide) hP hD hS hl.1 [] rfl (Nat.le_of_ble_eq_true rfl) dX1_loss_68 (fun r u H locs hp hP hD hS => ?_)
            obtain ⟨pr3, eu⟩ : ∃ z, z = u := ⟨_, rfl⟩
            rw [← eu] at hp hP hD
            obtain ⟨rfl, y3⟩ := hp
            have hP : va_P D tr_Cl (tr_YW dZ dN q (tr_gv K g n3 n4 false) pr3) H := hP
            have hD : va_D A (tr_YW dZ dN q (tr_gv K g n3 n4 false) pr3) := hD
            refine tr_top (v := (nI (tr_cnt (tr_gv K g n3 n4 false) n1))) (tr_cI_n l1) ?_
            refine lv_istore (lv' := [(6, .int (nI (tr_cnt (tr_gv K g n3 n4 false) n1))), (5, .int (nI (tr_cnt K n1))), (0, .ref (q 0)), (1, .int (nI n1)), (2, .int (nI g)), (3, .int (nI n3)), (4, .int (nI n4))]) hx hb dX1_loss_71 hl (by decide) rfl (fun ls hl => ?_)
            refine lv_aload_n hx hb dX1_loss_73 rfl (lv_at hl 2 rfl) ?_
            refine lv_iload_n hx hb dX1_loss_74 rfl (lv_at hl 4 rfl) ?_
            refine lv_iload_n hx hb dX1_loss_75 rfl (lv_at hl 5 rfl) ?_
            refine lv_iload hx hb dX1_loss_76 (lv_at hl 6 rfl) ?_
            refine lv_iconst (v := (nI 1)) hx hb dX1_loss_78 (by decide) ?_
            refine tr_top (v := nI (true).toNat) rfl ?_
            refine yc_i (n := 4) hC (ty_give l D dZ dN q (tr_gv K g n3 n4 false) pr3 (nI g) (nI n3) (nI n4) true ok2 y3) (lw_V q264 q192 q193 q20 q194) (by decide +kernel) rfl (by decide) hP hD hS hl.1 [] rfl (Nat.le_of_ble_eq_true rfl) dX1_loss_79 (fun r u H locs hp hP hD hS => ?_)
            obtain ⟨pr4, eu⟩ : ∃ z, z = u := ⟨_, rfl⟩
            rw [← eu] at hp hP hD
            obtain ⟨rfl, y4⟩ := hp
            rw [tr_gK_n lg l3 l4, tr_gv_back ok l4 c6] at y4 hP hD
            have hP : va_P D tr_Cl (tr_YW dZ dN q K pr4) H := hP
            have hD : va_D A (tr_YW dZ dN q K pr4) := hD
            refine lv_pop hx hb dX1_loss_82 rfl ?_
            refine lv_iload hx hb dX1_loss_83 (lv_at hl 1 rfl) ?_
            refine lv_iload hx hb dX1_loss_85 (lv_at hl 0 rfl) ?_
            refine lv_isub hx hb dX1_loss_87 ?_
            exact hret _ _ _ pr4 _ _ dX1_loss_88 rfl (⟨by rw [tr_lI_n l1 lg l3 l4, c6, if_pos rfl], y4⟩) hP hD hS
          · refine lv_iconst (v := (nI 0)) hx hb dX1_loss_47 (by decide) ?_
            exact hret _ _ _ pr _ _ dX1_loss_48 rfl (⟨by rw [tr_lI_n l1 lg l3 l4, c6]; rfl, yi⟩) hP hD hS
        · refine lv_iconst (v := (-1)) hx hb dX1_loss_34 (by decide) ?_
          exact hret _ _ _ pr _ _ dX1_loss_35 rfl (⟨by rw [tr_lI_f (Or.inr (Or.inr (Or.inr c5)))], yi⟩) hP hD hS
  · refine lv_iload_n hx hb dX1_loss_4 rfl (lv_at hl 2 rfl) ?_
    refine lv_iconst (v := (nI 1)) hx hb dX1_loss_5 (by decide) ?_
    refine lv_icmp_ne (tgt := 34) hx hb dX1_loss_6 (by decide) (fun c2 => ?_) (fun c2 => ?_)
    · refine lv_iconst (v := (-1)) hx hb dX1_loss_34 (by decide) ?_
      exact hret _ _ _ pr _ _ dX1_loss_35 rfl (⟨by rw [tr_lI_f (Or.inr (Or.inl (tr_r2_ne c1 c2)))], yi⟩) hP hD hS
    · have hr2 := tr_r2_1 c2
      refine lv_aload_n hx hb dX1_loss_9 rfl (lv_at hl 0 rfl) ?_
      refine lv_iload_n hx hb dX1_loss_10 rfl (lv_at hl 1 rfl) ?_
      refine yc_i (n := 1) hC (ty_five l D dZ dN q K pr rp) (lw_V q195 q197 qs11 q20 q198) (by decide +kernel) rfl (by decide) hP hD hS hl.1 [] rfl (Nat.le_of_ble_eq_true rfl) dX1_loss_11 (fun r u H locs hp hP hD hS => ?_)
      subst hp
      have hP : va_P D tr_Cl (tr_YW dZ dN q K pr) H := hP
      have hD : va_D A (tr_YW dZ dN q K pr) := hD
      refine nb_eq (tgt := 34) hx hb dX1_loss_14 (by decide) (fun c3 => ?_) (fun c3 => ?_)
      · refine lv_iconst (v := (-1)) hx hb dX1_loss_34 (by decide) ?_
        exact hret _ _ _ pr _ _ dX1_loss_35 rfl (⟨by rw [tr_lI_f (Or.inl c3)], yi⟩) hP hD hS
      · refine lv_aload_n hx hb dX1_loss_17 rfl (lv_at hl 0 rfl) ?_
        refine lv_iload_n hx hb dX1_loss_18 rfl (lv_at hl 3 rfl) ?_
        refine yc_i (n := 1) hC (ty_five l D dZ dN q K pr rx) (lw_V q195 q197 qs11 q20 q198) (by decide +kernel) rfl (by decide) hP hD hS hl.1 [] rfl (Nat.le_of_ble_eq_true rfl) dX1_loss_19 (fun r u H locs hp hP hD hS => ?_)
        subst hp
        have hP : va_P D tr_Cl (tr_YW dZ dN q K pr) H := hP
        have hD : va_D A (tr_YW dZ dN q K pr) := hD
        refine nb_eq (tgt := 34) hx hb dX1_loss_22 (by decide) (fun c4 => ?_) (fun c4 => ?_)
        · refine lv_iconst (v := (-1)) hx hb dX1_loss_34 (by decide) ?_
          exact hret _ _ _ pr _ _ dX1_loss_35 rfl (⟨by rw [tr_lI_f (Or.inr (Or.inr (Or.inl c4)))], yi⟩) hP hD hS
        · refine lv_aload_n hx hb dX1_loss_25 rfl (lv_at hl 0 rfl) ?_
          refine lv_iload hx hb dX1_loss_26 (lv_at hl 4 rfl) ?_
          refine yc_i (n := 1) hC (ty_five l D dZ dN q K pr ry) (lw_V q195 q197 qs11 q20 q198) (by decide +kernel) rfl (by decide) hP hD hS hl.1 [] rfl (Nat.le_of_ble_eq_true rfl) dX1_loss_28 (fun r u H locs hp hP hD hS => ?_)
          subst hp
          have hP : va_P D tr_Cl (tr_YW dZ dN q K pr) H := hP
          have hD : va_D A (tr_YW dZ dN q K pr) := hD
          refine nb_ne (tgt := 36) hx hb dX1_loss_31 (by decide) (fun c5 => ?_) (fun c5 => ?_)
          · obtain ⟨n1, l1, rfl⟩ := tr_rg_n c3
            obtain ⟨g, lg, rfl⟩ := tr_r2_n hr2
            obtain ⟨n3, l3, rfl⟩ := tr_rg_n c4
            obtain ⟨n4, l4, rfl⟩ := tr_rg_n c5
            refine lv_aload_n hx hb dX1_loss_36 rfl (lv_at hl 0 rfl) ?_
            refine lv_iload_n hx hb dX1_loss_37 rfl (lv_at hl 2 rfl) ?_
            refine lv_iload_n hx hb dX1_loss_38 rfl (lv_at hl 3 rfl) ?_
            refine lv_iload hx hb dX1_loss_39 (lv_at hl 4 rfl) ?_
            refine yc_i (n := 3) hC (ty_in l D dZ dN q K pr g n3 n4 lpr (by omega) l3 l4) (lw_V q231 q233 qs16 q20 q234) (by decide +kernel) rfl (by decide) hP hD hS hl.1 [] rfl (Nat.le_of_ble_eq_true rfl) dX1_loss_41 (fun r u H locs hp hP hD hS => ?_)
            subst hp
            have hP : va_P D tr_Cl (tr_YW dZ dN q K pr) H := hP
            have hD : va_D A (tr_YW dZ dN q K pr) := hD
            refine tr_top (v := (nI ((kG K (5 * g + n3)).testBit n4).toNat)) (by rw [yi.2 g n3 n4 lg l3 l4]) ?_
            refine nb_ne (tgt := 49) hx hb dX1_loss_44 (by decide) (fun c6 => ?_) (fun c6 => ?_)
            · refine lv_aload_n hx hb dX1_loss_49 rfl (lv_at hl 0 rfl) ?_
              refine lv_iload_n hx hb dX1_loss_50 rfl (lv_at hl 1 rfl) ?_
              refine yc_i (n := 1) hC (ty_count l D dZ dN q K pr (nI n1) ok yi) (lw_V q263 q244 q245 q20 q246) (by decide +kernel) rfl (by decide) hP hD hS hl.1 [] rfl (Nat.le_of_ble_eq_true rfl) dX1_loss_51 (fun r u H locs hp hP hD hS => ?_)
              obtain ⟨pr1, eu⟩ : ∃ z, z = u := ⟨_, rfl⟩
              rw [← eu] at hp hP hD
              obtain ⟨rfl, y1⟩ := hp
              have hP : va_P D tr_Cl (tr_YW dZ dN q K pr1) H := hP
              have hD : va_D A (tr_YW dZ dN q K pr1) := hD
              refine tr_top (v := (nI (tr_cnt K n1))) (tr_cI_n l1) ?_
              refine lv_istore (lv' := [(5, .int (nI (tr_cnt K n1))), (0, .ref (q 0)), (1, .int (nI n1)), (2, .int (nI g)), (3, .int (nI n3)), (4, .int (nI n4))]) hx hb dX1_loss_54 hl (by decide) rfl (fun ls hl => ?_)
              refine lv_aload_n hx hb dX1_loss_56 rfl (lv_at hl 1 rfl) ?_
              refine lv_iload_n hx hb dX1_loss_57 rfl (lv_at hl 3 rfl) ?_
              refine lv_iload_n hx hb dX1_loss_58 rfl (lv_at hl 4 rfl) ?_
              refine lv_iload hx hb dX1_loss_59 (lv_at hl 5 rfl) ?_
              refine lv_iconst (v := (nI 0)) hx hb dX1_loss_61 (by decide) ?_
              refine tr_top (v := nI (false).toNat) rfl ?_
              refine yc_i (n := 4) hC (ty_give l D dZ dN q K pr1 (nI g) (nI n3) (nI n4) false ok y1) (lw_V q264 q192 q193 q20 q194) (by decide +kernel) rfl (by decide) hP hD hS hl.1 [] rfl (Nat.le_of_ble_eq_true rfl) dX1_loss_62 (fun r u H locs hp hP hD hS => ?_)
              obtain ⟨pr2, eu⟩ : ∃ z, z = u := ⟨_, rfl⟩
              rw [← eu] at hp hP hD
              obtain ⟨rfl, y2⟩ := hp
              rw [tr_gK_n lg l3 l4] at y2 hP hD
              have hP : va_P D tr_Cl (tr_YW dZ dN q (tr_gv K g n3 n4 false) pr2) H := hP
              have hD : va_D A (tr_YW dZ dN q (tr_gv K g n3 n4 false) pr2) := hD
              have ok2 : tr_ok (tr_gv K g n3 n4 false) := tr_ok_gv ok
              refine lv_pop hx hb dX1_loss_65 rfl ?_
              refine lv_aload_n hx hb dX1_loss_66 rfl (lv_at hl 1 rfl) ?_
              refine lv_iload_n hx hb dX1_loss_67 rfl (lv_at hl 2 rfl) ?_
              refine yc_i (n := 1) hC (ty_count l D dZ dN q (tr_gv K g n3 n4 false) pr2 (nI n1) ok2 y2) (lw_V q263 q244 q245 q20 q246) (by decide +kernel) rfl (by decide) hP hD hS hl.1 [] rfl (Nat.le_of_ble_eq_true rfl) dX1_loss_68 (fun r u H locs hp hP hD hS => ?_)
              obtain ⟨pr3, eu⟩ : ∃ z, z = u := ⟨_, rfl⟩
              rw [← eu] at hp hP hD
              obtain ⟨rfl, y3⟩ := hp
              have hP : va_P D tr_Cl (tr_YW dZ dN q (tr_gv K g n3 n4 false) pr3) H := hP
              have hD : va_D A (tr_YW dZ dN q (tr_gv K g n3 n4 false) pr3) := hD
              refine tr_top (v := (nI (tr_cnt (tr_gv K g n3 n4 false) n1))) (tr_cI_n l1) ?_
              refine lv_istore (lv' := [(6, .int (nI (tr_cnt (tr_gv K g n3 n4 false) n1))), (5, .int (nI (tr_cnt K n1))), (0, .ref (q 0)), (1, .int (nI n1)), (2, .int (nI g)), (3, .int (nI n3)), (4, .int (nI n4))]) hx hb dX1_loss_71 hl (by decide) rfl (fun ls hl => ?_)
              refine lv_aload_n hx hb dX1_loss_73 rfl (lv_at hl 2 rfl) ?_
              refine lv_iload_n hx hb dX1_loss_74 rfl (lv_at hl 4 rfl) ?_
              refine lv_iload_n hx hb dX1_loss_75 rfl (lv_at hl 5 rfl) ?_
              refine lv_iload hx hb dX1_loss_76 (lv_at hl 6 rfl) ?_
              refine lv_iconst (v := (nI 1)) hx hb dX1_loss_78 (by decide) ?_
              refine tr_top (v := nI (true).toNat) rfl ?_
              refine yc_i (n := 4) hC (ty_give l D dZ dN q (tr_gv K g n3 n4 false) pr3 (nI g) (nI n3) (nI n4) true ok2 y3) (lw_V q264 q192 q193 q20 q194) (by decide +kernel) rfl (by decide) hP hD hS hl.1 [] rfl (Nat.le_of_ble_eq_true rfl) dX1_loss_79 (fun r u H locs hp hP hD hS => ?_)
              obtain ⟨pr4, eu⟩ : ∃ z, z = u := ⟨_, rfl⟩
              rw [← eu] at hp hP hD
              obtain ⟨rfl, y4⟩ := hp
              rw [tr_gK_n lg l3 l4, tr_gv_back ok l4 c6] at y4 hP hD
              have hP : va_P D tr_Cl (tr_YW dZ dN q K pr4) H := hP
              have hD : va_D A (tr_YW dZ dN q K pr4) := hD
              refine lv_pop hx hb dX1_loss_82 rfl ?_
              refine lv_iload hx hb dX1_loss_83 (lv_at hl 1 rfl) ?_
              refine lv_iload hx hb dX1_loss_85 (lv_at hl 0 rfl) ?_
              refine lv_isub hx hb dX1_loss_87 ?_
              exact hret _ _ _ pr4 _ _ dX1_loss_88 rfl (⟨by rw [tr_lI_n l1 lg l3 l4, c6, if_pos rfl], y4⟩) hP hD hS
            · refine lv_iconst (v := (nI 0)) hx hb dX1_loss_47 (by decide) ?_
              exact hret _ _ _ pr _ _ dX1_loss_48 rfl (⟨by rw [tr_lI_n l1 lg l3 l4, c6]; rfl, yi⟩) hP hD hS
          · refine lv_iconst (v := (-1)) hx hb dX1_loss_34 (by decide) ?_
            exact hret _ _ _ pr _ _ dX1_loss_35 rfl (⟨by rw [tr_lI_f (Or.inr (Or.inr (Or.inr c5)))], yi⟩) hP hD hS
abbrev rmX1_transitive : Room := { frames := 4, cells := 0, slots := 0, locals := 97 }
set_option maxHeartbeats 4000000 in
set_option maxRecDepth 100000 in
/-- transitive -/
theorem ty_transitive (l : Launch) (D : va_G) (dZ dN : ClassId) (q : Nat → Nat) (K : tr_C) (pr : Nat → Nat) (rp : Int32) (ok : tr_ok K) (yi : tr_yi K pr) : tr_Mi l D (tr_YT dZ dN) yX1_transitive (ws_ yX1_transitive cX1_transitive 7 (some .boolean)) rmX1_transitive [.ref (q 0), .int rp] (tr_YW dZ dN q K pr) (fun (r : Int32) (u : Nat → Nat) => r = nI (tr_tB K rp).toNat ∧ tr_yi K u) (fun (u : Nat → Nat) => tr_YW dZ dN q K u) := by
  refine tr_Mi.of (by decide) (Nat.le_of_ble_eq_true rfl) ?_
  intro p e s m args below meth c A Q ls hC hret hP hD hS hl
  have hC0 := hC
  obtain ⟨hx, hb, hlk, hml, hown, hts, hA, hK⟩ := hC0
  have hl : lv_has ls 7 [(0, .ref (q 0)), (1, .int rp)] := hl
  refine lv_aload_n hx hb dX1_transitive_0 rfl (lv_at hl 0 rfl) ?_
  refine yc_v (n := 0) hC (ty_work l D dZ dN q K pr ok yi) (lw_V q219 q221 qs13 q20 q222) (by decide +kernel) rfl (by decide) hP hD hS hl.1 [] rfl (Nat.le_of_ble_eq_true rfl) dX1_transitive_1 (fun u H locs hp hP hD hS => ?_)
  obtain ⟨pr1, eu⟩ : ∃ z, z = u := ⟨_, rfl⟩
  rw [← eu] at hp hP hD
  have hP : va_P D tr_Cl (tr_YW dZ dN q K pr1) H := hP
  have hD : va_D A (tr_YW dZ dN q K pr1) := hD
  have fx1 : tr_fx K pr1 := hp
  have lpr := fx1.1.1
  refine lv_aload_n hx hb dX1_transitive_4 rfl (lv_at hl 0 rfl) ?_
  refine lv_iload_n hx hb dX1_transitive_5 rfl (lv_at hl 1 rfl) ?_
  refine yc_i (n := 1) hC (ty_five l D dZ dN q K pr1 rp) (lw_V q195 q197 qs11 q20 q198) (by decide +kernel) rfl (by decide) hP hD hS hl.1 [] rfl (Nat.le_of_ble_eq_true rfl) dX1_transitive_6 (fun r u H locs hp hP hD hS => ?_)
  subst hp
  have hP : va_P D tr_Cl (tr_YW dZ dN q K pr1) H := hP
  have hD : va_D A (tr_YW dZ dN q K pr1) := hD
  refine lv_istore_n (lv' := [(2, .int (nI ((tr_rg rp).toNat))), (0, .ref (q 0)), (1, .int rp)]) hx hb dX1_transitive_9 rfl hl (by decide) rfl (fun ls hl => ?_)
  refine lv_iconst (v := (nI 0)) hx hb dX1_transitive_10 (by decide) ?_
  refine lv_istore_n (lv' := [(3, .int (nI 0)), (2, .int (nI ((tr_rg rp).toNat))), (0, .ref (q 0)), (1, .int rp)]) hx hb dX1_transitive_11 rfl hl (by decide) rfl (fun ls hl => ?_)
  have loop : ∀ (n : Nat) (i f : Nat) (H : Heap) (locs : List Loc) (ls : Array Slot), i ≤ 125 → 125 + 1 ≤ i + n → tr_ti K rp i f → va_P D tr_Cl (tr_YW dZ dN q K pr1) H → va_D A (tr_YW dZ dN q K pr1) → va_S A s.heap H locs → lv_has ls 7 [(0, .ref (q 0)), (1, .int rp), (2, .int (nI f)), (3, .int (nI i))] → W p l e rmX1_transitive s m args below meth c H locs 0 0 Q (F0 m 12 ls []) := by
    intro n
    induction n with
    | zero =>
      intro i f H locs ls h1 h2
      exact absurd h2 (by omega)
    | succ n ihloop =>
      intro i f H locs ls hiloop hnloop hI1 hP hD hS hl
      have lf := hI1.1
      refine lv_iload_n hx hb dX1_transitive_12 rfl (lv_at hl 3 rfl) ?_
      refine lv_bipush (v := (nI 125)) hx hb dX1_transitive_13 (by decide) ?_
      refine ni_ge (tgt := 88) hx hb (by omega) (by omega) dX1_transitive_15 (by decide) (fun c1 => ?_) (fun c1 => ?_)
      · refine lv_iload_n hx hb dX1_transitive_88 rfl (lv_at hl 2 rfl) ?_
        exact hret _ _ _ pr1 _ _ dX1_transitive_89 (tr_nzv lf) (⟨congrArg nI (tr_ti_end hI1 (Or.inl c1)), fx1.1⟩) hP hD hS
      · refine lv_iload_n hx hb dX1_transitive_18 rfl (lv_at hl 2 rfl) ?_
        refine nz_eq (tgt := 88) hx hb (by omega) dX1_transitive_19 (by decide) (fun c2 => ?_) (fun c2 => ?_)
        · refine lv_iload_n hx hb dX1_transitive_88 rfl (lv_at hl 2 rfl) ?_
          exact hret _ _ _ pr1 _ _ dX1_transitive_89 (tr_nzv lf) (⟨congrArg nI (tr_ti_end hI1 (Or.inr c2)), fx1.1⟩) hP hD hS
        · obtain ⟨n1, l1, rfl⟩ := tr_rg_n (tr_ti_rg hI1 c2)
          refine lv_iload_n hx hb dX1_transitive_22 rfl (lv_at hl 3 rfl) ?_
          refine lv_bipush (v := (nI 25)) hx hb dX1_transitive_23 (by decide) ?_
          refine lv_idiv hx hb dX1_transitive_25 (by decide) ?_
          refine tr_top (v := (nI (i / 25))) (pk_div (by omega) (by omega) (by omega)) ?_
          refine lv_istore (lv' := [(4, .int (nI (i / 25))), (0, .ref (q 0)), (1, .int (nI n1)), (2, .int (nI f)), (3, .int (nI i))]) hx hb dX1_transitive_26 hl (by decide) rfl (fun ls hl => ?_)
          refine lv_iload_n hx hb dX1_transitive_28 rfl (lv_at hl 4 rfl) ?_
          refine lv_iconst (v := (nI 5)) hx hb dX1_transitive_29 (by decide) ?_
          refine lv_idiv hx hb dX1_transitive_30 (by decide) ?_
          refine tr_top (v := (nI (i / 5))) (pk_div (by omega) (by omega) (by omega)) ?_
          refine lv_iconst (v := (nI 5)) hx hb dX1_transitive_31 (by decide) ?_
          refine lv_irem hx hb dX1_transitive_32 (by decide) ?_
          refine tr_top (v := (nI ((i / 5) % 5))) (pk_rem (by omega) (by omega) (by omega)) ?_
          refine lv_istore (lv' := [(5, .int (nI ((i / 5) % 5))), (4, .int (nI (i / 25))), (0, .ref (q 0)), (1, .int (nI n1)), (2, .int (nI f)), (3, .int (nI i))]) hx hb dX1_transitive_33 hl (by decide) rfl (fun ls hl => ?_)
          refine lv_iload_n hx hb dX1_transitive_35 rfl (lv_at hl 5 rfl) ?_
          refine lv_iconst (v := (nI 5)) hx hb dX1_transitive_36 (by decide) ?_
          refine lv_irem hx hb dX1_transitive_37 (by decide) ?_
          refine tr_top (v := (nI (i % 5))) (pk_rem (by omega) (by omega) (by omega)) ?_
          refine lv_istore (lv' := [(6, .int (nI (i % 5))), (5, .int (nI ((i / 5) % 5))), (4, .int (nI (i / 25))), (0, .ref (q 0)), (1, .int (nI n1)), (2, .int (nI f)), (3, .int (nI i))]) hx hb dX1_transitive_38 hl (by decide) rfl (fun ls hl => ?_)
          refine lv_aload_n hx hb dX1_transitive_40 rfl (lv_at hl 3 rfl) ?_
          refine lv_iload_n hx hb dX1_transitive_41 rfl (lv_at hl 4 rfl) ?_
          refine lv_iload hx hb dX1_transitive_42 (lv_at hl 2 rfl) ?_
          refine lv_iload hx hb dX1_transitive_44 (lv_at hl 1 rfl) ?_
          refine yc_i (n := 3) hC (ty_in l D dZ dN q K pr1 n1 (i / 25) (i / 5 % 5) lpr l1 (by omega) (by omega)) (lw_V q231 q233 qs16 q20 q234) (by decide +kernel) rfl (by decide) hP hD hS hl.1 [] rfl (Nat.le_of_ble_eq_true rfl) dX1_transitive_46 (fun r u H locs hp hP hD hS => ?_)
          subst hp
          have hP : va_P D tr_Cl (tr_YW dZ dN q K pr1) H := hP
          have hD : va_D A (tr_YW dZ dN q K pr1) := hD
          refine nb_eq (tgt := 76) hx hb dX1_transitive_49 (by decide) (fun c3 => ?_) (fun c3 => ?_)
          · refine lv_iconst (v := (nI 1)) hx hb dX1_transitive_76 (by decide) ?_
            refine lv_goto (tgt := 81) hx hb dX1_transitive_77 (by decide) ?_
            refine lv_istore_n (lv' := [(2, .int (nI 1)), (6, .int (nI (i % 5))), (5, .int (nI ((i / 5) % 5))), (4, .int (nI (i / 25))), (0, .ref (q 0)), (1, .int (nI n1)), (3, .int (nI i))]) hx hb dX1_transitive_81 rfl hl (by decide) rfl (fun ls hl => ?_)
            refine lv_iinc (v := (nI (i + 1))) (lv' := [(3, .int (nI (i + 1))), (2, .int (nI 1)), (6, .int (nI (i % 5))), (5, .int (nI ((i / 5) % 5))), (4, .int (nI (i / 25))), (0, .ref (q 0)), (1, .int (nI n1))]) hx hb dX1_transitive_82 hl (k := 6) rfl (nI_1 _) (by decide) rfl (fun ls hl => ?_)
            refine lv_goto (tgt := 12) hx hb dX1_transitive_85 (by decide) ?_
            exact ihloop (i + 1) 1 _ _ _ (by omega) (by omega) (tr_ti_ok l1 hI1 c2 (fun z => absurd z (tr_fx_nL fx1 l1 (by omega) (by omega) c3))) hP hD hS (lv_sub hl [5, 6, 1, 0] rfl)
          · refine lv_aload_n hx hb dX1_transitive_52 rfl (lv_at hl 3 rfl) ?_
            refine lv_iload_n hx hb dX1_transitive_53 rfl (lv_at hl 4 rfl) ?_
            refine lv_iload hx hb dX1_transitive_54 (lv_at hl 1 rfl) ?_
            refine lv_iload hx hb dX1_transitive_56 (lv_at hl 0 rfl) ?_
            refine yc_i (n := 3) hC (ty_in l D dZ dN q K pr1 n1 (i / 5 % 5) (i % 5) lpr l1 (by omega) (by omega)) (lw_V q231 q233 qs16 q20 q234) (by decide +kernel) rfl (by decide) hP hD hS hl.1 [] rfl (Nat.le_of_ble_eq_true rfl) dX1_transitive_58 (fun r u H locs hp hP hD hS => ?_)
            subst hp
            have hP : va_P D tr_Cl (tr_YW dZ dN q K pr1) H := hP
            have hD : va_D A (tr_YW dZ dN q K pr1) := hD
            refine nb_eq (tgt := 76) hx hb dX1_transitive_61 (by decide) (fun c4 => ?_) (fun c4 => ?_)
            · refine lv_iconst (v := (nI 1)) hx hb dX1_transitive_76 (by decide) ?_
              refine lv_goto (tgt := 81) hx hb dX1_transitive_77 (by decide) ?_
              refine lv_istore_n (lv' := [(2, .int (nI 1)), (6, .int (nI (i % 5))), (5, .int (nI ((i / 5) % 5))), (4, .int (nI (i / 25))), (0, .ref (q 0)), (1, .int (nI n1)), (3, .int (nI i))]) hx hb dX1_transitive_81 rfl hl (by decide) rfl (fun ls hl => ?_)
              refine lv_iinc (v := (nI (i + 1))) (lv' := [(3, .int (nI (i + 1))), (2, .int (nI 1)), (6, .int (nI (i % 5))), (5, .int (nI ((i / 5) % 5))), (4, .int (nI (i / 25))), (0, .ref (q 0)), (1, .int (nI n1))]) hx hb dX1_transitive_82 hl (k := 6) rfl (nI_1 _) (by decide) rfl (fun ls hl => ?_)
              refine lv_goto (tgt := 12) hx hb dX1_transitive_85 (by decide) ?_
              exact ihloop (i + 1) 1 _ _ _ (by omega) (by omega) (tr_ti_ok l1 hI1 c2 (fun _ z => absurd z (tr_fx_nL fx1 l1 (by omega) (by omega) c4))) hP hD hS (lv_sub hl [5, 6, 1, 0] rfl)
            · refine lv_aload_n hx hb dX1_transitive_64 rfl (lv_at hl 3 rfl) ?_
              refine lv_iload_n hx hb dX1_transitive_65 rfl (lv_at hl 4 rfl) ?_
              refine lv_iload hx hb dX1_transitive_66 (lv_at hl 2 rfl) ?_
              refine lv_iload hx hb dX1_transitive_68 (lv_at hl 0 rfl) ?_
              refine yc_i (n := 3) hC (ty_in l D dZ dN q K pr1 n1 (i / 25) (i % 5) lpr l1 (by omega) (by omega)) (lw_V q231 q233 qs16 q20 q234) (by decide +kernel) rfl (by decide) hP hD hS hl.1 [] rfl (Nat.le_of_ble_eq_true rfl) dX1_transitive_70 (fun r u H locs hp hP hD hS => ?_)
              subst hp
              have hP : va_P D tr_Cl (tr_YW dZ dN q K pr1) H := hP
              have hD : va_D A (tr_YW dZ dN q K pr1) := hD
              refine nb_eq (tgt := 80) hx hb dX1_transitive_73 (by decide) (fun c5 => ?_) (fun c5 => ?_)
              · refine lv_iconst (v := (nI 0)) hx hb dX1_transitive_80 (by decide) ?_
                refine lv_istore_n (lv' := [(2, .int (nI 0)), (6, .int (nI (i % 5))), (5, .int (nI ((i / 5) % 5))), (4, .int (nI (i / 25))), (0, .ref (q 0)), (1, .int (nI n1)), (3, .int (nI i))]) hx hb dX1_transitive_81 rfl hl (by decide) rfl (fun ls hl => ?_)
                refine lv_iinc (v := (nI (i + 1))) (lv' := [(3, .int (nI (i + 1))), (2, .int (nI 0)), (6, .int (nI (i % 5))), (5, .int (nI ((i / 5) % 5))), (4, .int (nI (i / 25))), (0, .ref (q 0)), (1, .int (nI n1))]) hx hb dX1_transitive_82 hl (k := 6) rfl (nI_1 _) (by decide) rfl (fun ls hl => ?_)
                refine lv_goto (tgt := 12) hx hb dX1_transitive_85 (by decide) ?_
                exact ihloop (i + 1) 0 _ _ _ (by omega) (by omega) (tr_ti_bad l1 c1 (fun z => tr_fx_nL fx1 l1 (by omega) (by omega) c5 (z (tr_fx_L fx1 l1 (by omega) (by omega) c3) (tr_fx_L fx1 l1 (by omega) (by omega) c4)))) hP hD hS (lv_sub hl [5, 6, 1, 0] rfl)
              · refine lv_iconst (v := (nI 1)) hx hb dX1_transitive_76 (by decide) ?_
                refine lv_goto (tgt := 81) hx hb dX1_transitive_77 (by decide) ?_
                refine lv_istore_n (lv' := [(2, .int (nI 1)), (6, .int (nI (i % 5))), (5, .int (nI ((i / 5) % 5))), (4, .int (nI (i / 25))), (0, .ref (q 0)), (1, .int (nI n1)), (3, .int (nI i))]) hx hb dX1_transitive_81 rfl hl (by decide) rfl (fun ls hl => ?_)
                refine lv_iinc (v := (nI (i + 1))) (lv' := [(3, .int (nI (i + 1))), (2, .int (nI 1)), (6, .int (nI (i % 5))), (5, .int (nI ((i / 5) % 5))), (4, .int (nI (i / 25))), (0, .ref (q 0)), (1, .int (nI n1))]) hx hb dX1_transitive_82 hl (k := 6) rfl (nI_1 _) (by decide) rfl (fun ls hl => ?_)
                refine lv_goto (tgt := 12) hx hb dX1_transitive_85 (by decide) ?_
                exact ihloop (i + 1) 1 _ _ _ (by omega) (by omega) (tr_ti_ok l1 hI1 c2 (fun _ _ => tr_fx_L fx1 l1 (by omega) (by omega) c5)) hP hD hS (lv_sub hl [5, 6, 1, 0] rfl)
  exact loop 126 0 _ _ _ _ (by omega) (by omega) (tr_ti_0 K rp) hP hD hS (lv_sub hl [2, 3, 1, 0] rfl)
end
section
/-! the two constructors: printed by gen/init.py -/
/-- nothing given, no rule -/
abbrev tr_K0 : tr_C := (fun _ => 0, 0, fun _ => 0, fun _ => 0, fun _ => 0, fun _ => 0)
abbrev tr_X0 (h : Nat) : va_W := [(h, .inr (0, [.null, .int (nI 0), .null, .null, .null, .null, .int (nI 0), .null, .int (nI 0), .null]))]
abbrev tr_Y0 (h : Nat) : va_W := [(h, .inr (1, [.null, .null, .null, .null, .null, .null]))]
abbrev rmX0_init : Room := { frames := 1, cells := 7, slots := 72, locals := 12 }
abbrev rmX1_init : Room := { frames := 1, cells := 6, slots := 45, locals := 12 }
theorem tr_nw {cA : ClassId} {n : Nat} {ty : FieldType} (h : defaultValue ty = .int 0) : vp_cell cA (n, .inl (fun _ => nI 0)) = arrV cA n (fun _ => defaultValue ty) := by
  rw [vp_cell_i, h, nI_0]
set_option maxHeartbeats 4000000 in
set_option maxRecDepth 100000 in
theorem tx_init (l : Launch) (D : va_G) (h0 sz : Nat) : Met l yX0_init (ws_ yX0_init cX0_init 1 none) rmX0_init (va_Pc [.ref h0] (fun U => U.heap.size = sz ∧ va_P D tr_Cl (tr_X0 h0) U.heap ∧ va_K D tr_Cl [] U ∧ va_D (fun _ => True) (tr_X0 h0))) (va_Qv (fun (u : (Nat → Nat) × ClassId) => u.1 0 = h0) (fun (u : (Nat → Nat) × ClassId) t => va_P D tr_Cl (tr_XW u.2 u.1 tr_K0 0 (fun _ => 0) 0 (fun _ => 0)) t.heap ∧ va_K D tr_Cl (tr_XT u.2) t ∧ va_D (va_A (tr_X0 h0) sz) (tr_XW u.2 u.1 tr_K0 0 (fun _ => 0) 0 (fun _ => 0))) (va_A (tr_X0 h0) sz)) 7 72 (va_A (tr_X0 h0) sz) := by
  refine Met.ofW (cc := cX0_init) (maxL := 1) (ret := none) (by decide) rfl ?_
  intro p e s m args below meth c s₁ B hml hv
  obtain ⟨rfl, hsz, hP, hK, hD0⟩ := hv
  have hx := B.exec
  have hb := B.bytes
  have hr := B.returns
  have hts0 := atoms_spec (ws := ws_ yX0_init cX0_init 1 none) B.pre
  have hts : ∀ w ∈ lw_all, w.before _ s = true := fun w h => hts0 w (List.mem_cons_of_mem _ h)
  have hown : s.vm.findClass RX0 = some m.cls := findClass_of_methodNamed B.named
  have hlocks := B.notSynchronized
  have hin : meth.name = "<init>" := (name_of_methodNamed B.named B.method).1
  subst hsz
  have hD := hD0.self (sz := s.heap.size)
  generalize hAe : va_A (tr_X0 h0) s.heap.size = A at hD ⊢
  have hA : ∀ q : Nat, s.heap.size ≤ q → A q := fun q h => by rw [← hAe]; exact Or.inr h
  have hS : va_S A s.heap s.heap [] := va_S.rf
  have hl := lv_entry ([.ref h0]) (n := 1) (Nat.le_of_ble_eq_true rfl)
  rw [lg_entry_eq]
  generalize (lg_sl ([.ref h0]) ++ List.replicate (1 - (lg_sl ([.ref h0])).length) Slot.unset).toArray = ls at hl ⊢
  have hl : lv_has ls 1 [(0, .ref h0)] := hl
  refine lv_aload_n hx hb dX0_init_0 rfl (lv_at hl 0 rfl) ?_
  refine W.objInit hx hb hown (hts _ q26) (hts _ q27) (hts _ q28) rfl (by rw [hml]; exact hl.1) rfl dX0_init_1 (Nat.le_of_ble_eq_true rfl) (Nat.le_of_ble_eq_true rfl) ?_
  refine W.eq (g2 := F0 m 4 ls []) rfl ?_
  refine lv_aload_n hx hb dX0_init_4 rfl (lv_at hl 0 rfl) ?_
  refine lv_bipush (v := nI 10) hx hb dX0_init_5 (by decide) ?_
  refine va_newa (atype := .byte) (a0 := (10, .inl (fun _ => nI 0))) (N' := 10) (ty := .byte) hx hb (hts _ q60) rfl hK hP hD hS hA (fun cA => tr_nw rfl) (by decide) (by decide) (by decide) (Nat.le_of_ble_eq_true rfl) (Nat.le_of_ble_eq_true rfl) dX0_init_7 (fun a1 d1 H hK hP hD hS => ?_)
  refine W.widen (k := 1) (n := 10) (Nat.le_of_ble_eq_true rfl) (Nat.le_of_ble_eq_true rfl) ?_
  have hK : va_K D tr_Cl [(d1, .byte)] s := hK
  have hP : va_P D tr_Cl [(h0, .inr (0, [.null, .int (nI 0), .null, .null, .null, .null, .int (nI 0), .null, .int (nI 0), .null])), (a1, .inl (d1, 10, .inl (fun _ => nI 0)))] H := hP
  have hD : va_D A [(h0, .inr (0, [.null, .int (nI 0), .null, .null, .null, .null, .int (nI 0), .null, .int (nI 0), .null])), (a1, .inl (d1, 10, .inl (fun _ => nI 0)))] := hD
  refine va_putF (D := D) (ci := 0) (v := .ref a1) (ty := .array .byte) (C := RX0) (T := TX0) (N := 10) hx hb hts in_X0 tyX0 tyX0_ok nmX0 hown hK hP hD hS 0 rfl rfl 0 (by decide) (hts _ q29) (fun _ h9 => h9) rfl hin rfl (by decide +kernel) rfl rfl (Nat.le_of_ble_eq_true rfl) dX0_init_9 (fun H locs hP hD hS => ?_)
  have hP : va_P D tr_Cl [(h0, .inr (0, [.ref a1, .int (nI 0), .null, .null, .null, .null, .int (nI 0), .null, .int (nI 0), .null])), (a1, .inl (d1, 10, .inl (fun _ => nI 0)))] H := hP
  have hD : va_D A [(h0, .inr (0, [.ref a1, .int (nI 0), .null, .null, .null, .null, .int (nI 0), .null, .int (nI 0), .null])), (a1, .inl (d1, 10, .inl (fun _ => nI 0)))] := hD
  refine lv_aload_n hx hb dX0_init_12 rfl (lv_at hl 0 rfl) ?_
  refine lv_bipush (v := nI 8) hx hb dX0_init_13 (by decide) ?_
  refine va_newa (atype := .byte) (a0 := (8, .inl (fun _ => nI 0))) (N' := 8) (ty := .byte) hx hb (hts _ q60) rfl hK hP hD hS hA (fun cA => tr_nw rfl) (by decide) (by decide) (by decide) (Nat.le_of_ble_eq_true rfl) (Nat.le_of_ble_eq_true rfl) dX0_init_15 (fun a2 d2 H hK hP hD hS => ?_)
  refine W.widen (k := 2) (n := 18) (Nat.le_of_ble_eq_true rfl) (Nat.le_of_ble_eq_true rfl) ?_
  have hK : va_K D tr_Cl [(d1, .byte), (d2, .byte)] s := hK
  have hP : va_P D tr_Cl [(h0, .inr (0, [.ref a1, .int (nI 0), .null, .null, .null, .null, .int (nI 0), .null, .int (nI 0), .null])), (a1, .inl (d1, 10, .inl (fun _ => nI 0))), (a2, .inl (d2, 8, .inl (fun _ => nI 0)))] H := hP
  have hD : va_D A [(h0, .inr (0, [.ref a1, .int (nI 0), .null, .null, .null, .null, .int (nI 0), .null, .int (nI 0), .null])), (a1, .inl (d1, 10, .inl (fun _ => nI 0))), (a2, .inl (d2, 8, .inl (fun _ => nI 0)))] := hD
  refine va_putF (D := D) (ci := 0) (v := .ref a2) (ty := .array .byte) (C := RX0) (T := TX0) (N := 10) hx hb hts in_X0 tyX0 tyX0_ok nmX0 hown hK hP hD hS 0 rfl rfl 2 (by decide) (hts _ q31) (fun _ h9 => h9) rfl hin rfl (by decide +kernel) rfl rfl (Nat.le_of_ble_eq_true rfl) dX0_init_17 (fun H locs hP hD hS => ?_)
  have hP : va_P D tr_Cl [(h0, .inr (0, [.ref a1, .int (nI 0), .ref a2, .null, .null, .null, .int (nI 0), .null, .int (nI 0), .null])), (a1, .inl (d1, 10, .inl (fun _ => nI 0))), (a2, .inl (d2, 8, .inl (fun _ => nI 0)))] H := hP
  have hD : va_D A [(h0, .inr (0, [.ref a1, .int (nI 0), .ref a2, .null, .null, .null, .int (nI 0), .null, .int (nI 0), .null])), (a1, .inl (d1, 10, .inl (fun _ => nI 0))), (a2, .inl (d2, 8, .inl (fun _ => nI 0)))] := hD
  refine lv_aload_n hx hb dX0_init_20 rfl (lv_at hl 0 rfl) ?_
  refine lv_bipush (v := nI 8) hx hb dX0_init_21 (by decide) ?_
  refine va_newa (atype := .byte) (a0 := (8, .inl (fun _ => nI 0))) (N' := 8) (ty := .byte) hx hb (hts _ q60) rfl hK hP hD hS hA (fun cA => tr_nw rfl) (by decide) (by decide) (by decide) (Nat.le_of_ble_eq_true rfl) (Nat.le_of_ble_eq_true rfl) dX0_init_23 (fun a3 d3 H hK hP hD hS => ?_)
  refine W.widen (k := 3) (n := 26) (Nat.le_of_ble_eq_true rfl) (Nat.le_of_ble_eq_true rfl) ?_
  have hK : va_K D tr_Cl [(d1, .byte), (d2, .byte), (d3, .byte)] s := hK
  have hP : va_P D tr_Cl [(h0, .inr (0, [.ref a1, .int (nI 0), .ref a2, .null, .null, .null, .int (nI 0), .null, .int (nI 0), .null])), (a1, .inl (d1, 10, .inl (fun _ => nI 0))), (a2, .inl (d2, 8, .inl (fun _ => nI 0))), (a3, .inl (d3, 8, .inl (fun _ => nI 0)))] H := hP
  have hD : va_D A [(h0, .inr (0, [.ref a1, .int (nI 0), .ref a2, .null, .null, .null, .int (nI 0), .null, .int (nI 0), .null])), (a1, .inl (d1, 10, .inl (fun _ => nI 0))), (a2, .inl (d2, 8, .inl (fun _ => nI 0))), (a3, .inl (d3, 8, .inl (fun _ => nI 0)))] := hD
  refine va_putF (D := D) (ci := 0) (v := .ref a3) (ty := .array .byte) (C := RX0) (T := TX0) (N := 10) hx hb hts in_X0 tyX0 tyX0_ok nmX0 hown hK hP hD hS 0 rfl rfl 3 (by decide) (hts _ q32) (fun _ h9 => h9) rfl hin rfl (by decide +kernel) rfl rfl (Nat.le_of_ble_eq_true rfl) dX0_init_25 (fun H locs hP hD hS => ?_)
  have hP : va_P D tr_Cl [(h0, .inr (0, [.ref a1, .int (nI 0), .ref a2, .ref a3, .null, .null, .int (nI 0), .null, .int (nI 0), .null])), (a1, .inl (d1, 10, .inl (fun _ => nI 0))), (a2, .inl (d2, 8, .inl (fun _ => nI 0))), (a3, .inl (d3, 8, .inl (fun _ => nI 0)))] H := hP
  have hD : va_D A [(h0, .inr (0, [.ref a1, .int (nI 0), .ref a2, .ref a3, .null, .null, .int (nI 0), .null, .int (nI 0), .null])), (a1, .inl (d1, 10, .inl (fun _ => nI 0))), (a2, .inl (d2, 8, .inl (fun _ => nI 0))), (a3, .inl (d3, 8, .inl (fun _ => nI 0)))] := hD
  refine lv_aload_n hx hb dX0_init_28 rfl (lv_at hl 0 rfl) ?_
  refine lv_bipush (v := nI 8) hx hb dX0_init_29 (by decide) ?_
  refine va_newa (atype := .byte) (a0 := (8, .inl (fun _ => nI 0))) (N' := 8) (ty := .byte) hx hb (hts _ q60) rfl hK hP hD hS hA (fun cA => tr_nw rfl) (by decide) (by decide) (by decide) (Nat.le_of_ble_eq_true rfl) (Nat.le_of_ble_eq_true rfl) dX0_init_31 (fun a4 d4 H hK hP hD hS => ?_)
  refine W.widen (k := 4) (n := 34) (Nat.le_of_ble_eq_true rfl) (Nat.le_of_ble_eq_true rfl) ?_
  have hK : va_K D tr_Cl [(d1, .byte), (d2, .byte), (d3, .byte), (d4, .byte)] s := hK
  have hP : va_P D tr_Cl [(h0, .inr (0, [.ref a1, .int (nI 0), .ref a2, .ref a3, .null, .null, .int (nI 0), .null, .int (nI 0), .null])), (a1, .inl (d1, 10, .inl (fun _ => nI 0))), (a2, .inl (d2, 8, .inl (fun _ => nI 0))), (a3, .inl (d3, 8, .inl (fun _ => nI 0))), (a4, .inl (d4, 8, .inl (fun _ => nI 0)))] H := hP
  have hD : va_D A [(h0, .inr (0, [.ref a1, .int (nI 0), .ref a2, .ref a3, .null, .null, .int (nI 0), .null, .int (nI 0), .null])), (a1, .inl (d1, 10, .inl (fun _ => nI 0))), (a2, .inl (d2, 8, .inl (fun _ => nI 0))), (a3, .inl (d3, 8, .inl (fun _ => nI 0))), (a4, .inl (d4, 8, .inl (fun _ => nI 0)))] := hD
  refine va_putF (D := D) (ci := 0) (v := .ref a4) (ty := .array .byte) (C := RX0) (T := TX0) (N := 10) hx hb hts in_X0 tyX0 tyX0_ok nmX0 hown hK hP hD hS 0 rfl rfl 4 (by decide) (hts _ q33) (fun _ h9 => h9) rfl hin rfl (by decide +kernel) rfl rfl (Nat.le_of_ble_eq_true rfl) dX0_init_33 (fun H locs hP hD hS => ?_)
  have hP : va_P D tr_Cl [(h0, .inr (0, [.ref a1, .int (nI 0), .ref a2, .ref a3, .ref a4, .null, .int (nI 0), .null, .int (nI 0), .null])), (a1, .inl (d1, 10, .inl (fun _ => nI 0))), (a2, .inl (d2, 8, .inl (fun _ => nI 0))), (a3, .inl (d3, 8, .inl (fun _ => nI 0))), (a4, .inl (d4, 8, .inl (fun _ => nI 0)))] H := hP
  have hD : va_D A [(h0, .inr (0, [.ref a1, .int (nI 0), .ref a2, .ref a3, .ref a4, .null, .int (nI 0), .null, .int (nI 0), .null])), (a1, .inl (d1, 10, .inl (fun _ => nI 0))), (a2, .inl (d2, 8, .inl (fun _ => nI 0))), (a3, .inl (d3, 8, .inl (fun _ => nI 0))), (a4, .inl (d4, 8, .inl (fun _ => nI 0)))] := hD
  refine lv_aload_n hx hb dX0_init_36 rfl (lv_at hl 0 rfl) ?_
  refine lv_bipush (v := nI 8) hx hb dX0_init_37 (by decide) ?_
  refine va_newa (atype := .byte) (a0 := (8, .inl (fun _ => nI 0))) (N' := 8) (ty := .byte) hx hb (hts _ q60) rfl hK hP hD hS hA (fun cA => tr_nw rfl) (by decide) (by decide) (by decide) (Nat.le_of_ble_eq_true rfl) (Nat.le_of_ble_eq_true rfl) dX0_init_39 (fun a5 d5 H hK hP hD hS => ?_)
  refine W.widen (k := 5) (n := 42) (Nat.le_of_ble_eq_true rfl) (Nat.le_of_ble_eq_true rfl) ?_
  have hK : va_K D tr_Cl [(d1, .byte), (d2, .byte), (d3, .byte), (d4, .byte), (d5, .byte)] s := hK
  have hP : va_P D tr_Cl [(h0, .inr (0, [.ref a1, .int (nI 0), .ref a2, .ref a3, .ref a4, .null, .int (nI 0), .null, .int (nI 0), .null])), (a1, .inl (d1, 10, .inl (fun _ => nI 0))), (a2, .inl (d2, 8, .inl (fun _ => nI 0))), (a3, .inl (d3, 8, .inl (fun _ => nI 0))), (a4, .inl (d4, 8, .inl (fun _ => nI 0))), (a5, .inl (d5, 8, .inl (fun _ => nI 0)))] H := hP
  have hD : va_D A [(h0, .inr (0, [.ref a1, .int (nI 0), .ref a2, .ref a3, .ref a4, .null, .int (nI 0), .null, .int (nI 0), .null])), (a1, .inl (d1, 10, .inl (fun _ => nI 0))), (a2, .inl (d2, 8, .inl (fun _ => nI 0))), (a3, .inl (d3, 8, .inl (fun _ => nI 0))), (a4, .inl (d4, 8, .inl (fun _ => nI 0))), (a5, .inl (d5, 8, .inl (fun _ => nI 0)))] := hD
  refine va_putF (D := D) (ci := 0) (v := .ref a5) (ty := .array .byte) (C := RX0) (T := TX0) (N := 10) hx hb hts in_X0 tyX0 tyX0_ok nmX0 hown hK hP hD hS 0 rfl rfl 5 (by decide) (hts _ q34) (fun _ h9 => h9) rfl hin rfl (by decide +kernel) rfl rfl (Nat.le_of_ble_eq_true rfl) dX0_init_41 (fun H locs hP hD hS => ?_)
  have hP : va_P D tr_Cl [(h0, .inr (0, [.ref a1, .int (nI 0), .ref a2, .ref a3, .ref a4, .ref a5, .int (nI 0), .null, .int (nI 0), .null])), (a1, .inl (d1, 10, .inl (fun _ => nI 0))), (a2, .inl (d2, 8, .inl (fun _ => nI 0))), (a3, .inl (d3, 8, .inl (fun _ => nI 0))), (a4, .inl (d4, 8, .inl (fun _ => nI 0))), (a5, .inl (d5, 8, .inl (fun _ => nI 0)))] H := hP
  have hD : va_D A [(h0, .inr (0, [.ref a1, .int (nI 0), .ref a2, .ref a3, .ref a4, .ref a5, .int (nI 0), .null, .int (nI 0), .null])), (a1, .inl (d1, 10, .inl (fun _ => nI 0))), (a2, .inl (d2, 8, .inl (fun _ => nI 0))), (a3, .inl (d3, 8, .inl (fun _ => nI 0))), (a4, .inl (d4, 8, .inl (fun _ => nI 0))), (a5, .inl (d5, 8, .inl (fun _ => nI 0)))] := hD
  refine lv_aload_n hx hb dX0_init_44 rfl (lv_at hl 0 rfl) ?_
  refine lv_bipush (v := nI 25) hx hb dX0_init_45 (by decide) ?_
  refine va_newa (atype := .byte) (a0 := (25, .inl (fun _ => nI 0))) (N' := 25) (ty := .byte) hx hb (hts _ q60) rfl hK hP hD hS hA (fun cA => tr_nw rfl) (by decide) (by decide) (by decide) (Nat.le_of_ble_eq_true rfl) (Nat.le_of_ble_eq_true rfl) dX0_init_47 (fun a6 d6 H hK hP hD hS => ?_)
  refine W.widen (k := 6) (n := 67) (Nat.le_of_ble_eq_true rfl) (Nat.le_of_ble_eq_true rfl) ?_
  have hK : va_K D tr_Cl [(d1, .byte), (d2, .byte), (d3, .byte), (d4, .byte), (d5, .byte), (d6, .byte)] s := hK
  have hP : va_P D tr_Cl [(h0, .inr (0, [.ref a1, .int (nI 0), .ref a2, .ref a3, .ref a4, .ref a5, .int (nI 0), .null, .int (nI 0), .null])), (a1, .inl (d1, 10, .inl (fun _ => nI 0))), (a2, .inl (d2, 8, .inl (fun _ => nI 0))), (a3, .inl (d3, 8, .inl (fun _ => nI 0))), (a4, .inl (d4, 8, .inl (fun _ => nI 0))), (a5, .inl (d5, 8, .inl (fun _ => nI 0))), (a6, .inl (d6, 25, .inl (fun _ => nI 0)))] H := hP
  have hD : va_D A [(h0, .inr (0, [.ref a1, .int (nI 0), .ref a2, .ref a3, .ref a4, .ref a5, .int (nI 0), .null, .int (nI 0), .null])), (a1, .inl (d1, 10, .inl (fun _ => nI 0))), (a2, .inl (d2, 8, .inl (fun _ => nI 0))), (a3, .inl (d3, 8, .inl (fun _ => nI 0))), (a4, .inl (d4, 8, .inl (fun _ => nI 0))), (a5, .inl (d5, 8, .inl (fun _ => nI 0))), (a6, .inl (d6, 25, .inl (fun _ => nI 0)))] := hD
  refine va_putF (D := D) (ci := 0) (v := .ref a6) (ty := .array .byte) (C := RX0) (T := TX0) (N := 10) hx hb hts in_X0 tyX0 tyX0_ok nmX0 hown hK hP hD hS 0 rfl rfl 7 (by decide) (hts _ q36) (fun _ h9 => h9) rfl hin rfl (by decide +kernel) rfl rfl (Nat.le_of_ble_eq_true rfl) dX0_init_49 (fun H locs hP hD hS => ?_)
  have hP : va_P D tr_Cl [(h0, .inr (0, [.ref a1, .int (nI 0), .ref a2, .ref a3, .ref a4, .ref a5, .int (nI 0), .ref a6, .int (nI 0), .null])), (a1, .inl (d1, 10, .inl (fun _ => nI 0))), (a2, .inl (d2, 8, .inl (fun _ => nI 0))), (a3, .inl (d3, 8, .inl (fun _ => nI 0))), (a4, .inl (d4, 8, .inl (fun _ => nI 0))), (a5, .inl (d5, 8, .inl (fun _ => nI 0))), (a6, .inl (d6, 25, .inl (fun _ => nI 0)))] H := hP
  have hD : va_D A [(h0, .inr (0, [.ref a1, .int (nI 0), .ref a2, .ref a3, .ref a4, .ref a5, .int (nI 0), .ref a6, .int (nI 0), .null])), (a1, .inl (d1, 10, .inl (fun _ => nI 0))), (a2, .inl (d2, 8, .inl (fun _ => nI 0))), (a3, .inl (d3, 8, .inl (fun _ => nI 0))), (a4, .inl (d4, 8, .inl (fun _ => nI 0))), (a5, .inl (d5, 8, .inl (fun _ => nI 0))), (a6, .inl (d6, 25, .inl (fun _ => nI 0)))] := hD
  refine lv_aload_n hx hb dX0_init_52 rfl (lv_at hl 0 rfl) ?_
  refine lv_iconst (v := nI 5) hx hb dX0_init_53 (by decide) ?_
  refine va_newa (atype := .byte) (a0 := (5, .inl (fun _ => nI 0))) (N' := 5) (ty := .byte) hx hb (hts _ q60) rfl hK hP hD hS hA (fun cA => tr_nw rfl) (by decide) (by decide) (by decide) (Nat.le_of_ble_eq_true rfl) (Nat.le_of_ble_eq_true rfl) dX0_init_54 (fun a7 d7 H hK hP hD hS => ?_)
  refine W.widen (k := 7) (n := 72) (Nat.le_of_ble_eq_true rfl) (Nat.le_of_ble_eq_true rfl) ?_
  have hK : va_K D tr_Cl [(d1, .byte), (d2, .byte), (d3, .byte), (d4, .byte), (d5, .byte), (d6, .byte), (d7, .byte)] s := hK
  have hP : va_P D tr_Cl [(h0, .inr (0, [.ref a1, .int (nI 0), .ref a2, .ref a3, .ref a4, .ref a5, .int (nI 0), .ref a6, .int (nI 0), .null])), (a1, .inl (d1, 10, .inl (fun _ => nI 0))), (a2, .inl (d2, 8, .inl (fun _ => nI 0))), (a3, .inl (d3, 8, .inl (fun _ => nI 0))), (a4, .inl (d4, 8, .inl (fun _ => nI 0))), (a5, .inl (d5, 8, .inl (fun _ => nI 0))), (a6, .inl (d6, 25, .inl (fun _ => nI 0))), (a7, .inl (d7, 5, .inl (fun _ => nI 0)))] H := hP
  have hD : va_D A [(h0, .inr (0, [.ref a1, .int (nI 0), .ref a2, .ref a3, .ref a4, .ref a5, .int (nI 0), .ref a6, .int (nI 0), .null])), (a1, .inl (d1, 10, .inl (fun _ => nI 0))), (a2, .inl (d2, 8, .inl (fun _ => nI 0))), (a3, .inl (d3, 8, .inl (fun _ => nI 0))), (a4, .inl (d4, 8, .inl (fun _ => nI 0))), (a5, .inl (d5, 8, .inl (fun _ => nI 0))), (a6, .inl (d6, 25, .inl (fun _ => nI 0))), (a7, .inl (d7, 5, .inl (fun _ => nI 0)))] := hD
  refine va_putF (D := D) (ci := 0) (v := .ref a7) (ty := .array .byte) (C := RX0) (T := TX0) (N := 10) hx hb hts in_X0 tyX0 tyX0_ok nmX0 hown hK hP hD hS 0 rfl rfl 9 (by decide) (hts _ q38) (fun _ h9 => h9) rfl hin rfl (by decide +kernel) rfl rfl (Nat.le_of_ble_eq_true rfl) dX0_init_56 (fun H locs hP hD hS => ?_)
  have hP : va_P D tr_Cl [(h0, .inr (0, [.ref a1, .int (nI 0), .ref a2, .ref a3, .ref a4, .ref a5, .int (nI 0), .ref a6, .int (nI 0), .ref a7])), (a1, .inl (d1, 10, .inl (fun _ => nI 0))), (a2, .inl (d2, 8, .inl (fun _ => nI 0))), (a3, .inl (d3, 8, .inl (fun _ => nI 0))), (a4, .inl (d4, 8, .inl (fun _ => nI 0))), (a5, .inl (d5, 8, .inl (fun _ => nI 0))), (a6, .inl (d6, 25, .inl (fun _ => nI 0))), (a7, .inl (d7, 5, .inl (fun _ => nI 0)))] H := hP
  have hD : va_D A [(h0, .inr (0, [.ref a1, .int (nI 0), .ref a2, .ref a3, .ref a4, .ref a5, .int (nI 0), .ref a6, .int (nI 0), .ref a7])), (a1, .inl (d1, 10, .inl (fun _ => nI 0))), (a2, .inl (d2, 8, .inl (fun _ => nI 0))), (a3, .inl (d3, 8, .inl (fun _ => nI 0))), (a4, .inl (d4, 8, .inl (fun _ => nI 0))), (a5, .inl (d5, 8, .inl (fun _ => nI 0))), (a6, .inl (d6, 25, .inl (fun _ => nI 0))), (a7, .inl (d7, 5, .inl (fun _ => nI 0)))] := hD
  have f1 : s.vm.findClass ("[" ++ (FieldType.byte).toString) = some d1 := (hK.2 0 _ rfl).2
  have f2 : s.vm.findClass ("[" ++ (FieldType.byte).toString) = some d2 := (hK.2 1 _ rfl).2
  have f3 : s.vm.findClass ("[" ++ (FieldType.byte).toString) = some d3 := (hK.2 2 _ rfl).2
  have f4 : s.vm.findClass ("[" ++ (FieldType.byte).toString) = some d4 := (hK.2 3 _ rfl).2
  have f5 : s.vm.findClass ("[" ++ (FieldType.byte).toString) = some d5 := (hK.2 4 _ rfl).2
  have f6 : s.vm.findClass ("[" ++ (FieldType.byte).toString) = some d6 := (hK.2 5 _ rfl).2
  have f7 : s.vm.findClass ("[" ++ (FieldType.byte).toString) = some d7 := (hK.2 6 _ rfl).2
  have g2 : d1 = d2 := Option.some.inj (f1.symm.trans f2)
  have g3 : d1 = d3 := Option.some.inj (f1.symm.trans f3)
  have g4 : d1 = d4 := Option.some.inj (f1.symm.trans f4)
  have g5 : d1 = d5 := Option.some.inj (f1.symm.trans f5)
  have g6 : d1 = d6 := Option.some.inj (f1.symm.trans f6)
  have g7 : d1 = d7 := Option.some.inj (f1.symm.trans f7)
  subst g2
  subst g3
  subst g4
  subst g5
  subst g6
  subst g7
  have hK9 : va_K D tr_Cl [(d1, .byte)] s := hK.sub [0] rfl
  exact W.vret hx hb hr (fun t ht hW => ⟨⟨((fun j => ([h0, a1, a2, a3, a4, a5, a6, a7] : List Nat).getD j 0), d1), rfl, rfl, by rw [ht]; exact hP, va_K.moved hW.alike hK9, hD⟩, hS.F ht⟩) hS.2.2 dX0_init_59 hlocks
set_option maxHeartbeats 4000000 in
set_option maxRecDepth 100000 in
theorem ty_init (l : Launch) (D : va_G) (h0 sz : Nat) : Met l yX1_init (ws_ yX1_init cX1_init 1 none) rmX1_init (va_Pc [.ref h0] (fun U => U.heap.size = sz ∧ va_P D tr_Cl (tr_Y0 h0) U.heap ∧ va_K D tr_Cl [] U ∧ va_D (fun _ => True) (tr_Y0 h0))) (va_Qv (fun (u : (Nat → Nat) × ClassId × ClassId) => u.1 0 = h0) (fun (u : (Nat → Nat) × ClassId × ClassId) t => va_P D tr_Cl (tr_YW u.2.1 u.2.2 u.1 tr_K0 (fun _ => 0)) t.heap ∧ va_K D tr_Cl (tr_YT u.2.1 u.2.2) t ∧ va_D (va_A (tr_Y0 h0) sz) (tr_YW u.2.1 u.2.2 u.1 tr_K0 (fun _ => 0))) (va_A (tr_Y0 h0) sz)) 6 45 (va_A (tr_Y0 h0) sz) := by
  refine Met.ofW (cc := cX1_init) (maxL := 1) (ret := none) (by decide) rfl ?_
  intro p e s m args below meth c s₁ B hml hv
  obtain ⟨rfl, hsz, hP, hK, hD0⟩ := hv
  have hx := B.exec
  have hb := B.bytes
  have hr := B.returns
  have hts0 := atoms_spec (ws := ws_ yX1_init cX1_init 1 none) B.pre
  have hts : ∀ w ∈ lw_all, w.before _ s = true := fun w h => hts0 w (List.mem_cons_of_mem _ h)
  have hown : s.vm.findClass RX1 = some m.cls := findClass_of_methodNamed B.named
  have hlocks := B.notSynchronized
  have hin : meth.name = "<init>" := (name_of_methodNamed B.named B.method).1
  subst hsz
  have hD := hD0.self (sz := s.heap.size)
  generalize hAe : va_A (tr_Y0 h0) s.heap.size = A at hD ⊢
  have hA : ∀ q : Nat, s.heap.size ≤ q → A q := fun q h => by rw [← hAe]; exact Or.inr h
  have hS : va_S A s.heap s.heap [] := va_S.rf
  have hl := lv_entry ([.ref h0]) (n := 1) (Nat.le_of_ble_eq_true rfl)
  rw [lg_entry_eq]
  generalize (lg_sl ([.ref h0]) ++ List.replicate (1 - (lg_sl ([.ref h0])).length) Slot.unset).toArray = ls at hl ⊢
  have hl : lv_has ls 1 [(0, .ref h0)] := hl
  refine lv_aload_n hx hb dX1_init_0 rfl (lv_at hl 0 rfl) ?_
  refine W.objInit hx hb hown (hts _ q169) (hts _ q27) (hts _ q28) rfl (by rw [hml]; exact hl.1) rfl dX1_init_1 (Nat.le_of_ble_eq_true rfl) (Nat.le_of_ble_eq_true rfl) ?_
  refine W.eq (g2 := F0 m 4 ls []) rfl ?_
  refine lv_aload_n hx hb dX1_init_4 rfl (lv_at hl 0 rfl) ?_
  refine lv_bipush (v := nI 8) hx hb dX1_init_5 (by decide) ?_
  refine va_newa (atype := .boolean) (a0 := (8, .inl (fun _ => nI 0))) (N' := 8) (ty := .boolean) hx hb (hts _ q189) rfl hK hP hD hS hA (fun cA => tr_nw rfl) (by decide) (by decide) (by decide) (Nat.le_of_ble_eq_true rfl) (Nat.le_of_ble_eq_true rfl) dX1_init_7 (fun a1 d1 H hK hP hD hS => ?_)
  refine W.widen (k := 1) (n := 8) (Nat.le_of_ble_eq_true rfl) (Nat.le_of_ble_eq_true rfl) ?_
  have hK : va_K D tr_Cl [(d1, .boolean)] s := hK
  have hP : va_P D tr_Cl [(h0, .inr (1, [.null, .null, .null, .null, .null, .null])), (a1, .inl (d1, 8, .inl (fun _ => nI 0)))] H := hP
  have hD : va_D A [(h0, .inr (1, [.null, .null, .null, .null, .null, .null])), (a1, .inl (d1, 8, .inl (fun _ => nI 0)))] := hD
  refine va_put (D := D) (ci := 1) (v := .ref a1) (ty := .array .boolean) (C := RX1) (T := TX1) (N := 6) hx hb hts in_X1 tyX1 tyX1_ok nmX1 hown hK hP hD hS 0 rfl rfl 0 (by decide) (hts _ q170) (fun _ h9 => h9) rfl (by decide +kernel) rfl rfl (Nat.le_of_ble_eq_true rfl) dX1_init_9 (fun H locs hP hD hS => ?_)
  have hP : va_P D tr_Cl [(h0, .inr (1, [.ref a1, .null, .null, .null, .null, .null])), (a1, .inl (d1, 8, .inl (fun _ => nI 0)))] H := hP
  have hD : va_D A [(h0, .inr (1, [.ref a1, .null, .null, .null, .null, .null])), (a1, .inl (d1, 8, .inl (fun _ => nI 0)))] := hD
  refine lv_aload_n hx hb dX1_init_12 rfl (lv_at hl 0 rfl) ?_
  refine lv_bipush (v := nI 8) hx hb dX1_init_13 (by decide) ?_
  refine va_newa (atype := .int) (a0 := (8, .inl (fun _ => nI 0))) (N' := 8) (ty := .int) hx hb (hts _ q190) rfl hK hP hD hS hA (fun cA => tr_nw rfl) (by decide) (by decide) (by decide) (Nat.le_of_ble_eq_true rfl) (Nat.le_of_ble_eq_true rfl) dX1_init_15 (fun a2 d2 H hK hP hD hS => ?_)
  refine W.widen (k := 2) (n := 16) (Nat.le_of_ble_eq_true rfl) (Nat.le_of_ble_eq_true rfl) ?_
  have hK : va_K D tr_Cl [(d1, .boolean), (d2, .int)] s := hK
  have hP : va_P D tr_Cl [(h0, .inr (1, [.ref a1, .null, .null, .null, .null, .null])), (a1, .inl (d1, 8, .inl (fun _ => nI 0))), (a2, .inl (d2, 8, .inl (fun _ => nI 0)))] H := hP
  have hD : va_D A [(h0, .inr (1, [.ref a1, .null, .null, .null, .null, .null])), (a1, .inl (d1, 8, .inl (fun _ => nI 0))), (a2, .inl (d2, 8, .inl (fun _ => nI 0)))] := hD
  refine va_put (D := D) (ci := 1) (v := .ref a2) (ty := .array .int) (C := RX1) (T := TX1) (N := 6) hx hb hts in_X1 tyX1 tyX1_ok nmX1 hown hK hP hD hS 0 rfl rfl 1 (by decide) (hts _ q171) (fun _ h9 => h9) rfl (by decide +kernel) rfl rfl (Nat.le_of_ble_eq_true rfl) dX1_init_17 (fun H locs hP hD hS => ?_)
  have hP : va_P D tr_Cl [(h0, .inr (1, [.ref a1, .ref a2, .null, .null, .null, .null])), (a1, .inl (d1, 8, .inl (fun _ => nI 0))), (a2, .inl (d2, 8, .inl (fun _ => nI 0)))] H := hP
  have hD : va_D A [(h0, .inr (1, [.ref a1, .ref a2, .null, .null, .null, .null])), (a1, .inl (d1, 8, .inl (fun _ => nI 0))), (a2, .inl (d2, 8, .inl (fun _ => nI 0)))] := hD
  refine lv_aload_n hx hb dX1_init_20 rfl (lv_at hl 0 rfl) ?_
  refine lv_bipush (v := nI 8) hx hb dX1_init_21 (by decide) ?_
  refine va_newa (atype := .int) (a0 := (8, .inl (fun _ => nI 0))) (N' := 8) (ty := .int) hx hb (hts _ q190) rfl hK hP hD hS hA (fun cA => tr_nw rfl) (by decide) (by decide) (by decide) (Nat.le_of_ble_eq_true rfl) (Nat.le_of_ble_eq_true rfl) dX1_init_23 (fun a3 d3 H hK hP hD hS => ?_)
  refine W.widen (k := 3) (n := 24) (Nat.le_of_ble_eq_true rfl) (Nat.le_of_ble_eq_true rfl) ?_
  have hK : va_K D tr_Cl [(d1, .boolean), (d2, .int), (d3, .int)] s := hK
  have hP : va_P D tr_Cl [(h0, .inr (1, [.ref a1, .ref a2, .null, .null, .null, .null])), (a1, .inl (d1, 8, .inl (fun _ => nI 0))), (a2, .inl (d2, 8, .inl (fun _ => nI 0))), (a3, .inl (d3, 8, .inl (fun _ => nI 0)))] H := hP
  have hD : va_D A [(h0, .inr (1, [.ref a1, .ref a2, .null, .null, .null, .null])), (a1, .inl (d1, 8, .inl (fun _ => nI 0))), (a2, .inl (d2, 8, .inl (fun _ => nI 0))), (a3, .inl (d3, 8, .inl (fun _ => nI 0)))] := hD
  refine va_put (D := D) (ci := 1) (v := .ref a3) (ty := .array .int) (C := RX1) (T := TX1) (N := 6) hx hb hts in_X1 tyX1 tyX1_ok nmX1 hown hK hP hD hS 0 rfl rfl 2 (by decide) (hts _ q172) (fun _ h9 => h9) rfl (by decide +kernel) rfl rfl (Nat.le_of_ble_eq_true rfl) dX1_init_25 (fun H locs hP hD hS => ?_)
  have hP : va_P D tr_Cl [(h0, .inr (1, [.ref a1, .ref a2, .ref a3, .null, .null, .null])), (a1, .inl (d1, 8, .inl (fun _ => nI 0))), (a2, .inl (d2, 8, .inl (fun _ => nI 0))), (a3, .inl (d3, 8, .inl (fun _ => nI 0)))] H := hP
  have hD : va_D A [(h0, .inr (1, [.ref a1, .ref a2, .ref a3, .null, .null, .null])), (a1, .inl (d1, 8, .inl (fun _ => nI 0))), (a2, .inl (d2, 8, .inl (fun _ => nI 0))), (a3, .inl (d3, 8, .inl (fun _ => nI 0)))] := hD
  refine lv_aload_n hx hb dX1_init_28 rfl (lv_at hl 0 rfl) ?_
  refine lv_bipush (v := nI 8) hx hb dX1_init_29 (by decide) ?_
  refine va_newa (atype := .int) (a0 := (8, .inl (fun _ => nI 0))) (N' := 8) (ty := .int) hx hb (hts _ q190) rfl hK hP hD hS hA (fun cA => tr_nw rfl) (by decide) (by decide) (by decide) (Nat.le_of_ble_eq_true rfl) (Nat.le_of_ble_eq_true rfl) dX1_init_31 (fun a4 d4 H hK hP hD hS => ?_)
  refine W.widen (k := 4) (n := 32) (Nat.le_of_ble_eq_true rfl) (Nat.le_of_ble_eq_true rfl) ?_
  have hK : va_K D tr_Cl [(d1, .boolean), (d2, .int), (d3, .int), (d4, .int)] s := hK
  have hP : va_P D tr_Cl [(h0, .inr (1, [.ref a1, .ref a2, .ref a3, .null, .null, .null])), (a1, .inl (d1, 8, .inl (fun _ => nI 0))), (a2, .inl (d2, 8, .inl (fun _ => nI 0))), (a3, .inl (d3, 8, .inl (fun _ => nI 0))), (a4, .inl (d4, 8, .inl (fun _ => nI 0)))] H := hP
  have hD : va_D A [(h0, .inr (1, [.ref a1, .ref a2, .ref a3, .null, .null, .null])), (a1, .inl (d1, 8, .inl (fun _ => nI 0))), (a2, .inl (d2, 8, .inl (fun _ => nI 0))), (a3, .inl (d3, 8, .inl (fun _ => nI 0))), (a4, .inl (d4, 8, .inl (fun _ => nI 0)))] := hD
  refine va_put (D := D) (ci := 1) (v := .ref a4) (ty := .array .int) (C := RX1) (T := TX1) (N := 6) hx hb hts in_X1 tyX1 tyX1_ok nmX1 hown hK hP hD hS 0 rfl rfl 3 (by decide) (hts _ q173) (fun _ h9 => h9) rfl (by decide +kernel) rfl rfl (Nat.le_of_ble_eq_true rfl) dX1_init_33 (fun H locs hP hD hS => ?_)
  have hP : va_P D tr_Cl [(h0, .inr (1, [.ref a1, .ref a2, .ref a3, .ref a4, .null, .null])), (a1, .inl (d1, 8, .inl (fun _ => nI 0))), (a2, .inl (d2, 8, .inl (fun _ => nI 0))), (a3, .inl (d3, 8, .inl (fun _ => nI 0))), (a4, .inl (d4, 8, .inl (fun _ => nI 0)))] H := hP
  have hD : va_D A [(h0, .inr (1, [.ref a1, .ref a2, .ref a3, .ref a4, .null, .null])), (a1, .inl (d1, 8, .inl (fun _ => nI 0))), (a2, .inl (d2, 8, .inl (fun _ => nI 0))), (a3, .inl (d3, 8, .inl (fun _ => nI 0))), (a4, .inl (d4, 8, .inl (fun _ => nI 0)))] := hD
  refine lv_aload_n hx hb dX1_init_36 rfl (lv_at hl 0 rfl) ?_
  refine lv_bipush (v := nI 8) hx hb dX1_init_37 (by decide) ?_
  refine va_newa (atype := .int) (a0 := (8, .inl (fun _ => nI 0))) (N' := 8) (ty := .int) hx hb (hts _ q190) rfl hK hP hD hS hA (fun cA => tr_nw rfl) (by decide) (by decide) (by decide) (Nat.le_of_ble_eq_true rfl) (Nat.le_of_ble_eq_true rfl) dX1_init_39 (fun a5 d5 H hK hP hD hS => ?_)
  refine W.widen (k := 5) (n := 40) (Nat.le_of_ble_eq_true rfl) (Nat.le_of_ble_eq_true rfl) ?_
  have hK : va_K D tr_Cl [(d1, .boolean), (d2, .int), (d3, .int), (d4, .int), (d5, .int)] s := hK
  have hP : va_P D tr_Cl [(h0, .inr (1, [.ref a1, .ref a2, .ref a3, .ref a4, .null, .null])), (a1, .inl (d1, 8, .inl (fun _ => nI 0))), (a2, .inl (d2, 8, .inl (fun _ => nI 0))), (a3, .inl (d3, 8, .inl (fun _ => nI 0))), (a4, .inl (d4, 8, .inl (fun _ => nI 0))), (a5, .inl (d5, 8, .inl (fun _ => nI 0)))] H := hP
  have hD : va_D A [(h0, .inr (1, [.ref a1, .ref a2, .ref a3, .ref a4, .null, .null])), (a1, .inl (d1, 8, .inl (fun _ => nI 0))), (a2, .inl (d2, 8, .inl (fun _ => nI 0))), (a3, .inl (d3, 8, .inl (fun _ => nI 0))), (a4, .inl (d4, 8, .inl (fun _ => nI 0))), (a5, .inl (d5, 8, .inl (fun _ => nI 0)))] := hD
  refine va_put (D := D) (ci := 1) (v := .ref a5) (ty := .array .int) (C := RX1) (T := TX1) (N := 6) hx hb hts in_X1 tyX1 tyX1_ok nmX1 hown hK hP hD hS 0 rfl rfl 4 (by decide) (hts _ q174) (fun _ h9 => h9) rfl (by decide +kernel) rfl rfl (Nat.le_of_ble_eq_true rfl) dX1_init_41 (fun H locs hP hD hS => ?_)
  have hP : va_P D tr_Cl [(h0, .inr (1, [.ref a1, .ref a2, .ref a3, .ref a4, .ref a5, .null])), (a1, .inl (d1, 8, .inl (fun _ => nI 0))), (a2, .inl (d2, 8, .inl (fun _ => nI 0))), (a3, .inl (d3, 8, .inl (fun _ => nI 0))), (a4, .inl (d4, 8, .inl (fun _ => nI 0))), (a5, .inl (d5, 8, .inl (fun _ => nI 0)))] H := hP
  have hD : va_D A [(h0, .inr (1, [.ref a1, .ref a2, .ref a3, .ref a4, .ref a5, .null])), (a1, .inl (d1, 8, .inl (fun _ => nI 0))), (a2, .inl (d2, 8, .inl (fun _ => nI 0))), (a3, .inl (d3, 8, .inl (fun _ => nI 0))), (a4, .inl (d4, 8, .inl (fun _ => nI 0))), (a5, .inl (d5, 8, .inl (fun _ => nI 0)))] := hD
  refine lv_aload_n hx hb dX1_init_44 rfl (lv_at hl 0 rfl) ?_
  refine lv_iconst (v := nI 5) hx hb dX1_init_45 (by decide) ?_
  refine va_newa (atype := .int) (a0 := (5, .inl (fun _ => nI 0))) (N' := 5) (ty := .int) hx hb (hts _ q190) rfl hK hP hD hS hA (fun cA => tr_nw rfl) (by decide) (by decide) (by decide) (Nat.le_of_ble_eq_true rfl) (Nat.le_of_ble_eq_true rfl) dX1_init_46 (fun a6 d6 H hK hP hD hS => ?_)
  refine W.widen (k := 6) (n := 45) (Nat.le_of_ble_eq_true rfl) (Nat.le_of_ble_eq_true rfl) ?_
  have hK : va_K D tr_Cl [(d1, .boolean), (d2, .int), (d3, .int), (d4, .int), (d5, .int), (d6, .int)] s := hK
  have hP : va_P D tr_Cl [(h0, .inr (1, [.ref a1, .ref a2, .ref a3, .ref a4, .ref a5, .null])), (a1, .inl (d1, 8, .inl (fun _ => nI 0))), (a2, .inl (d2, 8, .inl (fun _ => nI 0))), (a3, .inl (d3, 8, .inl (fun _ => nI 0))), (a4, .inl (d4, 8, .inl (fun _ => nI 0))), (a5, .inl (d5, 8, .inl (fun _ => nI 0))), (a6, .inl (d6, 5, .inl (fun _ => nI 0)))] H := hP
  have hD : va_D A [(h0, .inr (1, [.ref a1, .ref a2, .ref a3, .ref a4, .ref a5, .null])), (a1, .inl (d1, 8, .inl (fun _ => nI 0))), (a2, .inl (d2, 8, .inl (fun _ => nI 0))), (a3, .inl (d3, 8, .inl (fun _ => nI 0))), (a4, .inl (d4, 8, .inl (fun _ => nI 0))), (a5, .inl (d5, 8, .inl (fun _ => nI 0))), (a6, .inl (d6, 5, .inl (fun _ => nI 0)))] := hD
  refine va_put (D := D) (ci := 1) (v := .ref a6) (ty := .array .int) (C := RX1) (T := TX1) (N := 6) hx hb hts in_X1 tyX1 tyX1_ok nmX1 hown hK hP hD hS 0 rfl rfl 5 (by decide) (hts _ q175) (fun _ h9 => h9) rfl (by decide +kernel) rfl rfl (Nat.le_of_ble_eq_true rfl) dX1_init_48 (fun H locs hP hD hS => ?_)
  have hP : va_P D tr_Cl [(h0, .inr (1, [.ref a1, .ref a2, .ref a3, .ref a4, .ref a5, .ref a6])), (a1, .inl (d1, 8, .inl (fun _ => nI 0))), (a2, .inl (d2, 8, .inl (fun _ => nI 0))), (a3, .inl (d3, 8, .inl (fun _ => nI 0))), (a4, .inl (d4, 8, .inl (fun _ => nI 0))), (a5, .inl (d5, 8, .inl (fun _ => nI 0))), (a6, .inl (d6, 5, .inl (fun _ => nI 0)))] H := hP
  have hD : va_D A [(h0, .inr (1, [.ref a1, .ref a2, .ref a3, .ref a4, .ref a5, .ref a6])), (a1, .inl (d1, 8, .inl (fun _ => nI 0))), (a2, .inl (d2, 8, .inl (fun _ => nI 0))), (a3, .inl (d3, 8, .inl (fun _ => nI 0))), (a4, .inl (d4, 8, .inl (fun _ => nI 0))), (a5, .inl (d5, 8, .inl (fun _ => nI 0))), (a6, .inl (d6, 5, .inl (fun _ => nI 0)))] := hD
  have f1 : s.vm.findClass ("[" ++ (FieldType.boolean).toString) = some d1 := (hK.2 0 _ rfl).2
  have f2 : s.vm.findClass ("[" ++ (FieldType.int).toString) = some d2 := (hK.2 1 _ rfl).2
  have f3 : s.vm.findClass ("[" ++ (FieldType.int).toString) = some d3 := (hK.2 2 _ rfl).2
  have f4 : s.vm.findClass ("[" ++ (FieldType.int).toString) = some d4 := (hK.2 3 _ rfl).2
  have f5 : s.vm.findClass ("[" ++ (FieldType.int).toString) = some d5 := (hK.2 4 _ rfl).2
  have f6 : s.vm.findClass ("[" ++ (FieldType.int).toString) = some d6 := (hK.2 5 _ rfl).2
  have g3 : d2 = d3 := Option.some.inj (f2.symm.trans f3)
  have g4 : d2 = d4 := Option.some.inj (f2.symm.trans f4)
  have g5 : d2 = d5 := Option.some.inj (f2.symm.trans f5)
  have g6 : d2 = d6 := Option.some.inj (f2.symm.trans f6)
  subst g3
  subst g4
  subst g5
  subst g6
  have hK9 : va_K D tr_Cl [(d1, .boolean), (d2, .int)] s := hK.sub [0, 1] rfl
  have hZ : (fun i : Nat => nI ((kP tr_K0).testBit i).toNat) = fun _ => nI 0 := by funext i; show nI ((0 : Nat).testBit i).toNat = nI 0; rw [Nat.zero_testBit]; rfl
  have hP : va_P D tr_Cl [(h0, .inr (1, [.ref a1, .ref a2, .ref a3, .ref a4, .ref a5, .ref a6])), (a1, .inl (d1, 8, .inl (fun i => nI ((kP tr_K0).testBit i).toNat))), (a2, .inl (d2, 8, .inl (fun _ => nI 0))), (a3, .inl (d2, 8, .inl (fun _ => nI 0))), (a4, .inl (d2, 8, .inl (fun _ => nI 0))), (a5, .inl (d2, 8, .inl (fun _ => nI 0))), (a6, .inl (d2, 5, .inl (fun _ => nI 0)))] H := by rw [hZ]; exact hP
  have hD : va_D A [(h0, .inr (1, [.ref a1, .ref a2, .ref a3, .ref a4, .ref a5, .ref a6])), (a1, .inl (d1, 8, .inl (fun i => nI ((kP tr_K0).testBit i).toNat))), (a2, .inl (d2, 8, .inl (fun _ => nI 0))), (a3, .inl (d2, 8, .inl (fun _ => nI 0))), (a4, .inl (d2, 8, .inl (fun _ => nI 0))), (a5, .inl (d2, 8, .inl (fun _ => nI 0))), (a6, .inl (d2, 5, .inl (fun _ => nI 0)))] := by rw [hZ]; exact hD
  exact W.vret hx hb hr (fun t ht hW => ⟨⟨((fun j => ([h0, a1, a2, a3, a4, a5, a6] : List Nat).getD j 0), d1, d2), rfl, rfl, by rw [ht]; exact hP, va_K.moved hW.alike hK9, hD⟩, hS.F ht⟩) hS.2.2 dX1_init_51 hlocks
end
section
/-! THE CLAIM OUT OF ONE WALK OF THE LAW'S BODY. Your part is whole_start (and what it stands on); all else here is the same for every law, but numbers. -/
def R_law : String := "TabledRulesLaw"
def lw_P (b : Addr) (xs : List Int32) (args : Array Value) (s : State) : Prop := args = #[.ref b] ∧ s.IntsAt b xs ∧ xs.length ≤ 320 ∧ (Jvm.Cond.and given_1 narrow_1).before args s = true
def lw_Q (_ : Array Value) (s : State) (o : Outcome) (t : State) : Prop := o = .returned (some (.int 1)) ∧ Framed s o t [] 600000 7290000
def lw_Z (below : List Frame) (a : Array Value) (s : State) : State → Prop := fun t => ∃ o, t.status = .running ∧ Ended t below o ∧ lw_Q a s o t
/-- the law's own end, with 1 on the stack, nothing written that was there before, its room as the claim has it -/
theorem lw_ret {p : Program} {l : Launch} {e : Env} {s : State} {m : MethodId} {below : List Frame} {meth : Method} {c : Code} {b : Nat} (hx : p.tables.exec = Jvm.exec) (hb : c.code = code) (hr : meth.sig.returnType = ret) (hlocks : meth.locks = false) {pc : Nat} {H : Heap} {ls : Array Slot} (hdg : decode code pc = .ok (.ireturn, 1)) : W p l e room_1 s m #[Value.ref b] below meth c H [] 600000 7290000 (lw_Z below #[Value.ref b] s) (F0 m pc ls [.int 1]) := by
  intro T hT X
  obtain ⟨fs, hret, hrun, hended, hW, hframe⟩ := X.leave (v := some (.int 1)) (hlocks := hlocks) (fun h => by rw [hr] at h; cases h)
  have hmeth' : T.vm.method? m = some meth := X.method'
  refine ⟨T.setFrames fs, ?_, .returned (some (.int 1)), hrun, hended, rfl, ⟨_, rfl⟩, hW, hframe⟩
  jvm_step X.here [X.here.top, hx, hb, hdg, hmeth', hr, ret, narrow_b1]
  (try refine ⟨rfl, ?_⟩); (try refine ⟨rfl, ?_⟩)
  first | (intro acts; rw [hret _ acts rfl rfl rfl]) | rw [hret _ _ rfl rfl rfl]
  exact Steps.refl _
/-- what holds at the law's entry: the machine, the code, the tables' words (any of lw_tbl by 'hts w (by decide +kernel)'), the script of L ints xs at the cell b, what the Statement gives of the start (any of its parts by flat_of_before) -/
def lw_At (p : Program) (s : State) (m : MethodId) (meth : Method) (c : Code) (b L : Nat) (xs : Nat → Int32) : Prop :=
  p.tables.exec = Jvm.exec ∧ c.code = code ∧ meth.sig.returnType = ret ∧ c.maxLocals = 4 ∧ s.vm.findClass R_law = some m.cls ∧ (∀ w ∈ lw_tbl, w.before #[Value.ref b] s = true) ∧ va_X b L xs s s.heap ∧ b < s.heap.size ∧ meth.locks = false ∧ (Jvm.Cond.and given_1 narrow_1).before #[Value.ref b] s = true
theorem tr_ap_sy {a b : va_W} (h : tr_ap a b) : tr_ap b a := fun i j x y hx hy e => h j i y x hy hx e.symm
abbrev tr_LT (dB dZ dN : ClassId) : tr_T := [(dB, .byte), (dZ, .boolean), (dN, .int)]
theorem law_ld {p : Program} {l : Launch} {e : Env} {R : Room} {s : State} {m : MethodId} {args : Array Value} {below : List Frame} {meth : Method} {c : Code} {H : Heap} {locs : List Loc} {cells slots : Nat} {Q : State → Prop} {cc : ByteArray} {pc nL : Nat} {ls : Array Slot} {rest : List Value} {D : va_G} {tys : tr_T} {A : Nat → Prop} {b L : Nat} {xs : Nat → Int32} (hC : tr_Cx p s m args meth c cc nL R_law D tys A) (hX : va_X b L xs s s.heap) (hbl : b < s.heap.size) (hbA : ¬ A b) (hS : va_S A s.heap H locs) (hL : L ≤ 320) {j : Nat} (hj : j < L) (hdg : decode cc pc = .ok (.iaload, 1)) (kk : W p l e R s m args below meth c H locs cells slots Q (F0 m (pc + 1) ls (.int (xs j) :: rest))) : W p l e R s m args below meth c H locs cells slots Q (F0 m pc ls (.int (nI j) :: .ref b :: rest)) := by
  obtain ⟨hx, hb, hlk, hml, hown, hts, hA, hK⟩ := hC
  refine va_sld hx hb hX hbl hbA hS (vp_in_nI hj (by omega)) hdg ?_
  rw [nI_clamp (by omega)]
  exact kk
theorem lx_i {p : Program} {l : Launch} {e : Env} {R : Room} {s : State} {m : MethodId} {args : Array Value} {below : List Frame} {meth : Method} {c : Code} {H : Heap} {locs : List Loc} {cells slots : Nat} {Q : State → Prop} {cc : ByteArray} {pc nL : Nat} {ls : Array Slot} {D : va_G} {A : Nat → Prop} {dB dZ dN : ClassId}  {q : Nat → Nat} {K : tr_C} {ak fr : Nat} {an ct : Nat → Nat} {S : Type} {post : Int32 → S → Prop} {F : S → va_W} {y : MethodName} {bytes : ByteArray} {nC idx n : Nat} {ret : Option FieldType} {rmC : Room} {As st : List Value} (hC : tr_Cx p s m args meth c cc nL R_law D (tr_LT dB dZ dN) A) (hM : tr_Mi l D (tr_XT dB) y (ws_ y bytes nC ret) rmC (.ref (q 0) :: As) (tr_XW dB q K ak an fr ct) post F) (hG : GoodIn lw_all (wsV R_law idx RX0 y (ws_ y bytes nC ret))) (hd : y.cls = RX0 ∧ y.cls ≠ "java/lang/invoke/MethodHandle" ∧ y.cls ≠ "java/lang/invoke/VarHandle" ∧ (parseMethodDescriptor y.desc).map (fun d => d.parameters.length) = some n) (hn : As.length = n) (hR : rmC.cells = 0 ∧ rmC.slots = 0 ∧ rmC.frames + 1 ≤ R.frames ∧ 8 + (nC + 11) + rmC.locals ≤ R.locals) (h1 : va_P D tr_Cl (tr_XW dB q K ak an fr ct) H) (h2 : va_D A (tr_XW dB q K ak an fr ct)) {wr : va_W} (h3 : va_P D tr_Cl wr H) (h5 : tr_ap (tr_XW dB q K ak an fr ct) wr) (hS : va_S A s.heap H locs) (hl : ls.size = nL) (rest : List Value) (hst : st = As.reverse ++ .ref (q 0) :: rest) (hroom : (rest.map fun v => v.category).sum ≤ 8) (hdg : decode cc pc = .ok (.invokevirtual idx, 3)) (hf : cells ≤ R.cells ∧ slots ≤ R.slots) (kk : ∀ (r : Int32) (u : S) (H1 : Heap) (locs1 : List Loc), post r u → va_P D tr_Cl (F u) H1 → va_D A (F u) → va_P D tr_Cl wr H1 → tr_ap (F u) wr → va_S A s.heap H1 locs1 → W p l e R s m args below meth c H1 locs1 cells slots Q (F0 m (pc + 3) ls (.int r :: rest))) : W p l e R s m args below meth c H locs cells slots Q (F0 m pc ls st) :=
  tr_ci (ci := 0) (T := TX0) (N := 10) hC (hC.2.2.2.2.2.2.2.sub [0] rfl) hM hG hd hn hR rfl rfl h1 h2 hS hl hst hroom hdg hf (fun r u H1 locs1 g1 g2 g3 g4 g5 g6 => kk r u H1 locs1 g1 g2 g3 (tr_rest h3 h5 g5 g6).1 (tr_rest h3 h5 g5 g6).2 g4)
theorem ly_i {p : Program} {l : Launch} {e : Env} {R : Room} {s : State} {m : MethodId} {args : Array Value} {below : List Frame} {meth : Method} {c : Code} {H : Heap} {locs : List Loc} {cells slots : Nat} {Q : State → Prop} {cc : ByteArray} {pc nL : Nat} {ls : Array Slot} {D : va_G} {A : Nat → Prop} {dB dZ dN : ClassId}  {q2 : Nat → Nat} {K : tr_C} {pr : Nat → Nat} {S : Type} {post : Int32 → S → Prop} {F : S → va_W} {y : MethodName} {bytes : ByteArray} {nC idx n : Nat} {ret : Option FieldType} {rmC : Room} {As st : List Value} (hC : tr_Cx p s m args meth c cc nL R_law D (tr_LT dB dZ dN) A) (hM : tr_Mi l D (tr_YT dZ dN) y (ws_ y bytes nC ret) rmC (.ref (q2 0) :: As) (tr_YW dZ dN q2 K pr) post F) (hG : GoodIn lw_all (wsV R_law idx RX1 y (ws_ y bytes nC ret))) (hd : y.cls = RX1 ∧ y.cls ≠ "java/lang/invoke/MethodHandle" ∧ y.cls ≠ "java/lang/invoke/VarHandle" ∧ (parseMethodDescriptor y.desc).map (fun d => d.parameters.length) = some n) (hn : As.length = n) (hR : rmC.cells = 0 ∧ rmC.slots = 0 ∧ rmC.frames + 1 ≤ R.frames ∧ 8 + (nC + 11) + rmC.locals ≤ R.locals) (h1 : va_P D tr_Cl (tr_YW dZ dN q2 K pr) H) (h2 : va_D A (tr_YW dZ dN q2 K pr)) {wr : va_W} (h3 : va_P D tr_Cl wr H) (h5 : tr_ap (tr_YW dZ dN q2 K pr) wr) (hS : va_S A s.heap H locs) (hl : ls.size = nL) (rest : List Value) (hst : st = As.reverse ++ .ref (q2 0) :: rest) (hroom : (rest.map fun v => v.category).sum ≤ 8) (hdg : decode cc pc = .ok (.invokevirtual idx, 3)) (hf : cells ≤ R.cells ∧ slots ≤ R.slots) (kk : ∀ (r : Int32) (u : S) (H1 : Heap) (locs1 : List Loc), post r u → va_P D tr_Cl (F u) H1 → va_D A (F u) → va_P D tr_Cl wr H1 → tr_ap (F u) wr → va_S A s.heap H1 locs1 → W p l e R s m args below meth c H1 locs1 cells slots Q (F0 m (pc + 3) ls (.int r :: rest))) : W p l e R s m args below meth c H locs cells slots Q (F0 m pc ls st) :=
  tr_ci (ci := 1) (T := TX1) (N := 6) hC (hC.2.2.2.2.2.2.2.sub [1, 2] rfl) hM hG hd hn hR rfl rfl h1 h2 hS hl hst hroom hdg hf (fun r u H1 locs1 g1 g2 g3 g4 g5 g6 => kk r u H1 locs1 g1 g2 g3 (tr_rest h3 h5 g5 g6).1 (tr_rest h3 h5 g5 g6).2 g4)
/-- what the law's loop asks at its end (row 508), i ints read -/
def tr_Nx (p : Program) (l : Launch) (e : Env) (s : State) (m : MethodId) (below : List Frame) (meth : Method) (c : Code) (D : va_G) (A : Nat → Prop) (dB dZ dN : ClassId) (q q2 : Nat → Nat) (b i : Nat) : Prop :=
  ∀ (K : tr_C) (ak : Nat) (an : Nat → Nat) (fr : Nat) (ct pr : Nat → Nat) (H : Heap) (locs : List Loc) (ls : Array Slot), tr_ok K → tr_di K ak an fr → tr_yi K pr → va_P D tr_Cl (tr_XW dB q K ak an fr ct) H → va_D A (tr_XW dB q K ak an fr ct) → va_P D tr_Cl (tr_YW dZ dN q2 K pr) H → va_D A (tr_YW dZ dN q2 K pr) → tr_ap (tr_XW dB q K ak an fr ct) (tr_YW dZ dN q2 K pr) → va_S A s.heap H locs → lv_has ls 4 [(0, .ref b), (1, .ref (q 0)), (2, .ref (q2 0)), (3, .int (nI i))] → W p l e room_1 s m #[Value.ref b] below meth c H locs 600000 7290000 (lw_Z below #[Value.ref b] s) (F0 m 508 ls [])
end
section
/-! the law, case by case: printed by gen/law.py -/
set_option maxHeartbeats 4000000 in
set_option maxRecDepth 100000 in
theorem law_c0 {p : Program} {l : Launch} {e : Env} {s : State} {m : MethodId} {below : List Frame} {meth : Method} {c : Code} {D : va_G} {A : Nat → Prop} {dB dZ dN : ClassId} {q q2 : Nat → Nat} {b L i : Nat} {xs : Nat → Int32} (hL : L ≤ 320) (hC : tr_Cx p s m #[Value.ref b] meth c cL_law 4 R_law D (tr_LT dB dZ dN) A) (hX : va_X b L xs s s.heap) (hbl : b < s.heap.size) (hbA : ¬ A b) (hi : i + 5 ≤ L) (next : tr_Nx p l e s m below meth c D A dB dZ dN q q2 b i) {K : tr_C} {ak : Nat} {an : Nat → Nat} {fr : Nat} {ct pr : Nat → Nat} {H : Heap} {locs : List Loc} {ls : Array Slot} (ok : tr_ok K) (di : tr_di K ak an fr) (yi : tr_yi K pr) (hPX : va_P D tr_Cl (tr_XW dB q K ak an fr ct) H) (hDX : va_D A (tr_XW dB q K ak an fr ct)) (hPY : va_P D tr_Cl (tr_YW dZ dN q2 K pr) H) (hDY : va_D A (tr_YW dZ dN q2 K pr)) (hap : tr_ap (tr_XW dB q K ak an fr ct) (tr_YW dZ dN q2 K pr)) (hS : va_S A s.heap H locs) (hl : lv_has ls 4 [(0, .ref b), (1, .ref (q 0)), (2, .ref (q2 0)), (3, .int (nI i))]) : W p l e room_1 s m #[Value.ref b] below meth c H locs 600000 7290000 (lw_Z below #[Value.ref b] s) (F0 m 96 ls []) := by
  have hC0 := hC
  obtain ⟨hx, hb, hlk, hml, hown, hts, hA, hK⟩ := hC0
  refine lv_aload_n hx hb dL_law_96 rfl (lv_at hl 1 rfl) ?_
  refine lv_aload_n hx hb dL_law_97 rfl (lv_at hl 0 rfl) ?_
  refine lv_iload_n hx hb dL_law_98 rfl (lv_at hl 3 rfl) ?_
  refine lv_iconst (v := (nI 1)) hx hb dL_law_99 (by decide) ?_
  refine lv_iadd hx hb dL_law_100 ?_
  refine tr_top (v := (nI (i + 1))) (nI_add _ _) ?_
  refine law_ld hC hX hbl hbA hS hL (j := (i + 1)) (by omega) dL_law_101 ?_
  refine lv_aload_n hx hb dL_law_102 rfl (lv_at hl 0 rfl) ?_
  refine lv_iload_n hx hb dL_law_103 rfl (lv_at hl 3 rfl) ?_
  refine lv_iconst (v := (nI 2)) hx hb dL_law_104 (by decide) ?_
  refine lv_iadd hx hb dL_law_105 ?_
  refine tr_top (v := (nI (i + 2))) (nI_add _ _) ?_
  refine law_ld hC hX hbl hbA hS hL (j := (i + 2)) (by omega) dL_law_106 ?_
  refine lv_aload_n hx hb dL_law_107 rfl (lv_at hl 0 rfl) ?_
  refine lv_iload_n hx hb dL_law_108 rfl (lv_at hl 3 rfl) ?_
  refine lv_iconst (v := (nI 3)) hx hb dL_law_109 (by decide) ?_
  refine lv_iadd hx hb dL_law_110 ?_
  refine tr_top (v := (nI (i + 3))) (nI_add _ _) ?_
  refine law_ld hC hX hbl hbA hS hL (j := (i + 3)) (by omega) dL_law_111 ?_
  refine lv_aload_n hx hb dL_law_112 rfl (lv_at hl 0 rfl) ?_
  refine lv_iload_n hx hb dL_law_113 rfl (lv_at hl 3 rfl) ?_
  refine lv_iconst (v := (nI 4)) hx hb dL_law_114 (by decide) ?_
  refine lv_iadd hx hb dL_law_115 ?_
  refine tr_top (v := (nI (i + 4))) (nI_add _ _) ?_
  refine law_ld hC hX hbl hbA hS hL (j := (i + 4)) (by omega) dL_law_116 ?_
  refine lv_if_eq (tgt := 124) hx hb dL_law_117 (by decide) (fun c1 => ?_) (fun c1 => ?_)
  · refine lv_iconst (v := (nI 0)) hx hb dL_law_124 (by decide) ?_
    refine tr_top (v := nI (false).toNat) rfl ?_
    refine lx_i (n := 4) hC (tx_give l D dB q K ak an fr ct (xs (i + 1)) (xs (i + 2)) (xs (i + 3)) false ok di) (lw_V q61 q62 q63 q19 q64) (by decide +kernel) rfl (by decide) hPX hDX hPY hap hS hl.1 [] rfl (Nat.le_of_ble_eq_true rfl) dL_law_125 ⟨Nat.le_refl _, Nat.le_refl _⟩ (fun r u H locs hp hPX hDX hPY hap hS => ?_)
    obtain ⟨rfl, d1⟩ := hp
    obtain ⟨ak1, an1, fr1⟩ := u
    have d1 : tr_di (tr_gK K (xs (i + 1)) (xs (i + 2)) (xs (i + 3)) false) ak1 an1 fr1 := d1
    have hPX : va_P D tr_Cl (tr_XW dB q (tr_gK K (xs (i + 1)) (xs (i + 2)) (xs (i + 3)) false) ak1 an1 fr1 ct) H := hPX
    have hDX : va_D A (tr_XW dB q (tr_gK K (xs (i + 1)) (xs (i + 2)) (xs (i + 3)) false) ak1 an1 fr1 ct) := hDX
    have hap : tr_ap (tr_XW dB q (tr_gK K (xs (i + 1)) (xs (i + 2)) (xs (i + 3)) false) ak1 an1 fr1 ct) (tr_YW dZ dN q2 K pr) := hap
    refine lv_aload_n hx hb dL_law_128 rfl (lv_at hl 2 rfl) ?_
    refine lv_aload_n hx hb dL_law_129 rfl (lv_at hl 0 rfl) ?_
    refine lv_iload_n hx hb dL_law_130 rfl (lv_at hl 3 rfl) ?_
    refine lv_iconst (v := (nI 1)) hx hb dL_law_131 (by decide) ?_
    refine lv_iadd hx hb dL_law_132 ?_
    refine tr_top (v := (nI (i + 1))) (nI_add _ _) ?_
    refine law_ld hC hX hbl hbA hS hL (j := (i + 1)) (by omega) dL_law_133 ?_
    refine lv_aload_n hx hb dL_law_134 rfl (lv_at hl 0 rfl) ?_
    refine lv_iload_n hx hb dL_law_135 rfl (lv_at hl 3 rfl) ?_
    refine lv_iconst (v := (nI 2)) hx hb dL_law_136 (by decide) ?_
    refine lv_iadd hx hb dL_law_137 ?_
    refine tr_top (v := (nI (i + 2))) (nI_add _ _) ?_
    refine law_ld hC hX hbl hbA hS hL (j := (i + 2)) (by omega) dL_law_138 ?_
    refine lv_aload_n hx hb dL_law_139 rfl (lv_at hl 0 rfl) ?_
    refine lv_iload_n hx hb dL_law_140 rfl (lv_at hl 3 rfl) ?_
    refine lv_iconst (v := (nI 3)) hx hb dL_law_141 (by decide) ?_
    refine lv_iadd hx hb dL_law_142 ?_
    refine tr_top (v := (nI (i + 3))) (nI_add _ _) ?_
    refine law_ld hC hX hbl hbA hS hL (j := (i + 3)) (by omega) dL_law_143 ?_
    refine lv_aload_n hx hb dL_law_144 rfl (lv_at hl 0 rfl) ?_
    refine lv_iload_n hx hb dL_law_145 rfl (lv_at hl 3 rfl) ?_
    refine lv_iconst (v := (nI 4)) hx hb dL_law_146 (by decide) ?_
    refine lv_iadd hx hb dL_law_147 ?_
    refine tr_top (v := (nI (i + 4))) (nI_add _ _) ?_
    refine law_ld hC hX hbl hbA hS hL (j := (i + 4)) (by omega) dL_law_148 ?_
    refine lv_if_eq (tgt := 156) hx hb dL_law_149 (by decide) (fun c2 => ?_) (fun c2 => ?_)
    · refine lv_iconst (v := (nI 0)) hx hb dL_law_156 (by decide) ?_
      refine tr_top (v := nI (false).toNat) rfl ?_
      refine ly_i (n := 4) hC (ty_give l D dZ dN q2 K pr (xs (i + 1)) (xs (i + 2)) (xs (i + 3)) false ok yi) (lw_V q191 q192 q193 q20 q194) (by decide +kernel) rfl (by decide) hPY hDY hPX (tr_ap_sy hap) hS hl.1 [.int (nI (tr_gc (xs (i + 1)) (xs (i + 2)) (xs (i + 3))).toNat)] rfl (Nat.le_of_ble_eq_true rfl) dL_law_157 ⟨Nat.le_refl _, Nat.le_refl _⟩ (fun r u H locs hp hPY hDY hPX hap hS => ?_)
      obtain ⟨pr1, eu⟩ : ∃ z, z = u := ⟨_, rfl⟩
      rw [← eu] at hp hPY hDY hap
      obtain ⟨rfl, y1⟩ := hp
      have hap := tr_ap_sy hap
      have hPY : va_P D tr_Cl (tr_YW dZ dN q2 (tr_gK K (xs (i + 1)) (xs (i + 2)) (xs (i + 3)) false) pr1) H := hPY
      have hDY : va_D A (tr_YW dZ dN q2 (tr_gK K (xs (i + 1)) (xs (i + 2)) (xs (i + 3)) false) pr1) := hDY
      have hap : tr_ap (tr_XW dB q (tr_gK K (xs (i + 1)) (xs (i + 2)) (xs (i + 3)) false) ak1 an1 fr1 ct) (tr_YW dZ dN q2 (tr_gK K (xs (i + 1)) (xs (i + 2)) (xs (i + 3)) false) pr1) := hap
      refine lv_icmp_eq (tgt := 508) hx hb dL_law_160 (by decide) (fun ce => ?_) (fun ce => ?_)
      · exact next _ _ _ _ _ _ _ _ _ (tr_ok_gK ok) d1 y1 hPX hDX hPY hDY hap hS hl
      · exact absurd rfl ce
    · exact absurd c1 c2
  · refine lv_iconst (v := (nI 1)) hx hb dL_law_120 (by decide) ?_
    refine lv_goto (tgt := 125) hx hb dL_law_121 (by decide) ?_
    refine tr_top (v := nI (true).toNat) rfl ?_
    refine lx_i (n := 4) hC (tx_give l D dB q K ak an fr ct (xs (i + 1)) (xs (i + 2)) (xs (i + 3)) true ok di) (lw_V q61 q62 q63 q19 q64) (by decide +kernel) rfl (by decide) hPX hDX hPY hap hS hl.1 [] rfl (Nat.le_of_ble_eq_true rfl) dL_law_125 ⟨Nat.le_refl _, Nat.le_refl _⟩ (fun r u H locs hp hPX hDX hPY hap hS => ?_)
    obtain ⟨rfl, d1⟩ := hp
    obtain ⟨ak1, an1, fr1⟩ := u
    have d1 : tr_di (tr_gK K (xs (i + 1)) (xs (i + 2)) (xs (i + 3)) true) ak1 an1 fr1 := d1
    have hPX : va_P D tr_Cl (tr_XW dB q (tr_gK K (xs (i + 1)) (xs (i + 2)) (xs (i + 3)) true) ak1 an1 fr1 ct) H := hPX
    have hDX : va_D A (tr_XW dB q (tr_gK K (xs (i + 1)) (xs (i + 2)) (xs (i + 3)) true) ak1 an1 fr1 ct) := hDX
    have hap : tr_ap (tr_XW dB q (tr_gK K (xs (i + 1)) (xs (i + 2)) (xs (i + 3)) true) ak1 an1 fr1 ct) (tr_YW dZ dN q2 K pr) := hap
    refine lv_aload_n hx hb dL_law_128 rfl (lv_at hl 2 rfl) ?_
    refine lv_aload_n hx hb dL_law_129 rfl (lv_at hl 0 rfl) ?_
    refine lv_iload_n hx hb dL_law_130 rfl (lv_at hl 3 rfl) ?_
    refine lv_iconst (v := (nI 1)) hx hb dL_law_131 (by decide) ?_
    refine lv_iadd hx hb dL_law_132 ?_
    refine tr_top (v := (nI (i + 1))) (nI_add _ _) ?_
    refine law_ld hC hX hbl hbA hS hL (j := (i + 1)) (by omega) dL_law_133 ?_
    refine lv_aload_n hx hb dL_law_134 rfl (lv_at hl 0 rfl) ?_
    refine lv_iload_n hx hb dL_law_135 rfl (lv_at hl 3 rfl) ?_
    refine lv_iconst (v := (nI 2)) hx hb dL_law_136 (by decide) ?_
    refine lv_iadd hx hb dL_law_137 ?_
    refine tr_top (v := (nI (i + 2))) (nI_add _ _) ?_
    refine law_ld hC hX hbl hbA hS hL (j := (i + 2)) (by omega) dL_law_138 ?_
    refine lv_aload_n hx hb dL_law_139 rfl (lv_at hl 0 rfl) ?_
    refine lv_iload_n hx hb dL_law_140 rfl (lv_at hl 3 rfl) ?_
    refine lv_iconst (v := (nI 3)) hx hb dL_law_141 (by decide) ?_
    refine lv_iadd hx hb dL_law_142 ?_
    refine tr_top (v := (nI (i + 3))) (nI_add _ _) ?_
    refine law_ld hC hX hbl hbA hS hL (j := (i + 3)) (by omega) dL_law_143 ?_
    refine lv_aload_n hx hb dL_law_144 rfl (lv_at hl 0 rfl) ?_
    refine lv_iload_n hx hb dL_law_145 rfl (lv_at hl 3 rfl) ?_
    refine lv_iconst (v := (nI 4)) hx hb dL_law_146 (by decide) ?_
    refine lv_iadd hx hb dL_law_147 ?_
    refine tr_top (v := (nI (i + 4))) (nI_add _ _) ?_
    refine law_ld hC hX hbl hbA hS hL (j := (i + 4)) (by omega) dL_law_148 ?_
    refine lv_if_eq (tgt := 156) hx hb dL_law_149 (by decide) (fun c2 => ?_) (fun c2 => ?_)
    · exact absurd c2 c1
    · refine lv_iconst (v := (nI 1)) hx hb dL_law_152 (by decide) ?_
      refine lv_goto (tgt := 157) hx hb dL_law_153 (by decide) ?_
      refine tr_top (v := nI (true).toNat) rfl ?_
      refine ly_i (n := 4) hC (ty_give l D dZ dN q2 K pr (xs (i + 1)) (xs (i + 2)) (xs (i + 3)) true ok yi) (lw_V q191 q192 q193 q20 q194) (by decide +kernel) rfl (by decide) hPY hDY hPX (tr_ap_sy hap) hS hl.1 [.int (nI (tr_gc (xs (i + 1)) (xs (i + 2)) (xs (i + 3))).toNat)] rfl (Nat.le_of_ble_eq_true rfl) dL_law_157 ⟨Nat.le_refl _, Nat.le_refl _⟩ (fun r u H locs hp hPY hDY hPX hap hS => ?_)
      obtain ⟨pr1, eu⟩ : ∃ z, z = u := ⟨_, rfl⟩
      rw [← eu] at hp hPY hDY hap
      obtain ⟨rfl, y1⟩ := hp
      have hap := tr_ap_sy hap
      have hPY : va_P D tr_Cl (tr_YW dZ dN q2 (tr_gK K (xs (i + 1)) (xs (i + 2)) (xs (i + 3)) true) pr1) H := hPY
      have hDY : va_D A (tr_YW dZ dN q2 (tr_gK K (xs (i + 1)) (xs (i + 2)) (xs (i + 3)) true) pr1) := hDY
      have hap : tr_ap (tr_XW dB q (tr_gK K (xs (i + 1)) (xs (i + 2)) (xs (i + 3)) true) ak1 an1 fr1 ct) (tr_YW dZ dN q2 (tr_gK K (xs (i + 1)) (xs (i + 2)) (xs (i + 3)) true) pr1) := hap
      refine lv_icmp_eq (tgt := 508) hx hb dL_law_160 (by decide) (fun ce => ?_) (fun ce => ?_)
      · exact next _ _ _ _ _ _ _ _ _ (tr_ok_gK ok) d1 y1 hPX hDX hPY hDY hap hS hl
      · exact absurd rfl ce
set_option maxHeartbeats 4000000 in
set_option maxRecDepth 100000 in
theorem law_c1 {p : Program} {l : Launch} {e : Env} {s : State} {m : MethodId} {below : List Frame} {meth : Method} {c : Code} {D : va_G} {A : Nat → Prop} {dB dZ dN : ClassId} {q q2 : Nat → Nat} {b L i : Nat} {xs : Nat → Int32} (hL : L ≤ 320) (hC : tr_Cx p s m #[Value.ref b] meth c cL_law 4 R_law D (tr_LT dB dZ dN) A) (hX : va_X b L xs s s.heap) (hbl : b < s.heap.size) (hbA : ¬ A b) (hi : i + 5 ≤ L) (next : tr_Nx p l e s m below meth c D A dB dZ dN q q2 b i) {K : tr_C} {ak : Nat} {an : Nat → Nat} {fr : Nat} {ct pr : Nat → Nat} {H : Heap} {locs : List Loc} {ls : Array Slot} (ok : tr_ok K) (di : tr_di K ak an fr) (yi : tr_yi K pr) (hPX : va_P D tr_Cl (tr_XW dB q K ak an fr ct) H) (hDX : va_D A (tr_XW dB q K ak an fr ct)) (hPY : va_P D tr_Cl (tr_YW dZ dN q2 K pr) H) (hDY : va_D A (tr_YW dZ dN q2 K pr)) (hap : tr_ap (tr_XW dB q K ak an fr ct) (tr_YW dZ dN q2 K pr)) (hS : va_S A s.heap H locs) (hl : lv_has ls 4 [(0, .ref b), (1, .ref (q 0)), (2, .ref (q2 0)), (3, .int (nI i))]) : W p l e room_1 s m #[Value.ref b] below meth c H locs 600000 7290000 (lw_Z below #[Value.ref b] s) (F0 m 165 ls []) := by
  have hC0 := hC
  obtain ⟨hx, hb, hlk, hml, hown, hts, hA, hK⟩ := hC0
  refine lv_aload_n hx hb dL_law_165 rfl (lv_at hl 1 rfl) ?_
  refine lv_aload_n hx hb dL_law_166 rfl (lv_at hl 0 rfl) ?_
  refine lv_iload_n hx hb dL_law_167 rfl (lv_at hl 3 rfl) ?_
  refine lv_iconst (v := (nI 1)) hx hb dL_law_168 (by decide) ?_
  refine lv_iadd hx hb dL_law_169 ?_
  refine tr_top (v := (nI (i + 1))) (nI_add _ _) ?_
  refine law_ld hC hX hbl hbA hS hL (j := (i + 1)) (by omega) dL_law_170 ?_
  refine lv_aload_n hx hb dL_law_171 rfl (lv_at hl 0 rfl) ?_
  refine lv_iload_n hx hb dL_law_172 rfl (lv_at hl 3 rfl) ?_
  refine lv_iconst (v := (nI 2)) hx hb dL_law_173 (by decide) ?_
  refine lv_iadd hx hb dL_law_174 ?_
  refine tr_top (v := (nI (i + 2))) (nI_add _ _) ?_
  refine law_ld hC hX hbl hbA hS hL (j := (i + 2)) (by omega) dL_law_175 ?_
  refine lv_aload_n hx hb dL_law_176 rfl (lv_at hl 0 rfl) ?_
  refine lv_iload_n hx hb dL_law_177 rfl (lv_at hl 3 rfl) ?_
  refine lv_iconst (v := (nI 3)) hx hb dL_law_178 (by decide) ?_
  refine lv_iadd hx hb dL_law_179 ?_
  refine tr_top (v := (nI (i + 3))) (nI_add _ _) ?_
  refine law_ld hC hX hbl hbA hS hL (j := (i + 3)) (by omega) dL_law_180 ?_
  refine lx_i (n := 3) hC (tx_rule l D dB q K ak an fr ct (xs (i + 1)) (xs (i + 2)) (xs (i + 3)) ok di) (lw_V q76 q77 q78 q19 q79) (by decide +kernel) rfl (by decide) hPX hDX hPY hap hS hl.1 [] rfl (Nat.le_of_ble_eq_true rfl) dL_law_181 ⟨Nat.le_refl _, Nat.le_refl _⟩ (fun r u H locs hp hPX hDX hPY hap hS => ?_)
  obtain ⟨rfl, d1⟩ := hp
  obtain ⟨ak1, an1, fr1⟩ := u
  have d1 : tr_di (tr_rK K (xs (i + 1)) (xs (i + 2)) (xs (i + 3))) ak1 an1 fr1 := d1
  have hPX : va_P D tr_Cl (tr_XW dB q (tr_rK K (xs (i + 1)) (xs (i + 2)) (xs (i + 3))) ak1 an1 fr1 ct) H := hPX
  have hDX : va_D A (tr_XW dB q (tr_rK K (xs (i + 1)) (xs (i + 2)) (xs (i + 3))) ak1 an1 fr1 ct) := hDX
  have hap : tr_ap (tr_XW dB q (tr_rK K (xs (i + 1)) (xs (i + 2)) (xs (i + 3))) ak1 an1 fr1 ct) (tr_YW dZ dN q2 K pr) := hap
  refine lv_aload_n hx hb dL_law_184 rfl (lv_at hl 2 rfl) ?_
  refine lv_aload_n hx hb dL_law_185 rfl (lv_at hl 0 rfl) ?_
  refine lv_iload_n hx hb dL_law_186 rfl (lv_at hl 3 rfl) ?_
  refine lv_iconst (v := (nI 1)) hx hb dL_law_187 (by decide) ?_
  refine lv_iadd hx hb dL_law_188 ?_
  refine tr_top (v := (nI (i + 1))) (nI_add _ _) ?_
  refine law_ld hC hX hbl hbA hS hL (j := (i + 1)) (by omega) dL_law_189 ?_
  refine lv_aload_n hx hb dL_law_190 rfl (lv_at hl 0 rfl) ?_
  refine lv_iload_n hx hb dL_law_191 rfl (lv_at hl 3 rfl) ?_
  refine lv_iconst (v := (nI 2)) hx hb dL_law_192 (by decide) ?_
  refine lv_iadd hx hb dL_law_193 ?_
  refine tr_top (v := (nI (i + 2))) (nI_add _ _) ?_
  refine law_ld hC hX hbl hbA hS hL (j := (i + 2)) (by omega) dL_law_194 ?_
  refine lv_aload_n hx hb dL_law_195 rfl (lv_at hl 0 rfl) ?_
  refine lv_iload_n hx hb dL_law_196 rfl (lv_at hl 3 rfl) ?_
  refine lv_iconst (v := (nI 3)) hx hb dL_law_197 (by decide) ?_
  refine lv_iadd hx hb dL_law_198 ?_
  refine tr_top (v := (nI (i + 3))) (nI_add _ _) ?_
  refine law_ld hC hX hbl hbA hS hL (j := (i + 3)) (by omega) dL_law_199 ?_
  refine ly_i (n := 3) hC (ty_rule l D dZ dN q2 K pr (xs (i + 1)) (xs (i + 2)) (xs (i + 3)) ok yi) (lw_V q199 q200 q201 q20 q202) (by decide +kernel) rfl (by decide) hPY hDY hPX (tr_ap_sy hap) hS hl.1 [.int (tr_rR K (xs (i + 1)) (xs (i + 2)) (xs (i + 3)))] rfl (Nat.le_of_ble_eq_true rfl) dL_law_200 ⟨Nat.le_refl _, Nat.le_refl _⟩ (fun r u H locs hp hPY hDY hPX hap hS => ?_)
  obtain ⟨pr1, eu⟩ : ∃ z, z = u := ⟨_, rfl⟩
  rw [← eu] at hp hPY hDY hap
  obtain ⟨rfl, y1⟩ := hp
  have hap := tr_ap_sy hap
  have hPY : va_P D tr_Cl (tr_YW dZ dN q2 (tr_rK K (xs (i + 1)) (xs (i + 2)) (xs (i + 3))) pr1) H := hPY
  have hDY : va_D A (tr_YW dZ dN q2 (tr_rK K (xs (i + 1)) (xs (i + 2)) (xs (i + 3))) pr1) := hDY
  have hap : tr_ap (tr_XW dB q (tr_rK K (xs (i + 1)) (xs (i + 2)) (xs (i + 3))) ak1 an1 fr1 ct) (tr_YW dZ dN q2 (tr_rK K (xs (i + 1)) (xs (i + 2)) (xs (i + 3))) pr1) := hap
  refine lv_icmp_eq (tgt := 508) hx hb dL_law_203 (by decide) (fun ce => ?_) (fun ce => ?_)
  · exact next _ _ _ _ _ _ _ _ _ (tr_ok_rK ok) d1 y1 hPX hDX hPY hDY hap hS hl
  · exact absurd rfl ce
set_option maxHeartbeats 4000000 in
set_option maxRecDepth 100000 in
theorem law_c2 {p : Program} {l : Launch} {e : Env} {s : State} {m : MethodId} {below : List Frame} {meth : Method} {c : Code} {D : va_G} {A : Nat → Prop} {dB dZ dN : ClassId} {q q2 : Nat → Nat} {b L i : Nat} {xs : Nat → Int32} (hL : L ≤ 320) (hC : tr_Cx p s m #[Value.ref b] meth c cL_law 4 R_law D (tr_LT dB dZ dN) A) (hX : va_X b L xs s s.heap) (hbl : b < s.heap.size) (hbA : ¬ A b) (hi : i + 5 ≤ L) (next : tr_Nx p l e s m below meth c D A dB dZ dN q q2 b i) {K : tr_C} {ak : Nat} {an : Nat → Nat} {fr : Nat} {ct pr : Nat → Nat} {H : Heap} {locs : List Loc} {ls : Array Slot} (ok : tr_ok K) (di : tr_di K ak an fr) (yi : tr_yi K pr) (hPX : va_P D tr_Cl (tr_XW dB q K ak an fr ct) H) (hDX : va_D A (tr_XW dB q K ak an fr ct)) (hPY : va_P D tr_Cl (tr_YW dZ dN q2 K pr) H) (hDY : va_D A (tr_YW dZ dN q2 K pr)) (hap : tr_ap (tr_XW dB q K ak an fr ct) (tr_YW dZ dN q2 K pr)) (hS : va_S A s.heap H locs) (hl : lv_has ls 4 [(0, .ref b), (1, .ref (q 0)), (2, .ref (q2 0)), (3, .int (nI i))]) : W p l e room_1 s m #[Value.ref b] below meth c H locs 600000 7290000 (lw_Z below #[Value.ref b] s) (F0 m 208 ls []) := by
  have hC0 := hC
  obtain ⟨hx, hb, hlk, hml, hown, hts, hA, hK⟩ := hC0
  refine lv_aload_n hx hb dL_law_208 rfl (lv_at hl 1 rfl) ?_
  refine lv_aload_n hx hb dL_law_209 rfl (lv_at hl 0 rfl) ?_
  refine lv_iload_n hx hb dL_law_210 rfl (lv_at hl 3 rfl) ?_
  refine lv_iconst (v := (nI 1)) hx hb dL_law_211 (by decide) ?_
  refine lv_iadd hx hb dL_law_212 ?_
  refine tr_top (v := (nI (i + 1))) (nI_add _ _) ?_
  refine law_ld hC hX hbl hbA hS hL (j := (i + 1)) (by omega) dL_law_213 ?_
  refine lx_i (n := 1) hC (tx_drop l D dB q K ak an fr ct (xs (i + 1)) ok di) (lw_V q87 q88 q89 q19 q90) (by decide +kernel) rfl (by decide) hPX hDX hPY hap hS hl.1 [] rfl (Nat.le_of_ble_eq_true rfl) dL_law_214 ⟨Nat.le_refl _, Nat.le_refl _⟩ (fun r u H locs hp hPX hDX hPY hap hS => ?_)
  obtain ⟨rfl, d1⟩ := hp
  obtain ⟨ak1, an1, fr1⟩ := u
  have d1 : tr_di (tr_dK K (xs (i + 1))) ak1 an1 fr1 := d1
  have hPX : va_P D tr_Cl (tr_XW dB q (tr_dK K (xs (i + 1))) ak1 an1 fr1 ct) H := hPX
  have hDX : va_D A (tr_XW dB q (tr_dK K (xs (i + 1))) ak1 an1 fr1 ct) := hDX
  have hap : tr_ap (tr_XW dB q (tr_dK K (xs (i + 1))) ak1 an1 fr1 ct) (tr_YW dZ dN q2 K pr) := hap
  refine lv_aload_n hx hb dL_law_217 rfl (lv_at hl 2 rfl) ?_
  refine lv_aload_n hx hb dL_law_218 rfl (lv_at hl 0 rfl) ?_
  refine lv_iload_n hx hb dL_law_219 rfl (lv_at hl 3 rfl) ?_
  refine lv_iconst (v := (nI 1)) hx hb dL_law_220 (by decide) ?_
  refine lv_iadd hx hb dL_law_221 ?_
  refine tr_top (v := (nI (i + 1))) (nI_add _ _) ?_
  refine law_ld hC hX hbl hbA hS hL (j := (i + 1)) (by omega) dL_law_222 ?_
  refine ly_i (n := 1) hC (ty_drop l D dZ dN q2 K pr (xs (i + 1)) ok yi) (lw_V q203 q204 q205 q20 q206) (by decide +kernel) rfl (by decide) hPY hDY hPX (tr_ap_sy hap) hS hl.1 [.int (nI (tr_hs K (xs (i + 1))).toNat)] rfl (Nat.le_of_ble_eq_true rfl) dL_law_223 ⟨Nat.le_refl _, Nat.le_refl _⟩ (fun r u H locs hp hPY hDY hPX hap hS => ?_)
  obtain ⟨pr1, eu⟩ : ∃ z, z = u := ⟨_, rfl⟩
  rw [← eu] at hp hPY hDY hap
  obtain ⟨rfl, y1⟩ := hp
  have hap := tr_ap_sy hap
  have hPY : va_P D tr_Cl (tr_YW dZ dN q2 (tr_dK K (xs (i + 1))) pr1) H := hPY
  have hDY : va_D A (tr_YW dZ dN q2 (tr_dK K (xs (i + 1))) pr1) := hDY
  have hap : tr_ap (tr_XW dB q (tr_dK K (xs (i + 1))) ak1 an1 fr1 ct) (tr_YW dZ dN q2 (tr_dK K (xs (i + 1))) pr1) := hap
  refine lv_icmp_eq (tgt := 508) hx hb dL_law_226 (by decide) (fun ce => ?_) (fun ce => ?_)
  · exact next _ _ _ _ _ _ _ _ _ (tr_ok_dK ok) d1 y1 hPX hDX hPY hDY hap hS hl
  · exact absurd rfl ce
set_option maxHeartbeats 4000000 in
set_option maxRecDepth 100000 in
theorem law_c3 {p : Program} {l : Launch} {e : Env} {s : State} {m : MethodId} {below : List Frame} {meth : Method} {c : Code} {D : va_G} {A : Nat → Prop} {dB dZ dN : ClassId} {q q2 : Nat → Nat} {b L i : Nat} {xs : Nat → Int32} (hL : L ≤ 320) (hC : tr_Cx p s m #[Value.ref b] meth c cL_law 4 R_law D (tr_LT dB dZ dN) A) (hX : va_X b L xs s s.heap) (hbl : b < s.heap.size) (hbA : ¬ A b) (hi : i + 5 ≤ L) (next : tr_Nx p l e s m below meth c D A dB dZ dN q q2 b i) {K : tr_C} {ak : Nat} {an : Nat → Nat} {fr : Nat} {ct pr : Nat → Nat} {H : Heap} {locs : List Loc} {ls : Array Slot} (ok : tr_ok K) (di : tr_di K ak an fr) (yi : tr_yi K pr) (hPX : va_P D tr_Cl (tr_XW dB q K ak an fr ct) H) (hDX : va_D A (tr_XW dB q K ak an fr ct)) (hPY : va_P D tr_Cl (tr_YW dZ dN q2 K pr) H) (hDY : va_D A (tr_YW dZ dN q2 K pr)) (hap : tr_ap (tr_XW dB q K ak an fr ct) (tr_YW dZ dN q2 K pr)) (hS : va_S A s.heap H locs) (hl : lv_has ls 4 [(0, .ref b), (1, .ref (q 0)), (2, .ref (q2 0)), (3, .int (nI i))]) : W p l e room_1 s m #[Value.ref b] below meth c H locs 600000 7290000 (lw_Z below #[Value.ref b] s) (F0 m 231 ls []) := by
  have hC0 := hC
  obtain ⟨hx, hb, hlk, hml, hown, hts, hA, hK⟩ := hC0
  refine lv_aload_n hx hb dL_law_231 rfl (lv_at hl 1 rfl) ?_
  refine lx_i (n := 0) hC (tx_rules l D dB q K ak an fr ct) (lw_V q91 q92 q93 q19 q94) (by decide +kernel) rfl (by decide) hPX hDX hPY hap hS hl.1 [] rfl (Nat.le_of_ble_eq_true rfl) dL_law_232 ⟨Nat.le_refl _, Nat.le_refl _⟩ (fun r u H locs hp hPX hDX hPY hap hS => ?_)
  subst hp
  have hPX : va_P D tr_Cl (tr_XW dB q K ak an fr ct) H := hPX
  have hDX : va_D A (tr_XW dB q K ak an fr ct) := hDX
  have hap : tr_ap (tr_XW dB q K ak an fr ct) (tr_YW dZ dN q2 K pr) := hap
  refine lv_aload_n hx hb dL_law_235 rfl (lv_at hl 2 rfl) ?_
  refine ly_i (n := 0) hC (ty_rules l D dZ dN q2 K pr ok) (lw_V q211 q212 q213 q20 q214) (by decide +kernel) rfl (by decide) hPY hDY hPX (tr_ap_sy hap) hS hl.1 [.int (nI (kP K))] rfl (Nat.le_of_ble_eq_true rfl) dL_law_236 ⟨Nat.le_refl _, Nat.le_refl _⟩ (fun r u H locs hp hPY hDY hPX hap hS => ?_)
  subst hp
  have hap := tr_ap_sy hap
  have y1 := yi
  refine lv_icmp_eq (tgt := 508) hx hb dL_law_239 (by decide) (fun ce => ?_) (fun ce => ?_)
  · exact next _ _ _ _ _ _ _ _ _ ok di y1 hPX hDX hPY hDY hap hS hl
  · exact absurd rfl ce
set_option maxHeartbeats 4000000 in
set_option maxRecDepth 100000 in
theorem law_c4 {p : Program} {l : Launch} {e : Env} {s : State} {m : MethodId} {below : List Frame} {meth : Method} {c : Code} {D : va_G} {A : Nat → Prop} {dB dZ dN : ClassId} {q q2 : Nat → Nat} {b L i : Nat} {xs : Nat → Int32} (hL : L ≤ 320) (hC : tr_Cx p s m #[Value.ref b] meth c cL_law 4 R_law D (tr_LT dB dZ dN) A) (hX : va_X b L xs s s.heap) (hbl : b < s.heap.size) (hbA : ¬ A b) (hi : i + 5 ≤ L) (next : tr_Nx p l e s m below meth c D A dB dZ dN q q2 b i) {K : tr_C} {ak : Nat} {an : Nat → Nat} {fr : Nat} {ct pr : Nat → Nat} {H : Heap} {locs : List Loc} {ls : Array Slot} (ok : tr_ok K) (di : tr_di K ak an fr) (yi : tr_yi K pr) (hPX : va_P D tr_Cl (tr_XW dB q K ak an fr ct) H) (hDX : va_D A (tr_XW dB q K ak an fr ct)) (hPY : va_P D tr_Cl (tr_YW dZ dN q2 K pr) H) (hDY : va_D A (tr_YW dZ dN q2 K pr)) (hap : tr_ap (tr_XW dB q K ak an fr ct) (tr_YW dZ dN q2 K pr)) (hS : va_S A s.heap H locs) (hl : lv_has ls 4 [(0, .ref b), (1, .ref (q 0)), (2, .ref (q2 0)), (3, .int (nI i))]) : W p l e room_1 s m #[Value.ref b] below meth c H locs 600000 7290000 (lw_Z below #[Value.ref b] s) (F0 m 244 ls []) := by
  have hC0 := hC
  obtain ⟨hx, hb, hlk, hml, hown, hts, hA, hK⟩ := hC0
  refine lv_aload_n hx hb dL_law_244 rfl (lv_at hl 1 rfl) ?_
  refine lv_aload_n hx hb dL_law_245 rfl (lv_at hl 0 rfl) ?_
  refine lv_iload_n hx hb dL_law_246 rfl (lv_at hl 3 rfl) ?_
  refine lv_iconst (v := (nI 1)) hx hb dL_law_247 (by decide) ?_
  refine lv_iadd hx hb dL_law_248 ?_
  refine tr_top (v := (nI (i + 1))) (nI_add _ _) ?_
  refine law_ld hC hX hbl hbA hS hL (j := (i + 1)) (by omega) dL_law_249 ?_
  refine lv_aload_n hx hb dL_law_250 rfl (lv_at hl 0 rfl) ?_
  refine lv_iload_n hx hb dL_law_251 rfl (lv_at hl 3 rfl) ?_
  refine lv_iconst (v := (nI 2)) hx hb dL_law_252 (by decide) ?_
  refine lv_iadd hx hb dL_law_253 ?_
  refine tr_top (v := (nI (i + 2))) (nI_add _ _) ?_
  refine law_ld hC hX hbl hbA hS hL (j := (i + 2)) (by omega) dL_law_254 ?_
  refine lv_aload_n hx hb dL_law_255 rfl (lv_at hl 0 rfl) ?_
  refine lv_iload_n hx hb dL_law_256 rfl (lv_at hl 3 rfl) ?_
  refine lv_iconst (v := (nI 3)) hx hb dL_law_257 (by decide) ?_
  refine lv_iadd hx hb dL_law_258 ?_
  refine tr_top (v := (nI (i + 3))) (nI_add _ _) ?_
  refine law_ld hC hX hbl hbA hS hL (j := (i + 3)) (by omega) dL_law_259 ?_
  refine lx_i (n := 3) hC (tx_holds l D dB q K ak an fr ct (xs (i + 1)) (xs (i + 2)) (xs (i + 3)) ok di) (lw_V q95 q96 q97 q19 q98) (by decide +kernel) rfl (by decide) hPX hDX hPY hap hS hl.1 [] rfl (Nat.le_of_ble_eq_true rfl) dL_law_260 ⟨Nat.le_refl _, Nat.le_refl _⟩ (fun r u H locs hp hPX hDX hPY hap hS => ?_)
  obtain ⟨rfl, d1⟩ := hp
  obtain ⟨ak1, an1, fr1⟩ := u
  have d1 : tr_di K ak1 an1 fr1 := d1
  have hPX : va_P D tr_Cl (tr_XW dB q K ak1 an1 fr1 ct) H := hPX
  have hDX : va_D A (tr_XW dB q K ak1 an1 fr1 ct) := hDX
  have hap : tr_ap (tr_XW dB q K ak1 an1 fr1 ct) (tr_YW dZ dN q2 K pr) := hap
  refine lv_aload_n hx hb dL_law_263 rfl (lv_at hl 2 rfl) ?_
  refine lv_aload_n hx hb dL_law_264 rfl (lv_at hl 0 rfl) ?_
  refine lv_iload_n hx hb dL_law_265 rfl (lv_at hl 3 rfl) ?_
  refine lv_iconst (v := (nI 1)) hx hb dL_law_266 (by decide) ?_
  refine lv_iadd hx hb dL_law_267 ?_
  refine tr_top (v := (nI (i + 1))) (nI_add _ _) ?_
  refine law_ld hC hX hbl hbA hS hL (j := (i + 1)) (by omega) dL_law_268 ?_
  refine lv_aload_n hx hb dL_law_269 rfl (lv_at hl 0 rfl) ?_
  refine lv_iload_n hx hb dL_law_270 rfl (lv_at hl 3 rfl) ?_
  refine lv_iconst (v := (nI 2)) hx hb dL_law_271 (by decide) ?_
  refine lv_iadd hx hb dL_law_272 ?_
  refine tr_top (v := (nI (i + 2))) (nI_add _ _) ?_
  refine law_ld hC hX hbl hbA hS hL (j := (i + 2)) (by omega) dL_law_273 ?_
  refine lv_aload_n hx hb dL_law_274 rfl (lv_at hl 0 rfl) ?_
  refine lv_iload_n hx hb dL_law_275 rfl (lv_at hl 3 rfl) ?_
  refine lv_iconst (v := (nI 3)) hx hb dL_law_276 (by decide) ?_
  refine lv_iadd hx hb dL_law_277 ?_
  refine tr_top (v := (nI (i + 3))) (nI_add _ _) ?_
  refine law_ld hC hX hbl hbA hS hL (j := (i + 3)) (by omega) dL_law_278 ?_
  refine ly_i (n := 3) hC (ty_holds l D dZ dN q2 K pr (xs (i + 1)) (xs (i + 2)) (xs (i + 3)) ok yi) (lw_V q215 q216 q217 q20 q218) (by decide +kernel) rfl (by decide) hPY hDY hPX (tr_ap_sy hap) hS hl.1 [.int (nI (tr_hB K (xs (i + 1)) (xs (i + 2)) (xs (i + 3))).toNat)] rfl (Nat.le_of_ble_eq_true rfl) dL_law_279 ⟨Nat.le_refl _, Nat.le_refl _⟩ (fun r u H locs hp hPY hDY hPX hap hS => ?_)
  obtain ⟨pr1, eu⟩ : ∃ z, z = u := ⟨_, rfl⟩
  rw [← eu] at hp hPY hDY hap
  obtain ⟨rfl, y1⟩ := hp
  have hap := tr_ap_sy hap
  have hPY : va_P D tr_Cl (tr_YW dZ dN q2 K pr1) H := hPY
  have hDY : va_D A (tr_YW dZ dN q2 K pr1) := hDY
  have hap : tr_ap (tr_XW dB q K ak1 an1 fr1 ct) (tr_YW dZ dN q2 K pr1) := hap
  refine lv_icmp_eq (tgt := 508) hx hb dL_law_282 (by decide) (fun ce => ?_) (fun ce => ?_)
  · exact next _ _ _ _ _ _ _ _ _ ok d1 y1 hPX hDX hPY hDY hap hS hl
  · exact absurd rfl ce
set_option maxHeartbeats 4000000 in
set_option maxRecDepth 100000 in
theorem law_c5 {p : Program} {l : Launch} {e : Env} {s : State} {m : MethodId} {below : List Frame} {meth : Method} {c : Code} {D : va_G} {A : Nat → Prop} {dB dZ dN : ClassId} {q q2 : Nat → Nat} {b L i : Nat} {xs : Nat → Int32} (hL : L ≤ 320) (hC : tr_Cx p s m #[Value.ref b] meth c cL_law 4 R_law D (tr_LT dB dZ dN) A) (hX : va_X b L xs s s.heap) (hbl : b < s.heap.size) (hbA : ¬ A b) (hi : i + 5 ≤ L) (next : tr_Nx p l e s m below meth c D A dB dZ dN q q2 b i) {K : tr_C} {ak : Nat} {an : Nat → Nat} {fr : Nat} {ct pr : Nat → Nat} {H : Heap} {locs : List Loc} {ls : Array Slot} (ok : tr_ok K) (di : tr_di K ak an fr) (yi : tr_yi K pr) (hPX : va_P D tr_Cl (tr_XW dB q K ak an fr ct) H) (hDX : va_D A (tr_XW dB q K ak an fr ct)) (hPY : va_P D tr_Cl (tr_YW dZ dN q2 K pr) H) (hDY : va_D A (tr_YW dZ dN q2 K pr)) (hap : tr_ap (tr_XW dB q K ak an fr ct) (tr_YW dZ dN q2 K pr)) (hS : va_S A s.heap H locs) (hl : lv_has ls 4 [(0, .ref b), (1, .ref (q 0)), (2, .ref (q2 0)), (3, .int (nI i))]) : W p l e room_1 s m #[Value.ref b] below meth c H locs 600000 7290000 (lw_Z below #[Value.ref b] s) (F0 m 287 ls []) := by
  have hC0 := hC
  obtain ⟨hx, hb, hlk, hml, hown, hts, hA, hK⟩ := hC0
  refine lv_aload_n hx hb dL_law_287 rfl (lv_at hl 1 rfl) ?_
  refine lv_aload_n hx hb dL_law_288 rfl (lv_at hl 0 rfl) ?_
  refine lv_iload_n hx hb dL_law_289 rfl (lv_at hl 3 rfl) ?_
  refine lv_iconst (v := (nI 1)) hx hb dL_law_290 (by decide) ?_
  refine lv_iadd hx hb dL_law_291 ?_
  refine tr_top (v := (nI (i + 1))) (nI_add _ _) ?_
  refine law_ld hC hX hbl hbA hS hL (j := (i + 1)) (by omega) dL_law_292 ?_
  refine lv_aload_n hx hb dL_law_293 rfl (lv_at hl 0 rfl) ?_
  refine lv_iload_n hx hb dL_law_294 rfl (lv_at hl 3 rfl) ?_
  refine lv_iconst (v := (nI 2)) hx hb dL_law_295 (by decide) ?_
  refine lv_iadd hx hb dL_law_296 ?_
  refine tr_top (v := (nI (i + 2))) (nI_add _ _) ?_
  refine law_ld hC hX hbl hbA hS hL (j := (i + 2)) (by omega) dL_law_297 ?_
  refine lx_i (n := 2) hC (tx_from l D dB q K ak an fr ct (xs (i + 1)) (xs (i + 2)) ok di) (lw_V q123 q124 q125 q19 q126) (by decide +kernel) rfl (by decide) hPX hDX hPY hap hS hl.1 [] rfl (Nat.le_of_ble_eq_true rfl) dL_law_298 ⟨Nat.le_refl _, Nat.le_refl _⟩ (fun r u H locs hp hPX hDX hPY hap hS => ?_)
  obtain ⟨rfl, d1⟩ := hp
  obtain ⟨ak1, an1, fr1⟩ := u
  have d1 : tr_di K ak1 an1 fr1 := d1
  have hPX : va_P D tr_Cl (tr_XW dB q K ak1 an1 fr1 ct) H := hPX
  have hDX : va_D A (tr_XW dB q K ak1 an1 fr1 ct) := hDX
  have hap : tr_ap (tr_XW dB q K ak1 an1 fr1 ct) (tr_YW dZ dN q2 K pr) := hap
  refine lv_aload_n hx hb dL_law_301 rfl (lv_at hl 2 rfl) ?_
  refine lv_aload_n hx hb dL_law_302 rfl (lv_at hl 0 rfl) ?_
  refine lv_iload_n hx hb dL_law_303 rfl (lv_at hl 3 rfl) ?_
  refine lv_iconst (v := (nI 1)) hx hb dL_law_304 (by decide) ?_
  refine lv_iadd hx hb dL_law_305 ?_
  refine tr_top (v := (nI (i + 1))) (nI_add _ _) ?_
  refine law_ld hC hX hbl hbA hS hL (j := (i + 1)) (by omega) dL_law_306 ?_
  refine lv_aload_n hx hb dL_law_307 rfl (lv_at hl 0 rfl) ?_
  refine lv_iload_n hx hb dL_law_308 rfl (lv_at hl 3 rfl) ?_
  refine lv_iconst (v := (nI 2)) hx hb dL_law_309 (by decide) ?_
  refine lv_iadd hx hb dL_law_310 ?_
  refine tr_top (v := (nI (i + 2))) (nI_add _ _) ?_
  refine law_ld hC hX hbl hbA hS hL (j := (i + 2)) (by omega) dL_law_311 ?_
  refine ly_i (n := 2) hC (ty_from l D dZ dN q2 K pr (xs (i + 1)) (xs (i + 2)) ok yi) (lw_V q235 q236 q237 q20 q238) (by decide +kernel) rfl (by decide) hPY hDY hPX (tr_ap_sy hap) hS hl.1 [.int (nI (tr_fN K (xs (i + 1)) (xs (i + 2))))] rfl (Nat.le_of_ble_eq_true rfl) dL_law_312 ⟨Nat.le_refl _, Nat.le_refl _⟩ (fun r u H locs hp hPY hDY hPX hap hS => ?_)
  obtain ⟨pr1, eu⟩ : ∃ z, z = u := ⟨_, rfl⟩
  rw [← eu] at hp hPY hDY hap
  obtain ⟨rfl, y1⟩ := hp
  have hap := tr_ap_sy hap
  have hPY : va_P D tr_Cl (tr_YW dZ dN q2 K pr1) H := hPY
  have hDY : va_D A (tr_YW dZ dN q2 K pr1) := hDY
  have hap : tr_ap (tr_XW dB q K ak1 an1 fr1 ct) (tr_YW dZ dN q2 K pr1) := hap
  refine lv_icmp_eq (tgt := 508) hx hb dL_law_315 (by decide) (fun ce => ?_) (fun ce => ?_)
  · exact next _ _ _ _ _ _ _ _ _ ok d1 y1 hPX hDX hPY hDY hap hS hl
  · exact absurd rfl ce
set_option maxHeartbeats 4000000 in
set_option maxRecDepth 100000 in
theorem law_c6 {p : Program} {l : Launch} {e : Env} {s : State} {m : MethodId} {below : List Frame} {meth : Method} {c : Code} {D : va_G} {A : Nat → Prop} {dB dZ dN : ClassId} {q q2 : Nat → Nat} {b L i : Nat} {xs : Nat → Int32} (hL : L ≤ 320) (hC : tr_Cx p s m #[Value.ref b] meth c cL_law 4 R_law D (tr_LT dB dZ dN) A) (hX : va_X b L xs s s.heap) (hbl : b < s.heap.size) (hbA : ¬ A b) (hi : i + 5 ≤ L) (next : tr_Nx p l e s m below meth c D A dB dZ dN q q2 b i) {K : tr_C} {ak : Nat} {an : Nat → Nat} {fr : Nat} {ct pr : Nat → Nat} {H : Heap} {locs : List Loc} {ls : Array Slot} (ok : tr_ok K) (di : tr_di K ak an fr) (yi : tr_yi K pr) (hPX : va_P D tr_Cl (tr_XW dB q K ak an fr ct) H) (hDX : va_D A (tr_XW dB q K ak an fr ct)) (hPY : va_P D tr_Cl (tr_YW dZ dN q2 K pr) H) (hDY : va_D A (tr_YW dZ dN q2 K pr)) (hap : tr_ap (tr_XW dB q K ak an fr ct) (tr_YW dZ dN q2 K pr)) (hS : va_S A s.heap H locs) (hl : lv_has ls 4 [(0, .ref b), (1, .ref (q 0)), (2, .ref (q2 0)), (3, .int (nI i))]) : W p l e room_1 s m #[Value.ref b] below meth c H locs 600000 7290000 (lw_Z below #[Value.ref b] s) (F0 m 320 ls []) := by
  have hC0 := hC
  obtain ⟨hx, hb, hlk, hml, hown, hts, hA, hK⟩ := hC0
  refine lv_aload_n hx hb dL_law_320 rfl (lv_at hl 1 rfl) ?_
  refine lv_aload_n hx hb dL_law_321 rfl (lv_at hl 0 rfl) ?_
  refine lv_iload_n hx hb dL_law_322 rfl (lv_at hl 3 rfl) ?_
  refine lv_iconst (v := (nI 1)) hx hb dL_law_323 (by decide) ?_
  refine lv_iadd hx hb dL_law_324 ?_
  refine tr_top (v := (nI (i + 1))) (nI_add _ _) ?_
  refine law_ld hC hX hbl hbA hS hL (j := (i + 1)) (by omega) dL_law_325 ?_
  refine lv_aload_n hx hb dL_law_326 rfl (lv_at hl 0 rfl) ?_
  refine lv_iload_n hx hb dL_law_327 rfl (lv_at hl 3 rfl) ?_
  refine lv_iconst (v := (nI 2)) hx hb dL_law_328 (by decide) ?_
  refine lv_iadd hx hb dL_law_329 ?_
  refine tr_top (v := (nI (i + 2))) (nI_add _ _) ?_
  refine law_ld hC hX hbl hbA hS hL (j := (i + 2)) (by omega) dL_law_330 ?_
  refine lx_i (n := 2) hC (tx_to l D dB q K ak an fr ct (xs (i + 1)) (xs (i + 2)) ok di) (lw_V q127 q128 q129 q19 q130) (by decide +kernel) rfl (by decide) hPX hDX hPY hap hS hl.1 [] rfl (Nat.le_of_ble_eq_true rfl) dL_law_331 ⟨Nat.le_refl _, Nat.le_refl _⟩ (fun r u H locs hp hPX hDX hPY hap hS => ?_)
  obtain ⟨rfl, d1⟩ := hp
  obtain ⟨ak1, an1, fr1⟩ := u
  have d1 : tr_di K ak1 an1 fr1 := d1
  have hPX : va_P D tr_Cl (tr_XW dB q K ak1 an1 fr1 ct) H := hPX
  have hDX : va_D A (tr_XW dB q K ak1 an1 fr1 ct) := hDX
  have hap : tr_ap (tr_XW dB q K ak1 an1 fr1 ct) (tr_YW dZ dN q2 K pr) := hap
  refine lv_aload_n hx hb dL_law_334 rfl (lv_at hl 2 rfl) ?_
  refine lv_aload_n hx hb dL_law_335 rfl (lv_at hl 0 rfl) ?_
  refine lv_iload_n hx hb dL_law_336 rfl (lv_at hl 3 rfl) ?_
  refine lv_iconst (v := (nI 1)) hx hb dL_law_337 (by decide) ?_
  refine lv_iadd hx hb dL_law_338 ?_
  refine tr_top (v := (nI (i + 1))) (nI_add _ _) ?_
  refine law_ld hC hX hbl hbA hS hL (j := (i + 1)) (by omega) dL_law_339 ?_
  refine lv_aload_n hx hb dL_law_340 rfl (lv_at hl 0 rfl) ?_
  refine lv_iload_n hx hb dL_law_341 rfl (lv_at hl 3 rfl) ?_
  refine lv_iconst (v := (nI 2)) hx hb dL_law_342 (by decide) ?_
  refine lv_iadd hx hb dL_law_343 ?_
  refine tr_top (v := (nI (i + 2))) (nI_add _ _) ?_
  refine law_ld hC hX hbl hbA hS hL (j := (i + 2)) (by omega) dL_law_344 ?_
  refine ly_i (n := 2) hC (ty_to l D dZ dN q2 K pr (xs (i + 1)) (xs (i + 2)) ok yi) (lw_V q239 q240 q241 q20 q242) (by decide +kernel) rfl (by decide) hPY hDY hPX (tr_ap_sy hap) hS hl.1 [.int (nI (tr_tN K (xs (i + 1)) (xs (i + 2))))] rfl (Nat.le_of_ble_eq_true rfl) dL_law_345 ⟨Nat.le_refl _, Nat.le_refl _⟩ (fun r u H locs hp hPY hDY hPX hap hS => ?_)
  obtain ⟨pr1, eu⟩ : ∃ z, z = u := ⟨_, rfl⟩
  rw [← eu] at hp hPY hDY hap
  obtain ⟨rfl, y1⟩ := hp
  have hap := tr_ap_sy hap
  have hPY : va_P D tr_Cl (tr_YW dZ dN q2 K pr1) H := hPY
  have hDY : va_D A (tr_YW dZ dN q2 K pr1) := hDY
  have hap : tr_ap (tr_XW dB q K ak1 an1 fr1 ct) (tr_YW dZ dN q2 K pr1) := hap
  refine lv_icmp_eq (tgt := 508) hx hb dL_law_348 (by decide) (fun ce => ?_) (fun ce => ?_)
  · exact next _ _ _ _ _ _ _ _ _ ok d1 y1 hPX hDX hPY hDY hap hS hl
  · exact absurd rfl ce
set_option maxHeartbeats 4000000 in
set_option maxRecDepth 100000 in
theorem law_c7 {p : Program} {l : Launch} {e : Env} {s : State} {m : MethodId} {below : List Frame} {meth : Method} {c : Code} {D : va_G} {A : Nat → Prop} {dB dZ dN : ClassId} {q q2 : Nat → Nat} {b L i : Nat} {xs : Nat → Int32} (hL : L ≤ 320) (hC : tr_Cx p s m #[Value.ref b] meth c cL_law 4 R_law D (tr_LT dB dZ dN) A) (hX : va_X b L xs s s.heap) (hbl : b < s.heap.size) (hbA : ¬ A b) (hi : i + 5 ≤ L) (next : tr_Nx p l e s m below meth c D A dB dZ dN q q2 b i) {K : tr_C} {ak : Nat} {an : Nat → Nat} {fr : Nat} {ct pr : Nat → Nat} {H : Heap} {locs : List Loc} {ls : Array Slot} (ok : tr_ok K) (di : tr_di K ak an fr) (yi : tr_yi K pr) (hPX : va_P D tr_Cl (tr_XW dB q K ak an fr ct) H) (hDX : va_D A (tr_XW dB q K ak an fr ct)) (hPY : va_P D tr_Cl (tr_YW dZ dN q2 K pr) H) (hDY : va_D A (tr_YW dZ dN q2 K pr)) (hap : tr_ap (tr_XW dB q K ak an fr ct) (tr_YW dZ dN q2 K pr)) (hS : va_S A s.heap H locs) (hl : lv_has ls 4 [(0, .ref b), (1, .ref (q 0)), (2, .ref (q2 0)), (3, .int (nI i))]) : W p l e room_1 s m #[Value.ref b] below meth c H locs 600000 7290000 (lw_Z below #[Value.ref b] s) (F0 m 353 ls []) := by
  have hC0 := hC
  obtain ⟨hx, hb, hlk, hml, hown, hts, hA, hK⟩ := hC0
  refine lv_aload_n hx hb dL_law_353 rfl (lv_at hl 1 rfl) ?_
  refine lv_aload_n hx hb dL_law_354 rfl (lv_at hl 0 rfl) ?_
  refine lv_iload_n hx hb dL_law_355 rfl (lv_at hl 3 rfl) ?_
  refine lv_iconst (v := (nI 1)) hx hb dL_law_356 (by decide) ?_
  refine lv_iadd hx hb dL_law_357 ?_
  refine tr_top (v := (nI (i + 1))) (nI_add _ _) ?_
  refine law_ld hC hX hbl hbA hS hL (j := (i + 1)) (by omega) dL_law_358 ?_
  refine lx_i (n := 1) hC (tx_count l D dB q K ak an fr ct (xs (i + 1)) ok di) (lw_V q132 q133 q134 q19 q135) (by decide +kernel) rfl (by decide) hPX hDX hPY hap hS hl.1 [] rfl (Nat.le_of_ble_eq_true rfl) dL_law_359 ⟨Nat.le_refl _, Nat.le_refl _⟩ (fun r u H locs hp hPX hDX hPY hap hS => ?_)
  obtain ⟨rfl, d1⟩ := hp
  obtain ⟨ak1, an1, fr1⟩ := u
  have d1 : tr_di K ak1 an1 fr1 := d1
  have hPX : va_P D tr_Cl (tr_XW dB q K ak1 an1 fr1 ct) H := hPX
  have hDX : va_D A (tr_XW dB q K ak1 an1 fr1 ct) := hDX
  have hap : tr_ap (tr_XW dB q K ak1 an1 fr1 ct) (tr_YW dZ dN q2 K pr) := hap
  refine lv_aload_n hx hb dL_law_362 rfl (lv_at hl 2 rfl) ?_
  refine lv_aload_n hx hb dL_law_363 rfl (lv_at hl 0 rfl) ?_
  refine lv_iload_n hx hb dL_law_364 rfl (lv_at hl 3 rfl) ?_
  refine lv_iconst (v := (nI 1)) hx hb dL_law_365 (by decide) ?_
  refine lv_iadd hx hb dL_law_366 ?_
  refine tr_top (v := (nI (i + 1))) (nI_add _ _) ?_
  refine law_ld hC hX hbl hbA hS hL (j := (i + 1)) (by omega) dL_law_367 ?_
  refine ly_i (n := 1) hC (ty_count l D dZ dN q2 K pr (xs (i + 1)) ok yi) (lw_V q243 q244 q245 q20 q246) (by decide +kernel) rfl (by decide) hPY hDY hPX (tr_ap_sy hap) hS hl.1 [.int (tr_cI K (xs (i + 1)))] rfl (Nat.le_of_ble_eq_true rfl) dL_law_368 ⟨Nat.le_refl _, Nat.le_refl _⟩ (fun r u H locs hp hPY hDY hPX hap hS => ?_)
  obtain ⟨pr1, eu⟩ : ∃ z, z = u := ⟨_, rfl⟩
  rw [← eu] at hp hPY hDY hap
  obtain ⟨rfl, y1⟩ := hp
  have hap := tr_ap_sy hap
  have hPY : va_P D tr_Cl (tr_YW dZ dN q2 K pr1) H := hPY
  have hDY : va_D A (tr_YW dZ dN q2 K pr1) := hDY
  have hap : tr_ap (tr_XW dB q K ak1 an1 fr1 ct) (tr_YW dZ dN q2 K pr1) := hap
  refine lv_icmp_eq (tgt := 508) hx hb dL_law_371 (by decide) (fun ce => ?_) (fun ce => ?_)
  · exact next _ _ _ _ _ _ _ _ _ ok d1 y1 hPX hDX hPY hDY hap hS hl
  · exact absurd rfl ce
set_option maxHeartbeats 4000000 in
set_option maxRecDepth 100000 in
theorem law_c8 {p : Program} {l : Launch} {e : Env} {s : State} {m : MethodId} {below : List Frame} {meth : Method} {c : Code} {D : va_G} {A : Nat → Prop} {dB dZ dN : ClassId} {q q2 : Nat → Nat} {b L i : Nat} {xs : Nat → Int32} (hL : L ≤ 320) (hC : tr_Cx p s m #[Value.ref b] meth c cL_law 4 R_law D (tr_LT dB dZ dN) A) (hX : va_X b L xs s s.heap) (hbl : b < s.heap.size) (hbA : ¬ A b) (hi : i + 5 ≤ L) (next : tr_Nx p l e s m below meth c D A dB dZ dN q q2 b i) {K : tr_C} {ak : Nat} {an : Nat → Nat} {fr : Nat} {ct pr : Nat → Nat} {H : Heap} {locs : List Loc} {ls : Array Slot} (ok : tr_ok K) (di : tr_di K ak an fr) (yi : tr_yi K pr) (hPX : va_P D tr_Cl (tr_XW dB q K ak an fr ct) H) (hDX : va_D A (tr_XW dB q K ak an fr ct)) (hPY : va_P D tr_Cl (tr_YW dZ dN q2 K pr) H) (hDY : va_D A (tr_YW dZ dN q2 K pr)) (hap : tr_ap (tr_XW dB q K ak an fr ct) (tr_YW dZ dN q2 K pr)) (hS : va_S A s.heap H locs) (hl : lv_has ls 4 [(0, .ref b), (1, .ref (q 0)), (2, .ref (q2 0)), (3, .int (nI i))]) : W p l e room_1 s m #[Value.ref b] below meth c H locs 600000 7290000 (lw_Z below #[Value.ref b] s) (F0 m 376 ls []) := by
  have hC0 := hC
  obtain ⟨hx, hb, hlk, hml, hown, hts, hA, hK⟩ := hC0
  refine lv_aload_n hx hb dL_law_376 rfl (lv_at hl 1 rfl) ?_
  refine lv_aload_n hx hb dL_law_377 rfl (lv_at hl 0 rfl) ?_
  refine lv_iload_n hx hb dL_law_378 rfl (lv_at hl 3 rfl) ?_
  refine lv_iconst (v := (nI 1)) hx hb dL_law_379 (by decide) ?_
  refine lv_iadd hx hb dL_law_380 ?_
  refine tr_top (v := (nI (i + 1))) (nI_add _ _) ?_
  refine law_ld hC hX hbl hbA hS hL (j := (i + 1)) (by omega) dL_law_381 ?_
  refine lv_aload_n hx hb dL_law_382 rfl (lv_at hl 0 rfl) ?_
  refine lv_iload_n hx hb dL_law_383 rfl (lv_at hl 3 rfl) ?_
  refine lv_iconst (v := (nI 2)) hx hb dL_law_384 (by decide) ?_
  refine lv_iadd hx hb dL_law_385 ?_
  refine tr_top (v := (nI (i + 2))) (nI_add _ _) ?_
  refine law_ld hC hX hbl hbA hS hL (j := (i + 2)) (by omega) dL_law_386 ?_
  refine lx_i (n := 2) hC (tx_within l D dB q K ak an fr ct (xs (i + 1)) (xs (i + 2)) ok di) (lw_V q139 q140 q141 q19 q142) (by decide +kernel) rfl (by decide) hPX hDX hPY hap hS hl.1 [] rfl (Nat.le_of_ble_eq_true rfl) dL_law_387 ⟨Nat.le_refl _, Nat.le_refl _⟩ (fun r u H locs hp hPX hDX hPY hap hS => ?_)
  obtain ⟨rfl, d1⟩ := hp
  obtain ⟨ak1, an1, fr1⟩ := u
  have d1 : tr_di K ak1 an1 fr1 := d1
  have hPX : va_P D tr_Cl (tr_XW dB q K ak1 an1 fr1 ct) H := hPX
  have hDX : va_D A (tr_XW dB q K ak1 an1 fr1 ct) := hDX
  have hap : tr_ap (tr_XW dB q K ak1 an1 fr1 ct) (tr_YW dZ dN q2 K pr) := hap
  refine lv_aload_n hx hb dL_law_390 rfl (lv_at hl 2 rfl) ?_
  refine lv_aload_n hx hb dL_law_391 rfl (lv_at hl 0 rfl) ?_
  refine lv_iload_n hx hb dL_law_392 rfl (lv_at hl 3 rfl) ?_
  refine lv_iconst (v := (nI 1)) hx hb dL_law_393 (by decide) ?_
  refine lv_iadd hx hb dL_law_394 ?_
  refine tr_top (v := (nI (i + 1))) (nI_add _ _) ?_
  refine law_ld hC hX hbl hbA hS hL (j := (i + 1)) (by omega) dL_law_395 ?_
  refine lv_aload_n hx hb dL_law_396 rfl (lv_at hl 0 rfl) ?_
  refine lv_iload_n hx hb dL_law_397 rfl (lv_at hl 3 rfl) ?_
  refine lv_iconst (v := (nI 2)) hx hb dL_law_398 (by decide) ?_
  refine lv_iadd hx hb dL_law_399 ?_
  refine tr_top (v := (nI (i + 2))) (nI_add _ _) ?_
  refine law_ld hC hX hbl hbA hS hL (j := (i + 2)) (by omega) dL_law_400 ?_
  refine ly_i (n := 2) hC (ty_within l D dZ dN q2 K pr (xs (i + 1)) (xs (i + 2)) ok yi) (lw_V q251 q252 q253 q20 q254) (by decide +kernel) rfl (by decide) hPY hDY hPX (tr_ap_sy hap) hS hl.1 [.int (nI (tr_wB K (xs (i + 1)) (xs (i + 2))).toNat)] rfl (Nat.le_of_ble_eq_true rfl) dL_law_401 ⟨Nat.le_refl _, Nat.le_refl _⟩ (fun r u H locs hp hPY hDY hPX hap hS => ?_)
  obtain ⟨pr1, eu⟩ : ∃ z, z = u := ⟨_, rfl⟩
  rw [← eu] at hp hPY hDY hap
  obtain ⟨rfl, y1⟩ := hp
  have hap := tr_ap_sy hap
  have hPY : va_P D tr_Cl (tr_YW dZ dN q2 K pr1) H := hPY
  have hDY : va_D A (tr_YW dZ dN q2 K pr1) := hDY
  have hap : tr_ap (tr_XW dB q K ak1 an1 fr1 ct) (tr_YW dZ dN q2 K pr1) := hap
  refine lv_icmp_eq (tgt := 508) hx hb dL_law_404 (by decide) (fun ce => ?_) (fun ce => ?_)
  · exact next _ _ _ _ _ _ _ _ _ ok d1 y1 hPX hDX hPY hDY hap hS hl
  · exact absurd rfl ce
set_option maxHeartbeats 4000000 in
set_option maxRecDepth 100000 in
theorem law_c9 {p : Program} {l : Launch} {e : Env} {s : State} {m : MethodId} {below : List Frame} {meth : Method} {c : Code} {D : va_G} {A : Nat → Prop} {dB dZ dN : ClassId} {q q2 : Nat → Nat} {b L i : Nat} {xs : Nat → Int32} (hL : L ≤ 320) (hC : tr_Cx p s m #[Value.ref b] meth c cL_law 4 R_law D (tr_LT dB dZ dN) A) (hX : va_X b L xs s s.heap) (hbl : b < s.heap.size) (hbA : ¬ A b) (hi : i + 5 ≤ L) (next : tr_Nx p l e s m below meth c D A dB dZ dN q q2 b i) {K : tr_C} {ak : Nat} {an : Nat → Nat} {fr : Nat} {ct pr : Nat → Nat} {H : Heap} {locs : List Loc} {ls : Array Slot} (ok : tr_ok K) (di : tr_di K ak an fr) (yi : tr_yi K pr) (hPX : va_P D tr_Cl (tr_XW dB q K ak an fr ct) H) (hDX : va_D A (tr_XW dB q K ak an fr ct)) (hPY : va_P D tr_Cl (tr_YW dZ dN q2 K pr) H) (hDY : va_D A (tr_YW dZ dN q2 K pr)) (hap : tr_ap (tr_XW dB q K ak an fr ct) (tr_YW dZ dN q2 K pr)) (hS : va_S A s.heap H locs) (hl : lv_has ls 4 [(0, .ref b), (1, .ref (q 0)), (2, .ref (q2 0)), (3, .int (nI i))]) : W p l e room_1 s m #[Value.ref b] below meth c H locs 600000 7290000 (lw_Z below #[Value.ref b] s) (F0 m 409 ls []) := by
  have hC0 := hC
  obtain ⟨hx, hb, hlk, hml, hown, hts, hA, hK⟩ := hC0
  refine lv_aload_n hx hb dL_law_409 rfl (lv_at hl 1 rfl) ?_
  refine lv_aload_n hx hb dL_law_410 rfl (lv_at hl 0 rfl) ?_
  refine lv_iload_n hx hb dL_law_411 rfl (lv_at hl 3 rfl) ?_
  refine lv_iconst (v := (nI 1)) hx hb dL_law_412 (by decide) ?_
  refine lv_iadd hx hb dL_law_413 ?_
  refine tr_top (v := (nI (i + 1))) (nI_add _ _) ?_
  refine law_ld hC hX hbl hbA hS hL (j := (i + 1)) (by omega) dL_law_414 ?_
  refine lx_i (n := 1) hC (tx_redundant l D dB q K ak an fr ct (xs (i + 1)) ok di) (lw_V q143 q144 q145 q19 q146) (by decide +kernel) rfl (by decide) hPX hDX hPY hap hS hl.1 [] rfl (Nat.le_of_ble_eq_true rfl) dL_law_415 ⟨Nat.le_refl _, Nat.le_refl _⟩ (fun r u H locs hp hPX hDX hPY hap hS => ?_)
  obtain ⟨rfl, d1⟩ := hp
  obtain ⟨⟨ak1, an1, fr1⟩, ct1⟩ := u
  have d1 : tr_di K ak1 an1 fr1 := d1
  have hPX : va_P D tr_Cl (tr_XW dB q K ak1 an1 fr1 ct1) H := hPX
  have hDX : va_D A (tr_XW dB q K ak1 an1 fr1 ct1) := hDX
  have hap : tr_ap (tr_XW dB q K ak1 an1 fr1 ct1) (tr_YW dZ dN q2 K pr) := hap
  refine lv_aload_n hx hb dL_law_418 rfl (lv_at hl 2 rfl) ?_
  refine lv_aload_n hx hb dL_law_419 rfl (lv_at hl 0 rfl) ?_
  refine lv_iload_n hx hb dL_law_420 rfl (lv_at hl 3 rfl) ?_
  refine lv_iconst (v := (nI 1)) hx hb dL_law_421 (by decide) ?_
  refine lv_iadd hx hb dL_law_422 ?_
  refine tr_top (v := (nI (i + 1))) (nI_add _ _) ?_
  refine law_ld hC hX hbl hbA hS hL (j := (i + 1)) (by omega) dL_law_423 ?_
  refine ly_i (n := 1) hC (ty_redundant l D dZ dN q2 K pr (xs (i + 1)) ok yi) (lw_V q255 q256 q257 q20 q258) (by decide +kernel) rfl (by decide) hPY hDY hPX (tr_ap_sy hap) hS hl.1 [.int (nI (tr_eB K (xs (i + 1))).toNat)] rfl (Nat.le_of_ble_eq_true rfl) dL_law_424 ⟨Nat.le_refl _, Nat.le_refl _⟩ (fun r u H locs hp hPY hDY hPX hap hS => ?_)
  obtain ⟨pr1, eu⟩ : ∃ z, z = u := ⟨_, rfl⟩
  rw [← eu] at hp hPY hDY hap
  obtain ⟨rfl, y1⟩ := hp
  have hap := tr_ap_sy hap
  have hPY : va_P D tr_Cl (tr_YW dZ dN q2 K pr1) H := hPY
  have hDY : va_D A (tr_YW dZ dN q2 K pr1) := hDY
  have hap : tr_ap (tr_XW dB q K ak1 an1 fr1 ct1) (tr_YW dZ dN q2 K pr1) := hap
  refine lv_icmp_eq (tgt := 508) hx hb dL_law_427 (by decide) (fun ce => ?_) (fun ce => ?_)
  · exact next _ _ _ _ _ _ _ _ _ ok d1 y1 hPX hDX hPY hDY hap hS hl
  · exact absurd rfl ce
set_option maxHeartbeats 4000000 in
set_option maxRecDepth 100000 in
theorem law_c10 {p : Program} {l : Launch} {e : Env} {s : State} {m : MethodId} {below : List Frame} {meth : Method} {c : Code} {D : va_G} {A : Nat → Prop} {dB dZ dN : ClassId} {q q2 : Nat → Nat} {b L i : Nat} {xs : Nat → Int32} (hL : L ≤ 320) (hC : tr_Cx p s m #[Value.ref b] meth c cL_law 4 R_law D (tr_LT dB dZ dN) A) (hX : va_X b L xs s s.heap) (hbl : b < s.heap.size) (hbA : ¬ A b) (hi : i + 5 ≤ L) (next : tr_Nx p l e s m below meth c D A dB dZ dN q q2 b i) {K : tr_C} {ak : Nat} {an : Nat → Nat} {fr : Nat} {ct pr : Nat → Nat} {H : Heap} {locs : List Loc} {ls : Array Slot} (ok : tr_ok K) (di : tr_di K ak an fr) (yi : tr_yi K pr) (hPX : va_P D tr_Cl (tr_XW dB q K ak an fr ct) H) (hDX : va_D A (tr_XW dB q K ak an fr ct)) (hPY : va_P D tr_Cl (tr_YW dZ dN q2 K pr) H) (hDY : va_D A (tr_YW dZ dN q2 K pr)) (hap : tr_ap (tr_XW dB q K ak an fr ct) (tr_YW dZ dN q2 K pr)) (hS : va_S A s.heap H locs) (hl : lv_has ls 4 [(0, .ref b), (1, .ref (q 0)), (2, .ref (q2 0)), (3, .int (nI i))]) : W p l e room_1 s m #[Value.ref b] below meth c H locs 600000 7290000 (lw_Z below #[Value.ref b] s) (F0 m 432 ls []) := by
  have hC0 := hC
  obtain ⟨hx, hb, hlk, hml, hown, hts, hA, hK⟩ := hC0
  refine lv_aload_n hx hb dL_law_432 rfl (lv_at hl 1 rfl) ?_
  refine lv_aload_n hx hb dL_law_433 rfl (lv_at hl 0 rfl) ?_
  refine lv_iload_n hx hb dL_law_434 rfl (lv_at hl 3 rfl) ?_
  refine lv_iconst (v := (nI 1)) hx hb dL_law_435 (by decide) ?_
  refine lv_iadd hx hb dL_law_436 ?_
  refine tr_top (v := (nI (i + 1))) (nI_add _ _) ?_
  refine law_ld hC hX hbl hbA hS hL (j := (i + 1)) (by omega) dL_law_437 ?_
  refine lv_aload_n hx hb dL_law_438 rfl (lv_at hl 0 rfl) ?_
  refine lv_iload_n hx hb dL_law_439 rfl (lv_at hl 3 rfl) ?_
  refine lv_iconst (v := (nI 2)) hx hb dL_law_440 (by decide) ?_
  refine lv_iadd hx hb dL_law_441 ?_
  refine tr_top (v := (nI (i + 2))) (nI_add _ _) ?_
  refine law_ld hC hX hbl hbA hS hL (j := (i + 2)) (by omega) dL_law_442 ?_
  refine lv_aload_n hx hb dL_law_443 rfl (lv_at hl 0 rfl) ?_
  refine lv_iload_n hx hb dL_law_444 rfl (lv_at hl 3 rfl) ?_
  refine lv_iconst (v := (nI 3)) hx hb dL_law_445 (by decide) ?_
  refine lv_iadd hx hb dL_law_446 ?_
  refine tr_top (v := (nI (i + 3))) (nI_add _ _) ?_
  refine law_ld hC hX hbl hbA hS hL (j := (i + 3)) (by omega) dL_law_447 ?_
  refine lv_aload_n hx hb dL_law_448 rfl (lv_at hl 0 rfl) ?_
  refine lv_iload_n hx hb dL_law_449 rfl (lv_at hl 3 rfl) ?_
  refine lv_iconst (v := (nI 4)) hx hb dL_law_450 (by decide) ?_
  refine lv_iadd hx hb dL_law_451 ?_
  refine tr_top (v := (nI (i + 4))) (nI_add _ _) ?_
  refine law_ld hC hX hbl hbA hS hL (j := (i + 4)) (by omega) dL_law_452 ?_
  refine lx_i (n := 4) hC (tx_loss l D dB q K ak an fr ct (xs (i + 1)) (xs (i + 2)) (xs (i + 3)) (xs (i + 4)) ok di) (lw_V q156 q157 q158 q19 q159) (by decide +kernel) rfl (by decide) hPX hDX hPY hap hS hl.1 [] rfl (Nat.le_of_ble_eq_true rfl) dL_law_453 ⟨Nat.le_refl _, Nat.le_refl _⟩ (fun r u H locs hp hPX hDX hPY hap hS => ?_)
  obtain ⟨rfl, d1⟩ := hp
  obtain ⟨ak1, an1, fr1⟩ := u
  have d1 : tr_di K ak1 an1 fr1 := d1
  have hPX : va_P D tr_Cl (tr_XW dB q K ak1 an1 fr1 ct) H := hPX
  have hDX : va_D A (tr_XW dB q K ak1 an1 fr1 ct) := hDX
  have hap : tr_ap (tr_XW dB q K ak1 an1 fr1 ct) (tr_YW dZ dN q2 K pr) := hap
  refine lv_aload_n hx hb dL_law_456 rfl (lv_at hl 2 rfl) ?_
  refine lv_aload_n hx hb dL_law_457 rfl (lv_at hl 0 rfl) ?_
  refine lv_iload_n hx hb dL_law_458 rfl (lv_at hl 3 rfl) ?_
  refine lv_iconst (v := (nI 1)) hx hb dL_law_459 (by decide) ?_
  refine lv_iadd hx hb dL_law_460 ?_
  refine tr_top (v := (nI (i + 1))) (nI_add _ _) ?_
  refine law_ld hC hX hbl hbA hS hL (j := (i + 1)) (by omega) dL_law_461 ?_
  refine lv_aload_n hx hb dL_law_462 rfl (lv_at hl 0 rfl) ?_
  refine lv_iload_n hx hb dL_law_463 rfl (lv_at hl 3 rfl) ?_
  refine lv_iconst (v := (nI 2)) hx hb dL_law_464 (by decide) ?_
  refine lv_iadd hx hb dL_law_465 ?_
  refine tr_top (v := (nI (i + 2))) (nI_add _ _) ?_
  refine law_ld hC hX hbl hbA hS hL (j := (i + 2)) (by omega) dL_law_466 ?_
  refine lv_aload_n hx hb dL_law_467 rfl (lv_at hl 0 rfl) ?_
  refine lv_iload_n hx hb dL_law_468 rfl (lv_at hl 3 rfl) ?_
  refine lv_iconst (v := (nI 3)) hx hb dL_law_469 (by decide) ?_
  refine lv_iadd hx hb dL_law_470 ?_
  refine tr_top (v := (nI (i + 3))) (nI_add _ _) ?_
  refine law_ld hC hX hbl hbA hS hL (j := (i + 3)) (by omega) dL_law_471 ?_
  refine lv_aload_n hx hb dL_law_472 rfl (lv_at hl 0 rfl) ?_
  refine lv_iload_n hx hb dL_law_473 rfl (lv_at hl 3 rfl) ?_
  refine lv_iconst (v := (nI 4)) hx hb dL_law_474 (by decide) ?_
  refine lv_iadd hx hb dL_law_475 ?_
  refine tr_top (v := (nI (i + 4))) (nI_add _ _) ?_
  refine law_ld hC hX hbl hbA hS hL (j := (i + 4)) (by omega) dL_law_476 ?_
  refine ly_i (n := 4) hC (ty_loss l D dZ dN q2 K pr (xs (i + 1)) (xs (i + 2)) (xs (i + 3)) (xs (i + 4)) ok yi) (lw_V q259 q260 q261 q20 q262) (by decide +kernel) rfl (by decide) hPY hDY hPX (tr_ap_sy hap) hS hl.1 [.int (tr_lI K (xs (i + 1)) (xs (i + 2)) (xs (i + 3)) (xs (i + 4)))] rfl (Nat.le_of_ble_eq_true rfl) dL_law_477 ⟨Nat.le_refl _, Nat.le_refl _⟩ (fun r u H locs hp hPY hDY hPX hap hS => ?_)
  obtain ⟨pr1, eu⟩ : ∃ z, z = u := ⟨_, rfl⟩
  rw [← eu] at hp hPY hDY hap
  obtain ⟨rfl, y1⟩ := hp
  have hap := tr_ap_sy hap
  have hPY : va_P D tr_Cl (tr_YW dZ dN q2 K pr1) H := hPY
  have hDY : va_D A (tr_YW dZ dN q2 K pr1) := hDY
  have hap : tr_ap (tr_XW dB q K ak1 an1 fr1 ct) (tr_YW dZ dN q2 K pr1) := hap
  refine lv_icmp_eq (tgt := 508) hx hb dL_law_480 (by decide) (fun ce => ?_) (fun ce => ?_)
  · exact next _ _ _ _ _ _ _ _ _ ok d1 y1 hPX hDX hPY hDY hap hS hl
  · exact absurd rfl ce
set_option maxHeartbeats 4000000 in
set_option maxRecDepth 100000 in
theorem law_c11 {p : Program} {l : Launch} {e : Env} {s : State} {m : MethodId} {below : List Frame} {meth : Method} {c : Code} {D : va_G} {A : Nat → Prop} {dB dZ dN : ClassId} {q q2 : Nat → Nat} {b L i : Nat} {xs : Nat → Int32} (hL : L ≤ 320) (hC : tr_Cx p s m #[Value.ref b] meth c cL_law 4 R_law D (tr_LT dB dZ dN) A) (hX : va_X b L xs s s.heap) (hbl : b < s.heap.size) (hbA : ¬ A b) (hi : i + 5 ≤ L) (next : tr_Nx p l e s m below meth c D A dB dZ dN q q2 b i) {K : tr_C} {ak : Nat} {an : Nat → Nat} {fr : Nat} {ct pr : Nat → Nat} {H : Heap} {locs : List Loc} {ls : Array Slot} (ok : tr_ok K) (di : tr_di K ak an fr) (yi : tr_yi K pr) (hPX : va_P D tr_Cl (tr_XW dB q K ak an fr ct) H) (hDX : va_D A (tr_XW dB q K ak an fr ct)) (hPY : va_P D tr_Cl (tr_YW dZ dN q2 K pr) H) (hDY : va_D A (tr_YW dZ dN q2 K pr)) (hap : tr_ap (tr_XW dB q K ak an fr ct) (tr_YW dZ dN q2 K pr)) (hS : va_S A s.heap H locs) (hl : lv_has ls 4 [(0, .ref b), (1, .ref (q 0)), (2, .ref (q2 0)), (3, .int (nI i))]) : W p l e room_1 s m #[Value.ref b] below meth c H locs 600000 7290000 (lw_Z below #[Value.ref b] s) (F0 m 485 ls []) := by
  have hC0 := hC
  obtain ⟨hx, hb, hlk, hml, hown, hts, hA, hK⟩ := hC0
  refine lv_aload_n hx hb dL_law_485 rfl (lv_at hl 1 rfl) ?_
  refine lv_aload_n hx hb dL_law_486 rfl (lv_at hl 0 rfl) ?_
  refine lv_iload_n hx hb dL_law_487 rfl (lv_at hl 3 rfl) ?_
  refine lv_iconst (v := (nI 1)) hx hb dL_law_488 (by decide) ?_
  refine lv_iadd hx hb dL_law_489 ?_
  refine tr_top (v := (nI (i + 1))) (nI_add _ _) ?_
  refine law_ld hC hX hbl hbA hS hL (j := (i + 1)) (by omega) dL_law_490 ?_
  refine lx_i (n := 1) hC (tx_transitive l D dB q K ak an fr ct (xs (i + 1)) ok di) (lw_V q160 q161 q162 q19 q163) (by decide +kernel) rfl (by decide) hPX hDX hPY hap hS hl.1 [] rfl (Nat.le_of_ble_eq_true rfl) dL_law_491 ⟨Nat.le_refl _, Nat.le_refl _⟩ (fun r u H locs hp hPX hDX hPY hap hS => ?_)
  obtain ⟨rfl, d1⟩ := hp
  obtain ⟨ak1, an1, fr1⟩ := u
  have d1 : tr_di K ak1 an1 fr1 := d1
  have hPX : va_P D tr_Cl (tr_XW dB q K ak1 an1 fr1 ct) H := hPX
  have hDX : va_D A (tr_XW dB q K ak1 an1 fr1 ct) := hDX
  have hap : tr_ap (tr_XW dB q K ak1 an1 fr1 ct) (tr_YW dZ dN q2 K pr) := hap
  refine lv_aload_n hx hb dL_law_494 rfl (lv_at hl 2 rfl) ?_
  refine lv_aload_n hx hb dL_law_495 rfl (lv_at hl 0 rfl) ?_
  refine lv_iload_n hx hb dL_law_496 rfl (lv_at hl 3 rfl) ?_
  refine lv_iconst (v := (nI 1)) hx hb dL_law_497 (by decide) ?_
  refine lv_iadd hx hb dL_law_498 ?_
  refine tr_top (v := (nI (i + 1))) (nI_add _ _) ?_
  refine law_ld hC hX hbl hbA hS hL (j := (i + 1)) (by omega) dL_law_499 ?_
  refine ly_i (n := 1) hC (ty_transitive l D dZ dN q2 K pr (xs (i + 1)) ok yi) (lw_V q265 q266 q267 q20 q268) (by decide +kernel) rfl (by decide) hPY hDY hPX (tr_ap_sy hap) hS hl.1 [.int (nI (tr_tB K (xs (i + 1))).toNat)] rfl (Nat.le_of_ble_eq_true rfl) dL_law_500 ⟨Nat.le_refl _, Nat.le_refl _⟩ (fun r u H locs hp hPY hDY hPX hap hS => ?_)
  obtain ⟨pr1, eu⟩ : ∃ z, z = u := ⟨_, rfl⟩
  rw [← eu] at hp hPY hDY hap
  obtain ⟨rfl, y1⟩ := hp
  have hap := tr_ap_sy hap
  have hPY : va_P D tr_Cl (tr_YW dZ dN q2 K pr1) H := hPY
  have hDY : va_D A (tr_YW dZ dN q2 K pr1) := hDY
  have hap : tr_ap (tr_XW dB q K ak1 an1 fr1 ct) (tr_YW dZ dN q2 K pr1) := hap
  refine lv_icmp_eq (tgt := 508) hx hb dL_law_503 (by decide) (fun ce => ?_) (fun ce => ?_)
  · exact next _ _ _ _ _ _ _ _ _ ok d1 y1 hPX hDX hPY hDY hap hS hl
  · exact absurd rfl ce
end
section
/-! the law whole: its loop, its start, the claim -/
theorem law_le {L i : Nat} (hL : L ≤ 320) (hi : i ≤ L) (h : ¬ (Int32.ofNat L - nI 5) < nI i) : i + 5 ≤ L := by
  have e := pk_sub_toInt (a := L) (b := 5) (by omega) (by omega)
  apply Nat.le_of_not_lt
  intro q
  apply h
  rw [Int32.lt_iff_toInt_lt, nI_toInt (by omega)]
  show (nI L - nI 5).toInt < (i : Int)
  rw [e]
  omega
set_option maxHeartbeats 4000000 in
set_option maxRecDepth 100000 in
theorem law_loop {p : Program} {l : Launch} {e : Env} {s : State} {m : MethodId} {below : List Frame} {meth : Method} {c : Code} {D : va_G} {A : Nat → Prop} {dB dZ dN : ClassId} {q q2 : Nat → Nat} {b L : Nat} {xs : Nat → Int32} (hL : L ≤ 320) (hC : tr_Cx p s m #[Value.ref b] meth c cL_law 4 R_law D (tr_LT dB dZ dN) A) (hr : meth.sig.returnType = ret) (hX : va_X b L xs s s.heap) (hbl : b < s.heap.size) (hbA : ¬ A b) (hAs : ∀ a, A a → s.heap.size ≤ a) :
    ∀ (n i : Nat) (K : tr_C) (ak : Nat) (an : Nat → Nat) (fr : Nat) (ct pr : Nat → Nat) (H : Heap) (locs : List Loc) (ls : Array Slot), i ≤ L → L + 1 ≤ i + n → tr_ok K → tr_di K ak an fr → tr_yi K pr → va_P D tr_Cl (tr_XW dB q K ak an fr ct) H → va_D A (tr_XW dB q K ak an fr ct) → va_P D tr_Cl (tr_YW dZ dN q2 K pr) H → va_D A (tr_YW dZ dN q2 K pr) → tr_ap (tr_XW dB q K ak an fr ct) (tr_YW dZ dN q2 K pr) → va_S A s.heap H locs → lv_has ls 4 [(0, .ref b), (1, .ref (q 0)), (2, .ref (q2 0)), (3, .int (nI i))] → W p l e room_1 s m #[Value.ref b] below meth c H locs 600000 7290000 (lw_Z below #[Value.ref b] s) (F0 m 18 ls []) := by
  have hC0 := hC
  obtain ⟨hx, hb, hlk, hml, hown, hts, hA, hK⟩ := hC0
  intro n
  induction n with
  | zero =>
    intro i K ak an fr ct pr H locs ls h1 h2
    exact absurd h2 (by omega)
  | succ n ih =>
    intro i K ak an fr ct pr H locs ls hi hn ok di yi hPX hDX hPY hDY hap hS hl
    refine lv_iload_n hx hb dL_law_18 rfl (lv_at hl 3 rfl) ?_
    refine lv_aload_n hx hb dL_law_19 rfl (lv_at hl 0 rfl) ?_
    refine va_slen hx hb hX hbl hbA hS dL_law_20 ?_
    refine lv_iconst (v := nI 5) hx hb dL_law_21 (by decide) ?_
    refine lv_isub hx hb dL_law_22 ?_
    refine lv_icmp_gt (tgt := 514) hx hb dL_law_23 (by decide) (fun c1 => ?_) (fun c1 => ?_)
    · refine lv_iconst (v := 1) hx hb dL_law_514 (by decide) ?_
      refine va_forget (fun z hz => hAs _ (hS.2.2 z hz)) ?_
      exact lw_ret hx hb hr hlk dL_law_515
    · have hi5 := law_le hL hi c1
      have next : tr_Nx p l e s m below meth c D A dB dZ dN q q2 b i := by
        intro K ak an fr ct pr H locs ls ok di yi hPX hDX hPY hDY hap hS hl
        refine lv_iinc (v := nI (i + 5)) (lv' := [(3, .int (nI (i + 5))), (0, .ref b), (1, .ref (q 0)), (2, .ref (q2 0))]) hx hb dL_law_508 hl (k := 3) rfl (nI_add i 5) (by decide) rfl (fun ls hl => ?_)
        refine lv_goto (tgt := 18) hx hb dL_law_511 (by decide) ?_
        exact ih (i + 5) K ak an fr ct pr _ _ _ hi5 (by omega) ok di yi hPX hDX hPY hDY hap hS (lv_sub hl [1, 2, 3, 0] rfl)
      refine lv_aload_n hx hb dL_law_26 rfl (lv_at hl 0 rfl) ?_
      refine lv_iload_n hx hb dL_law_27 rfl (lv_at hl 3 rfl) ?_
      refine law_ld hC hX hbl hbA hS hL (j := i) (by omega) dL_law_28 ?_
      refine lv_bipush (v := nI 15) hx hb dL_law_29 (by decide) ?_
      refine lv_iand hx hb dL_law_31 ?_
      obtain ⟨j, hj, ej⟩ := pk_andE (xs i) (m := nI 15) 4 (by decide)
      refine tr_top ej ?_
      rcases (show j = 0 ∨ j = 1 ∨ j = 2 ∨ j = 3 ∨ j = 4 ∨ j = 5 ∨ j = 6 ∨ j = 7 ∨ j = 8 ∨ j = 9 ∨ j = 10 ∨ j = 11 ∨ 12 ≤ j by omega) with rfl | rfl | rfl | rfl | rfl | rfl | rfl | rfl | rfl | rfl | rfl | rfl | hj2
      · refine lv_tableIn (off := 64) (tgt := 96) hx hb dL_law_32 (by decide) (by decide) (by decide) (by decide) ?_
        exact law_c0 hL hC hX hbl hbA hi5 next ok di yi hPX hDX hPY hDY hap hS hl
      · refine lv_tableIn (off := 133) (tgt := 165) hx hb dL_law_32 (by decide) (by decide) (by decide) (by decide) ?_
        exact law_c1 hL hC hX hbl hbA hi5 next ok di yi hPX hDX hPY hDY hap hS hl
      · refine lv_tableIn (off := 176) (tgt := 208) hx hb dL_law_32 (by decide) (by decide) (by decide) (by decide) ?_
        exact law_c2 hL hC hX hbl hbA hi5 next ok di yi hPX hDX hPY hDY hap hS hl
      · refine lv_tableIn (off := 199) (tgt := 231) hx hb dL_law_32 (by decide) (by decide) (by decide) (by decide) ?_
        exact law_c3 hL hC hX hbl hbA hi5 next ok di yi hPX hDX hPY hDY hap hS hl
      · refine lv_tableIn (off := 212) (tgt := 244) hx hb dL_law_32 (by decide) (by decide) (by decide) (by decide) ?_
        exact law_c4 hL hC hX hbl hbA hi5 next ok di yi hPX hDX hPY hDY hap hS hl
      · refine lv_tableIn (off := 255) (tgt := 287) hx hb dL_law_32 (by decide) (by decide) (by decide) (by decide) ?_
        exact law_c5 hL hC hX hbl hbA hi5 next ok di yi hPX hDX hPY hDY hap hS hl
      · refine lv_tableIn (off := 288) (tgt := 320) hx hb dL_law_32 (by decide) (by decide) (by decide) (by decide) ?_
        exact law_c6 hL hC hX hbl hbA hi5 next ok di yi hPX hDX hPY hDY hap hS hl
      · refine lv_tableIn (off := 321) (tgt := 353) hx hb dL_law_32 (by decide) (by decide) (by decide) (by decide) ?_
        exact law_c7 hL hC hX hbl hbA hi5 next ok di yi hPX hDX hPY hDY hap hS hl
      · refine lv_tableIn (off := 344) (tgt := 376) hx hb dL_law_32 (by decide) (by decide) (by decide) (by decide) ?_
        exact law_c8 hL hC hX hbl hbA hi5 next ok di yi hPX hDX hPY hDY hap hS hl
      · refine lv_tableIn (off := 377) (tgt := 409) hx hb dL_law_32 (by decide) (by decide) (by decide) (by decide) ?_
        exact law_c9 hL hC hX hbl hbA hi5 next ok di yi hPX hDX hPY hDY hap hS hl
      · refine lv_tableIn (off := 400) (tgt := 432) hx hb dL_law_32 (by decide) (by decide) (by decide) (by decide) ?_
        exact law_c10 hL hC hX hbl hbA hi5 next ok di yi hPX hDX hPY hDY hap hS hl
      · refine lv_tableIn (off := 453) (tgt := 485) hx hb dL_law_32 (by decide) (by decide) (by decide) (by decide) ?_
        exact law_c11 hL hC hX hbl hbA hi5 next ok di yi hPX hDX hPY hDY hap hS hl
      · refine lv_tableOut (tgt := 508) hx hb dL_law_32 (Or.inr (by rw [nI_toInt (by omega)]; omega)) (by decide) ?_
        exact next _ _ _ _ _ _ _ _ _ ok di yi hPX hDX hPY hDY hap hS hl
theorem tr_ok0 : tr_ok tr_K0 := ⟨fun _ => Nat.zero_lt_succ 31, by decide, fun _ => ⟨Nat.zero_lt_succ 4, Nat.zero_lt_succ 4, Nat.zero_lt_succ 4, Nat.zero_lt_succ 4⟩, fun k h => by rw [show kP tr_K0 = 0 from rfl, Nat.zero_testBit] at h; cases h⟩
theorem tr_di0 : tr_di tr_K0 0 (fun _ => 0) 0 := ⟨by decide, fun _ => Nat.zero_lt_succ 31, by decide, fun p x y h2 h5 hx hy h => by rw [Nat.zero_testBit] at h; cases h⟩
theorem tr_yi0 : tr_yi tr_K0 (fun _ => 0) := ⟨fun _ => Nat.two_pow_pos 25, fun p x y hp hx hy => by rw [Nat.zero_testBit]; exact (Nat.zero_testBit _).symm⟩
set_option maxHeartbeats 4000000 in
set_option maxRecDepth 100000 in
/-- from the entry, for every script of at most 320 ints, the law comes to its end with true -/
theorem whole_start {p : Program} {e : Env} {s : State} {m : MethodId} {below : List Frame} {meth : Method} {c : Code} (l : Launch) {b L : Nat} {xs : Nat → Int32} (hL : L ≤ 320) (C0 : lw_At p s m meth c b L xs) : W p l e room_1 s m #[Value.ref b] below meth c s.heap [] 0 0 (lw_Z below #[Value.ref b] s) (entryFrame m ([Value.ref b] : List Value).toArray 4) := by
  obtain ⟨hx, hb, hr, hml, hown, hts0, hX, hbl, hlocks, hgv⟩ := C0
  have hts : ∀ w ∈ lw_all, w.before #[Value.ref b] s = true := fun w h => hts0 w (lw_all_tbl h)
  obtain ⟨A, hAe⟩ : ∃ A : Nat → Prop, A = fun q : Nat => s.heap.size ≤ q := ⟨_, rfl⟩
  have hA : ∀ q : Nat, s.heap.size ≤ q → A q := fun q h => by rw [hAe]; exact h
  have hAs : ∀ q : Nat, A q → s.heap.size ≤ q := fun q h => by rw [hAe] at h; exact h
  have hbA : ¬ A b := fun h => Nat.not_le.mpr hbl (hAs b h)
  obtain ⟨c0, iS0, hKn0⟩ := u_known (C := RX0) (T := TX0) (N := 10) (n := 10) hts0 (fun w h => lw_all_tbl (in_X0 w h)) (hts _ q22)
  obtain ⟨c1, iS1, hKn1⟩ := u_known (C := RX1) (T := TX1) (N := 6) (n := 6) hts0 (fun w h => lw_all_tbl (in_X1 w h)) (hts _ q165)
  obtain ⟨D, hKc⟩ : ∃ (D : va_G), ∀ (k : Nat) (q : vw_C), tr_Cl[k]? = some q → u_Kn s q.1 q.2.1 q.2.2 (D.1 k) (D.2 k) := by
    refine ⟨(fun k => if k = 0 then c0 else c1, fun k => if k = 0 then iS0 else iS1), ?_⟩
    intro k q hq
    match k, hq with
    | 0, hq => cases hq; exact hKn0
    | 1, hq => cases hq; exact hKn1
    | k + 2, hq => simp at hq
  have hS : va_S A s.heap s.heap [] := va_S.rf
  have hK : va_K D tr_Cl [] s := ⟨hKc, fun k q h => by simp at h⟩
  have hP : va_P D tr_Cl [] s.heap := fun k q h => by simp at h
  have hD : va_D A [] := ⟨fun i j p q h => by simp at h, fun k q h => by simp at h⟩
  have hl := lv_entry ([.ref b]) (n := 4) (Nat.le_of_ble_eq_true rfl)
  rw [lg_entry_eq]
  generalize (lg_sl ([.ref b]) ++ List.replicate (4 - (lg_sl ([.ref b])).length) Slot.unset).toArray = ls at hl ⊢
  have hl : lv_has ls 4 [(0, .ref b)] := hl
  refine va_new (ci := 0) (fs := [.null, .int (nI 0), .null, .null, .null, .null, .int (nI 0), .null, .int (nI 0), .null]) (C := RX0) (T := TX0) (N := 10) hx hb hts in_X0 tyX0 tyX0_ok hown (hts _ q21) (hts _ q22) (hts _ q19) hK hP hD hS hA rfl (fun j hj => by rcases (show j = 0 ∨ j = 1 ∨ j = 2 ∨ j = 3 ∨ j = 4 ∨ j = 5 ∨ j = 6 ∨ j = 7 ∨ j = 8 ∨ j = 9 by omega) with rfl | rfl | rfl | rfl | rfl | rfl | rfl | rfl | rfl | rfl <;> rfl) (Nat.le_of_ble_eq_true rfl) (Nat.le_of_ble_eq_true rfl) dL_law_0 (fun h1 H hP hD hS => ?_)
  have hP : va_P D tr_Cl (tr_X0 h1) H := hP
  have hD : va_D A (tr_X0 h1) := hD
  refine W.widen (k := 1) (n := 10) (by omega) (by omega) ?_
  refine lv_dup hx hb dL_law_3 rfl ?_
  have hFc := tr_free hD hS hA
  refine va_callv (va_runI (As := []) (rest := [.ref h1]) ⟨hx, hb, hml, hown, hts⟩ (tx_init l D h1 H.size) (cwI 0 hts (lw_meth q25) rfl rfl rfl (hts _ q19) (hts _ q23) (hts _ q24) rfl (by decide +kernel) ⟨Nat.le_of_ble_eq_true rfl, Nat.le_of_ble_eq_true rfl⟩) ⟨fun a U g mk q => by obtain ⟨q0, q1, qP, qK, qD⟩ := q; exact ⟨q0, q1, qP, va_K.moved (u := U) (U := U.calling g mk a) (Vm.Alike.refl U.vm) qK, qD⟩, fun U hU hW => ⟨rfl, by rw [hU], by rw [hU]; exact hP, va_K.moved hW.alike hK, hD.weaken (fun _ _ _ _ => trivial)⟩⟩ rfl rfl hl.1 rfl (lv_room (Nat.le_of_ble_eq_true rfl)) dL_law_4 ⟨Nat.le_of_ble_eq_true rfl, Nat.le_of_ble_eq_true rfl⟩) hS (fun q _ h => hFc q h) hFc (fun u t H1 locs ht hvm hw hB hz1 hk1 hS => ?_)
  obtain ⟨q, dB⟩ := u
  obtain ⟨hPX, hKX, hDX0⟩ := hB
  rw [ht] at hPX
  have hKX : va_K D tr_Cl (tr_XT dB) s := va_K.moved hvm.symm hKX
  have hDX : va_D A (tr_XW dB q tr_K0 0 (fun _ => 0) 0 (fun _ => 0)) := hDX0.weaken (fun _ _ _ h => hFc _ h)
  have hPX : va_P D tr_Cl (tr_XW dB q tr_K0 0 (fun _ => 0) 0 (fun _ => 0)) H1 := hPX
  have hw : q 0 = h1 := hw
  subst hw
  refine W.widen (k := 8) (n := 82) (Nat.le_of_ble_eq_true rfl) (Nat.le_of_ble_eq_true rfl) ?_
  refine lv_astore_n (lv' := [(1, .ref (q 0)), (0, .ref b)]) hx hb dL_law_7 rfl hl (by decide) rfl (fun ls hl => ?_)
  refine va_new (ci := 1) (fs := [.null, .null, .null, .null, .null, .null]) (C := RX1) (T := TX1) (N := 6) hx hb hts in_X1 tyX1 tyX1_ok hown (hts _ q164) (hts _ q165) (hts _ q20) hKX hPX hDX hS hA rfl (fun j hj => by rcases (show j = 0 ∨ j = 1 ∨ j = 2 ∨ j = 3 ∨ j = 4 ∨ j = 5 by omega) with rfl | rfl | rfl | rfl | rfl | rfl <;> rfl) (Nat.le_of_ble_eq_true rfl) (Nat.le_of_ble_eq_true rfl) dL_law_8 (fun h2 H hP hD hS => ?_)
  have hPX : va_P D tr_Cl (tr_XW dB q tr_K0 0 (fun _ => 0) 0 (fun _ => 0)) H := hP.sub [0, 1, 2, 3, 4, 5, 6, 7] rfl
  have hDX : va_D A (tr_XW dB q tr_K0 0 (fun _ => 0) 0 (fun _ => 0)) := hD.sub [0, 1, 2, 3, 4, 5, 6, 7] (by decide) rfl
  have hPY : va_P D tr_Cl (tr_Y0 h2) H := hP.sub [8] rfl
  have hDY : va_D A (tr_Y0 h2) := hD.sub [8] (by decide) rfl
  have hap : tr_ap (tr_Y0 h2) (tr_XW dB q tr_K0 0 (fun _ => 0) 0 (fun _ => 0)) := by
    intro i j x y hx hy e
    have li : i < 1 := (List.getElem?_eq_some_iff.mp hx).1
    have lj : j < 8 := (List.getElem?_eq_some_iff.mp hy).1
    have ei : i = 0 := by omega
    subst ei
    have h9 := hD.1 8 j x y hx (by rw [List.getElem?_append_left lj]; exact hy) e
    omega
  refine W.widen (k := 9) (n := 88) (Nat.le_of_ble_eq_true rfl) (Nat.le_of_ble_eq_true rfl) ?_
  refine lv_dup hx hb dL_law_11 rfl ?_
  have hFc := tr_free hDY hS hA
  refine va_callv (va_runI (As := []) (rest := [.ref h2]) ⟨hx, hb, hml, hown, hts⟩ (ty_init l D h2 H.size) (cwI 0 hts (lw_meth q168) rfl rfl rfl (hts _ q20) (hts _ q166) (hts _ q167) rfl (by decide +kernel) ⟨Nat.le_of_ble_eq_true rfl, Nat.le_of_ble_eq_true rfl⟩) ⟨fun a U g mk q => by obtain ⟨q0, q1, qP, qK, qD⟩ := q; exact ⟨q0, q1, qP, va_K.moved (u := U) (U := U.calling g mk a) (Vm.Alike.refl U.vm) qK, qD⟩, fun U hU hW => ⟨rfl, by rw [hU], by rw [hU]; exact hPY, va_K.moved hW.alike hK, hDY.weaken (fun _ _ _ _ => trivial)⟩⟩ rfl rfl hl.1 rfl (lv_room (Nat.le_of_ble_eq_true rfl)) dL_law_12 ⟨Nat.le_of_ble_eq_true rfl, Nat.le_of_ble_eq_true rfl⟩) hS (fun q _ h => hFc q h) hFc (fun u t H1 locs ht hvm hw hB hz1 hk1 hS => ?_)
  obtain ⟨q2, dZ, dN⟩ := u
  obtain ⟨hPY1, hKY, hDY0⟩ := hB
  rw [ht] at hPY1
  have hKY : va_K D tr_Cl (tr_YT dZ dN) s := va_K.moved hvm.symm hKY
  obtain ⟨hPXn, hap3⟩ := tr_rest hPX hap hk1 hDY0
  have hDYn : va_D A (tr_YW dZ dN q2 tr_K0 (fun _ => 0)) := hDY0.weaken (fun _ _ _ h => hFc _ h)
  have hPYn : va_P D tr_Cl (tr_YW dZ dN q2 tr_K0 (fun _ => 0)) H1 := hPY1
  have hapn : tr_ap (tr_XW dB q tr_K0 0 (fun _ => 0) 0 (fun _ => 0)) (tr_YW dZ dN q2 tr_K0 (fun _ => 0)) := tr_ap_sy hap3
  have hw : q2 0 = h2 := hw
  subst hw
  have hKL : va_K D tr_Cl (tr_LT dB dZ dN) s := hKX.app hKY
  refine W.widen (k := 600000) (n := 7290000) (Nat.le_of_ble_eq_true rfl) (Nat.le_of_ble_eq_true rfl) ?_
  refine lv_astore_n (lv' := [(2, .ref (q2 0)), (1, .ref (q 0)), (0, .ref b)]) hx hb dL_law_15 rfl hl (by decide) rfl (fun ls hl => ?_)
  refine lv_iconst (v := nI 0) hx hb dL_law_16 (by decide) ?_
  refine lv_istore_n (lv' := [(3, .int (nI 0)), (2, .ref (q2 0)), (1, .ref (q 0)), (0, .ref b)]) hx hb dL_law_17 rfl hl (by decide) rfl (fun ls hl => ?_)
  exact law_loop hL ⟨hx, hb, hlocks, hml, hown, hts, hA, hKL⟩ hr hX hbl hbA hAs (L + 1) 0 _ _ _ _ _ _ _ _ _ (Nat.zero_le _) (by omega) tr_ok0 tr_di0 tr_yi0 hPXn hDX hPYn hDYn hapn hS (lv_sub hl [3, 2, 1, 0] rfl)
end
section
set_option maxHeartbeats 4000000 in
theorem lw_walk (l : Launch) (b : Addr) (xs : List Int32) : MetFree l x (headSpec (Jvm.Cond.code x code maxLocals ret :: tables_1) room_1) (lw_P b xs) (fun _ _ _ _ _ => True) lw_Q := by
  refine MetFree.of_bodyS (code := code) (maxLocals := maxLocals) (ret := ret) (by decide) ?_ ?_
  · intro args s m h hn
    obtain ⟨meth, c, h1, h2, h3, h4, h5, h6, -, -⟩ := Cond.code_spec hn (atoms_spec (ws := Jvm.Cond.code x code maxLocals ret :: tables_1) h _ List.mem_cons_self)
    exact ⟨meth, c, h1, h2, h3, h4, h5, h6⟩
  · intro p e s m args below meth c s₁ B hml0 hP _
    obtain ⟨rfl, hx, hbd, hgv⟩ := hP
    obtain ⟨scr, harrAt, hlist, hof, hsmall⟩ := hx
    obtain ⟨hcb, hkn, -, -⟩ := State.arrayAt?_spec harrAt
    have hown : s.vm.findClass R_law = some m.cls := findClass_of_methodNamed B.named
    have hts0 : ∀ c ∈ (Jvm.Cond.code x code maxLocals ret :: tables_1), c.before #[Value.ref b] s = true := atoms_spec (ws := Jvm.Cond.code x code maxLocals ret :: tables_1) B.pre
    have hts : ∀ w ∈ lw_tbl, w.before #[Value.ref b] s = true := k2_hts_sels lw_privs (fun w hw => hts0 w (List.mem_cons_of_mem _ hw)) lw_privs_ok
    have hml : c.maxLocals = 4 := B.maxLocals_eq (hts0 _ List.mem_cons_self)
    have X₀ : Stand p l e room_1 s m #[Value.ref b] below meth c s₁ [] 0 0 := Stand.of_body B
    have hh0 : s₁.heap = s.heap := by rw [B.state]; rfl
    have hsz : scr.slots.size = xs.length := by rw [← Array.length_toList, hlist, List.length_map]
    have hval : ∀ j : Nat, j < xs.length → scr.slots[j]? = some (.int (xs.getD j 0)) := fun j hj => by
      rw [← Array.getElem?_toList, hlist]
      simp [hj]
    have hbl : b < s.heap.size := (Array.getElem?_eq_some_iff.mp hcb).1
    have hX : va_X b xs.length (fun j => xs.getD j 0) s s.heap := ⟨scr, hcb, hof, hkn, hsz, hval⟩
    have K : W p l e room_1 s m #[Value.ref b] below meth c s₁.heap [] 0 0 (lw_Z below #[Value.ref b] s) (entryFrame m ([Value.ref b] : List Value).toArray 4) := by
      rw [hh0]
      exact whole_start l hbd ⟨B.exec, B.bytes, B.returns, hml, hown, hts, hX, hbl, B.notSynchronized, hgv⟩
    obtain ⟨t, a1, o, b1, b2, b3⟩ := K s₁ rfl X₀
    exact ⟨t, o, a1, b1, b2, b3⟩
theorem lw_pre_spec {args : Array Value} {s : State} (h : (Jvm.Cond.and given_1 narrow_1).before args s = true) (hr : rest_1_c.before args s = true) : ∃ (b : Addr) (xs : List Int32), lw_P b xs args s := by
  have hs := flat_of_before _ h
  have hq := flat_of_before _ hr
  have hc : (Cond.count 1).before args s = true := hs _ (by decide +kernel)
  have harr : (Cond.arrayOf (.arg 0) .int).before args s = true := hs _ (by decide +kernel)
  have hle : (Cond.le (.length (.arg 0)) (.int 320)).before args s = true := hs _ (by decide +kernel)
  have hlen : (Cond.isInt (.length (.arg 0))).before args s = true := hq _ (by decide +kernel)
  have hall : (Cond.all (.arg 0) (.isInt (.elem (.arg 0) (.index 0)))).before args s = true := hq _ (by decide +kernel)
  obtain ⟨b, xs, hb, hx⟩ := State.ints_of_pre rfl harr hlen hall
  have hsm : xs.length < 2 ^ 31 := hx.choose_spec.2.2.2
  have hev : (Term.length (.arg 0)).eval args s none [] s = some (.int xs.length.toInt32) := hx.length_eval hb
  have hv := Cond.le_ints hev (show (Term.int 320).eval args s none [] s = some (.int 320) from rfl)
  have hd : xs.length.toInt32 ≤ 320 := by
    simpa [Cond.before, Cond.holds, hv] using hle
  have hN : xs.length ≤ 320 := (Int32.ofNat_le_ofNat hsm (by decide)).mp (show Int32.ofNat xs.length ≤ Int32.ofNat 320 from hd)
  exact ⟨b, xs, Cond.one_arg hc (show args[0]? = some (.ref b) from hb), hx, hN, h⟩
theorem lw_comes (l : Launch) : Comes l x (Jvm.Cond.code x code maxLocals ret :: tables_1) room_1 (fun tb e args s => Calls_1 tb e args s ∧ rest_1 tb e args s ∧ Pre_1 tb e args s)
    (fun _ _ args s o t => lw_Q args s o t) := by
  intro p e ha hc hk s m args below hf hfit hheap happ hpre
  obtain ⟨b, xs, hP⟩ := lw_pre_spec hpre.2.2 hpre.2.1
  obtain ⟨k, o, h1, h2, h3, hQ⟩ := lw_walk l b xs p e ha hc hk s m args below hf ((Spec.applies_iff_loose hf).mp happ).1 hP trivial
  exact ⟨k, o, h1, h2, h3, hQ⟩
theorem lw_frame {s t : State} {o : Outcome} {args : Array Value} (h : Framed s o t [] 600000 7290000) :
    Framed s o t (fieldLocs frame_1_writes args s ++ arrayLocs frame_1_arrays args s ++ staticLocs frame_1_statics s) 600000 7290000 := h
theorem lw_limb (L : Cond) (hL : ∀ (args : Array Value) (s t : State), L.after args s (.returned (some (.int 1))) t = true) :
    ArmFor flags0 classFile x code maxLocals ret World_1 tables_1 room_1 Calls_1 rest_1 Pre_1
      (fun tb e a s o t => postC L tb e a s o t ∧ Framed s o t (fieldLocs frame_1_writes a s ++ arrayLocs frame_1_arrays a s ++ staticLocs frame_1_statics s) 600000 7290000) := by
  intro l _ _ _ p e ha hc hk s m args below hf hfit hheap happ hpre
  obtain ⟨k, o, h1, h2, h3, rfl, hF⟩ := lw_comes l p e ha hc hk s m args below hf hfit hheap happ hpre
  exact ⟨k, _, h1, h2, h3, hL args s _, lw_frame hF⟩
theorem i_vc : Claimed_1_1 ∧ Claimed_1_2 := ⟨lw_limb limb_1_1 (fun args s t => by simp [limb_1_1, Cond.after, Cond.holds, Cond.value]), lw_limb limb_1_2 (fun args s t => Cond.after_iff.mpr (by
  first | (rw [show limb_1_2 = Cond.eq .result (.int 1) from rfl, Cond.eq_ints (x := 1) (y := 1) rfl rfl]; simp; done) | (simp [limb_1_2, Cond.value, Term.eval]; done)))⟩
end
