section
-- ===== PART A: goes FIRST, ahead of the names: the tables' words, and 'selects' of the private methods out of them =====
/-- a private method of a class that the tables say can be made, by its rows of tables_1 -/
def lw_okq (q : MethodName × Nat) : Prop := (q.1.cls ≠ "java/lang/invoke/MethodHandle" ∧ q.1.cls ≠ "java/lang/invoke/VarHandle") ∧ Cond.instantiable q.1.cls q.2 ∈ tables_1 ∧ Cond.privateMethod q.1 ∈ tables_1 ∧ Cond.instanceMethod q.1 ∈ tables_1
set_option maxRecDepth 100000
theorem lw_p0 : lw_okq (⟨"CyclicPlanner", "isState", "(I)Z"⟩, 9) := ⟨⟨by decide +kernel, by decide +kernel⟩, List.mem_of_getElem? (i := 4) rfl, List.mem_of_getElem? (i := 46) rfl, List.mem_of_getElem? (i := 47) rfl⟩
theorem lw_p1 : lw_okq (⟨"CyclicPlanner", "learn", "()V"⟩, 9) := ⟨⟨by decide +kernel, by decide +kernel⟩, List.mem_of_getElem? (i := 4) rfl, List.mem_of_getElem? (i := 58) rfl, List.mem_of_getElem? (i := 59) rfl⟩
theorem lw_p2 : lw_okq (⟨"CyclicPlanner", "findWeak", "()V"⟩, 9) := ⟨⟨by decide +kernel, by decide +kernel⟩, List.mem_of_getElem? (i := 4) rfl, List.mem_of_getElem? (i := 62) rfl, List.mem_of_getElem? (i := 63) rfl⟩
theorem lw_p3 : lw_okq (⟨"CyclicPlanner", "isIn", "(II)Z"⟩, 9) := ⟨⟨by decide +kernel, by decide +kernel⟩, List.mem_of_getElem? (i := 4) rfl, List.mem_of_getElem? (i := 66) rfl, List.mem_of_getElem? (i := 67) rfl⟩
theorem lw_p4 : lw_okq (⟨"CyclicPlanner", "someLeads", "(IIZ)Z"⟩, 9) := ⟨⟨by decide +kernel, by decide +kernel⟩, List.mem_of_getElem? (i := 4) rfl, List.mem_of_getElem? (i := 70) rfl, List.mem_of_getElem? (i := 71) rfl⟩
theorem lw_p5 : lw_okq (⟨"CyclicPlanner", "leadsInto", "(II)Z"⟩, 9) := ⟨⟨by decide +kernel, by decide +kernel⟩, List.mem_of_getElem? (i := 4) rfl, List.mem_of_getElem? (i := 74) rfl, List.mem_of_getElem? (i := 75) rfl⟩
theorem lw_p6 : lw_okq (⟨"CyclicPlanner", "mayLeadInto", "(II)Z"⟩, 9) := ⟨⟨by decide +kernel, by decide +kernel⟩, List.mem_of_getElem? (i := 4) rfl, List.mem_of_getElem? (i := 78) rfl, List.mem_of_getElem? (i := 79) rfl⟩
theorem lw_p7 : lw_okq (⟨"CyclicPlanner", "findSure", "()V"⟩, 9) := ⟨⟨by decide +kernel, by decide +kernel⟩, List.mem_of_getElem? (i := 4) rfl, List.mem_of_getElem? (i := 82) rfl, List.mem_of_getElem? (i := 83) rfl⟩
theorem lw_p8 : lw_okq (⟨"CyclicPlanner", "findSafe", "()V"⟩, 9) := ⟨⟨by decide +kernel, by decide +kernel⟩, List.mem_of_getElem? (i := 4) rfl, List.mem_of_getElem? (i := 86) rfl, List.mem_of_getElem? (i := 87) rfl⟩
theorem lw_p9 : lw_okq (⟨"CyclicPlanner", "keepActions", "()V"⟩, 9) := ⟨⟨by decide +kernel, by decide +kernel⟩, List.mem_of_getElem? (i := 4) rfl, List.mem_of_getElem? (i := 90) rfl, List.mem_of_getElem? (i := 91) rfl⟩
theorem lw_p10 : lw_okq (⟨"CyclicPlanner", "ableStates", "()I"⟩, 9) := ⟨⟨by decide +kernel, by decide +kernel⟩, List.mem_of_getElem? (i := 4) rfl, List.mem_of_getElem? (i := 94) rfl, List.mem_of_getElem? (i := 95) rfl⟩
theorem lw_p11 : lw_okq (⟨"CyclicPlanner", "keepsTo", "(II)Z"⟩, 9) := ⟨⟨by decide +kernel, by decide +kernel⟩, List.mem_of_getElem? (i := 4) rfl, List.mem_of_getElem? (i := 122) rfl, List.mem_of_getElem? (i := 123) rfl⟩
theorem lw_p12 : lw_okq (⟨"CyclicPlannerModel", "isState", "(I)Z"⟩, 3) := ⟨⟨by decide +kernel, by decide +kernel⟩, List.mem_of_getElem? (i := 134) rfl, List.mem_of_getElem? (i := 155) rfl, List.mem_of_getElem? (i := 156) rfl⟩
theorem lw_p13 : lw_okq (⟨"CyclicPlannerModel", "count", "(Z)V"⟩, 3) := ⟨⟨by decide +kernel, by decide +kernel⟩, List.mem_of_getElem? (i := 134) rfl, List.mem_of_getElem? (i := 167) rfl, List.mem_of_getElem? (i := 168) rfl⟩
theorem lw_p14 : lw_okq (⟨"CyclicPlannerModel", "in", "(II)Z"⟩, 3) := ⟨⟨by decide +kernel, by decide +kernel⟩, List.mem_of_getElem? (i := 134) rfl, List.mem_of_getElem? (i := 171) rfl, List.mem_of_getElem? (i := 172) rfl⟩
theorem lw_p15 : lw_okq (⟨"CyclicPlannerModel", "outcome", "(IZ)I"⟩, 3) := ⟨⟨by decide +kernel, by decide +kernel⟩, List.mem_of_getElem? (i := 134) rfl, List.mem_of_getElem? (i := 175) rfl, List.mem_of_getElem? (i := 176) rfl⟩
def lw_privs_1 : List (MethodName × Nat) := [(⟨"CyclicPlanner", "isState", "(I)Z"⟩, 9), (⟨"CyclicPlanner", "learn", "()V"⟩, 9), (⟨"CyclicPlanner", "findWeak", "()V"⟩, 9), (⟨"CyclicPlanner", "isIn", "(II)Z"⟩, 9), (⟨"CyclicPlanner", "someLeads", "(IIZ)Z"⟩, 9), (⟨"CyclicPlanner", "leadsInto", "(II)Z"⟩, 9), (⟨"CyclicPlanner", "mayLeadInto", "(II)Z"⟩, 9), (⟨"CyclicPlanner", "findSure", "()V"⟩, 9), (⟨"CyclicPlanner", "findSafe", "()V"⟩, 9), (⟨"CyclicPlanner", "keepActions", "()V"⟩, 9), (⟨"CyclicPlanner", "ableStates", "()I"⟩, 9), (⟨"CyclicPlanner", "keepsTo", "(II)Z"⟩, 9), (⟨"CyclicPlannerModel", "isState", "(I)Z"⟩, 3), (⟨"CyclicPlannerModel", "count", "(Z)V"⟩, 3), (⟨"CyclicPlannerModel", "in", "(II)Z"⟩, 3), (⟨"CyclicPlannerModel", "outcome", "(IZ)I"⟩, 3)]
theorem lw_r1 : ∀ q ∈ lw_privs_1, lw_okq q := List.forall_mem_cons.mpr ⟨lw_p0, List.forall_mem_cons.mpr ⟨lw_p1, List.forall_mem_cons.mpr ⟨lw_p2, List.forall_mem_cons.mpr ⟨lw_p3, List.forall_mem_cons.mpr ⟨lw_p4, List.forall_mem_cons.mpr ⟨lw_p5, List.forall_mem_cons.mpr ⟨lw_p6, List.forall_mem_cons.mpr ⟨lw_p7, List.forall_mem_cons.mpr ⟨lw_p8, List.forall_mem_cons.mpr ⟨lw_p9, List.forall_mem_cons.mpr ⟨lw_p10, List.forall_mem_cons.mpr ⟨lw_p11, List.forall_mem_cons.mpr ⟨lw_p12, List.forall_mem_cons.mpr ⟨lw_p13, List.forall_mem_cons.mpr ⟨lw_p14, List.forall_mem_cons.mpr ⟨lw_p15, fun _ h => absurd h List.not_mem_nil⟩⟩⟩⟩⟩⟩⟩⟩⟩⟩⟩⟩⟩⟩⟩⟩
theorem lw_p16 : lw_okq (⟨"CyclicPlannerModel", "reached", "()I"⟩, 3) := ⟨⟨by decide +kernel, by decide +kernel⟩, List.mem_of_getElem? (i := 134) rfl, List.mem_of_getElem? (i := 179) rfl, List.mem_of_getElem? (i := 180) rfl⟩
theorem lw_p17 : lw_okq (⟨"CyclicPlannerModel", "keeps", "(I)Z"⟩, 3) := ⟨⟨by decide +kernel, by decide +kernel⟩, List.mem_of_getElem? (i := 134) rfl, List.mem_of_getElem? (i := 187) rfl, List.mem_of_getElem? (i := 188) rfl⟩
theorem lw_p18 : lw_okq (⟨"CyclicPlannerModel", "number", "(IZ)I"⟩, 3) := ⟨⟨by decide +kernel, by decide +kernel⟩, List.mem_of_getElem? (i := 134) rfl, List.mem_of_getElem? (i := 199) rfl, List.mem_of_getElem? (i := 200) rfl⟩
def lw_privs_2 : List (MethodName × Nat) := [(⟨"CyclicPlannerModel", "reached", "()I"⟩, 3), (⟨"CyclicPlannerModel", "keeps", "(I)Z"⟩, 3), (⟨"CyclicPlannerModel", "number", "(IZ)I"⟩, 3)]
theorem lw_r2 : ∀ q ∈ lw_privs_2, lw_okq q := List.forall_mem_cons.mpr ⟨lw_p16, List.forall_mem_cons.mpr ⟨lw_p17, List.forall_mem_cons.mpr ⟨lw_p18, fun _ h => absurd h List.not_mem_nil⟩⟩⟩
def lw_privs : List (MethodName × Nat) := lw_privs_1 ++ (lw_privs_2)
def lw_tbl : List Cond := k2_sels lw_privs ++ tables_1
theorem lw_privs_ok : ∀ q ∈ lw_privs, lw_okq q := by
  show ∀ q ∈ lw_privs_1 ++ (lw_privs_2), lw_okq q
  exact List.forall_mem_append.mpr ⟨lw_r1, lw_r2⟩
-- ===== ONE list of words for every method: the tables' words that hold all through a run =====
def lw_all : List Cond := lw_tbl.filter goodWord
/-- a word of the tables by its place: claim/WORDS.tsv -/
theorem lw_w {w : Cond} (i : Nat) (h : lw_tbl[i]? = some w) (g : goodWord w = true) : w ∈ lw_all := List.mem_filter.mpr ⟨List.mem_of_getElem? h, g⟩
theorem lw_all_tbl {w : Cond} (h : w ∈ lw_all) : w ∈ lw_tbl := (List.mem_filter.mp h).1
theorem lw_self : GoodIn lw_all lw_all := fun w h => ⟨h, good_of_word (List.mem_filter.mp h).2⟩
/-- a class's field words, by their places -/
theorem lw_in (ws : List Cond) (ps : List Nat) (hp : ws = ps.filterMap (fun i => lw_tbl[i]?)) (hg : ws.all goodWord = true) : ∀ w ∈ ws, w ∈ lw_all := by
  intro w h
  have h1 := List.all_eq_true.mp hg w h
  rw [hp] at h
  obtain ⟨i, -, hi⟩ := List.mem_filterMap.mp h
  exact lw_w i hi h1
/-- the words of a contract for the method y with code b, L locals, answer r -/
abbrev ws_ (y : MethodName) (b : ByteArray) (L : Nat) (r : Option FieldType) : List Cond := Cond.code y b L r :: lw_all
theorem lw_meth {y : MethodName} {b : ByteArray} {L : Nat} {r : Option FieldType} (h : Cond.code y b L r ∈ lw_all) : GoodIn lw_all (ws_ y b L r) := by
  intro w hw
  rcases List.mem_cons.mp hw with e | e
  · rw [e]
    exact lw_self _ h
  · exact lw_self _ e
theorem lw_app {a c : List Cond} (ha : ∀ w ∈ a, w ∈ lw_all) (hc : GoodIn lw_all c) : GoodIn lw_all (a ++ c) := by
  intro w hw
  rcases List.mem_append.mp hw with e | e
  · exact lw_self w (ha w e)
  · exact hc w e
/-- what a call through an object asks: cwV n hts (lw_V ..) -/
theorem lw_V {own : String} {idx : Nat} {C : String} {y : MethodName} {b : ByteArray} {L : Nat} {r : Option FieldType} (h1 : Cond.methodLink own idx y ∈ lw_all) (h2 : Cond.instanceMethod y ∈ lw_all) (h3 : Cond.selects C y y ∈ lw_all) (h4 : Cond.initialized C ∈ lw_all) (h5 : Cond.code y b L r ∈ lw_all) : GoodIn lw_all (wsV own idx C y (ws_ y b L r)) := by
  refine lw_app ?_ (lw_meth h5)
  intro w hw
  simp only [List.mem_cons, List.not_mem_nil, or_false] at hw
  rcases hw with e | e | e | e
  · rw [e]; exact h1
  · rw [e]; exact h2
  · rw [e]; exact h3
  · rw [e]; exact h4
/-- what a static call asks: va_cwS n hts (lw_S ..) -/
theorem lw_S {own : String} {idx : Nat} {y : MethodName} {b : ByteArray} {L : Nat} {r : Option FieldType} (h1 : Cond.methodLink own idx y ∈ lw_all) (h2 : Cond.static y ∈ lw_all) (h3 : Cond.initialized y.cls ∈ lw_all) (h4 : Cond.code y b L r ∈ lw_all) : GoodIn lw_all (va_wsS own idx y (ws_ y b L r)) := by
  refine lw_app ?_ (lw_meth h4)
  intro w hw
  simp only [List.mem_cons, List.not_mem_nil, or_false] at hw
  rcases hw with e | e | e
  · rw [e]; exact h1
  · rw [e]; exact h2
  · rw [e]; exact h3
/-- the words of a contract for a method WITH HANDLERS (hh: its table) -/
abbrev wsW_ (y : MethodName) (b : ByteArray) (L : Nat) (r : Option FieldType) (hh : List (Nat × Nat × Nat × Nat)) : List Cond := Cond.codeWith y b L r hh :: lw_all
theorem lw_methW {y : MethodName} {b : ByteArray} {L : Nat} {r : Option FieldType} {hh : List (Nat × Nat × Nat × Nat)} (h : Cond.codeWith y b L r hh ∈ lw_all) : GoodIn lw_all (wsW_ y b L r hh) := by
  intro w hw
  rcases List.mem_cons.mp hw with e | e
  · rw [e]
    exact lw_self _ h
  · exact lw_self _ e
/-- any list of words by their places (lw_in), good -/
theorem lw_good {ws : List Cond} (h : ∀ w ∈ ws, w ∈ lw_all) : GoodIn lw_all ws := fun w hw => lw_self w (h w hw)
/-- what a call of a method with handlers asks: vx_cwVW n hts (lw_VW ..), vx_cwSW n hts (lw_SW ..) -/
theorem lw_VW {own : String} {idx : Nat} {C : String} {y : MethodName} {b : ByteArray} {L : Nat} {r : Option FieldType} {hh : List (Nat × Nat × Nat × Nat)} (h1 : Cond.methodLink own idx y ∈ lw_all) (h2 : Cond.instanceMethod y ∈ lw_all) (h3 : Cond.selects C y y ∈ lw_all) (h4 : Cond.initialized C ∈ lw_all) (h5 : Cond.codeWith y b L r hh ∈ lw_all) : GoodIn lw_all (wsV own idx C y (wsW_ y b L r hh)) := by
  refine lw_app ?_ (lw_methW h5)
  intro w hw
  simp only [List.mem_cons, List.not_mem_nil, or_false] at hw
  rcases hw with e | e | e | e
  · rw [e]; exact h1
  · rw [e]; exact h2
  · rw [e]; exact h3
  · rw [e]; exact h4
theorem lw_SW {own : String} {idx : Nat} {y : MethodName} {b : ByteArray} {L : Nat} {r : Option FieldType} {hh : List (Nat × Nat × Nat × Nat)} (h1 : Cond.methodLink own idx y ∈ lw_all) (h2 : Cond.static y ∈ lw_all) (h3 : Cond.initialized y.cls ∈ lw_all) (h4 : Cond.codeWith y b L r hh ∈ lw_all) : GoodIn lw_all (va_wsS own idx y (wsW_ y b L r hh)) := by
  refine lw_app ?_ (lw_methW h4)
  intro w hw
  simp only [List.mem_cons, List.not_mem_nil, or_false] at hw
  rcases hw with e | e | e
  · rw [e]; exact h1
  · rw [e]; exact h2
  · rw [e]; exact h3
/-- a word by its place in its run of the tables -/
theorem lw_at {r : List Cond} (hr : ∀ w ∈ r, w ∈ lw_tbl) {w : Cond} (i : Nat) (h : r[i]? = some w) : w ∈ lw_tbl := hr w (List.mem_of_getElem? h)
theorem lw_g {w : Cond} (h : w ∈ lw_tbl) (g : goodWord w = true) : w ∈ lw_all := List.mem_filter.mpr ⟨h, g⟩
theorem lw_ms : ∀ w ∈ k2_sels lw_privs, w ∈ lw_tbl := fun w h => show w ∈ k2_sels lw_privs ++ tables_1 from List.mem_append_left _ h
theorem lw_m0 : ∀ w ∈ tables_1, w ∈ lw_tbl := fun w h => show w ∈ k2_sels lw_privs ++ tables_1 from List.mem_append_right (k2_sels lw_privs) h
theorem qs0 : (Cond.selects "CyclicPlanner" ⟨"CyclicPlanner", "isState", "(I)Z"⟩ ⟨"CyclicPlanner", "isState", "(I)Z"⟩) ∈ lw_all := lw_g (lw_at lw_ms 0 rfl) rfl
theorem qs1 : (Cond.selects "CyclicPlanner" ⟨"CyclicPlanner", "learn", "()V"⟩ ⟨"CyclicPlanner", "learn", "()V"⟩) ∈ lw_all := lw_g (lw_at lw_ms 1 rfl) rfl
theorem qs2 : (Cond.selects "CyclicPlanner" ⟨"CyclicPlanner", "findWeak", "()V"⟩ ⟨"CyclicPlanner", "findWeak", "()V"⟩) ∈ lw_all := lw_g (lw_at lw_ms 2 rfl) rfl
theorem qs3 : (Cond.selects "CyclicPlanner" ⟨"CyclicPlanner", "isIn", "(II)Z"⟩ ⟨"CyclicPlanner", "isIn", "(II)Z"⟩) ∈ lw_all := lw_g (lw_at lw_ms 3 rfl) rfl
theorem qs4 : (Cond.selects "CyclicPlanner" ⟨"CyclicPlanner", "someLeads", "(IIZ)Z"⟩ ⟨"CyclicPlanner", "someLeads", "(IIZ)Z"⟩) ∈ lw_all := lw_g (lw_at lw_ms 4 rfl) rfl
theorem qs5 : (Cond.selects "CyclicPlanner" ⟨"CyclicPlanner", "leadsInto", "(II)Z"⟩ ⟨"CyclicPlanner", "leadsInto", "(II)Z"⟩) ∈ lw_all := lw_g (lw_at lw_ms 5 rfl) rfl
theorem qs6 : (Cond.selects "CyclicPlanner" ⟨"CyclicPlanner", "mayLeadInto", "(II)Z"⟩ ⟨"CyclicPlanner", "mayLeadInto", "(II)Z"⟩) ∈ lw_all := lw_g (lw_at lw_ms 6 rfl) rfl
theorem qs7 : (Cond.selects "CyclicPlanner" ⟨"CyclicPlanner", "findSure", "()V"⟩ ⟨"CyclicPlanner", "findSure", "()V"⟩) ∈ lw_all := lw_g (lw_at lw_ms 7 rfl) rfl
theorem qs8 : (Cond.selects "CyclicPlanner" ⟨"CyclicPlanner", "findSafe", "()V"⟩ ⟨"CyclicPlanner", "findSafe", "()V"⟩) ∈ lw_all := lw_g (lw_at lw_ms 8 rfl) rfl
theorem qs9 : (Cond.selects "CyclicPlanner" ⟨"CyclicPlanner", "keepActions", "()V"⟩ ⟨"CyclicPlanner", "keepActions", "()V"⟩) ∈ lw_all := lw_g (lw_at lw_ms 9 rfl) rfl
theorem qs10 : (Cond.selects "CyclicPlanner" ⟨"CyclicPlanner", "ableStates", "()I"⟩ ⟨"CyclicPlanner", "ableStates", "()I"⟩) ∈ lw_all := lw_g (lw_at lw_ms 10 rfl) rfl
theorem qs11 : (Cond.selects "CyclicPlanner" ⟨"CyclicPlanner", "keepsTo", "(II)Z"⟩ ⟨"CyclicPlanner", "keepsTo", "(II)Z"⟩) ∈ lw_all := lw_g (lw_at lw_ms 11 rfl) rfl
theorem qs12 : (Cond.selects "CyclicPlannerModel" ⟨"CyclicPlannerModel", "isState", "(I)Z"⟩ ⟨"CyclicPlannerModel", "isState", "(I)Z"⟩) ∈ lw_all := lw_g (lw_at lw_ms 12 rfl) rfl
theorem qs13 : (Cond.selects "CyclicPlannerModel" ⟨"CyclicPlannerModel", "count", "(Z)V"⟩ ⟨"CyclicPlannerModel", "count", "(Z)V"⟩) ∈ lw_all := lw_g (lw_at lw_ms 13 rfl) rfl
theorem qs14 : (Cond.selects "CyclicPlannerModel" ⟨"CyclicPlannerModel", "in", "(II)Z"⟩ ⟨"CyclicPlannerModel", "in", "(II)Z"⟩) ∈ lw_all := lw_g (lw_at lw_ms 14 rfl) rfl
theorem qs15 : (Cond.selects "CyclicPlannerModel" ⟨"CyclicPlannerModel", "outcome", "(IZ)I"⟩ ⟨"CyclicPlannerModel", "outcome", "(IZ)I"⟩) ∈ lw_all := lw_g (lw_at lw_ms 15 rfl) rfl
theorem qs16 : (Cond.selects "CyclicPlannerModel" ⟨"CyclicPlannerModel", "reached", "()I"⟩ ⟨"CyclicPlannerModel", "reached", "()I"⟩) ∈ lw_all := lw_g (lw_at lw_ms 16 rfl) rfl
theorem qs17 : (Cond.selects "CyclicPlannerModel" ⟨"CyclicPlannerModel", "keeps", "(I)Z"⟩ ⟨"CyclicPlannerModel", "keeps", "(I)Z"⟩) ∈ lw_all := lw_g (lw_at lw_ms 17 rfl) rfl
theorem qs18 : (Cond.selects "CyclicPlannerModel" ⟨"CyclicPlannerModel", "number", "(IZ)I"⟩ ⟨"CyclicPlannerModel", "number", "(IZ)I"⟩) ∈ lw_all := lw_g (lw_at lw_ms 18 rfl) rfl
end
section
/-! CyclicPlanner -/
set_option maxRecDepth 100000
def RX0 : String := "CyclicPlanner"
def TX0 : u_T := fun k => match k with
  | 0 => ("CyclicPlanner", "outcomes", "[S", true)
  | 1 => ("CyclicPlanner", "goalSet", "I", false)
  | 2 => ("CyclicPlanner", "known", "Z", false)
  | 3 => ("CyclicPlanner", "weakSet", "I", false)
  | 4 => ("CyclicPlanner", "safeSet", "I", false)
  | 5 => ("CyclicPlanner", "sureSet", "I", false)
  | 6 => ("CyclicPlanner", "sureLayer", "[B", true)
  | 7 => ("CyclicPlanner", "weakLayer", "[B", true)
  | _ => ("CyclicPlanner", "leftActions", "I", false)
def tyX0 : Nat → FieldType := fun k => match k with
  | 0 => .array .short
  | 1 => .int
  | 2 => .boolean
  | 3 => .int
  | 4 => .int
  | 5 => .int
  | 6 => .array .byte
  | 7 => .array .byte
  | _ => .int
abbrev wsX00 : List Cond := u_ws RX0 TX0 9
theorem nmX0 : ∀ a, a < 9 → ∀ b, b < 9 → a ≠ b → (TX0 a).2.1 ≠ (TX0 b).2.1 := by decide +kernel
theorem tyX0_ok : ∀ k, k < 9 → parseFieldDescriptor (TX0 k).2.2.1 = some (tyX0 k) := by decide +kernel
abbrev cX0_init : ByteArray := prog_1_method_1_code
def yX0_init : MethodName := ⟨RX0, "<init>", "()V"⟩
theorem dX0_init_0 : decode cX0_init 0 = .ok (.aload_n 0, 1) := by decide +kernel
theorem dX0_init_1 : decode cX0_init 1 = .ok (.invokespecial 1, 3) := by decide +kernel
theorem dX0_init_4 : decode cX0_init 4 = .ok (.aload_n 0, 1) := by decide +kernel
theorem dX0_init_5 : decode cX0_init 5 = .ok (.bipush 24, 2) := by decide +kernel
theorem dX0_init_7 : decode cX0_init 7 = .ok (.newarray .short, 2) := by decide +kernel
theorem dX0_init_9 : decode cX0_init 9 = .ok (.putfield 7, 3) := by decide +kernel
theorem dX0_init_12 : decode cX0_init 12 = .ok (.aload_n 0, 1) := by decide +kernel
theorem dX0_init_13 : decode cX0_init 13 = .ok (.bipush 8, 2) := by decide +kernel
theorem dX0_init_15 : decode cX0_init 15 = .ok (.newarray .byte, 2) := by decide +kernel
theorem dX0_init_17 : decode cX0_init 17 = .ok (.putfield 13, 3) := by decide +kernel
theorem dX0_init_20 : decode cX0_init 20 = .ok (.aload_n 0, 1) := by decide +kernel
theorem dX0_init_21 : decode cX0_init 21 = .ok (.bipush 8, 2) := by decide +kernel
theorem dX0_init_23 : decode cX0_init 23 = .ok (.newarray .byte, 2) := by decide +kernel
theorem dX0_init_25 : decode cX0_init 25 = .ok (.putfield 17, 3) := by decide +kernel
theorem dX0_init_28 : decode cX0_init 28 = .ok (.return_, 1) := by decide +kernel
abbrev cX0_action : ByteArray := prog_1_method_2_code
def yX0_action : MethodName := ⟨RX0, "action", "(III)Z"⟩
theorem dX0_action_0 : decode cX0_action 0 = .ok (.aload_n 0, 1) := by decide +kernel
theorem dX0_action_1 : decode cX0_action 1 = .ok (.iload_n 1, 1) := by decide +kernel
theorem dX0_action_2 : decode cX0_action 2 = .ok (.invokevirtual 20, 3) := by decide +kernel
theorem dX0_action_5 : decode cX0_action 5 = .ok (.ifCond .eq 23, 3) := by decide +kernel
theorem dX0_action_8 : decode cX0_action 8 = .ok (.iload_n 2, 1) := by decide +kernel
theorem dX0_action_9 : decode cX0_action 9 = .ok (.ifCond .lt 19, 3) := by decide +kernel
theorem dX0_action_12 : decode cX0_action 12 = .ok (.iload_n 2, 1) := by decide +kernel
theorem dX0_action_13 : decode cX0_action 13 = .ok (.iconst 2, 1) := by decide +kernel
theorem dX0_action_14 : decode cX0_action 14 = .ok (.if_icmp .gt 14, 3) := by decide +kernel
theorem dX0_action_17 : decode cX0_action 17 = .ok (.iload_n 3, 1) := by decide +kernel
theorem dX0_action_18 : decode cX0_action 18 = .ok (.ifCond .lt 10, 3) := by decide +kernel
theorem dX0_action_21 : decode cX0_action 21 = .ok (.iload_n 3, 1) := by decide +kernel
theorem dX0_action_22 : decode cX0_action 22 = .ok (.sipush 255, 3) := by decide +kernel
theorem dX0_action_25 : decode cX0_action 25 = .ok (.if_icmp .le 5, 3) := by decide +kernel
theorem dX0_action_28 : decode cX0_action 28 = .ok (.iconst 0, 1) := by decide +kernel
theorem dX0_action_29 : decode cX0_action 29 = .ok (.ireturn, 1) := by decide +kernel
theorem dX0_action_30 : decode cX0_action 30 = .ok (.aload_n 0, 1) := by decide +kernel
theorem dX0_action_31 : decode cX0_action 31 = .ok (.getfield 7, 3) := by decide +kernel
theorem dX0_action_34 : decode cX0_action 34 = .ok (.iconst 3, 1) := by decide +kernel
theorem dX0_action_35 : decode cX0_action 35 = .ok (.iload_n 1, 1) := by decide +kernel
theorem dX0_action_36 : decode cX0_action 36 = .ok (.imul, 1) := by decide +kernel
theorem dX0_action_37 : decode cX0_action 37 = .ok (.iload_n 2, 1) := by decide +kernel
theorem dX0_action_38 : decode cX0_action 38 = .ok (.iadd, 1) := by decide +kernel
theorem dX0_action_39 : decode cX0_action 39 = .ok (.iload_n 3, 1) := by decide +kernel
theorem dX0_action_40 : decode cX0_action 40 = .ok (.i2s, 1) := by decide +kernel
theorem dX0_action_41 : decode cX0_action 41 = .ok (.sastore, 1) := by decide +kernel
theorem dX0_action_42 : decode cX0_action 42 = .ok (.aload_n 0, 1) := by decide +kernel
theorem dX0_action_43 : decode cX0_action 43 = .ok (.iconst 0, 1) := by decide +kernel
theorem dX0_action_44 : decode cX0_action 44 = .ok (.putfield 24, 3) := by decide +kernel
theorem dX0_action_47 : decode cX0_action 47 = .ok (.iconst 1, 1) := by decide +kernel
theorem dX0_action_48 : decode cX0_action 48 = .ok (.ireturn, 1) := by decide +kernel
abbrev cX0_isState : ByteArray := prog_1_method_4_code
def yX0_isState : MethodName := ⟨RX0, "isState", "(I)Z"⟩
theorem dX0_isState_0 : decode cX0_isState 0 = .ok (.iload_n 1, 1) := by decide +kernel
theorem dX0_isState_1 : decode cX0_isState 1 = .ok (.ifCond .lt 13, 3) := by decide +kernel
theorem dX0_isState_4 : decode cX0_isState 4 = .ok (.iload_n 1, 1) := by decide +kernel
theorem dX0_isState_5 : decode cX0_isState 5 = .ok (.bipush 8, 2) := by decide +kernel
theorem dX0_isState_7 : decode cX0_isState 7 = .ok (.if_icmp .ge 7, 3) := by decide +kernel
theorem dX0_isState_10 : decode cX0_isState 10 = .ok (.iconst 1, 1) := by decide +kernel
theorem dX0_isState_11 : decode cX0_isState 11 = .ok (.goto 4, 3) := by decide +kernel
theorem dX0_isState_14 : decode cX0_isState 14 = .ok (.iconst 0, 1) := by decide +kernel
theorem dX0_isState_15 : decode cX0_isState 15 = .ok (.ireturn, 1) := by decide +kernel
abbrev cX0_goals : ByteArray := prog_1_method_3_code
def yX0_goals : MethodName := ⟨RX0, "goals", "(I)Z"⟩
theorem dX0_goals_0 : decode cX0_goals 0 = .ok (.iload_n 1, 1) := by decide +kernel
theorem dX0_goals_1 : decode cX0_goals 1 = .ok (.ifCond .lt 10, 3) := by decide +kernel
theorem dX0_goals_4 : decode cX0_goals 4 = .ok (.iload_n 1, 1) := by decide +kernel
theorem dX0_goals_5 : decode cX0_goals 5 = .ok (.sipush 255, 3) := by decide +kernel
theorem dX0_goals_8 : decode cX0_goals 8 = .ok (.if_icmp .le 5, 3) := by decide +kernel
theorem dX0_goals_11 : decode cX0_goals 11 = .ok (.iconst 0, 1) := by decide +kernel
theorem dX0_goals_12 : decode cX0_goals 12 = .ok (.ireturn, 1) := by decide +kernel
theorem dX0_goals_13 : decode cX0_goals 13 = .ok (.aload_n 0, 1) := by decide +kernel
theorem dX0_goals_14 : decode cX0_goals 14 = .ok (.iload_n 1, 1) := by decide +kernel
theorem dX0_goals_15 : decode cX0_goals 15 = .ok (.putfield 28, 3) := by decide +kernel
theorem dX0_goals_18 : decode cX0_goals 18 = .ok (.aload_n 0, 1) := by decide +kernel
theorem dX0_goals_19 : decode cX0_goals 19 = .ok (.iconst 0, 1) := by decide +kernel
theorem dX0_goals_20 : decode cX0_goals 20 = .ok (.putfield 24, 3) := by decide +kernel
theorem dX0_goals_23 : decode cX0_goals 23 = .ok (.iconst 1, 1) := by decide +kernel
theorem dX0_goals_24 : decode cX0_goals 24 = .ok (.ireturn, 1) := by decide +kernel
abbrev cX0_weak : ByteArray := prog_1_method_6_code
def yX0_weak : MethodName := ⟨RX0, "weak", "()I"⟩
theorem dX0_weak_0 : decode cX0_weak 0 = .ok (.aload_n 0, 1) := by decide +kernel
theorem dX0_weak_1 : decode cX0_weak 1 = .ok (.invokevirtual 32, 3) := by decide +kernel
theorem dX0_weak_4 : decode cX0_weak 4 = .ok (.aload_n 0, 1) := by decide +kernel
theorem dX0_weak_5 : decode cX0_weak 5 = .ok (.getfield 35, 3) := by decide +kernel
theorem dX0_weak_8 : decode cX0_weak 8 = .ok (.ireturn, 1) := by decide +kernel
abbrev cX0_learn : ByteArray := prog_1_method_18_code
def yX0_learn : MethodName := ⟨RX0, "learn", "()V"⟩
theorem dX0_learn_0 : decode cX0_learn 0 = .ok (.aload_n 0, 1) := by decide +kernel
theorem dX0_learn_1 : decode cX0_learn 1 = .ok (.getfield 24, 3) := by decide +kernel
theorem dX0_learn_4 : decode cX0_learn 4 = .ok (.ifCond .eq 4, 3) := by decide +kernel
theorem dX0_learn_7 : decode cX0_learn 7 = .ok (.return_, 1) := by decide +kernel
theorem dX0_learn_8 : decode cX0_learn 8 = .ok (.aload_n 0, 1) := by decide +kernel
theorem dX0_learn_9 : decode cX0_learn 9 = .ok (.iconst 1, 1) := by decide +kernel
theorem dX0_learn_10 : decode cX0_learn 10 = .ok (.putfield 24, 3) := by decide +kernel
theorem dX0_learn_13 : decode cX0_learn 13 = .ok (.aload_n 0, 1) := by decide +kernel
theorem dX0_learn_14 : decode cX0_learn 14 = .ok (.invokevirtual 54, 3) := by decide +kernel
theorem dX0_learn_17 : decode cX0_learn 17 = .ok (.aload_n 0, 1) := by decide +kernel
theorem dX0_learn_18 : decode cX0_learn 18 = .ok (.invokevirtual 57, 3) := by decide +kernel
theorem dX0_learn_21 : decode cX0_learn 21 = .ok (.aload_n 0, 1) := by decide +kernel
theorem dX0_learn_22 : decode cX0_learn 22 = .ok (.invokevirtual 60, 3) := by decide +kernel
theorem dX0_learn_25 : decode cX0_learn 25 = .ok (.return_, 1) := by decide +kernel
abbrev cX0_findWeak : ByteArray := prog_1_method_19_code
def yX0_findWeak : MethodName := ⟨RX0, "findWeak", "()V"⟩
theorem dX0_findWeak_0 : decode cX0_findWeak 0 = .ok (.aload_n 0, 1) := by decide +kernel
theorem dX0_findWeak_1 : decode cX0_findWeak 1 = .ok (.aload_n 0, 1) := by decide +kernel
theorem dX0_findWeak_2 : decode cX0_findWeak 2 = .ok (.getfield 28, 3) := by decide +kernel
theorem dX0_findWeak_5 : decode cX0_findWeak 5 = .ok (.putfield 35, 3) := by decide +kernel
theorem dX0_findWeak_8 : decode cX0_findWeak 8 = .ok (.iconst 0, 1) := by decide +kernel
theorem dX0_findWeak_9 : decode cX0_findWeak 9 = .ok (.istore_n 1, 1) := by decide +kernel
theorem dX0_findWeak_10 : decode cX0_findWeak 10 = .ok (.iload_n 1, 1) := by decide +kernel
theorem dX0_findWeak_11 : decode cX0_findWeak 11 = .ok (.bipush 8, 2) := by decide +kernel
theorem dX0_findWeak_13 : decode cX0_findWeak 13 = .ok (.if_icmp .ge 16, 3) := by decide +kernel
theorem dX0_findWeak_16 : decode cX0_findWeak 16 = .ok (.aload_n 0, 1) := by decide +kernel
theorem dX0_findWeak_17 : decode cX0_findWeak 17 = .ok (.getfield 17, 3) := by decide +kernel
theorem dX0_findWeak_20 : decode cX0_findWeak 20 = .ok (.iload_n 1, 1) := by decide +kernel
theorem dX0_findWeak_21 : decode cX0_findWeak 21 = .ok (.iconst 0, 1) := by decide +kernel
theorem dX0_findWeak_22 : decode cX0_findWeak 22 = .ok (.bastore, 1) := by decide +kernel
theorem dX0_findWeak_23 : decode cX0_findWeak 23 = .ok (.iinc 1 1, 3) := by decide +kernel
theorem dX0_findWeak_26 : decode cX0_findWeak 26 = .ok (.goto (-16), 3) := by decide +kernel
theorem dX0_findWeak_29 : decode cX0_findWeak 29 = .ok (.iconst 1, 1) := by decide +kernel
theorem dX0_findWeak_30 : decode cX0_findWeak 30 = .ok (.istore_n 1, 1) := by decide +kernel
theorem dX0_findWeak_31 : decode cX0_findWeak 31 = .ok (.iload_n 1, 1) := by decide +kernel
theorem dX0_findWeak_32 : decode cX0_findWeak 32 = .ok (.bipush 8, 2) := by decide +kernel
theorem dX0_findWeak_34 : decode cX0_findWeak 34 = .ok (.if_icmp .gt 73, 3) := by decide +kernel
theorem dX0_findWeak_37 : decode cX0_findWeak 37 = .ok (.aload_n 0, 1) := by decide +kernel
theorem dX0_findWeak_38 : decode cX0_findWeak 38 = .ok (.getfield 35, 3) := by decide +kernel
theorem dX0_findWeak_41 : decode cX0_findWeak 41 = .ok (.istore_n 2, 1) := by decide +kernel
theorem dX0_findWeak_42 : decode cX0_findWeak 42 = .ok (.iconst 0, 1) := by decide +kernel
theorem dX0_findWeak_43 : decode cX0_findWeak 43 = .ok (.istore_n 3, 1) := by decide +kernel
theorem dX0_findWeak_44 : decode cX0_findWeak 44 = .ok (.iload_n 3, 1) := by decide +kernel
theorem dX0_findWeak_45 : decode cX0_findWeak 45 = .ok (.bipush 8, 2) := by decide +kernel
theorem dX0_findWeak_47 : decode cX0_findWeak 47 = .ok (.if_icmp .ge 54, 3) := by decide +kernel
theorem dX0_findWeak_50 : decode cX0_findWeak 50 = .ok (.aload_n 0, 1) := by decide +kernel
theorem dX0_findWeak_51 : decode cX0_findWeak 51 = .ok (.aload_n 0, 1) := by decide +kernel
theorem dX0_findWeak_52 : decode cX0_findWeak 52 = .ok (.getfield 35, 3) := by decide +kernel
theorem dX0_findWeak_55 : decode cX0_findWeak 55 = .ok (.iload_n 3, 1) := by decide +kernel
theorem dX0_findWeak_56 : decode cX0_findWeak 56 = .ok (.invokevirtual 44, 3) := by decide +kernel
theorem dX0_findWeak_59 : decode cX0_findWeak 59 = .ok (.ifCond .ne 36, 3) := by decide +kernel
theorem dX0_findWeak_62 : decode cX0_findWeak 62 = .ok (.aload_n 0, 1) := by decide +kernel
theorem dX0_findWeak_63 : decode cX0_findWeak 63 = .ok (.iload_n 3, 1) := by decide +kernel
theorem dX0_findWeak_64 : decode cX0_findWeak 64 = .ok (.iload_n 2, 1) := by decide +kernel
theorem dX0_findWeak_65 : decode cX0_findWeak 65 = .ok (.iconst 0, 1) := by decide +kernel
theorem dX0_findWeak_66 : decode cX0_findWeak 66 = .ok (.invokevirtual 63, 3) := by decide +kernel
theorem dX0_findWeak_69 : decode cX0_findWeak 69 = .ok (.ifCond .ne 6, 3) := by decide +kernel
theorem dX0_findWeak_72 : decode cX0_findWeak 72 = .ok (.goto 23, 3) := by decide +kernel
theorem dX0_findWeak_75 : decode cX0_findWeak 75 = .ok (.aload_n 0, 1) := by decide +kernel
theorem dX0_findWeak_76 : decode cX0_findWeak 76 = .ok (.dup, 1) := by decide +kernel
theorem dX0_findWeak_77 : decode cX0_findWeak 77 = .ok (.getfield 35, 3) := by decide +kernel
theorem dX0_findWeak_80 : decode cX0_findWeak 80 = .ok (.iconst 1, 1) := by decide +kernel
theorem dX0_findWeak_81 : decode cX0_findWeak 81 = .ok (.iload_n 3, 1) := by decide +kernel
theorem dX0_findWeak_82 : decode cX0_findWeak 82 = .ok (.ishl, 1) := by decide +kernel
theorem dX0_findWeak_83 : decode cX0_findWeak 83 = .ok (.ior, 1) := by decide +kernel
theorem dX0_findWeak_84 : decode cX0_findWeak 84 = .ok (.putfield 35, 3) := by decide +kernel
theorem dX0_findWeak_87 : decode cX0_findWeak 87 = .ok (.aload_n 0, 1) := by decide +kernel
theorem dX0_findWeak_88 : decode cX0_findWeak 88 = .ok (.getfield 17, 3) := by decide +kernel
theorem dX0_findWeak_91 : decode cX0_findWeak 91 = .ok (.iload_n 3, 1) := by decide +kernel
theorem dX0_findWeak_92 : decode cX0_findWeak 92 = .ok (.iload_n 1, 1) := by decide +kernel
theorem dX0_findWeak_93 : decode cX0_findWeak 93 = .ok (.i2b, 1) := by decide +kernel
theorem dX0_findWeak_94 : decode cX0_findWeak 94 = .ok (.bastore, 1) := by decide +kernel
theorem dX0_findWeak_95 : decode cX0_findWeak 95 = .ok (.iinc 3 1, 3) := by decide +kernel
theorem dX0_findWeak_98 : decode cX0_findWeak 98 = .ok (.goto (-54), 3) := by decide +kernel
theorem dX0_findWeak_101 : decode cX0_findWeak 101 = .ok (.iinc 1 1, 3) := by decide +kernel
theorem dX0_findWeak_104 : decode cX0_findWeak 104 = .ok (.goto (-73), 3) := by decide +kernel
theorem dX0_findWeak_107 : decode cX0_findWeak 107 = .ok (.return_, 1) := by decide +kernel
abbrev cX0_isIn : ByteArray := prog_1_method_5_code
def yX0_isIn : MethodName := ⟨RX0, "isIn", "(II)Z"⟩
theorem dX0_isIn_0 : decode cX0_isIn 0 = .ok (.iload_n 1, 1) := by decide +kernel
theorem dX0_isIn_1 : decode cX0_isIn 1 = .ok (.iload_n 2, 1) := by decide +kernel
theorem dX0_isIn_2 : decode cX0_isIn 2 = .ok (.ishr, 1) := by decide +kernel
theorem dX0_isIn_3 : decode cX0_isIn 3 = .ok (.iconst 1, 1) := by decide +kernel
theorem dX0_isIn_4 : decode cX0_isIn 4 = .ok (.iand, 1) := by decide +kernel
theorem dX0_isIn_5 : decode cX0_isIn 5 = .ok (.ifCond .eq 7, 3) := by decide +kernel
theorem dX0_isIn_8 : decode cX0_isIn 8 = .ok (.iconst 1, 1) := by decide +kernel
theorem dX0_isIn_9 : decode cX0_isIn 9 = .ok (.goto 4, 3) := by decide +kernel
theorem dX0_isIn_12 : decode cX0_isIn 12 = .ok (.iconst 0, 1) := by decide +kernel
theorem dX0_isIn_13 : decode cX0_isIn 13 = .ok (.ireturn, 1) := by decide +kernel
abbrev cX0_someLeads : ByteArray := prog_1_method_21_code
def yX0_someLeads : MethodName := ⟨RX0, "someLeads", "(IIZ)Z"⟩
theorem dX0_someLeads_0 : decode cX0_someLeads 0 = .ok (.iconst 3, 1) := by decide +kernel
theorem dX0_someLeads_1 : decode cX0_someLeads 1 = .ok (.iload_n 1, 1) := by decide +kernel
theorem dX0_someLeads_2 : decode cX0_someLeads 2 = .ok (.imul, 1) := by decide +kernel
theorem dX0_someLeads_3 : decode cX0_someLeads 3 = .ok (.istore 4, 2) := by decide +kernel
theorem dX0_someLeads_5 : decode cX0_someLeads 5 = .ok (.iload 4, 2) := by decide +kernel
theorem dX0_someLeads_7 : decode cX0_someLeads 7 = .ok (.iconst 3, 1) := by decide +kernel
theorem dX0_someLeads_8 : decode cX0_someLeads 8 = .ok (.iload_n 1, 1) := by decide +kernel
theorem dX0_someLeads_9 : decode cX0_someLeads 9 = .ok (.imul, 1) := by decide +kernel
theorem dX0_someLeads_10 : decode cX0_someLeads 10 = .ok (.iconst 3, 1) := by decide +kernel
theorem dX0_someLeads_11 : decode cX0_someLeads 11 = .ok (.iadd, 1) := by decide +kernel
theorem dX0_someLeads_12 : decode cX0_someLeads 12 = .ok (.if_icmp .ge 38, 3) := by decide +kernel
theorem dX0_someLeads_15 : decode cX0_someLeads 15 = .ok (.iload_n 3, 1) := by decide +kernel
theorem dX0_someLeads_16 : decode cX0_someLeads 16 = .ok (.ifCond .eq 16, 3) := by decide +kernel
theorem dX0_someLeads_19 : decode cX0_someLeads 19 = .ok (.aload_n 0, 1) := by decide +kernel
theorem dX0_someLeads_20 : decode cX0_someLeads 20 = .ok (.iload 4, 2) := by decide +kernel
theorem dX0_someLeads_22 : decode cX0_someLeads 22 = .ok (.iload_n 2, 1) := by decide +kernel
theorem dX0_someLeads_23 : decode cX0_someLeads 23 = .ok (.invokevirtual 48, 3) := by decide +kernel
theorem dX0_someLeads_26 : decode cX0_someLeads 26 = .ok (.ifCond .eq 18, 3) := by decide +kernel
theorem dX0_someLeads_29 : decode cX0_someLeads 29 = .ok (.goto 13, 3) := by decide +kernel
theorem dX0_someLeads_32 : decode cX0_someLeads 32 = .ok (.aload_n 0, 1) := by decide +kernel
theorem dX0_someLeads_33 : decode cX0_someLeads 33 = .ok (.iload 4, 2) := by decide +kernel
theorem dX0_someLeads_35 : decode cX0_someLeads 35 = .ok (.iload_n 2, 1) := by decide +kernel
theorem dX0_someLeads_36 : decode cX0_someLeads 36 = .ok (.invokevirtual 67, 3) := by decide +kernel
theorem dX0_someLeads_39 : decode cX0_someLeads 39 = .ok (.ifCond .eq 5, 3) := by decide +kernel
theorem dX0_someLeads_42 : decode cX0_someLeads 42 = .ok (.iconst 1, 1) := by decide +kernel
theorem dX0_someLeads_43 : decode cX0_someLeads 43 = .ok (.ireturn, 1) := by decide +kernel
theorem dX0_someLeads_44 : decode cX0_someLeads 44 = .ok (.iinc 4 1, 3) := by decide +kernel
theorem dX0_someLeads_47 : decode cX0_someLeads 47 = .ok (.goto (-42), 3) := by decide +kernel
theorem dX0_someLeads_50 : decode cX0_someLeads 50 = .ok (.iconst 0, 1) := by decide +kernel
theorem dX0_someLeads_51 : decode cX0_someLeads 51 = .ok (.ireturn, 1) := by decide +kernel
abbrev cX0_leadsInto : ByteArray := prog_1_method_16_code
def yX0_leadsInto : MethodName := ⟨RX0, "leadsInto", "(II)Z"⟩
theorem dX0_leadsInto_0 : decode cX0_leadsInto 0 = .ok (.aload_n 0, 1) := by decide +kernel
theorem dX0_leadsInto_1 : decode cX0_leadsInto 1 = .ok (.getfield 7, 3) := by decide +kernel
theorem dX0_leadsInto_4 : decode cX0_leadsInto 4 = .ok (.iload_n 1, 1) := by decide +kernel
theorem dX0_leadsInto_5 : decode cX0_leadsInto 5 = .ok (.saload, 1) := by decide +kernel
theorem dX0_leadsInto_6 : decode cX0_leadsInto 6 = .ok (.ifCond .eq 20, 3) := by decide +kernel
theorem dX0_leadsInto_9 : decode cX0_leadsInto 9 = .ok (.aload_n 0, 1) := by decide +kernel
theorem dX0_leadsInto_10 : decode cX0_leadsInto 10 = .ok (.getfield 7, 3) := by decide +kernel
theorem dX0_leadsInto_13 : decode cX0_leadsInto 13 = .ok (.iload_n 1, 1) := by decide +kernel
theorem dX0_leadsInto_14 : decode cX0_leadsInto 14 = .ok (.saload, 1) := by decide +kernel
theorem dX0_leadsInto_15 : decode cX0_leadsInto 15 = .ok (.iload_n 2, 1) := by decide +kernel
theorem dX0_leadsInto_16 : decode cX0_leadsInto 16 = .ok (.iconst (-1), 1) := by decide +kernel
theorem dX0_leadsInto_17 : decode cX0_leadsInto 17 = .ok (.ixor, 1) := by decide +kernel
theorem dX0_leadsInto_18 : decode cX0_leadsInto 18 = .ok (.iand, 1) := by decide +kernel
theorem dX0_leadsInto_19 : decode cX0_leadsInto 19 = .ok (.ifCond .ne 7, 3) := by decide +kernel
theorem dX0_leadsInto_22 : decode cX0_leadsInto 22 = .ok (.iconst 1, 1) := by decide +kernel
theorem dX0_leadsInto_23 : decode cX0_leadsInto 23 = .ok (.goto 4, 3) := by decide +kernel
theorem dX0_leadsInto_26 : decode cX0_leadsInto 26 = .ok (.iconst 0, 1) := by decide +kernel
theorem dX0_leadsInto_27 : decode cX0_leadsInto 27 = .ok (.ireturn, 1) := by decide +kernel
abbrev cX0_mayLeadInto : ByteArray := prog_1_method_17_code
def yX0_mayLeadInto : MethodName := ⟨RX0, "mayLeadInto", "(II)Z"⟩
theorem dX0_mayLeadInto_0 : decode cX0_mayLeadInto 0 = .ok (.aload_n 0, 1) := by decide +kernel
theorem dX0_mayLeadInto_1 : decode cX0_mayLeadInto 1 = .ok (.getfield 7, 3) := by decide +kernel
theorem dX0_mayLeadInto_4 : decode cX0_mayLeadInto 4 = .ok (.iload_n 1, 1) := by decide +kernel
theorem dX0_mayLeadInto_5 : decode cX0_mayLeadInto 5 = .ok (.saload, 1) := by decide +kernel
theorem dX0_mayLeadInto_6 : decode cX0_mayLeadInto 6 = .ok (.iload_n 2, 1) := by decide +kernel
theorem dX0_mayLeadInto_7 : decode cX0_mayLeadInto 7 = .ok (.iand, 1) := by decide +kernel
theorem dX0_mayLeadInto_8 : decode cX0_mayLeadInto 8 = .ok (.ifCond .eq 7, 3) := by decide +kernel
theorem dX0_mayLeadInto_11 : decode cX0_mayLeadInto 11 = .ok (.iconst 1, 1) := by decide +kernel
theorem dX0_mayLeadInto_12 : decode cX0_mayLeadInto 12 = .ok (.goto 4, 3) := by decide +kernel
theorem dX0_mayLeadInto_15 : decode cX0_mayLeadInto 15 = .ok (.iconst 0, 1) := by decide +kernel
theorem dX0_mayLeadInto_16 : decode cX0_mayLeadInto 16 = .ok (.ireturn, 1) := by decide +kernel
abbrev cX0_findSure : ByteArray := prog_1_method_20_code
def yX0_findSure : MethodName := ⟨RX0, "findSure", "()V"⟩
theorem dX0_findSure_0 : decode cX0_findSure 0 = .ok (.aload_n 0, 1) := by decide +kernel
theorem dX0_findSure_1 : decode cX0_findSure 1 = .ok (.aload_n 0, 1) := by decide +kernel
theorem dX0_findSure_2 : decode cX0_findSure 2 = .ok (.getfield 28, 3) := by decide +kernel
theorem dX0_findSure_5 : decode cX0_findSure 5 = .ok (.putfield 41, 3) := by decide +kernel
theorem dX0_findSure_8 : decode cX0_findSure 8 = .ok (.iconst 0, 1) := by decide +kernel
theorem dX0_findSure_9 : decode cX0_findSure 9 = .ok (.istore_n 1, 1) := by decide +kernel
theorem dX0_findSure_10 : decode cX0_findSure 10 = .ok (.iload_n 1, 1) := by decide +kernel
theorem dX0_findSure_11 : decode cX0_findSure 11 = .ok (.bipush 8, 2) := by decide +kernel
theorem dX0_findSure_13 : decode cX0_findSure 13 = .ok (.if_icmp .ge 16, 3) := by decide +kernel
theorem dX0_findSure_16 : decode cX0_findSure 16 = .ok (.aload_n 0, 1) := by decide +kernel
theorem dX0_findSure_17 : decode cX0_findSure 17 = .ok (.getfield 13, 3) := by decide +kernel
theorem dX0_findSure_20 : decode cX0_findSure 20 = .ok (.iload_n 1, 1) := by decide +kernel
theorem dX0_findSure_21 : decode cX0_findSure 21 = .ok (.iconst 0, 1) := by decide +kernel
theorem dX0_findSure_22 : decode cX0_findSure 22 = .ok (.bastore, 1) := by decide +kernel
theorem dX0_findSure_23 : decode cX0_findSure 23 = .ok (.iinc 1 1, 3) := by decide +kernel
theorem dX0_findSure_26 : decode cX0_findSure 26 = .ok (.goto (-16), 3) := by decide +kernel
theorem dX0_findSure_29 : decode cX0_findSure 29 = .ok (.iconst 1, 1) := by decide +kernel
theorem dX0_findSure_30 : decode cX0_findSure 30 = .ok (.istore_n 1, 1) := by decide +kernel
theorem dX0_findSure_31 : decode cX0_findSure 31 = .ok (.iload_n 1, 1) := by decide +kernel
theorem dX0_findSure_32 : decode cX0_findSure 32 = .ok (.bipush 8, 2) := by decide +kernel
theorem dX0_findSure_34 : decode cX0_findSure 34 = .ok (.if_icmp .gt 73, 3) := by decide +kernel
theorem dX0_findSure_37 : decode cX0_findSure 37 = .ok (.aload_n 0, 1) := by decide +kernel
theorem dX0_findSure_38 : decode cX0_findSure 38 = .ok (.getfield 41, 3) := by decide +kernel
theorem dX0_findSure_41 : decode cX0_findSure 41 = .ok (.istore_n 2, 1) := by decide +kernel
theorem dX0_findSure_42 : decode cX0_findSure 42 = .ok (.iconst 0, 1) := by decide +kernel
theorem dX0_findSure_43 : decode cX0_findSure 43 = .ok (.istore_n 3, 1) := by decide +kernel
theorem dX0_findSure_44 : decode cX0_findSure 44 = .ok (.iload_n 3, 1) := by decide +kernel
theorem dX0_findSure_45 : decode cX0_findSure 45 = .ok (.bipush 8, 2) := by decide +kernel
theorem dX0_findSure_47 : decode cX0_findSure 47 = .ok (.if_icmp .ge 54, 3) := by decide +kernel
theorem dX0_findSure_50 : decode cX0_findSure 50 = .ok (.aload_n 0, 1) := by decide +kernel
theorem dX0_findSure_51 : decode cX0_findSure 51 = .ok (.aload_n 0, 1) := by decide +kernel
theorem dX0_findSure_52 : decode cX0_findSure 52 = .ok (.getfield 41, 3) := by decide +kernel
theorem dX0_findSure_55 : decode cX0_findSure 55 = .ok (.iload_n 3, 1) := by decide +kernel
theorem dX0_findSure_56 : decode cX0_findSure 56 = .ok (.invokevirtual 44, 3) := by decide +kernel
theorem dX0_findSure_59 : decode cX0_findSure 59 = .ok (.ifCond .ne 36, 3) := by decide +kernel
theorem dX0_findSure_62 : decode cX0_findSure 62 = .ok (.aload_n 0, 1) := by decide +kernel
theorem dX0_findSure_63 : decode cX0_findSure 63 = .ok (.iload_n 3, 1) := by decide +kernel
theorem dX0_findSure_64 : decode cX0_findSure 64 = .ok (.iload_n 2, 1) := by decide +kernel
theorem dX0_findSure_65 : decode cX0_findSure 65 = .ok (.iconst 1, 1) := by decide +kernel
theorem dX0_findSure_66 : decode cX0_findSure 66 = .ok (.invokevirtual 63, 3) := by decide +kernel
theorem dX0_findSure_69 : decode cX0_findSure 69 = .ok (.ifCond .ne 6, 3) := by decide +kernel
theorem dX0_findSure_72 : decode cX0_findSure 72 = .ok (.goto 23, 3) := by decide +kernel
theorem dX0_findSure_75 : decode cX0_findSure 75 = .ok (.aload_n 0, 1) := by decide +kernel
theorem dX0_findSure_76 : decode cX0_findSure 76 = .ok (.dup, 1) := by decide +kernel
theorem dX0_findSure_77 : decode cX0_findSure 77 = .ok (.getfield 41, 3) := by decide +kernel
theorem dX0_findSure_80 : decode cX0_findSure 80 = .ok (.iconst 1, 1) := by decide +kernel
theorem dX0_findSure_81 : decode cX0_findSure 81 = .ok (.iload_n 3, 1) := by decide +kernel
theorem dX0_findSure_82 : decode cX0_findSure 82 = .ok (.ishl, 1) := by decide +kernel
theorem dX0_findSure_83 : decode cX0_findSure 83 = .ok (.ior, 1) := by decide +kernel
theorem dX0_findSure_84 : decode cX0_findSure 84 = .ok (.putfield 41, 3) := by decide +kernel
theorem dX0_findSure_87 : decode cX0_findSure 87 = .ok (.aload_n 0, 1) := by decide +kernel
theorem dX0_findSure_88 : decode cX0_findSure 88 = .ok (.getfield 13, 3) := by decide +kernel
theorem dX0_findSure_91 : decode cX0_findSure 91 = .ok (.iload_n 3, 1) := by decide +kernel
theorem dX0_findSure_92 : decode cX0_findSure 92 = .ok (.iload_n 1, 1) := by decide +kernel
theorem dX0_findSure_93 : decode cX0_findSure 93 = .ok (.i2b, 1) := by decide +kernel
theorem dX0_findSure_94 : decode cX0_findSure 94 = .ok (.bastore, 1) := by decide +kernel
theorem dX0_findSure_95 : decode cX0_findSure 95 = .ok (.iinc 3 1, 3) := by decide +kernel
theorem dX0_findSure_98 : decode cX0_findSure 98 = .ok (.goto (-54), 3) := by decide +kernel
theorem dX0_findSure_101 : decode cX0_findSure 101 = .ok (.iinc 1 1, 3) := by decide +kernel
theorem dX0_findSure_104 : decode cX0_findSure 104 = .ok (.goto (-73), 3) := by decide +kernel
theorem dX0_findSure_107 : decode cX0_findSure 107 = .ok (.return_, 1) := by decide +kernel
abbrev cX0_findSafe : ByteArray := prog_1_method_22_code
def yX0_findSafe : MethodName := ⟨RX0, "findSafe", "()V"⟩
theorem dX0_findSafe_0 : decode cX0_findSafe 0 = .ok (.aload_n 0, 1) := by decide +kernel
theorem dX0_findSafe_1 : decode cX0_findSafe 1 = .ok (.sipush 255, 3) := by decide +kernel
theorem dX0_findSafe_4 : decode cX0_findSafe 4 = .ok (.putfield 38, 3) := by decide +kernel
theorem dX0_findSafe_7 : decode cX0_findSafe 7 = .ok (.iconst 1, 1) := by decide +kernel
theorem dX0_findSafe_8 : decode cX0_findSafe 8 = .ok (.istore_n 1, 1) := by decide +kernel
theorem dX0_findSafe_9 : decode cX0_findSafe 9 = .ok (.iload_n 1, 1) := by decide +kernel
theorem dX0_findSafe_10 : decode cX0_findSafe 10 = .ok (.ifCond .eq 34, 3) := by decide +kernel
theorem dX0_findSafe_13 : decode cX0_findSafe 13 = .ok (.aload_n 0, 1) := by decide +kernel
theorem dX0_findSafe_14 : decode cX0_findSafe 14 = .ok (.invokevirtual 70, 3) := by decide +kernel
theorem dX0_findSafe_17 : decode cX0_findSafe 17 = .ok (.aload_n 0, 1) := by decide +kernel
theorem dX0_findSafe_18 : decode cX0_findSafe 18 = .ok (.invokevirtual 73, 3) := by decide +kernel
theorem dX0_findSafe_21 : decode cX0_findSafe 21 = .ok (.istore_n 2, 1) := by decide +kernel
theorem dX0_findSafe_22 : decode cX0_findSafe 22 = .ok (.iload_n 2, 1) := by decide +kernel
theorem dX0_findSafe_23 : decode cX0_findSafe 23 = .ok (.aload_n 0, 1) := by decide +kernel
theorem dX0_findSafe_24 : decode cX0_findSafe 24 = .ok (.getfield 38, 3) := by decide +kernel
theorem dX0_findSafe_27 : decode cX0_findSafe 27 = .ok (.if_icmp .eq 7, 3) := by decide +kernel
theorem dX0_findSafe_30 : decode cX0_findSafe 30 = .ok (.iconst 1, 1) := by decide +kernel
theorem dX0_findSafe_31 : decode cX0_findSafe 31 = .ok (.goto 4, 3) := by decide +kernel
theorem dX0_findSafe_34 : decode cX0_findSafe 34 = .ok (.iconst 0, 1) := by decide +kernel
theorem dX0_findSafe_35 : decode cX0_findSafe 35 = .ok (.istore_n 1, 1) := by decide +kernel
theorem dX0_findSafe_36 : decode cX0_findSafe 36 = .ok (.aload_n 0, 1) := by decide +kernel
theorem dX0_findSafe_37 : decode cX0_findSafe 37 = .ok (.iload_n 2, 1) := by decide +kernel
theorem dX0_findSafe_38 : decode cX0_findSafe 38 = .ok (.putfield 38, 3) := by decide +kernel
theorem dX0_findSafe_41 : decode cX0_findSafe 41 = .ok (.goto (-32), 3) := by decide +kernel
theorem dX0_findSafe_44 : decode cX0_findSafe 44 = .ok (.return_, 1) := by decide +kernel
abbrev cX0_keepActions : ByteArray := prog_1_method_23_code
def yX0_keepActions : MethodName := ⟨RX0, "keepActions", "()V"⟩
theorem dX0_keepActions_0 : decode cX0_keepActions 0 = .ok (.aload_n 0, 1) := by decide +kernel
theorem dX0_keepActions_1 : decode cX0_keepActions 1 = .ok (.iconst 0, 1) := by decide +kernel
theorem dX0_keepActions_2 : decode cX0_keepActions 2 = .ok (.putfield 77, 3) := by decide +kernel
theorem dX0_keepActions_5 : decode cX0_keepActions 5 = .ok (.iconst 0, 1) := by decide +kernel
theorem dX0_keepActions_6 : decode cX0_keepActions 6 = .ok (.istore_n 1, 1) := by decide +kernel
theorem dX0_keepActions_7 : decode cX0_keepActions 7 = .ok (.iload_n 1, 1) := by decide +kernel
theorem dX0_keepActions_8 : decode cX0_keepActions 8 = .ok (.bipush 24, 2) := by decide +kernel
theorem dX0_keepActions_10 : decode cX0_keepActions 10 = .ok (.if_icmp .ge 33, 3) := by decide +kernel
theorem dX0_keepActions_13 : decode cX0_keepActions 13 = .ok (.aload_n 0, 1) := by decide +kernel
theorem dX0_keepActions_14 : decode cX0_keepActions 14 = .ok (.iload_n 1, 1) := by decide +kernel
theorem dX0_keepActions_15 : decode cX0_keepActions 15 = .ok (.aload_n 0, 1) := by decide +kernel
theorem dX0_keepActions_16 : decode cX0_keepActions 16 = .ok (.getfield 38, 3) := by decide +kernel
theorem dX0_keepActions_19 : decode cX0_keepActions 19 = .ok (.invokevirtual 48, 3) := by decide +kernel
theorem dX0_keepActions_22 : decode cX0_keepActions 22 = .ok (.ifCond .eq 15, 3) := by decide +kernel
theorem dX0_keepActions_25 : decode cX0_keepActions 25 = .ok (.aload_n 0, 1) := by decide +kernel
theorem dX0_keepActions_26 : decode cX0_keepActions 26 = .ok (.dup, 1) := by decide +kernel
theorem dX0_keepActions_27 : decode cX0_keepActions 27 = .ok (.getfield 77, 3) := by decide +kernel
theorem dX0_keepActions_30 : decode cX0_keepActions 30 = .ok (.iconst 1, 1) := by decide +kernel
theorem dX0_keepActions_31 : decode cX0_keepActions 31 = .ok (.iload_n 1, 1) := by decide +kernel
theorem dX0_keepActions_32 : decode cX0_keepActions 32 = .ok (.ishl, 1) := by decide +kernel
theorem dX0_keepActions_33 : decode cX0_keepActions 33 = .ok (.ior, 1) := by decide +kernel
theorem dX0_keepActions_34 : decode cX0_keepActions 34 = .ok (.putfield 77, 3) := by decide +kernel
theorem dX0_keepActions_37 : decode cX0_keepActions 37 = .ok (.iinc 1 1, 3) := by decide +kernel
theorem dX0_keepActions_40 : decode cX0_keepActions 40 = .ok (.goto (-33), 3) := by decide +kernel
theorem dX0_keepActions_43 : decode cX0_keepActions 43 = .ok (.return_, 1) := by decide +kernel
abbrev cX0_ableStates : ByteArray := prog_1_method_24_code
def yX0_ableStates : MethodName := ⟨RX0, "ableStates", "()I"⟩
theorem dX0_ableStates_0 : decode cX0_ableStates 0 = .ok (.aload_n 0, 1) := by decide +kernel
theorem dX0_ableStates_1 : decode cX0_ableStates 1 = .ok (.getfield 28, 3) := by decide +kernel
theorem dX0_ableStates_4 : decode cX0_ableStates 4 = .ok (.istore_n 1, 1) := by decide +kernel
theorem dX0_ableStates_5 : decode cX0_ableStates 5 = .ok (.iconst 0, 1) := by decide +kernel
theorem dX0_ableStates_6 : decode cX0_ableStates 6 = .ok (.istore_n 2, 1) := by decide +kernel
theorem dX0_ableStates_7 : decode cX0_ableStates 7 = .ok (.iload_n 2, 1) := by decide +kernel
theorem dX0_ableStates_8 : decode cX0_ableStates 8 = .ok (.bipush 8, 2) := by decide +kernel
theorem dX0_ableStates_10 : decode cX0_ableStates 10 = .ok (.if_icmp .ge 51, 3) := by decide +kernel
theorem dX0_ableStates_13 : decode cX0_ableStates 13 = .ok (.iconst 0, 1) := by decide +kernel
theorem dX0_ableStates_14 : decode cX0_ableStates 14 = .ok (.istore_n 3, 1) := by decide +kernel
theorem dX0_ableStates_15 : decode cX0_ableStates 15 = .ok (.iload_n 3, 1) := by decide +kernel
theorem dX0_ableStates_16 : decode cX0_ableStates 16 = .ok (.bipush 24, 2) := by decide +kernel
theorem dX0_ableStates_18 : decode cX0_ableStates 18 = .ok (.if_icmp .ge 37, 3) := by decide +kernel
theorem dX0_ableStates_21 : decode cX0_ableStates 21 = .ok (.aload_n 0, 1) := by decide +kernel
theorem dX0_ableStates_22 : decode cX0_ableStates 22 = .ok (.getfield 77, 3) := by decide +kernel
theorem dX0_ableStates_25 : decode cX0_ableStates 25 = .ok (.iload_n 3, 1) := by decide +kernel
theorem dX0_ableStates_26 : decode cX0_ableStates 26 = .ok (.ishr, 1) := by decide +kernel
theorem dX0_ableStates_27 : decode cX0_ableStates 27 = .ok (.iconst 1, 1) := by decide +kernel
theorem dX0_ableStates_28 : decode cX0_ableStates 28 = .ok (.iand, 1) := by decide +kernel
theorem dX0_ableStates_29 : decode cX0_ableStates 29 = .ok (.ifCond .eq 20, 3) := by decide +kernel
theorem dX0_ableStates_32 : decode cX0_ableStates 32 = .ok (.aload_n 0, 1) := by decide +kernel
theorem dX0_ableStates_33 : decode cX0_ableStates 33 = .ok (.iload_n 3, 1) := by decide +kernel
theorem dX0_ableStates_34 : decode cX0_ableStates 34 = .ok (.iload_n 1, 1) := by decide +kernel
theorem dX0_ableStates_35 : decode cX0_ableStates 35 = .ok (.invokevirtual 67, 3) := by decide +kernel
theorem dX0_ableStates_38 : decode cX0_ableStates 38 = .ok (.ifCond .eq 11, 3) := by decide +kernel
theorem dX0_ableStates_41 : decode cX0_ableStates 41 = .ok (.iload_n 1, 1) := by decide +kernel
theorem dX0_ableStates_42 : decode cX0_ableStates 42 = .ok (.iconst 1, 1) := by decide +kernel
theorem dX0_ableStates_43 : decode cX0_ableStates 43 = .ok (.iload_n 3, 1) := by decide +kernel
theorem dX0_ableStates_44 : decode cX0_ableStates 44 = .ok (.iconst 3, 1) := by decide +kernel
theorem dX0_ableStates_45 : decode cX0_ableStates 45 = .ok (.idiv, 1) := by decide +kernel
theorem dX0_ableStates_46 : decode cX0_ableStates 46 = .ok (.ishl, 1) := by decide +kernel
theorem dX0_ableStates_47 : decode cX0_ableStates 47 = .ok (.ior, 1) := by decide +kernel
theorem dX0_ableStates_48 : decode cX0_ableStates 48 = .ok (.istore_n 1, 1) := by decide +kernel
theorem dX0_ableStates_49 : decode cX0_ableStates 49 = .ok (.iinc 3 1, 3) := by decide +kernel
theorem dX0_ableStates_52 : decode cX0_ableStates 52 = .ok (.goto (-37), 3) := by decide +kernel
theorem dX0_ableStates_55 : decode cX0_ableStates 55 = .ok (.iinc 2 1, 3) := by decide +kernel
theorem dX0_ableStates_58 : decode cX0_ableStates 58 = .ok (.goto (-51), 3) := by decide +kernel
theorem dX0_ableStates_61 : decode cX0_ableStates 61 = .ok (.iload_n 1, 1) := by decide +kernel
theorem dX0_ableStates_62 : decode cX0_ableStates 62 = .ok (.aload_n 0, 1) := by decide +kernel
theorem dX0_ableStates_63 : decode cX0_ableStates 63 = .ok (.getfield 38, 3) := by decide +kernel
theorem dX0_ableStates_66 : decode cX0_ableStates 66 = .ok (.aload_n 0, 1) := by decide +kernel
theorem dX0_ableStates_67 : decode cX0_ableStates 67 = .ok (.getfield 28, 3) := by decide +kernel
theorem dX0_ableStates_70 : decode cX0_ableStates 70 = .ok (.ior, 1) := by decide +kernel
theorem dX0_ableStates_71 : decode cX0_ableStates 71 = .ok (.iand, 1) := by decide +kernel
theorem dX0_ableStates_72 : decode cX0_ableStates 72 = .ok (.ireturn, 1) := by decide +kernel
abbrev cX0_safe : ByteArray := prog_1_method_7_code
def yX0_safe : MethodName := ⟨RX0, "safe", "()I"⟩
theorem dX0_safe_0 : decode cX0_safe 0 = .ok (.aload_n 0, 1) := by decide +kernel
theorem dX0_safe_1 : decode cX0_safe 1 = .ok (.invokevirtual 32, 3) := by decide +kernel
theorem dX0_safe_4 : decode cX0_safe 4 = .ok (.aload_n 0, 1) := by decide +kernel
theorem dX0_safe_5 : decode cX0_safe 5 = .ok (.getfield 38, 3) := by decide +kernel
theorem dX0_safe_8 : decode cX0_safe 8 = .ok (.ireturn, 1) := by decide +kernel
abbrev cX0_sure : ByteArray := prog_1_method_8_code
def yX0_sure : MethodName := ⟨RX0, "sure", "()I"⟩
theorem dX0_sure_0 : decode cX0_sure 0 = .ok (.aload_n 0, 1) := by decide +kernel
theorem dX0_sure_1 : decode cX0_sure 1 = .ok (.invokevirtual 32, 3) := by decide +kernel
theorem dX0_sure_4 : decode cX0_sure 4 = .ok (.aload_n 0, 1) := by decide +kernel
theorem dX0_sure_5 : decode cX0_sure 5 = .ok (.getfield 41, 3) := by decide +kernel
theorem dX0_sure_8 : decode cX0_sure 8 = .ok (.ireturn, 1) := by decide +kernel
abbrev cX0_steps : ByteArray := prog_1_method_9_code
def yX0_steps : MethodName := ⟨RX0, "steps", "(I)I"⟩
theorem dX0_steps_0 : decode cX0_steps 0 = .ok (.aload_n 0, 1) := by decide +kernel
theorem dX0_steps_1 : decode cX0_steps 1 = .ok (.iload_n 1, 1) := by decide +kernel
theorem dX0_steps_2 : decode cX0_steps 2 = .ok (.invokevirtual 20, 3) := by decide +kernel
theorem dX0_steps_5 : decode cX0_steps 5 = .ok (.ifCond .ne 5, 3) := by decide +kernel
theorem dX0_steps_8 : decode cX0_steps 8 = .ok (.iconst (-1), 1) := by decide +kernel
theorem dX0_steps_9 : decode cX0_steps 9 = .ok (.ireturn, 1) := by decide +kernel
theorem dX0_steps_10 : decode cX0_steps 10 = .ok (.aload_n 0, 1) := by decide +kernel
theorem dX0_steps_11 : decode cX0_steps 11 = .ok (.invokevirtual 32, 3) := by decide +kernel
theorem dX0_steps_14 : decode cX0_steps 14 = .ok (.aload_n 0, 1) := by decide +kernel
theorem dX0_steps_15 : decode cX0_steps 15 = .ok (.aload_n 0, 1) := by decide +kernel
theorem dX0_steps_16 : decode cX0_steps 16 = .ok (.getfield 41, 3) := by decide +kernel
theorem dX0_steps_19 : decode cX0_steps 19 = .ok (.iload_n 1, 1) := by decide +kernel
theorem dX0_steps_20 : decode cX0_steps 20 = .ok (.invokevirtual 44, 3) := by decide +kernel
theorem dX0_steps_23 : decode cX0_steps 23 = .ok (.ifCond .eq 12, 3) := by decide +kernel
theorem dX0_steps_26 : decode cX0_steps 26 = .ok (.aload_n 0, 1) := by decide +kernel
theorem dX0_steps_27 : decode cX0_steps 27 = .ok (.getfield 13, 3) := by decide +kernel
theorem dX0_steps_30 : decode cX0_steps 30 = .ok (.iload_n 1, 1) := by decide +kernel
theorem dX0_steps_31 : decode cX0_steps 31 = .ok (.baload, 1) := by decide +kernel
theorem dX0_steps_32 : decode cX0_steps 32 = .ok (.goto 5, 3) := by decide +kernel
theorem dX0_steps_35 : decode cX0_steps 35 = .ok (.bipush (-2), 2) := by decide +kernel
theorem dX0_steps_37 : decode cX0_steps 37 = .ok (.ireturn, 1) := by decide +kernel
abbrev cX0_luck : ByteArray := prog_1_method_10_code
def yX0_luck : MethodName := ⟨RX0, "luck", "(I)I"⟩
theorem dX0_luck_0 : decode cX0_luck 0 = .ok (.aload_n 0, 1) := by decide +kernel
theorem dX0_luck_1 : decode cX0_luck 1 = .ok (.iload_n 1, 1) := by decide +kernel
theorem dX0_luck_2 : decode cX0_luck 2 = .ok (.invokevirtual 20, 3) := by decide +kernel
theorem dX0_luck_5 : decode cX0_luck 5 = .ok (.ifCond .ne 5, 3) := by decide +kernel
theorem dX0_luck_8 : decode cX0_luck 8 = .ok (.iconst (-1), 1) := by decide +kernel
theorem dX0_luck_9 : decode cX0_luck 9 = .ok (.ireturn, 1) := by decide +kernel
theorem dX0_luck_10 : decode cX0_luck 10 = .ok (.aload_n 0, 1) := by decide +kernel
theorem dX0_luck_11 : decode cX0_luck 11 = .ok (.invokevirtual 32, 3) := by decide +kernel
theorem dX0_luck_14 : decode cX0_luck 14 = .ok (.aload_n 0, 1) := by decide +kernel
theorem dX0_luck_15 : decode cX0_luck 15 = .ok (.aload_n 0, 1) := by decide +kernel
theorem dX0_luck_16 : decode cX0_luck 16 = .ok (.getfield 35, 3) := by decide +kernel
theorem dX0_luck_19 : decode cX0_luck 19 = .ok (.iload_n 1, 1) := by decide +kernel
theorem dX0_luck_20 : decode cX0_luck 20 = .ok (.invokevirtual 44, 3) := by decide +kernel
theorem dX0_luck_23 : decode cX0_luck 23 = .ok (.ifCond .eq 12, 3) := by decide +kernel
theorem dX0_luck_26 : decode cX0_luck 26 = .ok (.aload_n 0, 1) := by decide +kernel
theorem dX0_luck_27 : decode cX0_luck 27 = .ok (.getfield 17, 3) := by decide +kernel
theorem dX0_luck_30 : decode cX0_luck 30 = .ok (.iload_n 1, 1) := by decide +kernel
theorem dX0_luck_31 : decode cX0_luck 31 = .ok (.baload, 1) := by decide +kernel
theorem dX0_luck_32 : decode cX0_luck 32 = .ok (.goto 5, 3) := by decide +kernel
theorem dX0_luck_35 : decode cX0_luck 35 = .ok (.bipush (-2), 2) := by decide +kernel
theorem dX0_luck_37 : decode cX0_luck 37 = .ok (.ireturn, 1) := by decide +kernel
abbrev cX0_safeActions : ByteArray := prog_1_method_11_code
def yX0_safeActions : MethodName := ⟨RX0, "safeActions", "(I)I"⟩
theorem dX0_safeActions_0 : decode cX0_safeActions 0 = .ok (.aload_n 0, 1) := by decide +kernel
theorem dX0_safeActions_1 : decode cX0_safeActions 1 = .ok (.iload_n 1, 1) := by decide +kernel
theorem dX0_safeActions_2 : decode cX0_safeActions 2 = .ok (.invokevirtual 20, 3) := by decide +kernel
theorem dX0_safeActions_5 : decode cX0_safeActions 5 = .ok (.ifCond .ne 5, 3) := by decide +kernel
theorem dX0_safeActions_8 : decode cX0_safeActions 8 = .ok (.iconst 0, 1) := by decide +kernel
theorem dX0_safeActions_9 : decode cX0_safeActions 9 = .ok (.ireturn, 1) := by decide +kernel
theorem dX0_safeActions_10 : decode cX0_safeActions 10 = .ok (.aload_n 0, 1) := by decide +kernel
theorem dX0_safeActions_11 : decode cX0_safeActions 11 = .ok (.invokevirtual 32, 3) := by decide +kernel
theorem dX0_safeActions_14 : decode cX0_safeActions 14 = .ok (.aload_n 0, 1) := by decide +kernel
theorem dX0_safeActions_15 : decode cX0_safeActions 15 = .ok (.aload_n 0, 1) := by decide +kernel
theorem dX0_safeActions_16 : decode cX0_safeActions 16 = .ok (.getfield 28, 3) := by decide +kernel
theorem dX0_safeActions_19 : decode cX0_safeActions 19 = .ok (.iload_n 1, 1) := by decide +kernel
theorem dX0_safeActions_20 : decode cX0_safeActions 20 = .ok (.invokevirtual 44, 3) := by decide +kernel
theorem dX0_safeActions_23 : decode cX0_safeActions 23 = .ok (.ifCond .ne 15, 3) := by decide +kernel
theorem dX0_safeActions_26 : decode cX0_safeActions 26 = .ok (.aload_n 0, 1) := by decide +kernel
theorem dX0_safeActions_27 : decode cX0_safeActions 27 = .ok (.aload_n 0, 1) := by decide +kernel
theorem dX0_safeActions_28 : decode cX0_safeActions 28 = .ok (.getfield 38, 3) := by decide +kernel
theorem dX0_safeActions_31 : decode cX0_safeActions 31 = .ok (.iload_n 1, 1) := by decide +kernel
theorem dX0_safeActions_32 : decode cX0_safeActions 32 = .ok (.invokevirtual 44, 3) := by decide +kernel
theorem dX0_safeActions_35 : decode cX0_safeActions 35 = .ok (.ifCond .ne 5, 3) := by decide +kernel
theorem dX0_safeActions_38 : decode cX0_safeActions 38 = .ok (.iconst 0, 1) := by decide +kernel
theorem dX0_safeActions_39 : decode cX0_safeActions 39 = .ok (.ireturn, 1) := by decide +kernel
theorem dX0_safeActions_40 : decode cX0_safeActions 40 = .ok (.iconst 0, 1) := by decide +kernel
theorem dX0_safeActions_41 : decode cX0_safeActions 41 = .ok (.istore_n 2, 1) := by decide +kernel
theorem dX0_safeActions_42 : decode cX0_safeActions 42 = .ok (.iconst 0, 1) := by decide +kernel
theorem dX0_safeActions_43 : decode cX0_safeActions 43 = .ok (.istore_n 3, 1) := by decide +kernel
theorem dX0_safeActions_44 : decode cX0_safeActions 44 = .ok (.iload_n 3, 1) := by decide +kernel
theorem dX0_safeActions_45 : decode cX0_safeActions 45 = .ok (.iconst 3, 1) := by decide +kernel
theorem dX0_safeActions_46 : decode cX0_safeActions 46 = .ok (.if_icmp .ge 31, 3) := by decide +kernel
theorem dX0_safeActions_49 : decode cX0_safeActions 49 = .ok (.aload_n 0, 1) := by decide +kernel
theorem dX0_safeActions_50 : decode cX0_safeActions 50 = .ok (.iconst 3, 1) := by decide +kernel
theorem dX0_safeActions_51 : decode cX0_safeActions 51 = .ok (.iload_n 1, 1) := by decide +kernel
theorem dX0_safeActions_52 : decode cX0_safeActions 52 = .ok (.imul, 1) := by decide +kernel
theorem dX0_safeActions_53 : decode cX0_safeActions 53 = .ok (.iload_n 3, 1) := by decide +kernel
theorem dX0_safeActions_54 : decode cX0_safeActions 54 = .ok (.iadd, 1) := by decide +kernel
theorem dX0_safeActions_55 : decode cX0_safeActions 55 = .ok (.aload_n 0, 1) := by decide +kernel
theorem dX0_safeActions_56 : decode cX0_safeActions 56 = .ok (.getfield 38, 3) := by decide +kernel
theorem dX0_safeActions_59 : decode cX0_safeActions 59 = .ok (.invokevirtual 48, 3) := by decide +kernel
theorem dX0_safeActions_62 : decode cX0_safeActions 62 = .ok (.ifCond .eq 9, 3) := by decide +kernel
theorem dX0_safeActions_65 : decode cX0_safeActions 65 = .ok (.iload_n 2, 1) := by decide +kernel
theorem dX0_safeActions_66 : decode cX0_safeActions 66 = .ok (.iconst 1, 1) := by decide +kernel
theorem dX0_safeActions_67 : decode cX0_safeActions 67 = .ok (.iload_n 3, 1) := by decide +kernel
theorem dX0_safeActions_68 : decode cX0_safeActions 68 = .ok (.ishl, 1) := by decide +kernel
theorem dX0_safeActions_69 : decode cX0_safeActions 69 = .ok (.ior, 1) := by decide +kernel
theorem dX0_safeActions_70 : decode cX0_safeActions 70 = .ok (.istore_n 2, 1) := by decide +kernel
theorem dX0_safeActions_71 : decode cX0_safeActions 71 = .ok (.iinc 3 1, 3) := by decide +kernel
theorem dX0_safeActions_74 : decode cX0_safeActions 74 = .ok (.goto (-30), 3) := by decide +kernel
theorem dX0_safeActions_77 : decode cX0_safeActions 77 = .ok (.iload_n 2, 1) := by decide +kernel
theorem dX0_safeActions_78 : decode cX0_safeActions 78 = .ok (.ireturn, 1) := by decide +kernel
abbrev cX0_sureAction : ByteArray := prog_1_method_12_code
def yX0_sureAction : MethodName := ⟨RX0, "sureAction", "(I)I"⟩
theorem dX0_sureAction_0 : decode cX0_sureAction 0 = .ok (.aload_n 0, 1) := by decide +kernel
theorem dX0_sureAction_1 : decode cX0_sureAction 1 = .ok (.iload_n 1, 1) := by decide +kernel
theorem dX0_sureAction_2 : decode cX0_sureAction 2 = .ok (.invokevirtual 20, 3) := by decide +kernel
theorem dX0_sureAction_5 : decode cX0_sureAction 5 = .ok (.ifCond .ne 6, 3) := by decide +kernel
theorem dX0_sureAction_8 : decode cX0_sureAction 8 = .ok (.bipush (-2), 2) := by decide +kernel
theorem dX0_sureAction_10 : decode cX0_sureAction 10 = .ok (.ireturn, 1) := by decide +kernel
theorem dX0_sureAction_11 : decode cX0_sureAction 11 = .ok (.aload_n 0, 1) := by decide +kernel
theorem dX0_sureAction_12 : decode cX0_sureAction 12 = .ok (.invokevirtual 32, 3) := by decide +kernel
theorem dX0_sureAction_15 : decode cX0_sureAction 15 = .ok (.aload_n 0, 1) := by decide +kernel
theorem dX0_sureAction_16 : decode cX0_sureAction 16 = .ok (.aload_n 0, 1) := by decide +kernel
theorem dX0_sureAction_17 : decode cX0_sureAction 17 = .ok (.getfield 28, 3) := by decide +kernel
theorem dX0_sureAction_20 : decode cX0_sureAction 20 = .ok (.iload_n 1, 1) := by decide +kernel
theorem dX0_sureAction_21 : decode cX0_sureAction 21 = .ok (.invokevirtual 44, 3) := by decide +kernel
theorem dX0_sureAction_24 : decode cX0_sureAction 24 = .ok (.ifCond .ne 15, 3) := by decide +kernel
theorem dX0_sureAction_27 : decode cX0_sureAction 27 = .ok (.aload_n 0, 1) := by decide +kernel
theorem dX0_sureAction_28 : decode cX0_sureAction 28 = .ok (.aload_n 0, 1) := by decide +kernel
theorem dX0_sureAction_29 : decode cX0_sureAction 29 = .ok (.getfield 41, 3) := by decide +kernel
theorem dX0_sureAction_32 : decode cX0_sureAction 32 = .ok (.iload_n 1, 1) := by decide +kernel
theorem dX0_sureAction_33 : decode cX0_sureAction 33 = .ok (.invokevirtual 44, 3) := by decide +kernel
theorem dX0_sureAction_36 : decode cX0_sureAction 36 = .ok (.ifCond .ne 6, 3) := by decide +kernel
theorem dX0_sureAction_39 : decode cX0_sureAction 39 = .ok (.bipush (-2), 2) := by decide +kernel
theorem dX0_sureAction_41 : decode cX0_sureAction 41 = .ok (.ireturn, 1) := by decide +kernel
theorem dX0_sureAction_42 : decode cX0_sureAction 42 = .ok (.iconst 0, 1) := by decide +kernel
theorem dX0_sureAction_43 : decode cX0_sureAction 43 = .ok (.istore_n 2, 1) := by decide +kernel
theorem dX0_sureAction_44 : decode cX0_sureAction 44 = .ok (.iload_n 2, 1) := by decide +kernel
theorem dX0_sureAction_45 : decode cX0_sureAction 45 = .ok (.iconst 3, 1) := by decide +kernel
theorem dX0_sureAction_46 : decode cX0_sureAction 46 = .ok (.if_icmp .ge 29, 3) := by decide +kernel
theorem dX0_sureAction_49 : decode cX0_sureAction 49 = .ok (.aload_n 0, 1) := by decide +kernel
theorem dX0_sureAction_50 : decode cX0_sureAction 50 = .ok (.iconst 3, 1) := by decide +kernel
theorem dX0_sureAction_51 : decode cX0_sureAction 51 = .ok (.iload_n 1, 1) := by decide +kernel
theorem dX0_sureAction_52 : decode cX0_sureAction 52 = .ok (.imul, 1) := by decide +kernel
theorem dX0_sureAction_53 : decode cX0_sureAction 53 = .ok (.iload_n 2, 1) := by decide +kernel
theorem dX0_sureAction_54 : decode cX0_sureAction 54 = .ok (.iadd, 1) := by decide +kernel
theorem dX0_sureAction_55 : decode cX0_sureAction 55 = .ok (.aload_n 0, 1) := by decide +kernel
theorem dX0_sureAction_56 : decode cX0_sureAction 56 = .ok (.getfield 13, 3) := by decide +kernel
theorem dX0_sureAction_59 : decode cX0_sureAction 59 = .ok (.iload_n 1, 1) := by decide +kernel
theorem dX0_sureAction_60 : decode cX0_sureAction 60 = .ok (.baload, 1) := by decide +kernel
theorem dX0_sureAction_61 : decode cX0_sureAction 61 = .ok (.invokevirtual 51, 3) := by decide +kernel
theorem dX0_sureAction_64 : decode cX0_sureAction 64 = .ok (.ifCond .eq 5, 3) := by decide +kernel
theorem dX0_sureAction_67 : decode cX0_sureAction 67 = .ok (.iload_n 2, 1) := by decide +kernel
theorem dX0_sureAction_68 : decode cX0_sureAction 68 = .ok (.ireturn, 1) := by decide +kernel
theorem dX0_sureAction_69 : decode cX0_sureAction 69 = .ok (.iinc 2 1, 3) := by decide +kernel
theorem dX0_sureAction_72 : decode cX0_sureAction 72 = .ok (.goto (-28), 3) := by decide +kernel
theorem dX0_sureAction_75 : decode cX0_sureAction 75 = .ok (.bipush (-2), 2) := by decide +kernel
theorem dX0_sureAction_77 : decode cX0_sureAction 77 = .ok (.ireturn, 1) := by decide +kernel
abbrev cX0_keepsTo : ByteArray := prog_1_method_13_code
def yX0_keepsTo : MethodName := ⟨RX0, "keepsTo", "(II)Z"⟩
theorem dX0_keepsTo_0 : decode cX0_keepsTo 0 = .ok (.aload_n 0, 1) := by decide +kernel
theorem dX0_keepsTo_1 : decode cX0_keepsTo 1 = .ok (.iload_n 1, 1) := by decide +kernel
theorem dX0_keepsTo_2 : decode cX0_keepsTo 2 = .ok (.aload_n 0, 1) := by decide +kernel
theorem dX0_keepsTo_3 : decode cX0_keepsTo 3 = .ok (.getfield 41, 3) := by decide +kernel
theorem dX0_keepsTo_6 : decode cX0_keepsTo 6 = .ok (.invokevirtual 48, 3) := by decide +kernel
theorem dX0_keepsTo_9 : decode cX0_keepsTo 9 = .ok (.ifCond .ne 5, 3) := by decide +kernel
theorem dX0_keepsTo_12 : decode cX0_keepsTo 12 = .ok (.iconst 0, 1) := by decide +kernel
theorem dX0_keepsTo_13 : decode cX0_keepsTo 13 = .ok (.ireturn, 1) := by decide +kernel
theorem dX0_keepsTo_14 : decode cX0_keepsTo 14 = .ok (.iconst 0, 1) := by decide +kernel
theorem dX0_keepsTo_15 : decode cX0_keepsTo 15 = .ok (.istore_n 3, 1) := by decide +kernel
theorem dX0_keepsTo_16 : decode cX0_keepsTo 16 = .ok (.iload_n 3, 1) := by decide +kernel
theorem dX0_keepsTo_17 : decode cX0_keepsTo 17 = .ok (.bipush 8, 2) := by decide +kernel
theorem dX0_keepsTo_19 : decode cX0_keepsTo 19 = .ok (.if_icmp .ge 35, 3) := by decide +kernel
theorem dX0_keepsTo_22 : decode cX0_keepsTo 22 = .ok (.aload_n 0, 1) := by decide +kernel
theorem dX0_keepsTo_23 : decode cX0_keepsTo 23 = .ok (.aload_n 0, 1) := by decide +kernel
theorem dX0_keepsTo_24 : decode cX0_keepsTo 24 = .ok (.getfield 7, 3) := by decide +kernel
theorem dX0_keepsTo_27 : decode cX0_keepsTo 27 = .ok (.iload_n 1, 1) := by decide +kernel
theorem dX0_keepsTo_28 : decode cX0_keepsTo 28 = .ok (.saload, 1) := by decide +kernel
theorem dX0_keepsTo_29 : decode cX0_keepsTo 29 = .ok (.iload_n 3, 1) := by decide +kernel
theorem dX0_keepsTo_30 : decode cX0_keepsTo 30 = .ok (.invokevirtual 44, 3) := by decide +kernel
theorem dX0_keepsTo_33 : decode cX0_keepsTo 33 = .ok (.ifCond .eq 15, 3) := by decide +kernel
theorem dX0_keepsTo_36 : decode cX0_keepsTo 36 = .ok (.aload_n 0, 1) := by decide +kernel
theorem dX0_keepsTo_37 : decode cX0_keepsTo 37 = .ok (.getfield 13, 3) := by decide +kernel
theorem dX0_keepsTo_40 : decode cX0_keepsTo 40 = .ok (.iload_n 3, 1) := by decide +kernel
theorem dX0_keepsTo_41 : decode cX0_keepsTo 41 = .ok (.baload, 1) := by decide +kernel
theorem dX0_keepsTo_42 : decode cX0_keepsTo 42 = .ok (.iload_n 2, 1) := by decide +kernel
theorem dX0_keepsTo_43 : decode cX0_keepsTo 43 = .ok (.if_icmp .lt 5, 3) := by decide +kernel
theorem dX0_keepsTo_46 : decode cX0_keepsTo 46 = .ok (.iconst 0, 1) := by decide +kernel
theorem dX0_keepsTo_47 : decode cX0_keepsTo 47 = .ok (.ireturn, 1) := by decide +kernel
theorem dX0_keepsTo_48 : decode cX0_keepsTo 48 = .ok (.iinc 3 1, 3) := by decide +kernel
theorem dX0_keepsTo_51 : decode cX0_keepsTo 51 = .ok (.goto (-35), 3) := by decide +kernel
theorem dX0_keepsTo_54 : decode cX0_keepsTo 54 = .ok (.iconst 1, 1) := by decide +kernel
theorem dX0_keepsTo_55 : decode cX0_keepsTo 55 = .ok (.ireturn, 1) := by decide +kernel
abbrev cX0_prune : ByteArray := prog_1_method_14_code
def yX0_prune : MethodName := ⟨RX0, "prune", "()I"⟩
theorem dX0_prune_0 : decode cX0_prune 0 = .ok (.aload_n 0, 1) := by decide +kernel
theorem dX0_prune_1 : decode cX0_prune 1 = .ok (.invokevirtual 32, 3) := by decide +kernel
theorem dX0_prune_4 : decode cX0_prune 4 = .ok (.iconst 0, 1) := by decide +kernel
theorem dX0_prune_5 : decode cX0_prune 5 = .ok (.istore_n 1, 1) := by decide +kernel
theorem dX0_prune_6 : decode cX0_prune 6 = .ok (.iconst 0, 1) := by decide +kernel
theorem dX0_prune_7 : decode cX0_prune 7 = .ok (.istore_n 2, 1) := by decide +kernel
theorem dX0_prune_8 : decode cX0_prune 8 = .ok (.iload_n 2, 1) := by decide +kernel
theorem dX0_prune_9 : decode cX0_prune 9 = .ok (.bipush 24, 2) := by decide +kernel
theorem dX0_prune_11 : decode cX0_prune 11 = .ok (.if_icmp .ge 43, 3) := by decide +kernel
theorem dX0_prune_14 : decode cX0_prune 14 = .ok (.aload_n 0, 1) := by decide +kernel
theorem dX0_prune_15 : decode cX0_prune 15 = .ok (.getfield 7, 3) := by decide +kernel
theorem dX0_prune_18 : decode cX0_prune 18 = .ok (.iload_n 2, 1) := by decide +kernel
theorem dX0_prune_19 : decode cX0_prune 19 = .ok (.saload, 1) := by decide +kernel
theorem dX0_prune_20 : decode cX0_prune 20 = .ok (.ifCond .eq 28, 3) := by decide +kernel
theorem dX0_prune_23 : decode cX0_prune 23 = .ok (.aload_n 0, 1) := by decide +kernel
theorem dX0_prune_24 : decode cX0_prune 24 = .ok (.iload_n 2, 1) := by decide +kernel
theorem dX0_prune_25 : decode cX0_prune 25 = .ok (.aload_n 0, 1) := by decide +kernel
theorem dX0_prune_26 : decode cX0_prune 26 = .ok (.getfield 38, 3) := by decide +kernel
theorem dX0_prune_29 : decode cX0_prune 29 = .ok (.invokevirtual 48, 3) := by decide +kernel
theorem dX0_prune_32 : decode cX0_prune 32 = .ok (.ifCond .eq 6, 3) := by decide +kernel
theorem dX0_prune_35 : decode cX0_prune 35 = .ok (.goto 13, 3) := by decide +kernel
theorem dX0_prune_38 : decode cX0_prune 38 = .ok (.aload_n 0, 1) := by decide +kernel
theorem dX0_prune_39 : decode cX0_prune 39 = .ok (.getfield 7, 3) := by decide +kernel
theorem dX0_prune_42 : decode cX0_prune 42 = .ok (.iload_n 2, 1) := by decide +kernel
theorem dX0_prune_43 : decode cX0_prune 43 = .ok (.iconst 0, 1) := by decide +kernel
theorem dX0_prune_44 : decode cX0_prune 44 = .ok (.sastore, 1) := by decide +kernel
theorem dX0_prune_45 : decode cX0_prune 45 = .ok (.iinc 1 1, 3) := by decide +kernel
theorem dX0_prune_48 : decode cX0_prune 48 = .ok (.iinc 2 1, 3) := by decide +kernel
theorem dX0_prune_51 : decode cX0_prune 51 = .ok (.goto (-43), 3) := by decide +kernel
theorem dX0_prune_54 : decode cX0_prune 54 = .ok (.aload_n 0, 1) := by decide +kernel
theorem dX0_prune_55 : decode cX0_prune 55 = .ok (.iconst 0, 1) := by decide +kernel
theorem dX0_prune_56 : decode cX0_prune 56 = .ok (.putfield 24, 3) := by decide +kernel
theorem dX0_prune_59 : decode cX0_prune 59 = .ok (.iload_n 1, 1) := by decide +kernel
theorem dX0_prune_60 : decode cX0_prune 60 = .ok (.ireturn, 1) := by decide +kernel
abbrev cX0_hopeful : ByteArray := prog_1_method_15_code
def yX0_hopeful : MethodName := ⟨RX0, "hopeful", "()I"⟩
theorem dX0_hopeful_0 : decode cX0_hopeful 0 = .ok (.aload_n 0, 1) := by decide +kernel
theorem dX0_hopeful_1 : decode cX0_hopeful 1 = .ok (.invokevirtual 32, 3) := by decide +kernel
theorem dX0_hopeful_4 : decode cX0_hopeful 4 = .ok (.aload_n 0, 1) := by decide +kernel
theorem dX0_hopeful_5 : decode cX0_hopeful 5 = .ok (.getfield 38, 3) := by decide +kernel
theorem dX0_hopeful_8 : decode cX0_hopeful 8 = .ok (.aload_n 0, 1) := by decide +kernel
theorem dX0_hopeful_9 : decode cX0_hopeful 9 = .ok (.getfield 41, 3) := by decide +kernel
theorem dX0_hopeful_12 : decode cX0_hopeful 12 = .ok (.iconst (-1), 1) := by decide +kernel
theorem dX0_hopeful_13 : decode cX0_hopeful 13 = .ok (.ixor, 1) := by decide +kernel
theorem dX0_hopeful_14 : decode cX0_hopeful 14 = .ok (.iand, 1) := by decide +kernel
theorem dX0_hopeful_15 : decode cX0_hopeful 15 = .ok (.istore_n 1, 1) := by decide +kernel
theorem dX0_hopeful_16 : decode cX0_hopeful 16 = .ok (.iconst 0, 1) := by decide +kernel
theorem dX0_hopeful_17 : decode cX0_hopeful 17 = .ok (.istore_n 2, 1) := by decide +kernel
theorem dX0_hopeful_18 : decode cX0_hopeful 18 = .ok (.iconst 0, 1) := by decide +kernel
theorem dX0_hopeful_19 : decode cX0_hopeful 19 = .ok (.istore_n 3, 1) := by decide +kernel
theorem dX0_hopeful_20 : decode cX0_hopeful 20 = .ok (.iload_n 3, 1) := by decide +kernel
theorem dX0_hopeful_21 : decode cX0_hopeful 21 = .ok (.bipush 8, 2) := by decide +kernel
theorem dX0_hopeful_23 : decode cX0_hopeful 23 = .ok (.if_icmp .ge 21, 3) := by decide +kernel
theorem dX0_hopeful_26 : decode cX0_hopeful 26 = .ok (.aload_n 0, 1) := by decide +kernel
theorem dX0_hopeful_27 : decode cX0_hopeful 27 = .ok (.iload_n 1, 1) := by decide +kernel
theorem dX0_hopeful_28 : decode cX0_hopeful 28 = .ok (.iload_n 3, 1) := by decide +kernel
theorem dX0_hopeful_29 : decode cX0_hopeful 29 = .ok (.invokevirtual 44, 3) := by decide +kernel
theorem dX0_hopeful_32 : decode cX0_hopeful 32 = .ok (.ifCond .eq 6, 3) := by decide +kernel
theorem dX0_hopeful_35 : decode cX0_hopeful 35 = .ok (.iinc 2 1, 3) := by decide +kernel
theorem dX0_hopeful_38 : decode cX0_hopeful 38 = .ok (.iinc 3 1, 3) := by decide +kernel
theorem dX0_hopeful_41 : decode cX0_hopeful 41 = .ok (.goto (-21), 3) := by decide +kernel
theorem dX0_hopeful_44 : decode cX0_hopeful 44 = .ok (.iload_n 2, 1) := by decide +kernel
theorem dX0_hopeful_45 : decode cX0_hopeful 45 = .ok (.ireturn, 1) := by decide +kernel
theorem q20 : (Jvm.Cond.initialized "CyclicPlanner") ∈ lw_all := lw_g (lw_at lw_m0 1 rfl) rfl
theorem q23 : (Jvm.Cond.instantiable "CyclicPlanner" (9 : Nat)) ∈ lw_all := lw_g (lw_at lw_m0 4 rfl) rfl
theorem q25 : (Jvm.Cond.instanceMethod ({ cls := "CyclicPlanner", name := "<init>", desc := "()V" } : Jvm.MethodName)) ∈ lw_all := lw_g (lw_at lw_m0 6 rfl) rfl
theorem q26 : (Jvm.Cond.code ({ cls := "CyclicPlanner", name := "<init>", desc := "()V" } : Jvm.MethodName) prog_1_method_1_code (1 : Nat) (Option.none : Option Jvm.ClassFile.FieldType)) ∈ lw_all := lw_g (lw_at lw_m0 7 rfl) rfl
theorem q27 : (Jvm.Cond.methodLink "CyclicPlanner" (1 : Nat) ({ cls := "java/lang/Object", name := "<init>", desc := "()V" } : Jvm.MethodName)) ∈ lw_all := lw_g (lw_at lw_m0 8 rfl) rfl
theorem q30 : (Jvm.Cond.fieldLink "CyclicPlanner" (7 : Nat) "CyclicPlanner" "outcomes" "[S") ∈ lw_all := lw_g (lw_at lw_m0 11 rfl) rfl
theorem q31 : (Jvm.Cond.fieldLink "CyclicPlanner" (28 : Nat) "CyclicPlanner" "goalSet" "I") ∈ lw_all := lw_g (lw_at lw_m0 12 rfl) rfl
theorem q32 : (Jvm.Cond.fieldLink "CyclicPlanner" (24 : Nat) "CyclicPlanner" "known" "Z") ∈ lw_all := lw_g (lw_at lw_m0 13 rfl) rfl
theorem q33 : (Jvm.Cond.fieldLink "CyclicPlanner" (35 : Nat) "CyclicPlanner" "weakSet" "I") ∈ lw_all := lw_g (lw_at lw_m0 14 rfl) rfl
theorem q34 : (Jvm.Cond.fieldLink "CyclicPlanner" (38 : Nat) "CyclicPlanner" "safeSet" "I") ∈ lw_all := lw_g (lw_at lw_m0 15 rfl) rfl
theorem q35 : (Jvm.Cond.fieldLink "CyclicPlanner" (41 : Nat) "CyclicPlanner" "sureSet" "I") ∈ lw_all := lw_g (lw_at lw_m0 16 rfl) rfl
theorem q36 : (Jvm.Cond.fieldLink "CyclicPlanner" (13 : Nat) "CyclicPlanner" "sureLayer" "[B") ∈ lw_all := lw_g (lw_at lw_m0 17 rfl) rfl
theorem q37 : (Jvm.Cond.fieldLink "CyclicPlanner" (17 : Nat) "CyclicPlanner" "weakLayer" "[B") ∈ lw_all := lw_g (lw_at lw_m0 18 rfl) rfl
theorem q38 : (Jvm.Cond.fieldLink "CyclicPlanner" (77 : Nat) "CyclicPlanner" "leftActions" "I") ∈ lw_all := lw_g (lw_at lw_m0 19 rfl) rfl
theorem q39 : (Jvm.Cond.laysFinal "CyclicPlanner" "CyclicPlanner" "outcomes" "[S") ∈ lw_all := lw_g (lw_at lw_m0 20 rfl) rfl
theorem q40 : (Jvm.Cond.soleField "CyclicPlanner" "outcomes") ∈ lw_all := lw_g (lw_at lw_m0 21 rfl) rfl
theorem q41 : (Jvm.Cond.lays "CyclicPlanner" "CyclicPlanner" "goalSet" "I") ∈ lw_all := lw_g (lw_at lw_m0 22 rfl) rfl
theorem q42 : (Jvm.Cond.soleField "CyclicPlanner" "goalSet") ∈ lw_all := lw_g (lw_at lw_m0 23 rfl) rfl
theorem q43 : (Jvm.Cond.lays "CyclicPlanner" "CyclicPlanner" "known" "Z") ∈ lw_all := lw_g (lw_at lw_m0 24 rfl) rfl
theorem q44 : (Jvm.Cond.soleField "CyclicPlanner" "known") ∈ lw_all := lw_g (lw_at lw_m0 25 rfl) rfl
theorem q45 : (Jvm.Cond.lays "CyclicPlanner" "CyclicPlanner" "weakSet" "I") ∈ lw_all := lw_g (lw_at lw_m0 26 rfl) rfl
theorem q46 : (Jvm.Cond.soleField "CyclicPlanner" "weakSet") ∈ lw_all := lw_g (lw_at lw_m0 27 rfl) rfl
theorem q47 : (Jvm.Cond.lays "CyclicPlanner" "CyclicPlanner" "safeSet" "I") ∈ lw_all := lw_g (lw_at lw_m0 28 rfl) rfl
theorem q48 : (Jvm.Cond.soleField "CyclicPlanner" "safeSet") ∈ lw_all := lw_g (lw_at lw_m0 29 rfl) rfl
theorem q49 : (Jvm.Cond.lays "CyclicPlanner" "CyclicPlanner" "sureSet" "I") ∈ lw_all := lw_g (lw_at lw_m0 30 rfl) rfl
theorem q50 : (Jvm.Cond.soleField "CyclicPlanner" "sureSet") ∈ lw_all := lw_g (lw_at lw_m0 31 rfl) rfl
theorem q51 : (Jvm.Cond.laysFinal "CyclicPlanner" "CyclicPlanner" "sureLayer" "[B") ∈ lw_all := lw_g (lw_at lw_m0 32 rfl) rfl
theorem q52 : (Jvm.Cond.soleField "CyclicPlanner" "sureLayer") ∈ lw_all := lw_g (lw_at lw_m0 33 rfl) rfl
theorem q53 : (Jvm.Cond.laysFinal "CyclicPlanner" "CyclicPlanner" "weakLayer" "[B") ∈ lw_all := lw_g (lw_at lw_m0 34 rfl) rfl
theorem q54 : (Jvm.Cond.soleField "CyclicPlanner" "weakLayer") ∈ lw_all := lw_g (lw_at lw_m0 35 rfl) rfl
theorem q55 : (Jvm.Cond.lays "CyclicPlanner" "CyclicPlanner" "leftActions" "I") ∈ lw_all := lw_g (lw_at lw_m0 36 rfl) rfl
theorem q56 : (Jvm.Cond.soleField "CyclicPlanner" "leftActions") ∈ lw_all := lw_g (lw_at lw_m0 37 rfl) rfl
theorem q57 : (Jvm.Cond.superclass "CyclicPlanner" "java/lang/Object") ∈ lw_all := lw_g (lw_at lw_m0 38 rfl) rfl
theorem q61 : (Jvm.Cond.instanceMethod ({ cls := "CyclicPlanner", name := "action", desc := "(III)Z" } : Jvm.MethodName)) ∈ lw_all := lw_g (lw_at lw_m0 42 rfl) rfl
theorem q62 : (Jvm.Cond.selects "CyclicPlanner" ({ cls := "CyclicPlanner", name := "action", desc := "(III)Z" } : Jvm.MethodName) ({ cls := "CyclicPlanner", name := "action", desc := "(III)Z" } : Jvm.MethodName)) ∈ lw_all := lw_g (lw_at lw_m0 43 rfl) rfl
theorem q63 : (Jvm.Cond.code ({ cls := "CyclicPlanner", name := "action", desc := "(III)Z" } : Jvm.MethodName) prog_1_method_2_code (4 : Nat) (Option.some Jvm.ClassFile.FieldType.boolean)) ∈ lw_all := lw_g (lw_at lw_m0 44 rfl) rfl
theorem q64 : (Jvm.Cond.methodLink "CyclicPlanner" (20 : Nat) ({ cls := "CyclicPlanner", name := "isState", desc := "(I)Z" } : Jvm.MethodName)) ∈ lw_all := lw_g (lw_at lw_m0 45 rfl) rfl
theorem q65 : (Jvm.Cond.privateMethod ({ cls := "CyclicPlanner", name := "isState", desc := "(I)Z" } : Jvm.MethodName)) ∈ lw_tbl := lw_at lw_m0 46 rfl
theorem q66 : (Jvm.Cond.instanceMethod ({ cls := "CyclicPlanner", name := "isState", desc := "(I)Z" } : Jvm.MethodName)) ∈ lw_all := lw_g (lw_at lw_m0 47 rfl) rfl
theorem q67 : (Jvm.Cond.code ({ cls := "CyclicPlanner", name := "isState", desc := "(I)Z" } : Jvm.MethodName) prog_1_method_4_code (2 : Nat) (Option.some Jvm.ClassFile.FieldType.boolean)) ∈ lw_all := lw_g (lw_at lw_m0 48 rfl) rfl
theorem q69 : (Jvm.Cond.instanceMethod ({ cls := "CyclicPlanner", name := "goals", desc := "(I)Z" } : Jvm.MethodName)) ∈ lw_all := lw_g (lw_at lw_m0 50 rfl) rfl
theorem q70 : (Jvm.Cond.selects "CyclicPlanner" ({ cls := "CyclicPlanner", name := "goals", desc := "(I)Z" } : Jvm.MethodName) ({ cls := "CyclicPlanner", name := "goals", desc := "(I)Z" } : Jvm.MethodName)) ∈ lw_all := lw_g (lw_at lw_m0 51 rfl) rfl
theorem q71 : (Jvm.Cond.code ({ cls := "CyclicPlanner", name := "goals", desc := "(I)Z" } : Jvm.MethodName) prog_1_method_3_code (2 : Nat) (Option.some Jvm.ClassFile.FieldType.boolean)) ∈ lw_all := lw_g (lw_at lw_m0 52 rfl) rfl
theorem q73 : (Jvm.Cond.instanceMethod ({ cls := "CyclicPlanner", name := "weak", desc := "()I" } : Jvm.MethodName)) ∈ lw_all := lw_g (lw_at lw_m0 54 rfl) rfl
theorem q74 : (Jvm.Cond.selects "CyclicPlanner" ({ cls := "CyclicPlanner", name := "weak", desc := "()I" } : Jvm.MethodName) ({ cls := "CyclicPlanner", name := "weak", desc := "()I" } : Jvm.MethodName)) ∈ lw_all := lw_g (lw_at lw_m0 55 rfl) rfl
theorem q75 : (Jvm.Cond.code ({ cls := "CyclicPlanner", name := "weak", desc := "()I" } : Jvm.MethodName) prog_1_method_6_code (1 : Nat) (Option.some Jvm.ClassFile.FieldType.int)) ∈ lw_all := lw_g (lw_at lw_m0 56 rfl) rfl
theorem q76 : (Jvm.Cond.methodLink "CyclicPlanner" (32 : Nat) ({ cls := "CyclicPlanner", name := "learn", desc := "()V" } : Jvm.MethodName)) ∈ lw_all := lw_g (lw_at lw_m0 57 rfl) rfl
theorem q77 : (Jvm.Cond.privateMethod ({ cls := "CyclicPlanner", name := "learn", desc := "()V" } : Jvm.MethodName)) ∈ lw_tbl := lw_at lw_m0 58 rfl
theorem q78 : (Jvm.Cond.instanceMethod ({ cls := "CyclicPlanner", name := "learn", desc := "()V" } : Jvm.MethodName)) ∈ lw_all := lw_g (lw_at lw_m0 59 rfl) rfl
theorem q79 : (Jvm.Cond.code ({ cls := "CyclicPlanner", name := "learn", desc := "()V" } : Jvm.MethodName) prog_1_method_18_code (1 : Nat) (Option.none : Option Jvm.ClassFile.FieldType)) ∈ lw_all := lw_g (lw_at lw_m0 60 rfl) rfl
theorem q80 : (Jvm.Cond.methodLink "CyclicPlanner" (54 : Nat) ({ cls := "CyclicPlanner", name := "findWeak", desc := "()V" } : Jvm.MethodName)) ∈ lw_all := lw_g (lw_at lw_m0 61 rfl) rfl
theorem q81 : (Jvm.Cond.privateMethod ({ cls := "CyclicPlanner", name := "findWeak", desc := "()V" } : Jvm.MethodName)) ∈ lw_tbl := lw_at lw_m0 62 rfl
theorem q82 : (Jvm.Cond.instanceMethod ({ cls := "CyclicPlanner", name := "findWeak", desc := "()V" } : Jvm.MethodName)) ∈ lw_all := lw_g (lw_at lw_m0 63 rfl) rfl
theorem q83 : (Jvm.Cond.code ({ cls := "CyclicPlanner", name := "findWeak", desc := "()V" } : Jvm.MethodName) prog_1_method_19_code (4 : Nat) (Option.none : Option Jvm.ClassFile.FieldType)) ∈ lw_all := lw_g (lw_at lw_m0 64 rfl) rfl
theorem q84 : (Jvm.Cond.methodLink "CyclicPlanner" (44 : Nat) ({ cls := "CyclicPlanner", name := "isIn", desc := "(II)Z" } : Jvm.MethodName)) ∈ lw_all := lw_g (lw_at lw_m0 65 rfl) rfl
theorem q85 : (Jvm.Cond.privateMethod ({ cls := "CyclicPlanner", name := "isIn", desc := "(II)Z" } : Jvm.MethodName)) ∈ lw_tbl := lw_at lw_m0 66 rfl
theorem q86 : (Jvm.Cond.instanceMethod ({ cls := "CyclicPlanner", name := "isIn", desc := "(II)Z" } : Jvm.MethodName)) ∈ lw_all := lw_g (lw_at lw_m0 67 rfl) rfl
theorem q87 : (Jvm.Cond.code ({ cls := "CyclicPlanner", name := "isIn", desc := "(II)Z" } : Jvm.MethodName) prog_1_method_5_code (3 : Nat) (Option.some Jvm.ClassFile.FieldType.boolean)) ∈ lw_all := lw_g (lw_at lw_m0 68 rfl) rfl
theorem q88 : (Jvm.Cond.methodLink "CyclicPlanner" (63 : Nat) ({ cls := "CyclicPlanner", name := "someLeads", desc := "(IIZ)Z" } : Jvm.MethodName)) ∈ lw_all := lw_g (lw_at lw_m0 69 rfl) rfl
theorem q89 : (Jvm.Cond.privateMethod ({ cls := "CyclicPlanner", name := "someLeads", desc := "(IIZ)Z" } : Jvm.MethodName)) ∈ lw_tbl := lw_at lw_m0 70 rfl
theorem q90 : (Jvm.Cond.instanceMethod ({ cls := "CyclicPlanner", name := "someLeads", desc := "(IIZ)Z" } : Jvm.MethodName)) ∈ lw_all := lw_g (lw_at lw_m0 71 rfl) rfl
theorem q91 : (Jvm.Cond.code ({ cls := "CyclicPlanner", name := "someLeads", desc := "(IIZ)Z" } : Jvm.MethodName) prog_1_method_21_code (5 : Nat) (Option.some Jvm.ClassFile.FieldType.boolean)) ∈ lw_all := lw_g (lw_at lw_m0 72 rfl) rfl
theorem q92 : (Jvm.Cond.methodLink "CyclicPlanner" (48 : Nat) ({ cls := "CyclicPlanner", name := "leadsInto", desc := "(II)Z" } : Jvm.MethodName)) ∈ lw_all := lw_g (lw_at lw_m0 73 rfl) rfl
theorem q93 : (Jvm.Cond.privateMethod ({ cls := "CyclicPlanner", name := "leadsInto", desc := "(II)Z" } : Jvm.MethodName)) ∈ lw_tbl := lw_at lw_m0 74 rfl
theorem q94 : (Jvm.Cond.instanceMethod ({ cls := "CyclicPlanner", name := "leadsInto", desc := "(II)Z" } : Jvm.MethodName)) ∈ lw_all := lw_g (lw_at lw_m0 75 rfl) rfl
theorem q95 : (Jvm.Cond.code ({ cls := "CyclicPlanner", name := "leadsInto", desc := "(II)Z" } : Jvm.MethodName) prog_1_method_16_code (3 : Nat) (Option.some Jvm.ClassFile.FieldType.boolean)) ∈ lw_all := lw_g (lw_at lw_m0 76 rfl) rfl
theorem q96 : (Jvm.Cond.methodLink "CyclicPlanner" (67 : Nat) ({ cls := "CyclicPlanner", name := "mayLeadInto", desc := "(II)Z" } : Jvm.MethodName)) ∈ lw_all := lw_g (lw_at lw_m0 77 rfl) rfl
theorem q97 : (Jvm.Cond.privateMethod ({ cls := "CyclicPlanner", name := "mayLeadInto", desc := "(II)Z" } : Jvm.MethodName)) ∈ lw_tbl := lw_at lw_m0 78 rfl
theorem q98 : (Jvm.Cond.instanceMethod ({ cls := "CyclicPlanner", name := "mayLeadInto", desc := "(II)Z" } : Jvm.MethodName)) ∈ lw_all := lw_g (lw_at lw_m0 79 rfl) rfl
theorem q99 : (Jvm.Cond.code ({ cls := "CyclicPlanner", name := "mayLeadInto", desc := "(II)Z" } : Jvm.MethodName) prog_1_method_17_code (3 : Nat) (Option.some Jvm.ClassFile.FieldType.boolean)) ∈ lw_all := lw_g (lw_at lw_m0 80 rfl) rfl
theorem q100 : (Jvm.Cond.methodLink "CyclicPlanner" (57 : Nat) ({ cls := "CyclicPlanner", name := "findSure", desc := "()V" } : Jvm.MethodName)) ∈ lw_all := lw_g (lw_at lw_m0 81 rfl) rfl
theorem q101 : (Jvm.Cond.privateMethod ({ cls := "CyclicPlanner", name := "findSure", desc := "()V" } : Jvm.MethodName)) ∈ lw_tbl := lw_at lw_m0 82 rfl
theorem q102 : (Jvm.Cond.instanceMethod ({ cls := "CyclicPlanner", name := "findSure", desc := "()V" } : Jvm.MethodName)) ∈ lw_all := lw_g (lw_at lw_m0 83 rfl) rfl
theorem q103 : (Jvm.Cond.code ({ cls := "CyclicPlanner", name := "findSure", desc := "()V" } : Jvm.MethodName) prog_1_method_20_code (4 : Nat) (Option.none : Option Jvm.ClassFile.FieldType)) ∈ lw_all := lw_g (lw_at lw_m0 84 rfl) rfl
theorem q104 : (Jvm.Cond.methodLink "CyclicPlanner" (60 : Nat) ({ cls := "CyclicPlanner", name := "findSafe", desc := "()V" } : Jvm.MethodName)) ∈ lw_all := lw_g (lw_at lw_m0 85 rfl) rfl
theorem q105 : (Jvm.Cond.privateMethod ({ cls := "CyclicPlanner", name := "findSafe", desc := "()V" } : Jvm.MethodName)) ∈ lw_tbl := lw_at lw_m0 86 rfl
theorem q106 : (Jvm.Cond.instanceMethod ({ cls := "CyclicPlanner", name := "findSafe", desc := "()V" } : Jvm.MethodName)) ∈ lw_all := lw_g (lw_at lw_m0 87 rfl) rfl
theorem q107 : (Jvm.Cond.code ({ cls := "CyclicPlanner", name := "findSafe", desc := "()V" } : Jvm.MethodName) prog_1_method_22_code (3 : Nat) (Option.none : Option Jvm.ClassFile.FieldType)) ∈ lw_all := lw_g (lw_at lw_m0 88 rfl) rfl
theorem q108 : (Jvm.Cond.methodLink "CyclicPlanner" (70 : Nat) ({ cls := "CyclicPlanner", name := "keepActions", desc := "()V" } : Jvm.MethodName)) ∈ lw_all := lw_g (lw_at lw_m0 89 rfl) rfl
theorem q109 : (Jvm.Cond.privateMethod ({ cls := "CyclicPlanner", name := "keepActions", desc := "()V" } : Jvm.MethodName)) ∈ lw_tbl := lw_at lw_m0 90 rfl
theorem q110 : (Jvm.Cond.instanceMethod ({ cls := "CyclicPlanner", name := "keepActions", desc := "()V" } : Jvm.MethodName)) ∈ lw_all := lw_g (lw_at lw_m0 91 rfl) rfl
theorem q111 : (Jvm.Cond.code ({ cls := "CyclicPlanner", name := "keepActions", desc := "()V" } : Jvm.MethodName) prog_1_method_23_code (2 : Nat) (Option.none : Option Jvm.ClassFile.FieldType)) ∈ lw_all := lw_g (lw_at lw_m0 92 rfl) rfl
theorem q112 : (Jvm.Cond.methodLink "CyclicPlanner" (73 : Nat) ({ cls := "CyclicPlanner", name := "ableStates", desc := "()I" } : Jvm.MethodName)) ∈ lw_all := lw_g (lw_at lw_m0 93 rfl) rfl
theorem q113 : (Jvm.Cond.privateMethod ({ cls := "CyclicPlanner", name := "ableStates", desc := "()I" } : Jvm.MethodName)) ∈ lw_tbl := lw_at lw_m0 94 rfl
theorem q114 : (Jvm.Cond.instanceMethod ({ cls := "CyclicPlanner", name := "ableStates", desc := "()I" } : Jvm.MethodName)) ∈ lw_all := lw_g (lw_at lw_m0 95 rfl) rfl
theorem q115 : (Jvm.Cond.code ({ cls := "CyclicPlanner", name := "ableStates", desc := "()I" } : Jvm.MethodName) prog_1_method_24_code (4 : Nat) (Option.some Jvm.ClassFile.FieldType.int)) ∈ lw_all := lw_g (lw_at lw_m0 96 rfl) rfl
theorem q117 : (Jvm.Cond.instanceMethod ({ cls := "CyclicPlanner", name := "safe", desc := "()I" } : Jvm.MethodName)) ∈ lw_all := lw_g (lw_at lw_m0 98 rfl) rfl
theorem q118 : (Jvm.Cond.selects "CyclicPlanner" ({ cls := "CyclicPlanner", name := "safe", desc := "()I" } : Jvm.MethodName) ({ cls := "CyclicPlanner", name := "safe", desc := "()I" } : Jvm.MethodName)) ∈ lw_all := lw_g (lw_at lw_m0 99 rfl) rfl
theorem q119 : (Jvm.Cond.code ({ cls := "CyclicPlanner", name := "safe", desc := "()I" } : Jvm.MethodName) prog_1_method_7_code (1 : Nat) (Option.some Jvm.ClassFile.FieldType.int)) ∈ lw_all := lw_g (lw_at lw_m0 100 rfl) rfl
theorem q121 : (Jvm.Cond.instanceMethod ({ cls := "CyclicPlanner", name := "sure", desc := "()I" } : Jvm.MethodName)) ∈ lw_all := lw_g (lw_at lw_m0 102 rfl) rfl
theorem q122 : (Jvm.Cond.selects "CyclicPlanner" ({ cls := "CyclicPlanner", name := "sure", desc := "()I" } : Jvm.MethodName) ({ cls := "CyclicPlanner", name := "sure", desc := "()I" } : Jvm.MethodName)) ∈ lw_all := lw_g (lw_at lw_m0 103 rfl) rfl
theorem q123 : (Jvm.Cond.code ({ cls := "CyclicPlanner", name := "sure", desc := "()I" } : Jvm.MethodName) prog_1_method_8_code (1 : Nat) (Option.some Jvm.ClassFile.FieldType.int)) ∈ lw_all := lw_g (lw_at lw_m0 104 rfl) rfl
theorem q125 : (Jvm.Cond.instanceMethod ({ cls := "CyclicPlanner", name := "steps", desc := "(I)I" } : Jvm.MethodName)) ∈ lw_all := lw_g (lw_at lw_m0 106 rfl) rfl
theorem q126 : (Jvm.Cond.selects "CyclicPlanner" ({ cls := "CyclicPlanner", name := "steps", desc := "(I)I" } : Jvm.MethodName) ({ cls := "CyclicPlanner", name := "steps", desc := "(I)I" } : Jvm.MethodName)) ∈ lw_all := lw_g (lw_at lw_m0 107 rfl) rfl
theorem q127 : (Jvm.Cond.code ({ cls := "CyclicPlanner", name := "steps", desc := "(I)I" } : Jvm.MethodName) prog_1_method_9_code (2 : Nat) (Option.some Jvm.ClassFile.FieldType.int)) ∈ lw_all := lw_g (lw_at lw_m0 108 rfl) rfl
theorem q129 : (Jvm.Cond.instanceMethod ({ cls := "CyclicPlanner", name := "luck", desc := "(I)I" } : Jvm.MethodName)) ∈ lw_all := lw_g (lw_at lw_m0 110 rfl) rfl
theorem q130 : (Jvm.Cond.selects "CyclicPlanner" ({ cls := "CyclicPlanner", name := "luck", desc := "(I)I" } : Jvm.MethodName) ({ cls := "CyclicPlanner", name := "luck", desc := "(I)I" } : Jvm.MethodName)) ∈ lw_all := lw_g (lw_at lw_m0 111 rfl) rfl
theorem q131 : (Jvm.Cond.code ({ cls := "CyclicPlanner", name := "luck", desc := "(I)I" } : Jvm.MethodName) prog_1_method_10_code (2 : Nat) (Option.some Jvm.ClassFile.FieldType.int)) ∈ lw_all := lw_g (lw_at lw_m0 112 rfl) rfl
theorem q133 : (Jvm.Cond.instanceMethod ({ cls := "CyclicPlanner", name := "safeActions", desc := "(I)I" } : Jvm.MethodName)) ∈ lw_all := lw_g (lw_at lw_m0 114 rfl) rfl
theorem q134 : (Jvm.Cond.selects "CyclicPlanner" ({ cls := "CyclicPlanner", name := "safeActions", desc := "(I)I" } : Jvm.MethodName) ({ cls := "CyclicPlanner", name := "safeActions", desc := "(I)I" } : Jvm.MethodName)) ∈ lw_all := lw_g (lw_at lw_m0 115 rfl) rfl
theorem q135 : (Jvm.Cond.code ({ cls := "CyclicPlanner", name := "safeActions", desc := "(I)I" } : Jvm.MethodName) prog_1_method_11_code (4 : Nat) (Option.some Jvm.ClassFile.FieldType.int)) ∈ lw_all := lw_g (lw_at lw_m0 116 rfl) rfl
theorem q137 : (Jvm.Cond.instanceMethod ({ cls := "CyclicPlanner", name := "sureAction", desc := "(I)I" } : Jvm.MethodName)) ∈ lw_all := lw_g (lw_at lw_m0 118 rfl) rfl
theorem q138 : (Jvm.Cond.selects "CyclicPlanner" ({ cls := "CyclicPlanner", name := "sureAction", desc := "(I)I" } : Jvm.MethodName) ({ cls := "CyclicPlanner", name := "sureAction", desc := "(I)I" } : Jvm.MethodName)) ∈ lw_all := lw_g (lw_at lw_m0 119 rfl) rfl
theorem q139 : (Jvm.Cond.code ({ cls := "CyclicPlanner", name := "sureAction", desc := "(I)I" } : Jvm.MethodName) prog_1_method_12_code (3 : Nat) (Option.some Jvm.ClassFile.FieldType.int)) ∈ lw_all := lw_g (lw_at lw_m0 120 rfl) rfl
theorem q140 : (Jvm.Cond.methodLink "CyclicPlanner" (51 : Nat) ({ cls := "CyclicPlanner", name := "keepsTo", desc := "(II)Z" } : Jvm.MethodName)) ∈ lw_all := lw_g (lw_at lw_m0 121 rfl) rfl
theorem q141 : (Jvm.Cond.privateMethod ({ cls := "CyclicPlanner", name := "keepsTo", desc := "(II)Z" } : Jvm.MethodName)) ∈ lw_tbl := lw_at lw_m0 122 rfl
theorem q142 : (Jvm.Cond.instanceMethod ({ cls := "CyclicPlanner", name := "keepsTo", desc := "(II)Z" } : Jvm.MethodName)) ∈ lw_all := lw_g (lw_at lw_m0 123 rfl) rfl
theorem q143 : (Jvm.Cond.code ({ cls := "CyclicPlanner", name := "keepsTo", desc := "(II)Z" } : Jvm.MethodName) prog_1_method_13_code (4 : Nat) (Option.some Jvm.ClassFile.FieldType.boolean)) ∈ lw_all := lw_g (lw_at lw_m0 124 rfl) rfl
theorem q145 : (Jvm.Cond.instanceMethod ({ cls := "CyclicPlanner", name := "prune", desc := "()I" } : Jvm.MethodName)) ∈ lw_all := lw_g (lw_at lw_m0 126 rfl) rfl
theorem q146 : (Jvm.Cond.selects "CyclicPlanner" ({ cls := "CyclicPlanner", name := "prune", desc := "()I" } : Jvm.MethodName) ({ cls := "CyclicPlanner", name := "prune", desc := "()I" } : Jvm.MethodName)) ∈ lw_all := lw_g (lw_at lw_m0 127 rfl) rfl
theorem q147 : (Jvm.Cond.code ({ cls := "CyclicPlanner", name := "prune", desc := "()I" } : Jvm.MethodName) prog_1_method_14_code (3 : Nat) (Option.some Jvm.ClassFile.FieldType.int)) ∈ lw_all := lw_g (lw_at lw_m0 128 rfl) rfl
theorem q149 : (Jvm.Cond.instanceMethod ({ cls := "CyclicPlanner", name := "hopeful", desc := "()I" } : Jvm.MethodName)) ∈ lw_all := lw_g (lw_at lw_m0 130 rfl) rfl
theorem q150 : (Jvm.Cond.selects "CyclicPlanner" ({ cls := "CyclicPlanner", name := "hopeful", desc := "()I" } : Jvm.MethodName) ({ cls := "CyclicPlanner", name := "hopeful", desc := "()I" } : Jvm.MethodName)) ∈ lw_all := lw_g (lw_at lw_m0 131 rfl) rfl
theorem q151 : (Jvm.Cond.code ({ cls := "CyclicPlanner", name := "hopeful", desc := "()I" } : Jvm.MethodName) prog_1_method_15_code (4 : Nat) (Option.some Jvm.ClassFile.FieldType.int)) ∈ lw_all := lw_g (lw_at lw_m0 132 rfl) rfl
theorem in_X0 : ∀ w ∈ wsX00, w ∈ lw_all := lw_in wsX00 [39, 41, 43, 45, 47, 49, 51, 53, 55] (by decide +kernel) (by decide +kernel)
end
section
/-! CyclicPlannerModel -/
set_option maxRecDepth 100000
def RX1 : String := "CyclicPlannerModel"
def TX1 : u_T := fun k => match k with
  | 0 => ("CyclicPlannerModel", "out", "[I", false)
  | 1 => ("CyclicPlannerModel", "goal", "I", false)
  | _ => ("CyclicPlannerModel", "far", "[I", false)
def tyX1 : Nat → FieldType := fun k => match k with
  | 0 => .array .int
  | 1 => .int
  | _ => .array .int
abbrev wsX10 : List Cond := u_ws RX1 TX1 3
theorem nmX1 : ∀ a, a < 3 → ∀ b, b < 3 → a ≠ b → (TX1 a).2.1 ≠ (TX1 b).2.1 := by decide +kernel
theorem tyX1_ok : ∀ k, k < 3 → parseFieldDescriptor (TX1 k).2.2.1 = some (tyX1 k) := by decide +kernel
abbrev cX1_init : ByteArray := prog_3_method_1_code
def yX1_init : MethodName := ⟨RX1, "<init>", "()V"⟩
theorem dX1_init_0 : decode cX1_init 0 = .ok (.aload_n 0, 1) := by decide +kernel
theorem dX1_init_1 : decode cX1_init 1 = .ok (.invokespecial 1, 3) := by decide +kernel
theorem dX1_init_4 : decode cX1_init 4 = .ok (.aload_n 0, 1) := by decide +kernel
theorem dX1_init_5 : decode cX1_init 5 = .ok (.bipush 24, 2) := by decide +kernel
theorem dX1_init_7 : decode cX1_init 7 = .ok (.newarray .int, 2) := by decide +kernel
theorem dX1_init_9 : decode cX1_init 9 = .ok (.putfield 7, 3) := by decide +kernel
theorem dX1_init_12 : decode cX1_init 12 = .ok (.aload_n 0, 1) := by decide +kernel
theorem dX1_init_13 : decode cX1_init 13 = .ok (.iconst 0, 1) := by decide +kernel
theorem dX1_init_14 : decode cX1_init 14 = .ok (.putfield 13, 3) := by decide +kernel
theorem dX1_init_17 : decode cX1_init 17 = .ok (.aload_n 0, 1) := by decide +kernel
theorem dX1_init_18 : decode cX1_init 18 = .ok (.bipush 8, 2) := by decide +kernel
theorem dX1_init_20 : decode cX1_init 20 = .ok (.newarray .int, 2) := by decide +kernel
theorem dX1_init_22 : decode cX1_init 22 = .ok (.putfield 17, 3) := by decide +kernel
theorem dX1_init_25 : decode cX1_init 25 = .ok (.return_, 1) := by decide +kernel
abbrev cX1_action : ByteArray := prog_3_method_4_code
def yX1_action : MethodName := ⟨RX1, "action", "(III)Z"⟩
theorem dX1_action_0 : decode cX1_action 0 = .ok (.aload_n 0, 1) := by decide +kernel
theorem dX1_action_1 : decode cX1_action 1 = .ok (.iload_n 1, 1) := by decide +kernel
theorem dX1_action_2 : decode cX1_action 2 = .ok (.invokevirtual 20, 3) := by decide +kernel
theorem dX1_action_5 : decode cX1_action 5 = .ok (.ifCond .eq 23, 3) := by decide +kernel
theorem dX1_action_8 : decode cX1_action 8 = .ok (.iload_n 2, 1) := by decide +kernel
theorem dX1_action_9 : decode cX1_action 9 = .ok (.ifCond .lt 19, 3) := by decide +kernel
theorem dX1_action_12 : decode cX1_action 12 = .ok (.iload_n 2, 1) := by decide +kernel
theorem dX1_action_13 : decode cX1_action 13 = .ok (.iconst 2, 1) := by decide +kernel
theorem dX1_action_14 : decode cX1_action 14 = .ok (.if_icmp .gt 14, 3) := by decide +kernel
theorem dX1_action_17 : decode cX1_action 17 = .ok (.iload_n 3, 1) := by decide +kernel
theorem dX1_action_18 : decode cX1_action 18 = .ok (.ifCond .lt 10, 3) := by decide +kernel
theorem dX1_action_21 : decode cX1_action 21 = .ok (.iload_n 3, 1) := by decide +kernel
theorem dX1_action_22 : decode cX1_action 22 = .ok (.sipush 255, 3) := by decide +kernel
theorem dX1_action_25 : decode cX1_action 25 = .ok (.if_icmp .le 5, 3) := by decide +kernel
theorem dX1_action_28 : decode cX1_action 28 = .ok (.iconst 0, 1) := by decide +kernel
theorem dX1_action_29 : decode cX1_action 29 = .ok (.ireturn, 1) := by decide +kernel
theorem dX1_action_30 : decode cX1_action 30 = .ok (.aload_n 0, 1) := by decide +kernel
theorem dX1_action_31 : decode cX1_action 31 = .ok (.getfield 7, 3) := by decide +kernel
theorem dX1_action_34 : decode cX1_action 34 = .ok (.iconst 3, 1) := by decide +kernel
theorem dX1_action_35 : decode cX1_action 35 = .ok (.iload_n 1, 1) := by decide +kernel
theorem dX1_action_36 : decode cX1_action 36 = .ok (.imul, 1) := by decide +kernel
theorem dX1_action_37 : decode cX1_action 37 = .ok (.iload_n 2, 1) := by decide +kernel
theorem dX1_action_38 : decode cX1_action 38 = .ok (.iadd, 1) := by decide +kernel
theorem dX1_action_39 : decode cX1_action 39 = .ok (.iload_n 3, 1) := by decide +kernel
theorem dX1_action_40 : decode cX1_action 40 = .ok (.iastore, 1) := by decide +kernel
theorem dX1_action_41 : decode cX1_action 41 = .ok (.iconst 1, 1) := by decide +kernel
theorem dX1_action_42 : decode cX1_action 42 = .ok (.ireturn, 1) := by decide +kernel
abbrev cX1_isState : ByteArray := prog_3_method_2_code
def yX1_isState : MethodName := ⟨RX1, "isState", "(I)Z"⟩
theorem dX1_isState_0 : decode cX1_isState 0 = .ok (.iload_n 1, 1) := by decide +kernel
theorem dX1_isState_1 : decode cX1_isState 1 = .ok (.ifCond .lt 13, 3) := by decide +kernel
theorem dX1_isState_4 : decode cX1_isState 4 = .ok (.iload_n 1, 1) := by decide +kernel
theorem dX1_isState_5 : decode cX1_isState 5 = .ok (.bipush 7, 2) := by decide +kernel
theorem dX1_isState_7 : decode cX1_isState 7 = .ok (.if_icmp .gt 7, 3) := by decide +kernel
theorem dX1_isState_10 : decode cX1_isState 10 = .ok (.iconst 1, 1) := by decide +kernel
theorem dX1_isState_11 : decode cX1_isState 11 = .ok (.goto 4, 3) := by decide +kernel
theorem dX1_isState_14 : decode cX1_isState 14 = .ok (.iconst 0, 1) := by decide +kernel
theorem dX1_isState_15 : decode cX1_isState 15 = .ok (.ireturn, 1) := by decide +kernel
abbrev cX1_goals : ByteArray := prog_3_method_5_code
def yX1_goals : MethodName := ⟨RX1, "goals", "(I)Z"⟩
theorem dX1_goals_0 : decode cX1_goals 0 = .ok (.iload_n 1, 1) := by decide +kernel
theorem dX1_goals_1 : decode cX1_goals 1 = .ok (.ifCond .lt 10, 3) := by decide +kernel
theorem dX1_goals_4 : decode cX1_goals 4 = .ok (.iload_n 1, 1) := by decide +kernel
theorem dX1_goals_5 : decode cX1_goals 5 = .ok (.sipush 255, 3) := by decide +kernel
theorem dX1_goals_8 : decode cX1_goals 8 = .ok (.if_icmp .le 5, 3) := by decide +kernel
theorem dX1_goals_11 : decode cX1_goals 11 = .ok (.iconst 0, 1) := by decide +kernel
theorem dX1_goals_12 : decode cX1_goals 12 = .ok (.ireturn, 1) := by decide +kernel
theorem dX1_goals_13 : decode cX1_goals 13 = .ok (.aload_n 0, 1) := by decide +kernel
theorem dX1_goals_14 : decode cX1_goals 14 = .ok (.iload_n 1, 1) := by decide +kernel
theorem dX1_goals_15 : decode cX1_goals 15 = .ok (.putfield 13, 3) := by decide +kernel
theorem dX1_goals_18 : decode cX1_goals 18 = .ok (.iconst 1, 1) := by decide +kernel
theorem dX1_goals_19 : decode cX1_goals 19 = .ok (.ireturn, 1) := by decide +kernel
abbrev cX1_weak : ByteArray := prog_3_method_9_code
def yX1_weak : MethodName := ⟨RX1, "weak", "()I"⟩
theorem dX1_weak_0 : decode cX1_weak 0 = .ok (.aload_n 0, 1) := by decide +kernel
theorem dX1_weak_1 : decode cX1_weak 1 = .ok (.iconst 0, 1) := by decide +kernel
theorem dX1_weak_2 : decode cX1_weak 2 = .ok (.invokevirtual 32, 3) := by decide +kernel
theorem dX1_weak_5 : decode cX1_weak 5 = .ok (.aload_n 0, 1) := by decide +kernel
theorem dX1_weak_6 : decode cX1_weak 6 = .ok (.invokevirtual 36, 3) := by decide +kernel
theorem dX1_weak_9 : decode cX1_weak 9 = .ok (.ireturn, 1) := by decide +kernel
abbrev cX1_count : ByteArray := prog_3_method_7_code
def yX1_count : MethodName := ⟨RX1, "count", "(Z)V"⟩
theorem dX1_count_0 : decode cX1_count 0 = .ok (.iconst 0, 1) := by decide +kernel
theorem dX1_count_1 : decode cX1_count 1 = .ok (.istore_n 2, 1) := by decide +kernel
theorem dX1_count_2 : decode cX1_count 2 = .ok (.iload_n 2, 1) := by decide +kernel
theorem dX1_count_3 : decode cX1_count 3 = .ok (.bipush 8, 2) := by decide +kernel
theorem dX1_count_5 : decode cX1_count 5 = .ok (.if_icmp .ge 33, 3) := by decide +kernel
theorem dX1_count_8 : decode cX1_count 8 = .ok (.aload_n 0, 1) := by decide +kernel
theorem dX1_count_9 : decode cX1_count 9 = .ok (.getfield 17, 3) := by decide +kernel
theorem dX1_count_12 : decode cX1_count 12 = .ok (.iload_n 2, 1) := by decide +kernel
theorem dX1_count_13 : decode cX1_count 13 = .ok (.aload_n 0, 1) := by decide +kernel
theorem dX1_count_14 : decode cX1_count 14 = .ok (.aload_n 0, 1) := by decide +kernel
theorem dX1_count_15 : decode cX1_count 15 = .ok (.getfield 13, 3) := by decide +kernel
theorem dX1_count_18 : decode cX1_count 18 = .ok (.iload_n 2, 1) := by decide +kernel
theorem dX1_count_19 : decode cX1_count 19 = .ok (.invokevirtual 24, 3) := by decide +kernel
theorem dX1_count_22 : decode cX1_count 22 = .ok (.ifCond .eq 7, 3) := by decide +kernel
theorem dX1_count_25 : decode cX1_count 25 = .ok (.iconst 0, 1) := by decide +kernel
theorem dX1_count_26 : decode cX1_count 26 = .ok (.goto 5, 3) := by decide +kernel
theorem dX1_count_29 : decode cX1_count 29 = .ok (.bipush 99, 2) := by decide +kernel
theorem dX1_count_31 : decode cX1_count 31 = .ok (.iastore, 1) := by decide +kernel
theorem dX1_count_32 : decode cX1_count 32 = .ok (.iinc 2 1, 3) := by decide +kernel
theorem dX1_count_35 : decode cX1_count 35 = .ok (.goto (-33), 3) := by decide +kernel
theorem dX1_count_38 : decode cX1_count 38 = .ok (.iconst 0, 1) := by decide +kernel
theorem dX1_count_39 : decode cX1_count 39 = .ok (.istore_n 2, 1) := by decide +kernel
theorem dX1_count_40 : decode cX1_count 40 = .ok (.iload_n 2, 1) := by decide +kernel
theorem dX1_count_41 : decode cX1_count 41 = .ok (.bipush 8, 2) := by decide +kernel
theorem dX1_count_43 : decode cX1_count 43 = .ok (.if_icmp .ge 63, 3) := by decide +kernel
theorem dX1_count_46 : decode cX1_count 46 = .ok (.iconst 0, 1) := by decide +kernel
theorem dX1_count_47 : decode cX1_count 47 = .ok (.istore_n 3, 1) := by decide +kernel
theorem dX1_count_48 : decode cX1_count 48 = .ok (.iload_n 3, 1) := by decide +kernel
theorem dX1_count_49 : decode cX1_count 49 = .ok (.bipush 24, 2) := by decide +kernel
theorem dX1_count_51 : decode cX1_count 51 = .ok (.if_icmp .ge 49, 3) := by decide +kernel
theorem dX1_count_54 : decode cX1_count 54 = .ok (.aload_n 0, 1) := by decide +kernel
theorem dX1_count_55 : decode cX1_count 55 = .ok (.aload_n 0, 1) := by decide +kernel
theorem dX1_count_56 : decode cX1_count 56 = .ok (.getfield 7, 3) := by decide +kernel
theorem dX1_count_59 : decode cX1_count 59 = .ok (.iload_n 3, 1) := by decide +kernel
theorem dX1_count_60 : decode cX1_count 60 = .ok (.iaload, 1) := by decide +kernel
theorem dX1_count_61 : decode cX1_count 61 = .ok (.iload_n 1, 1) := by decide +kernel
theorem dX1_count_62 : decode cX1_count 62 = .ok (.invokevirtual 28, 3) := by decide +kernel
theorem dX1_count_65 : decode cX1_count 65 = .ok (.istore 4, 2) := by decide +kernel
theorem dX1_count_67 : decode cX1_count 67 = .ok (.iload 4, 2) := by decide +kernel
theorem dX1_count_69 : decode cX1_count 69 = .ok (.iconst 1, 1) := by decide +kernel
theorem dX1_count_70 : decode cX1_count 70 = .ok (.iadd, 1) := by decide +kernel
theorem dX1_count_71 : decode cX1_count 71 = .ok (.aload_n 0, 1) := by decide +kernel
theorem dX1_count_72 : decode cX1_count 72 = .ok (.getfield 17, 3) := by decide +kernel
theorem dX1_count_75 : decode cX1_count 75 = .ok (.iload_n 3, 1) := by decide +kernel
theorem dX1_count_76 : decode cX1_count 76 = .ok (.iconst 3, 1) := by decide +kernel
theorem dX1_count_77 : decode cX1_count 77 = .ok (.idiv, 1) := by decide +kernel
theorem dX1_count_78 : decode cX1_count 78 = .ok (.iaload, 1) := by decide +kernel
theorem dX1_count_79 : decode cX1_count 79 = .ok (.if_icmp .ge 15, 3) := by decide +kernel
theorem dX1_count_82 : decode cX1_count 82 = .ok (.aload_n 0, 1) := by decide +kernel
theorem dX1_count_83 : decode cX1_count 83 = .ok (.getfield 17, 3) := by decide +kernel
theorem dX1_count_86 : decode cX1_count 86 = .ok (.iload_n 3, 1) := by decide +kernel
theorem dX1_count_87 : decode cX1_count 87 = .ok (.iconst 3, 1) := by decide +kernel
theorem dX1_count_88 : decode cX1_count 88 = .ok (.idiv, 1) := by decide +kernel
theorem dX1_count_89 : decode cX1_count 89 = .ok (.iload 4, 2) := by decide +kernel
theorem dX1_count_91 : decode cX1_count 91 = .ok (.iconst 1, 1) := by decide +kernel
theorem dX1_count_92 : decode cX1_count 92 = .ok (.iadd, 1) := by decide +kernel
theorem dX1_count_93 : decode cX1_count 93 = .ok (.iastore, 1) := by decide +kernel
theorem dX1_count_94 : decode cX1_count 94 = .ok (.iinc 3 1, 3) := by decide +kernel
theorem dX1_count_97 : decode cX1_count 97 = .ok (.goto (-49), 3) := by decide +kernel
theorem dX1_count_100 : decode cX1_count 100 = .ok (.iinc 2 1, 3) := by decide +kernel
theorem dX1_count_103 : decode cX1_count 103 = .ok (.goto (-63), 3) := by decide +kernel
theorem dX1_count_106 : decode cX1_count 106 = .ok (.return_, 1) := by decide +kernel
abbrev cX1_in : ByteArray := prog_3_method_3_code
def yX1_in : MethodName := ⟨RX1, "in", "(II)Z"⟩
theorem dX1_in_0 : decode cX1_in 0 = .ok (.iload_n 1, 1) := by decide +kernel
theorem dX1_in_1 : decode cX1_in 1 = .ok (.iload_n 2, 1) := by decide +kernel
theorem dX1_in_2 : decode cX1_in 2 = .ok (.ishr, 1) := by decide +kernel
theorem dX1_in_3 : decode cX1_in 3 = .ok (.iconst 1, 1) := by decide +kernel
theorem dX1_in_4 : decode cX1_in 4 = .ok (.iand, 1) := by decide +kernel
theorem dX1_in_5 : decode cX1_in 5 = .ok (.iconst 1, 1) := by decide +kernel
theorem dX1_in_6 : decode cX1_in 6 = .ok (.if_icmp .ne 7, 3) := by decide +kernel
theorem dX1_in_9 : decode cX1_in 9 = .ok (.iconst 1, 1) := by decide +kernel
theorem dX1_in_10 : decode cX1_in 10 = .ok (.goto 4, 3) := by decide +kernel
theorem dX1_in_13 : decode cX1_in 13 = .ok (.iconst 0, 1) := by decide +kernel
theorem dX1_in_14 : decode cX1_in 14 = .ok (.ireturn, 1) := by decide +kernel
abbrev cX1_outcome : ByteArray := prog_3_method_6_code
def yX1_outcome : MethodName := ⟨RX1, "outcome", "(IZ)I"⟩
theorem dX1_outcome_0 : decode cX1_outcome 0 = .ok (.iconst (-1), 1) := by decide +kernel
theorem dX1_outcome_1 : decode cX1_outcome 1 = .ok (.istore_n 3, 1) := by decide +kernel
theorem dX1_outcome_2 : decode cX1_outcome 2 = .ok (.bipush 99, 2) := by decide +kernel
theorem dX1_outcome_4 : decode cX1_outcome 4 = .ok (.istore 4, 2) := by decide +kernel
theorem dX1_outcome_6 : decode cX1_outcome 6 = .ok (.iconst 0, 1) := by decide +kernel
theorem dX1_outcome_7 : decode cX1_outcome 7 = .ok (.istore 5, 2) := by decide +kernel
theorem dX1_outcome_9 : decode cX1_outcome 9 = .ok (.iload 5, 2) := by decide +kernel
theorem dX1_outcome_11 : decode cX1_outcome 11 = .ok (.bipush 8, 2) := by decide +kernel
theorem dX1_outcome_13 : decode cX1_outcome 13 = .ok (.if_icmp .ge 59, 3) := by decide +kernel
theorem dX1_outcome_16 : decode cX1_outcome 16 = .ok (.aload_n 0, 1) := by decide +kernel
theorem dX1_outcome_17 : decode cX1_outcome 17 = .ok (.iload_n 1, 1) := by decide +kernel
theorem dX1_outcome_18 : decode cX1_outcome 18 = .ok (.iload 5, 2) := by decide +kernel
theorem dX1_outcome_20 : decode cX1_outcome 20 = .ok (.invokevirtual 24, 3) := by decide +kernel
theorem dX1_outcome_23 : decode cX1_outcome 23 = .ok (.ifCond .eq 43, 3) := by decide +kernel
theorem dX1_outcome_26 : decode cX1_outcome 26 = .ok (.aload_n 0, 1) := by decide +kernel
theorem dX1_outcome_27 : decode cX1_outcome 27 = .ok (.getfield 17, 3) := by decide +kernel
theorem dX1_outcome_30 : decode cX1_outcome 30 = .ok (.iload 5, 2) := by decide +kernel
theorem dX1_outcome_32 : decode cX1_outcome 32 = .ok (.iaload, 1) := by decide +kernel
theorem dX1_outcome_33 : decode cX1_outcome 33 = .ok (.iload_n 3, 1) := by decide +kernel
theorem dX1_outcome_34 : decode cX1_outcome 34 = .ok (.if_icmp .le 11, 3) := by decide +kernel
theorem dX1_outcome_37 : decode cX1_outcome 37 = .ok (.aload_n 0, 1) := by decide +kernel
theorem dX1_outcome_38 : decode cX1_outcome 38 = .ok (.getfield 17, 3) := by decide +kernel
theorem dX1_outcome_41 : decode cX1_outcome 41 = .ok (.iload 5, 2) := by decide +kernel
theorem dX1_outcome_43 : decode cX1_outcome 43 = .ok (.iaload, 1) := by decide +kernel
theorem dX1_outcome_44 : decode cX1_outcome 44 = .ok (.istore_n 3, 1) := by decide +kernel
theorem dX1_outcome_45 : decode cX1_outcome 45 = .ok (.aload_n 0, 1) := by decide +kernel
theorem dX1_outcome_46 : decode cX1_outcome 46 = .ok (.getfield 17, 3) := by decide +kernel
theorem dX1_outcome_49 : decode cX1_outcome 49 = .ok (.iload 5, 2) := by decide +kernel
theorem dX1_outcome_51 : decode cX1_outcome 51 = .ok (.iaload, 1) := by decide +kernel
theorem dX1_outcome_52 : decode cX1_outcome 52 = .ok (.iload 4, 2) := by decide +kernel
theorem dX1_outcome_54 : decode cX1_outcome 54 = .ok (.if_icmp .ge 12, 3) := by decide +kernel
theorem dX1_outcome_57 : decode cX1_outcome 57 = .ok (.aload_n 0, 1) := by decide +kernel
theorem dX1_outcome_58 : decode cX1_outcome 58 = .ok (.getfield 17, 3) := by decide +kernel
theorem dX1_outcome_61 : decode cX1_outcome 61 = .ok (.iload 5, 2) := by decide +kernel
theorem dX1_outcome_63 : decode cX1_outcome 63 = .ok (.iaload, 1) := by decide +kernel
theorem dX1_outcome_64 : decode cX1_outcome 64 = .ok (.istore 4, 2) := by decide +kernel
theorem dX1_outcome_66 : decode cX1_outcome 66 = .ok (.iinc 5 1, 3) := by decide +kernel
theorem dX1_outcome_69 : decode cX1_outcome 69 = .ok (.goto (-60), 3) := by decide +kernel
theorem dX1_outcome_72 : decode cX1_outcome 72 = .ok (.iload_n 2, 1) := by decide +kernel
theorem dX1_outcome_73 : decode cX1_outcome 73 = .ok (.ifCond .eq 11, 3) := by decide +kernel
theorem dX1_outcome_76 : decode cX1_outcome 76 = .ok (.iload_n 3, 1) := by decide +kernel
theorem dX1_outcome_77 : decode cX1_outcome 77 = .ok (.ifCond .lt 7, 3) := by decide +kernel
theorem dX1_outcome_80 : decode cX1_outcome 80 = .ok (.iload_n 3, 1) := by decide +kernel
theorem dX1_outcome_81 : decode cX1_outcome 81 = .ok (.goto 5, 3) := by decide +kernel
theorem dX1_outcome_84 : decode cX1_outcome 84 = .ok (.iload 4, 2) := by decide +kernel
theorem dX1_outcome_86 : decode cX1_outcome 86 = .ok (.ireturn, 1) := by decide +kernel
abbrev cX1_reached : ByteArray := prog_3_method_8_code
def yX1_reached : MethodName := ⟨RX1, "reached", "()I"⟩
theorem dX1_reached_0 : decode cX1_reached 0 = .ok (.iconst 0, 1) := by decide +kernel
theorem dX1_reached_1 : decode cX1_reached 1 = .ok (.istore_n 1, 1) := by decide +kernel
theorem dX1_reached_2 : decode cX1_reached 2 = .ok (.iconst 0, 1) := by decide +kernel
theorem dX1_reached_3 : decode cX1_reached 3 = .ok (.istore_n 2, 1) := by decide +kernel
theorem dX1_reached_4 : decode cX1_reached 4 = .ok (.iload_n 2, 1) := by decide +kernel
theorem dX1_reached_5 : decode cX1_reached 5 = .ok (.bipush 8, 2) := by decide +kernel
theorem dX1_reached_7 : decode cX1_reached 7 = .ok (.if_icmp .ge 26, 3) := by decide +kernel
theorem dX1_reached_10 : decode cX1_reached 10 = .ok (.aload_n 0, 1) := by decide +kernel
theorem dX1_reached_11 : decode cX1_reached 11 = .ok (.getfield 17, 3) := by decide +kernel
theorem dX1_reached_14 : decode cX1_reached 14 = .ok (.iload_n 2, 1) := by decide +kernel
theorem dX1_reached_15 : decode cX1_reached 15 = .ok (.iaload, 1) := by decide +kernel
theorem dX1_reached_16 : decode cX1_reached 16 = .ok (.bipush 99, 2) := by decide +kernel
theorem dX1_reached_18 : decode cX1_reached 18 = .ok (.if_icmp .ge 9, 3) := by decide +kernel
theorem dX1_reached_21 : decode cX1_reached 21 = .ok (.iload_n 1, 1) := by decide +kernel
theorem dX1_reached_22 : decode cX1_reached 22 = .ok (.iconst 1, 1) := by decide +kernel
theorem dX1_reached_23 : decode cX1_reached 23 = .ok (.iload_n 2, 1) := by decide +kernel
theorem dX1_reached_24 : decode cX1_reached 24 = .ok (.ishl, 1) := by decide +kernel
theorem dX1_reached_25 : decode cX1_reached 25 = .ok (.ior, 1) := by decide +kernel
theorem dX1_reached_26 : decode cX1_reached 26 = .ok (.istore_n 1, 1) := by decide +kernel
theorem dX1_reached_27 : decode cX1_reached 27 = .ok (.iinc 2 1, 3) := by decide +kernel
theorem dX1_reached_30 : decode cX1_reached 30 = .ok (.goto (-26), 3) := by decide +kernel
theorem dX1_reached_33 : decode cX1_reached 33 = .ok (.iload_n 1, 1) := by decide +kernel
theorem dX1_reached_34 : decode cX1_reached 34 = .ok (.ireturn, 1) := by decide +kernel
abbrev cX1_safe : ByteArray := prog_3_method_11_code
def yX1_safe : MethodName := ⟨RX1, "safe", "()I"⟩
theorem dX1_safe_0 : decode cX1_safe 0 = .ok (.aload_n 0, 1) := by decide +kernel
theorem dX1_safe_1 : decode cX1_safe 1 = .ok (.getfield 13, 3) := by decide +kernel
theorem dX1_safe_4 : decode cX1_safe 4 = .ok (.istore_n 1, 1) := by decide +kernel
theorem dX1_safe_5 : decode cX1_safe 5 = .ok (.iconst 0, 1) := by decide +kernel
theorem dX1_safe_6 : decode cX1_safe 6 = .ok (.istore_n 2, 1) := by decide +kernel
theorem dX1_safe_7 : decode cX1_safe 7 = .ok (.iload_n 2, 1) := by decide +kernel
theorem dX1_safe_8 : decode cX1_safe 8 = .ok (.sipush 256, 3) := by decide +kernel
theorem dX1_safe_11 : decode cX1_safe 11 = .ok (.if_icmp .ge 32, 3) := by decide +kernel
theorem dX1_safe_14 : decode cX1_safe 14 = .ok (.aload_n 0, 1) := by decide +kernel
theorem dX1_safe_15 : decode cX1_safe 15 = .ok (.getfield 13, 3) := by decide +kernel
theorem dX1_safe_18 : decode cX1_safe 18 = .ok (.iload_n 2, 1) := by decide +kernel
theorem dX1_safe_19 : decode cX1_safe 19 = .ok (.iconst (-1), 1) := by decide +kernel
theorem dX1_safe_20 : decode cX1_safe 20 = .ok (.ixor, 1) := by decide +kernel
theorem dX1_safe_21 : decode cX1_safe 21 = .ok (.iand, 1) := by decide +kernel
theorem dX1_safe_22 : decode cX1_safe 22 = .ok (.ifCond .ne 15, 3) := by decide +kernel
theorem dX1_safe_25 : decode cX1_safe 25 = .ok (.aload_n 0, 1) := by decide +kernel
theorem dX1_safe_26 : decode cX1_safe 26 = .ok (.iload_n 2, 1) := by decide +kernel
theorem dX1_safe_27 : decode cX1_safe 27 = .ok (.invokevirtual 40, 3) := by decide +kernel
theorem dX1_safe_30 : decode cX1_safe 30 = .ok (.ifCond .eq 7, 3) := by decide +kernel
theorem dX1_safe_33 : decode cX1_safe 33 = .ok (.iload_n 1, 1) := by decide +kernel
theorem dX1_safe_34 : decode cX1_safe 34 = .ok (.iload_n 2, 1) := by decide +kernel
theorem dX1_safe_35 : decode cX1_safe 35 = .ok (.ior, 1) := by decide +kernel
theorem dX1_safe_36 : decode cX1_safe 36 = .ok (.istore_n 1, 1) := by decide +kernel
theorem dX1_safe_37 : decode cX1_safe 37 = .ok (.iinc 2 1, 3) := by decide +kernel
theorem dX1_safe_40 : decode cX1_safe 40 = .ok (.goto (-33), 3) := by decide +kernel
theorem dX1_safe_43 : decode cX1_safe 43 = .ok (.iload_n 1, 1) := by decide +kernel
theorem dX1_safe_44 : decode cX1_safe 44 = .ok (.ireturn, 1) := by decide +kernel
abbrev cX1_keeps : ByteArray := prog_3_method_10_code
def yX1_keeps : MethodName := ⟨RX1, "keeps", "(I)Z"⟩
theorem dX1_keeps_0 : decode cX1_keeps 0 = .ok (.aload_n 0, 1) := by decide +kernel
theorem dX1_keeps_1 : decode cX1_keeps 1 = .ok (.getfield 13, 3) := by decide +kernel
theorem dX1_keeps_4 : decode cX1_keeps 4 = .ok (.istore_n 2, 1) := by decide +kernel
theorem dX1_keeps_5 : decode cX1_keeps 5 = .ok (.iconst 0, 1) := by decide +kernel
theorem dX1_keeps_6 : decode cX1_keeps 6 = .ok (.istore_n 3, 1) := by decide +kernel
theorem dX1_keeps_7 : decode cX1_keeps 7 = .ok (.iload_n 3, 1) := by decide +kernel
theorem dX1_keeps_8 : decode cX1_keeps 8 = .ok (.bipush 8, 2) := by decide +kernel
theorem dX1_keeps_10 : decode cX1_keeps 10 = .ok (.if_icmp .ge 72, 3) := by decide +kernel
theorem dX1_keeps_13 : decode cX1_keeps 13 = .ok (.iconst 0, 1) := by decide +kernel
theorem dX1_keeps_14 : decode cX1_keeps 14 = .ok (.istore 4, 2) := by decide +kernel
theorem dX1_keeps_16 : decode cX1_keeps 16 = .ok (.iload 4, 2) := by decide +kernel
theorem dX1_keeps_18 : decode cX1_keeps 18 = .ok (.bipush 24, 2) := by decide +kernel
theorem dX1_keeps_20 : decode cX1_keeps 20 = .ok (.if_icmp .ge 56, 3) := by decide +kernel
theorem dX1_keeps_23 : decode cX1_keeps 23 = .ok (.aload_n 0, 1) := by decide +kernel
theorem dX1_keeps_24 : decode cX1_keeps 24 = .ok (.iload_n 1, 1) := by decide +kernel
theorem dX1_keeps_25 : decode cX1_keeps 25 = .ok (.iload 4, 2) := by decide +kernel
theorem dX1_keeps_27 : decode cX1_keeps 27 = .ok (.iconst 3, 1) := by decide +kernel
theorem dX1_keeps_28 : decode cX1_keeps 28 = .ok (.idiv, 1) := by decide +kernel
theorem dX1_keeps_29 : decode cX1_keeps 29 = .ok (.invokevirtual 24, 3) := by decide +kernel
theorem dX1_keeps_32 : decode cX1_keeps 32 = .ok (.ifCond .eq 38, 3) := by decide +kernel
theorem dX1_keeps_35 : decode cX1_keeps 35 = .ok (.aload_n 0, 1) := by decide +kernel
theorem dX1_keeps_36 : decode cX1_keeps 36 = .ok (.getfield 7, 3) := by decide +kernel
theorem dX1_keeps_39 : decode cX1_keeps 39 = .ok (.iload 4, 2) := by decide +kernel
theorem dX1_keeps_41 : decode cX1_keeps 41 = .ok (.iaload, 1) := by decide +kernel
theorem dX1_keeps_42 : decode cX1_keeps 42 = .ok (.iload_n 1, 1) := by decide +kernel
theorem dX1_keeps_43 : decode cX1_keeps 43 = .ok (.iconst (-1), 1) := by decide +kernel
theorem dX1_keeps_44 : decode cX1_keeps 44 = .ok (.ixor, 1) := by decide +kernel
theorem dX1_keeps_45 : decode cX1_keeps 45 = .ok (.iand, 1) := by decide +kernel
theorem dX1_keeps_46 : decode cX1_keeps 46 = .ok (.ifCond .ne 24, 3) := by decide +kernel
theorem dX1_keeps_49 : decode cX1_keeps 49 = .ok (.aload_n 0, 1) := by decide +kernel
theorem dX1_keeps_50 : decode cX1_keeps 50 = .ok (.getfield 7, 3) := by decide +kernel
theorem dX1_keeps_53 : decode cX1_keeps 53 = .ok (.iload 4, 2) := by decide +kernel
theorem dX1_keeps_55 : decode cX1_keeps 55 = .ok (.iaload, 1) := by decide +kernel
theorem dX1_keeps_56 : decode cX1_keeps 56 = .ok (.iload_n 2, 1) := by decide +kernel
theorem dX1_keeps_57 : decode cX1_keeps 57 = .ok (.iand, 1) := by decide +kernel
theorem dX1_keeps_58 : decode cX1_keeps 58 = .ok (.ifCond .eq 12, 3) := by decide +kernel
theorem dX1_keeps_61 : decode cX1_keeps 61 = .ok (.iload_n 2, 1) := by decide +kernel
theorem dX1_keeps_62 : decode cX1_keeps 62 = .ok (.iconst 1, 1) := by decide +kernel
theorem dX1_keeps_63 : decode cX1_keeps 63 = .ok (.iload 4, 2) := by decide +kernel
theorem dX1_keeps_65 : decode cX1_keeps 65 = .ok (.iconst 3, 1) := by decide +kernel
theorem dX1_keeps_66 : decode cX1_keeps 66 = .ok (.idiv, 1) := by decide +kernel
theorem dX1_keeps_67 : decode cX1_keeps 67 = .ok (.ishl, 1) := by decide +kernel
theorem dX1_keeps_68 : decode cX1_keeps 68 = .ok (.ior, 1) := by decide +kernel
theorem dX1_keeps_69 : decode cX1_keeps 69 = .ok (.istore_n 2, 1) := by decide +kernel
theorem dX1_keeps_70 : decode cX1_keeps 70 = .ok (.iinc 4 1, 3) := by decide +kernel
theorem dX1_keeps_73 : decode cX1_keeps 73 = .ok (.goto (-57), 3) := by decide +kernel
theorem dX1_keeps_76 : decode cX1_keeps 76 = .ok (.iinc 3 1, 3) := by decide +kernel
theorem dX1_keeps_79 : decode cX1_keeps 79 = .ok (.goto (-72), 3) := by decide +kernel
theorem dX1_keeps_82 : decode cX1_keeps 82 = .ok (.iload_n 1, 1) := by decide +kernel
theorem dX1_keeps_83 : decode cX1_keeps 83 = .ok (.iload_n 2, 1) := by decide +kernel
theorem dX1_keeps_84 : decode cX1_keeps 84 = .ok (.iconst (-1), 1) := by decide +kernel
theorem dX1_keeps_85 : decode cX1_keeps 85 = .ok (.ixor, 1) := by decide +kernel
theorem dX1_keeps_86 : decode cX1_keeps 86 = .ok (.iand, 1) := by decide +kernel
theorem dX1_keeps_87 : decode cX1_keeps 87 = .ok (.ifCond .ne 7, 3) := by decide +kernel
theorem dX1_keeps_90 : decode cX1_keeps 90 = .ok (.iconst 1, 1) := by decide +kernel
theorem dX1_keeps_91 : decode cX1_keeps 91 = .ok (.goto 4, 3) := by decide +kernel
theorem dX1_keeps_94 : decode cX1_keeps 94 = .ok (.iconst 0, 1) := by decide +kernel
theorem dX1_keeps_95 : decode cX1_keeps 95 = .ok (.ireturn, 1) := by decide +kernel
abbrev cX1_sure : ByteArray := prog_3_method_12_code
def yX1_sure : MethodName := ⟨RX1, "sure", "()I"⟩
theorem dX1_sure_0 : decode cX1_sure 0 = .ok (.aload_n 0, 1) := by decide +kernel
theorem dX1_sure_1 : decode cX1_sure 1 = .ok (.iconst 1, 1) := by decide +kernel
theorem dX1_sure_2 : decode cX1_sure 2 = .ok (.invokevirtual 32, 3) := by decide +kernel
theorem dX1_sure_5 : decode cX1_sure 5 = .ok (.aload_n 0, 1) := by decide +kernel
theorem dX1_sure_6 : decode cX1_sure 6 = .ok (.invokevirtual 36, 3) := by decide +kernel
theorem dX1_sure_9 : decode cX1_sure 9 = .ok (.ireturn, 1) := by decide +kernel
abbrev cX1_steps : ByteArray := prog_3_method_14_code
def yX1_steps : MethodName := ⟨RX1, "steps", "(I)I"⟩
theorem dX1_steps_0 : decode cX1_steps 0 = .ok (.aload_n 0, 1) := by decide +kernel
theorem dX1_steps_1 : decode cX1_steps 1 = .ok (.iload_n 1, 1) := by decide +kernel
theorem dX1_steps_2 : decode cX1_steps 2 = .ok (.iconst 1, 1) := by decide +kernel
theorem dX1_steps_3 : decode cX1_steps 3 = .ok (.invokevirtual 43, 3) := by decide +kernel
theorem dX1_steps_6 : decode cX1_steps 6 = .ok (.ireturn, 1) := by decide +kernel
abbrev cX1_number : ByteArray := prog_3_method_13_code
def yX1_number : MethodName := ⟨RX1, "number", "(IZ)I"⟩
theorem dX1_number_0 : decode cX1_number 0 = .ok (.aload_n 0, 1) := by decide +kernel
theorem dX1_number_1 : decode cX1_number 1 = .ok (.iload_n 1, 1) := by decide +kernel
theorem dX1_number_2 : decode cX1_number 2 = .ok (.invokevirtual 20, 3) := by decide +kernel
theorem dX1_number_5 : decode cX1_number 5 = .ok (.ifCond .ne 5, 3) := by decide +kernel
theorem dX1_number_8 : decode cX1_number 8 = .ok (.iconst (-1), 1) := by decide +kernel
theorem dX1_number_9 : decode cX1_number 9 = .ok (.ireturn, 1) := by decide +kernel
theorem dX1_number_10 : decode cX1_number 10 = .ok (.aload_n 0, 1) := by decide +kernel
theorem dX1_number_11 : decode cX1_number 11 = .ok (.iload_n 2, 1) := by decide +kernel
theorem dX1_number_12 : decode cX1_number 12 = .ok (.invokevirtual 32, 3) := by decide +kernel
theorem dX1_number_15 : decode cX1_number 15 = .ok (.aload_n 0, 1) := by decide +kernel
theorem dX1_number_16 : decode cX1_number 16 = .ok (.getfield 17, 3) := by decide +kernel
theorem dX1_number_19 : decode cX1_number 19 = .ok (.iload_n 1, 1) := by decide +kernel
theorem dX1_number_20 : decode cX1_number 20 = .ok (.iaload, 1) := by decide +kernel
theorem dX1_number_21 : decode cX1_number 21 = .ok (.bipush 99, 2) := by decide +kernel
theorem dX1_number_23 : decode cX1_number 23 = .ok (.if_icmp .ge 12, 3) := by decide +kernel
theorem dX1_number_26 : decode cX1_number 26 = .ok (.aload_n 0, 1) := by decide +kernel
theorem dX1_number_27 : decode cX1_number 27 = .ok (.getfield 17, 3) := by decide +kernel
theorem dX1_number_30 : decode cX1_number 30 = .ok (.iload_n 1, 1) := by decide +kernel
theorem dX1_number_31 : decode cX1_number 31 = .ok (.iaload, 1) := by decide +kernel
theorem dX1_number_32 : decode cX1_number 32 = .ok (.goto 5, 3) := by decide +kernel
theorem dX1_number_35 : decode cX1_number 35 = .ok (.bipush (-2), 2) := by decide +kernel
theorem dX1_number_37 : decode cX1_number 37 = .ok (.ireturn, 1) := by decide +kernel
abbrev cX1_luck : ByteArray := prog_3_method_15_code
def yX1_luck : MethodName := ⟨RX1, "luck", "(I)I"⟩
theorem dX1_luck_0 : decode cX1_luck 0 = .ok (.aload_n 0, 1) := by decide +kernel
theorem dX1_luck_1 : decode cX1_luck 1 = .ok (.iload_n 1, 1) := by decide +kernel
theorem dX1_luck_2 : decode cX1_luck 2 = .ok (.iconst 0, 1) := by decide +kernel
theorem dX1_luck_3 : decode cX1_luck 3 = .ok (.invokevirtual 43, 3) := by decide +kernel
theorem dX1_luck_6 : decode cX1_luck 6 = .ok (.ireturn, 1) := by decide +kernel
abbrev cX1_safeActions : ByteArray := prog_3_method_16_code
def yX1_safeActions : MethodName := ⟨RX1, "safeActions", "(I)I"⟩
theorem dX1_safeActions_0 : decode cX1_safeActions 0 = .ok (.aload_n 0, 1) := by decide +kernel
theorem dX1_safeActions_1 : decode cX1_safeActions 1 = .ok (.invokevirtual 46, 3) := by decide +kernel
theorem dX1_safeActions_4 : decode cX1_safeActions 4 = .ok (.istore_n 2, 1) := by decide +kernel
theorem dX1_safeActions_5 : decode cX1_safeActions 5 = .ok (.aload_n 0, 1) := by decide +kernel
theorem dX1_safeActions_6 : decode cX1_safeActions 6 = .ok (.iload_n 1, 1) := by decide +kernel
theorem dX1_safeActions_7 : decode cX1_safeActions 7 = .ok (.invokevirtual 20, 3) := by decide +kernel
theorem dX1_safeActions_10 : decode cX1_safeActions 10 = .ok (.ifCond .eq 24, 3) := by decide +kernel
theorem dX1_safeActions_13 : decode cX1_safeActions 13 = .ok (.aload_n 0, 1) := by decide +kernel
theorem dX1_safeActions_14 : decode cX1_safeActions 14 = .ok (.aload_n 0, 1) := by decide +kernel
theorem dX1_safeActions_15 : decode cX1_safeActions 15 = .ok (.getfield 13, 3) := by decide +kernel
theorem dX1_safeActions_18 : decode cX1_safeActions 18 = .ok (.iload_n 1, 1) := by decide +kernel
theorem dX1_safeActions_19 : decode cX1_safeActions 19 = .ok (.invokevirtual 24, 3) := by decide +kernel
theorem dX1_safeActions_22 : decode cX1_safeActions 22 = .ok (.ifCond .ne 12, 3) := by decide +kernel
theorem dX1_safeActions_25 : decode cX1_safeActions 25 = .ok (.aload_n 0, 1) := by decide +kernel
theorem dX1_safeActions_26 : decode cX1_safeActions 26 = .ok (.iload_n 2, 1) := by decide +kernel
theorem dX1_safeActions_27 : decode cX1_safeActions 27 = .ok (.iload_n 1, 1) := by decide +kernel
theorem dX1_safeActions_28 : decode cX1_safeActions 28 = .ok (.invokevirtual 24, 3) := by decide +kernel
theorem dX1_safeActions_31 : decode cX1_safeActions 31 = .ok (.ifCond .ne 5, 3) := by decide +kernel
theorem dX1_safeActions_34 : decode cX1_safeActions 34 = .ok (.iconst 0, 1) := by decide +kernel
theorem dX1_safeActions_35 : decode cX1_safeActions 35 = .ok (.ireturn, 1) := by decide +kernel
theorem dX1_safeActions_36 : decode cX1_safeActions 36 = .ok (.iconst 0, 1) := by decide +kernel
theorem dX1_safeActions_37 : decode cX1_safeActions 37 = .ok (.istore_n 3, 1) := by decide +kernel
theorem dX1_safeActions_38 : decode cX1_safeActions 38 = .ok (.iconst 0, 1) := by decide +kernel
theorem dX1_safeActions_39 : decode cX1_safeActions 39 = .ok (.istore 4, 2) := by decide +kernel
theorem dX1_safeActions_41 : decode cX1_safeActions 41 = .ok (.iload 4, 2) := by decide +kernel
theorem dX1_safeActions_43 : decode cX1_safeActions 43 = .ok (.iconst 3, 1) := by decide +kernel
theorem dX1_safeActions_44 : decode cX1_safeActions 44 = .ok (.if_icmp .ge 48, 3) := by decide +kernel
theorem dX1_safeActions_47 : decode cX1_safeActions 47 = .ok (.aload_n 0, 1) := by decide +kernel
theorem dX1_safeActions_48 : decode cX1_safeActions 48 = .ok (.getfield 7, 3) := by decide +kernel
theorem dX1_safeActions_51 : decode cX1_safeActions 51 = .ok (.iconst 3, 1) := by decide +kernel
theorem dX1_safeActions_52 : decode cX1_safeActions 52 = .ok (.iload_n 1, 1) := by decide +kernel
theorem dX1_safeActions_53 : decode cX1_safeActions 53 = .ok (.imul, 1) := by decide +kernel
theorem dX1_safeActions_54 : decode cX1_safeActions 54 = .ok (.iload 4, 2) := by decide +kernel
theorem dX1_safeActions_56 : decode cX1_safeActions 56 = .ok (.iadd, 1) := by decide +kernel
theorem dX1_safeActions_57 : decode cX1_safeActions 57 = .ok (.iaload, 1) := by decide +kernel
theorem dX1_safeActions_58 : decode cX1_safeActions 58 = .ok (.ifCond .eq 28, 3) := by decide +kernel
theorem dX1_safeActions_61 : decode cX1_safeActions 61 = .ok (.aload_n 0, 1) := by decide +kernel
theorem dX1_safeActions_62 : decode cX1_safeActions 62 = .ok (.getfield 7, 3) := by decide +kernel
theorem dX1_safeActions_65 : decode cX1_safeActions 65 = .ok (.iconst 3, 1) := by decide +kernel
theorem dX1_safeActions_66 : decode cX1_safeActions 66 = .ok (.iload_n 1, 1) := by decide +kernel
theorem dX1_safeActions_67 : decode cX1_safeActions 67 = .ok (.imul, 1) := by decide +kernel
theorem dX1_safeActions_68 : decode cX1_safeActions 68 = .ok (.iload 4, 2) := by decide +kernel
theorem dX1_safeActions_70 : decode cX1_safeActions 70 = .ok (.iadd, 1) := by decide +kernel
theorem dX1_safeActions_71 : decode cX1_safeActions 71 = .ok (.iaload, 1) := by decide +kernel
theorem dX1_safeActions_72 : decode cX1_safeActions 72 = .ok (.iload_n 2, 1) := by decide +kernel
theorem dX1_safeActions_73 : decode cX1_safeActions 73 = .ok (.iconst (-1), 1) := by decide +kernel
theorem dX1_safeActions_74 : decode cX1_safeActions 74 = .ok (.ixor, 1) := by decide +kernel
theorem dX1_safeActions_75 : decode cX1_safeActions 75 = .ok (.iand, 1) := by decide +kernel
theorem dX1_safeActions_76 : decode cX1_safeActions 76 = .ok (.ifCond .ne 10, 3) := by decide +kernel
theorem dX1_safeActions_79 : decode cX1_safeActions 79 = .ok (.iload_n 3, 1) := by decide +kernel
theorem dX1_safeActions_80 : decode cX1_safeActions 80 = .ok (.iconst 1, 1) := by decide +kernel
theorem dX1_safeActions_81 : decode cX1_safeActions 81 = .ok (.iload 4, 2) := by decide +kernel
theorem dX1_safeActions_83 : decode cX1_safeActions 83 = .ok (.ishl, 1) := by decide +kernel
theorem dX1_safeActions_84 : decode cX1_safeActions 84 = .ok (.ior, 1) := by decide +kernel
theorem dX1_safeActions_85 : decode cX1_safeActions 85 = .ok (.istore_n 3, 1) := by decide +kernel
theorem dX1_safeActions_86 : decode cX1_safeActions 86 = .ok (.iinc 4 1, 3) := by decide +kernel
theorem dX1_safeActions_89 : decode cX1_safeActions 89 = .ok (.goto (-48), 3) := by decide +kernel
theorem dX1_safeActions_92 : decode cX1_safeActions 92 = .ok (.iload_n 3, 1) := by decide +kernel
theorem dX1_safeActions_93 : decode cX1_safeActions 93 = .ok (.ireturn, 1) := by decide +kernel
abbrev cX1_sureAction : ByteArray := prog_3_method_17_code
def yX1_sureAction : MethodName := ⟨RX1, "sureAction", "(I)I"⟩
theorem dX1_sureAction_0 : decode cX1_sureAction 0 = .ok (.aload_n 0, 1) := by decide +kernel
theorem dX1_sureAction_1 : decode cX1_sureAction 1 = .ok (.iload_n 1, 1) := by decide +kernel
theorem dX1_sureAction_2 : decode cX1_sureAction 2 = .ok (.invokevirtual 20, 3) := by decide +kernel
theorem dX1_sureAction_5 : decode cX1_sureAction 5 = .ok (.ifCond .eq 25, 3) := by decide +kernel
theorem dX1_sureAction_8 : decode cX1_sureAction 8 = .ok (.aload_n 0, 1) := by decide +kernel
theorem dX1_sureAction_9 : decode cX1_sureAction 9 = .ok (.aload_n 0, 1) := by decide +kernel
theorem dX1_sureAction_10 : decode cX1_sureAction 10 = .ok (.getfield 13, 3) := by decide +kernel
theorem dX1_sureAction_13 : decode cX1_sureAction 13 = .ok (.iload_n 1, 1) := by decide +kernel
theorem dX1_sureAction_14 : decode cX1_sureAction 14 = .ok (.invokevirtual 24, 3) := by decide +kernel
theorem dX1_sureAction_17 : decode cX1_sureAction 17 = .ok (.ifCond .ne 13, 3) := by decide +kernel
theorem dX1_sureAction_20 : decode cX1_sureAction 20 = .ok (.aload_n 0, 1) := by decide +kernel
theorem dX1_sureAction_21 : decode cX1_sureAction 21 = .ok (.iload_n 1, 1) := by decide +kernel
theorem dX1_sureAction_22 : decode cX1_sureAction 22 = .ok (.invokevirtual 49, 3) := by decide +kernel
theorem dX1_sureAction_25 : decode cX1_sureAction 25 = .ok (.bipush (-2), 2) := by decide +kernel
theorem dX1_sureAction_27 : decode cX1_sureAction 27 = .ok (.if_icmp .ne 6, 3) := by decide +kernel
theorem dX1_sureAction_30 : decode cX1_sureAction 30 = .ok (.bipush (-2), 2) := by decide +kernel
theorem dX1_sureAction_32 : decode cX1_sureAction 32 = .ok (.ireturn, 1) := by decide +kernel
theorem dX1_sureAction_33 : decode cX1_sureAction 33 = .ok (.iconst 0, 1) := by decide +kernel
theorem dX1_sureAction_34 : decode cX1_sureAction 34 = .ok (.istore_n 2, 1) := by decide +kernel
theorem dX1_sureAction_35 : decode cX1_sureAction 35 = .ok (.iload_n 2, 1) := by decide +kernel
theorem dX1_sureAction_36 : decode cX1_sureAction 36 = .ok (.iconst 3, 1) := by decide +kernel
theorem dX1_sureAction_37 : decode cX1_sureAction 37 = .ok (.if_icmp .ge 39, 3) := by decide +kernel
theorem dX1_sureAction_40 : decode cX1_sureAction 40 = .ok (.aload_n 0, 1) := by decide +kernel
theorem dX1_sureAction_41 : decode cX1_sureAction 41 = .ok (.aload_n 0, 1) := by decide +kernel
theorem dX1_sureAction_42 : decode cX1_sureAction 42 = .ok (.getfield 7, 3) := by decide +kernel
theorem dX1_sureAction_45 : decode cX1_sureAction 45 = .ok (.iconst 3, 1) := by decide +kernel
theorem dX1_sureAction_46 : decode cX1_sureAction 46 = .ok (.iload_n 1, 1) := by decide +kernel
theorem dX1_sureAction_47 : decode cX1_sureAction 47 = .ok (.imul, 1) := by decide +kernel
theorem dX1_sureAction_48 : decode cX1_sureAction 48 = .ok (.iload_n 2, 1) := by decide +kernel
theorem dX1_sureAction_49 : decode cX1_sureAction 49 = .ok (.iadd, 1) := by decide +kernel
theorem dX1_sureAction_50 : decode cX1_sureAction 50 = .ok (.iaload, 1) := by decide +kernel
theorem dX1_sureAction_51 : decode cX1_sureAction 51 = .ok (.iconst 1, 1) := by decide +kernel
theorem dX1_sureAction_52 : decode cX1_sureAction 52 = .ok (.invokevirtual 28, 3) := by decide +kernel
theorem dX1_sureAction_55 : decode cX1_sureAction 55 = .ok (.istore_n 3, 1) := by decide +kernel
theorem dX1_sureAction_56 : decode cX1_sureAction 56 = .ok (.iload_n 3, 1) := by decide +kernel
theorem dX1_sureAction_57 : decode cX1_sureAction 57 = .ok (.iconst 1, 1) := by decide +kernel
theorem dX1_sureAction_58 : decode cX1_sureAction 58 = .ok (.iadd, 1) := by decide +kernel
theorem dX1_sureAction_59 : decode cX1_sureAction 59 = .ok (.aload_n 0, 1) := by decide +kernel
theorem dX1_sureAction_60 : decode cX1_sureAction 60 = .ok (.getfield 17, 3) := by decide +kernel
theorem dX1_sureAction_63 : decode cX1_sureAction 63 = .ok (.iload_n 1, 1) := by decide +kernel
theorem dX1_sureAction_64 : decode cX1_sureAction 64 = .ok (.iaload, 1) := by decide +kernel
theorem dX1_sureAction_65 : decode cX1_sureAction 65 = .ok (.if_icmp .ne 5, 3) := by decide +kernel
theorem dX1_sureAction_68 : decode cX1_sureAction 68 = .ok (.iload_n 2, 1) := by decide +kernel
theorem dX1_sureAction_69 : decode cX1_sureAction 69 = .ok (.ireturn, 1) := by decide +kernel
theorem dX1_sureAction_70 : decode cX1_sureAction 70 = .ok (.iinc 2 1, 3) := by decide +kernel
theorem dX1_sureAction_73 : decode cX1_sureAction 73 = .ok (.goto (-38), 3) := by decide +kernel
theorem dX1_sureAction_76 : decode cX1_sureAction 76 = .ok (.bipush (-2), 2) := by decide +kernel
theorem dX1_sureAction_78 : decode cX1_sureAction 78 = .ok (.ireturn, 1) := by decide +kernel
abbrev cX1_prune : ByteArray := prog_3_method_18_code
def yX1_prune : MethodName := ⟨RX1, "prune", "()I"⟩
theorem dX1_prune_0 : decode cX1_prune 0 = .ok (.aload_n 0, 1) := by decide +kernel
theorem dX1_prune_1 : decode cX1_prune 1 = .ok (.invokevirtual 46, 3) := by decide +kernel
theorem dX1_prune_4 : decode cX1_prune 4 = .ok (.istore_n 1, 1) := by decide +kernel
theorem dX1_prune_5 : decode cX1_prune 5 = .ok (.iconst 0, 1) := by decide +kernel
theorem dX1_prune_6 : decode cX1_prune 6 = .ok (.istore_n 2, 1) := by decide +kernel
theorem dX1_prune_7 : decode cX1_prune 7 = .ok (.iconst 0, 1) := by decide +kernel
theorem dX1_prune_8 : decode cX1_prune 8 = .ok (.istore_n 3, 1) := by decide +kernel
theorem dX1_prune_9 : decode cX1_prune 9 = .ok (.iload_n 3, 1) := by decide +kernel
theorem dX1_prune_10 : decode cX1_prune 10 = .ok (.bipush 24, 2) := by decide +kernel
theorem dX1_prune_12 : decode cX1_prune 12 = .ok (.if_icmp .ge 32, 3) := by decide +kernel
theorem dX1_prune_15 : decode cX1_prune 15 = .ok (.aload_n 0, 1) := by decide +kernel
theorem dX1_prune_16 : decode cX1_prune 16 = .ok (.getfield 7, 3) := by decide +kernel
theorem dX1_prune_19 : decode cX1_prune 19 = .ok (.iload_n 3, 1) := by decide +kernel
theorem dX1_prune_20 : decode cX1_prune 20 = .ok (.iaload, 1) := by decide +kernel
theorem dX1_prune_21 : decode cX1_prune 21 = .ok (.iload_n 1, 1) := by decide +kernel
theorem dX1_prune_22 : decode cX1_prune 22 = .ok (.iconst (-1), 1) := by decide +kernel
theorem dX1_prune_23 : decode cX1_prune 23 = .ok (.ixor, 1) := by decide +kernel
theorem dX1_prune_24 : decode cX1_prune 24 = .ok (.iand, 1) := by decide +kernel
theorem dX1_prune_25 : decode cX1_prune 25 = .ok (.ifCond .eq 13, 3) := by decide +kernel
theorem dX1_prune_28 : decode cX1_prune 28 = .ok (.aload_n 0, 1) := by decide +kernel
theorem dX1_prune_29 : decode cX1_prune 29 = .ok (.getfield 7, 3) := by decide +kernel
theorem dX1_prune_32 : decode cX1_prune 32 = .ok (.iload_n 3, 1) := by decide +kernel
theorem dX1_prune_33 : decode cX1_prune 33 = .ok (.iconst 0, 1) := by decide +kernel
theorem dX1_prune_34 : decode cX1_prune 34 = .ok (.iastore, 1) := by decide +kernel
theorem dX1_prune_35 : decode cX1_prune 35 = .ok (.iinc 2 1, 3) := by decide +kernel
theorem dX1_prune_38 : decode cX1_prune 38 = .ok (.iinc 3 1, 3) := by decide +kernel
theorem dX1_prune_41 : decode cX1_prune 41 = .ok (.goto (-32), 3) := by decide +kernel
theorem dX1_prune_44 : decode cX1_prune 44 = .ok (.iload_n 2, 1) := by decide +kernel
theorem dX1_prune_45 : decode cX1_prune 45 = .ok (.ireturn, 1) := by decide +kernel
abbrev cX1_hopeful : ByteArray := prog_3_method_19_code
def yX1_hopeful : MethodName := ⟨RX1, "hopeful", "()I"⟩
theorem dX1_hopeful_0 : decode cX1_hopeful 0 = .ok (.aload_n 0, 1) := by decide +kernel
theorem dX1_hopeful_1 : decode cX1_hopeful 1 = .ok (.invokevirtual 46, 3) := by decide +kernel
theorem dX1_hopeful_4 : decode cX1_hopeful 4 = .ok (.istore_n 1, 1) := by decide +kernel
theorem dX1_hopeful_5 : decode cX1_hopeful 5 = .ok (.aload_n 0, 1) := by decide +kernel
theorem dX1_hopeful_6 : decode cX1_hopeful 6 = .ok (.invokevirtual 53, 3) := by decide +kernel
theorem dX1_hopeful_9 : decode cX1_hopeful 9 = .ok (.istore_n 2, 1) := by decide +kernel
theorem dX1_hopeful_10 : decode cX1_hopeful 10 = .ok (.iconst 0, 1) := by decide +kernel
theorem dX1_hopeful_11 : decode cX1_hopeful 11 = .ok (.istore_n 3, 1) := by decide +kernel
theorem dX1_hopeful_12 : decode cX1_hopeful 12 = .ok (.iconst 0, 1) := by decide +kernel
theorem dX1_hopeful_13 : decode cX1_hopeful 13 = .ok (.istore 4, 2) := by decide +kernel
theorem dX1_hopeful_15 : decode cX1_hopeful 15 = .ok (.iload 4, 2) := by decide +kernel
theorem dX1_hopeful_17 : decode cX1_hopeful 17 = .ok (.bipush 8, 2) := by decide +kernel
theorem dX1_hopeful_19 : decode cX1_hopeful 19 = .ok (.if_icmp .ge 32, 3) := by decide +kernel
theorem dX1_hopeful_22 : decode cX1_hopeful 22 = .ok (.aload_n 0, 1) := by decide +kernel
theorem dX1_hopeful_23 : decode cX1_hopeful 23 = .ok (.iload_n 1, 1) := by decide +kernel
theorem dX1_hopeful_24 : decode cX1_hopeful 24 = .ok (.iload 4, 2) := by decide +kernel
theorem dX1_hopeful_26 : decode cX1_hopeful 26 = .ok (.invokevirtual 24, 3) := by decide +kernel
theorem dX1_hopeful_29 : decode cX1_hopeful 29 = .ok (.ifCond .eq 16, 3) := by decide +kernel
theorem dX1_hopeful_32 : decode cX1_hopeful 32 = .ok (.aload_n 0, 1) := by decide +kernel
theorem dX1_hopeful_33 : decode cX1_hopeful 33 = .ok (.iload_n 2, 1) := by decide +kernel
theorem dX1_hopeful_34 : decode cX1_hopeful 34 = .ok (.iload 4, 2) := by decide +kernel
theorem dX1_hopeful_36 : decode cX1_hopeful 36 = .ok (.invokevirtual 24, 3) := by decide +kernel
theorem dX1_hopeful_39 : decode cX1_hopeful 39 = .ok (.ifCond .ne 6, 3) := by decide +kernel
theorem dX1_hopeful_42 : decode cX1_hopeful 42 = .ok (.iinc 3 1, 3) := by decide +kernel
theorem dX1_hopeful_45 : decode cX1_hopeful 45 = .ok (.iinc 4 1, 3) := by decide +kernel
theorem dX1_hopeful_48 : decode cX1_hopeful 48 = .ok (.goto (-33), 3) := by decide +kernel
theorem dX1_hopeful_51 : decode cX1_hopeful 51 = .ok (.iload_n 3, 1) := by decide +kernel
theorem dX1_hopeful_52 : decode cX1_hopeful 52 = .ok (.ireturn, 1) := by decide +kernel
theorem q21 : (Jvm.Cond.initialized "CyclicPlannerModel") ∈ lw_all := lw_g (lw_at lw_m0 2 rfl) rfl
theorem q153 : (Jvm.Cond.instantiable "CyclicPlannerModel" (3 : Nat)) ∈ lw_all := lw_g (lw_at lw_m0 134 rfl) rfl
theorem q155 : (Jvm.Cond.instanceMethod ({ cls := "CyclicPlannerModel", name := "<init>", desc := "()V" } : Jvm.MethodName)) ∈ lw_all := lw_g (lw_at lw_m0 136 rfl) rfl
theorem q156 : (Jvm.Cond.code ({ cls := "CyclicPlannerModel", name := "<init>", desc := "()V" } : Jvm.MethodName) prog_3_method_1_code (1 : Nat) (Option.none : Option Jvm.ClassFile.FieldType)) ∈ lw_all := lw_g (lw_at lw_m0 137 rfl) rfl
theorem q157 : (Jvm.Cond.methodLink "CyclicPlannerModel" (1 : Nat) ({ cls := "java/lang/Object", name := "<init>", desc := "()V" } : Jvm.MethodName)) ∈ lw_all := lw_g (lw_at lw_m0 138 rfl) rfl
theorem q158 : (Jvm.Cond.fieldLink "CyclicPlannerModel" (7 : Nat) "CyclicPlannerModel" "out" "[I") ∈ lw_all := lw_g (lw_at lw_m0 139 rfl) rfl
theorem q159 : (Jvm.Cond.fieldLink "CyclicPlannerModel" (13 : Nat) "CyclicPlannerModel" "goal" "I") ∈ lw_all := lw_g (lw_at lw_m0 140 rfl) rfl
theorem q160 : (Jvm.Cond.fieldLink "CyclicPlannerModel" (17 : Nat) "CyclicPlannerModel" "far" "[I") ∈ lw_all := lw_g (lw_at lw_m0 141 rfl) rfl
theorem q161 : (Jvm.Cond.lays "CyclicPlannerModel" "CyclicPlannerModel" "out" "[I") ∈ lw_all := lw_g (lw_at lw_m0 142 rfl) rfl
theorem q162 : (Jvm.Cond.soleField "CyclicPlannerModel" "out") ∈ lw_all := lw_g (lw_at lw_m0 143 rfl) rfl
theorem q163 : (Jvm.Cond.lays "CyclicPlannerModel" "CyclicPlannerModel" "goal" "I") ∈ lw_all := lw_g (lw_at lw_m0 144 rfl) rfl
theorem q164 : (Jvm.Cond.soleField "CyclicPlannerModel" "goal") ∈ lw_all := lw_g (lw_at lw_m0 145 rfl) rfl
theorem q165 : (Jvm.Cond.lays "CyclicPlannerModel" "CyclicPlannerModel" "far" "[I") ∈ lw_all := lw_g (lw_at lw_m0 146 rfl) rfl
theorem q166 : (Jvm.Cond.soleField "CyclicPlannerModel" "far") ∈ lw_all := lw_g (lw_at lw_m0 147 rfl) rfl
theorem q167 : (Jvm.Cond.superclass "CyclicPlannerModel" "java/lang/Object") ∈ lw_all := lw_g (lw_at lw_m0 148 rfl) rfl
theorem q170 : (Jvm.Cond.instanceMethod ({ cls := "CyclicPlannerModel", name := "action", desc := "(III)Z" } : Jvm.MethodName)) ∈ lw_all := lw_g (lw_at lw_m0 151 rfl) rfl
theorem q171 : (Jvm.Cond.selects "CyclicPlannerModel" ({ cls := "CyclicPlannerModel", name := "action", desc := "(III)Z" } : Jvm.MethodName) ({ cls := "CyclicPlannerModel", name := "action", desc := "(III)Z" } : Jvm.MethodName)) ∈ lw_all := lw_g (lw_at lw_m0 152 rfl) rfl
theorem q172 : (Jvm.Cond.code ({ cls := "CyclicPlannerModel", name := "action", desc := "(III)Z" } : Jvm.MethodName) prog_3_method_4_code (4 : Nat) (Option.some Jvm.ClassFile.FieldType.boolean)) ∈ lw_all := lw_g (lw_at lw_m0 153 rfl) rfl
theorem q173 : (Jvm.Cond.methodLink "CyclicPlannerModel" (20 : Nat) ({ cls := "CyclicPlannerModel", name := "isState", desc := "(I)Z" } : Jvm.MethodName)) ∈ lw_all := lw_g (lw_at lw_m0 154 rfl) rfl
theorem q174 : (Jvm.Cond.privateMethod ({ cls := "CyclicPlannerModel", name := "isState", desc := "(I)Z" } : Jvm.MethodName)) ∈ lw_tbl := lw_at lw_m0 155 rfl
theorem q175 : (Jvm.Cond.instanceMethod ({ cls := "CyclicPlannerModel", name := "isState", desc := "(I)Z" } : Jvm.MethodName)) ∈ lw_all := lw_g (lw_at lw_m0 156 rfl) rfl
theorem q176 : (Jvm.Cond.code ({ cls := "CyclicPlannerModel", name := "isState", desc := "(I)Z" } : Jvm.MethodName) prog_3_method_2_code (2 : Nat) (Option.some Jvm.ClassFile.FieldType.boolean)) ∈ lw_all := lw_g (lw_at lw_m0 157 rfl) rfl
theorem q178 : (Jvm.Cond.instanceMethod ({ cls := "CyclicPlannerModel", name := "goals", desc := "(I)Z" } : Jvm.MethodName)) ∈ lw_all := lw_g (lw_at lw_m0 159 rfl) rfl
theorem q179 : (Jvm.Cond.selects "CyclicPlannerModel" ({ cls := "CyclicPlannerModel", name := "goals", desc := "(I)Z" } : Jvm.MethodName) ({ cls := "CyclicPlannerModel", name := "goals", desc := "(I)Z" } : Jvm.MethodName)) ∈ lw_all := lw_g (lw_at lw_m0 160 rfl) rfl
theorem q180 : (Jvm.Cond.code ({ cls := "CyclicPlannerModel", name := "goals", desc := "(I)Z" } : Jvm.MethodName) prog_3_method_5_code (2 : Nat) (Option.some Jvm.ClassFile.FieldType.boolean)) ∈ lw_all := lw_g (lw_at lw_m0 161 rfl) rfl
theorem q182 : (Jvm.Cond.instanceMethod ({ cls := "CyclicPlannerModel", name := "weak", desc := "()I" } : Jvm.MethodName)) ∈ lw_all := lw_g (lw_at lw_m0 163 rfl) rfl
theorem q183 : (Jvm.Cond.selects "CyclicPlannerModel" ({ cls := "CyclicPlannerModel", name := "weak", desc := "()I" } : Jvm.MethodName) ({ cls := "CyclicPlannerModel", name := "weak", desc := "()I" } : Jvm.MethodName)) ∈ lw_all := lw_g (lw_at lw_m0 164 rfl) rfl
theorem q184 : (Jvm.Cond.code ({ cls := "CyclicPlannerModel", name := "weak", desc := "()I" } : Jvm.MethodName) prog_3_method_9_code (1 : Nat) (Option.some Jvm.ClassFile.FieldType.int)) ∈ lw_all := lw_g (lw_at lw_m0 165 rfl) rfl
theorem q185 : (Jvm.Cond.methodLink "CyclicPlannerModel" (32 : Nat) ({ cls := "CyclicPlannerModel", name := "count", desc := "(Z)V" } : Jvm.MethodName)) ∈ lw_all := lw_g (lw_at lw_m0 166 rfl) rfl
theorem q186 : (Jvm.Cond.privateMethod ({ cls := "CyclicPlannerModel", name := "count", desc := "(Z)V" } : Jvm.MethodName)) ∈ lw_tbl := lw_at lw_m0 167 rfl
theorem q187 : (Jvm.Cond.instanceMethod ({ cls := "CyclicPlannerModel", name := "count", desc := "(Z)V" } : Jvm.MethodName)) ∈ lw_all := lw_g (lw_at lw_m0 168 rfl) rfl
theorem q188 : (Jvm.Cond.code ({ cls := "CyclicPlannerModel", name := "count", desc := "(Z)V" } : Jvm.MethodName) prog_3_method_7_code (5 : Nat) (Option.none : Option Jvm.ClassFile.FieldType)) ∈ lw_all := lw_g (lw_at lw_m0 169 rfl) rfl
theorem q189 : (Jvm.Cond.methodLink "CyclicPlannerModel" (24 : Nat) ({ cls := "CyclicPlannerModel", name := "in", desc := "(II)Z" } : Jvm.MethodName)) ∈ lw_all := lw_g (lw_at lw_m0 170 rfl) rfl
theorem q190 : (Jvm.Cond.privateMethod ({ cls := "CyclicPlannerModel", name := "in", desc := "(II)Z" } : Jvm.MethodName)) ∈ lw_tbl := lw_at lw_m0 171 rfl
theorem q191 : (Jvm.Cond.instanceMethod ({ cls := "CyclicPlannerModel", name := "in", desc := "(II)Z" } : Jvm.MethodName)) ∈ lw_all := lw_g (lw_at lw_m0 172 rfl) rfl
theorem q192 : (Jvm.Cond.code ({ cls := "CyclicPlannerModel", name := "in", desc := "(II)Z" } : Jvm.MethodName) prog_3_method_3_code (3 : Nat) (Option.some Jvm.ClassFile.FieldType.boolean)) ∈ lw_all := lw_g (lw_at lw_m0 173 rfl) rfl
theorem q193 : (Jvm.Cond.methodLink "CyclicPlannerModel" (28 : Nat) ({ cls := "CyclicPlannerModel", name := "outcome", desc := "(IZ)I" } : Jvm.MethodName)) ∈ lw_all := lw_g (lw_at lw_m0 174 rfl) rfl
theorem q194 : (Jvm.Cond.privateMethod ({ cls := "CyclicPlannerModel", name := "outcome", desc := "(IZ)I" } : Jvm.MethodName)) ∈ lw_tbl := lw_at lw_m0 175 rfl
theorem q195 : (Jvm.Cond.instanceMethod ({ cls := "CyclicPlannerModel", name := "outcome", desc := "(IZ)I" } : Jvm.MethodName)) ∈ lw_all := lw_g (lw_at lw_m0 176 rfl) rfl
theorem q196 : (Jvm.Cond.code ({ cls := "CyclicPlannerModel", name := "outcome", desc := "(IZ)I" } : Jvm.MethodName) prog_3_method_6_code (6 : Nat) (Option.some Jvm.ClassFile.FieldType.int)) ∈ lw_all := lw_g (lw_at lw_m0 177 rfl) rfl
theorem q197 : (Jvm.Cond.methodLink "CyclicPlannerModel" (36 : Nat) ({ cls := "CyclicPlannerModel", name := "reached", desc := "()I" } : Jvm.MethodName)) ∈ lw_all := lw_g (lw_at lw_m0 178 rfl) rfl
theorem q198 : (Jvm.Cond.privateMethod ({ cls := "CyclicPlannerModel", name := "reached", desc := "()I" } : Jvm.MethodName)) ∈ lw_tbl := lw_at lw_m0 179 rfl
theorem q199 : (Jvm.Cond.instanceMethod ({ cls := "CyclicPlannerModel", name := "reached", desc := "()I" } : Jvm.MethodName)) ∈ lw_all := lw_g (lw_at lw_m0 180 rfl) rfl
theorem q200 : (Jvm.Cond.code ({ cls := "CyclicPlannerModel", name := "reached", desc := "()I" } : Jvm.MethodName) prog_3_method_8_code (3 : Nat) (Option.some Jvm.ClassFile.FieldType.int)) ∈ lw_all := lw_g (lw_at lw_m0 181 rfl) rfl
theorem q202 : (Jvm.Cond.instanceMethod ({ cls := "CyclicPlannerModel", name := "safe", desc := "()I" } : Jvm.MethodName)) ∈ lw_all := lw_g (lw_at lw_m0 183 rfl) rfl
theorem q203 : (Jvm.Cond.selects "CyclicPlannerModel" ({ cls := "CyclicPlannerModel", name := "safe", desc := "()I" } : Jvm.MethodName) ({ cls := "CyclicPlannerModel", name := "safe", desc := "()I" } : Jvm.MethodName)) ∈ lw_all := lw_g (lw_at lw_m0 184 rfl) rfl
theorem q204 : (Jvm.Cond.code ({ cls := "CyclicPlannerModel", name := "safe", desc := "()I" } : Jvm.MethodName) prog_3_method_11_code (3 : Nat) (Option.some Jvm.ClassFile.FieldType.int)) ∈ lw_all := lw_g (lw_at lw_m0 185 rfl) rfl
theorem q205 : (Jvm.Cond.methodLink "CyclicPlannerModel" (40 : Nat) ({ cls := "CyclicPlannerModel", name := "keeps", desc := "(I)Z" } : Jvm.MethodName)) ∈ lw_all := lw_g (lw_at lw_m0 186 rfl) rfl
theorem q206 : (Jvm.Cond.privateMethod ({ cls := "CyclicPlannerModel", name := "keeps", desc := "(I)Z" } : Jvm.MethodName)) ∈ lw_tbl := lw_at lw_m0 187 rfl
theorem q207 : (Jvm.Cond.instanceMethod ({ cls := "CyclicPlannerModel", name := "keeps", desc := "(I)Z" } : Jvm.MethodName)) ∈ lw_all := lw_g (lw_at lw_m0 188 rfl) rfl
theorem q208 : (Jvm.Cond.code ({ cls := "CyclicPlannerModel", name := "keeps", desc := "(I)Z" } : Jvm.MethodName) prog_3_method_10_code (5 : Nat) (Option.some Jvm.ClassFile.FieldType.boolean)) ∈ lw_all := lw_g (lw_at lw_m0 189 rfl) rfl
theorem q210 : (Jvm.Cond.instanceMethod ({ cls := "CyclicPlannerModel", name := "sure", desc := "()I" } : Jvm.MethodName)) ∈ lw_all := lw_g (lw_at lw_m0 191 rfl) rfl
theorem q211 : (Jvm.Cond.selects "CyclicPlannerModel" ({ cls := "CyclicPlannerModel", name := "sure", desc := "()I" } : Jvm.MethodName) ({ cls := "CyclicPlannerModel", name := "sure", desc := "()I" } : Jvm.MethodName)) ∈ lw_all := lw_g (lw_at lw_m0 192 rfl) rfl
theorem q212 : (Jvm.Cond.code ({ cls := "CyclicPlannerModel", name := "sure", desc := "()I" } : Jvm.MethodName) prog_3_method_12_code (1 : Nat) (Option.some Jvm.ClassFile.FieldType.int)) ∈ lw_all := lw_g (lw_at lw_m0 193 rfl) rfl
theorem q214 : (Jvm.Cond.instanceMethod ({ cls := "CyclicPlannerModel", name := "steps", desc := "(I)I" } : Jvm.MethodName)) ∈ lw_all := lw_g (lw_at lw_m0 195 rfl) rfl
theorem q215 : (Jvm.Cond.selects "CyclicPlannerModel" ({ cls := "CyclicPlannerModel", name := "steps", desc := "(I)I" } : Jvm.MethodName) ({ cls := "CyclicPlannerModel", name := "steps", desc := "(I)I" } : Jvm.MethodName)) ∈ lw_all := lw_g (lw_at lw_m0 196 rfl) rfl
theorem q216 : (Jvm.Cond.code ({ cls := "CyclicPlannerModel", name := "steps", desc := "(I)I" } : Jvm.MethodName) prog_3_method_14_code (2 : Nat) (Option.some Jvm.ClassFile.FieldType.int)) ∈ lw_all := lw_g (lw_at lw_m0 197 rfl) rfl
theorem q217 : (Jvm.Cond.methodLink "CyclicPlannerModel" (43 : Nat) ({ cls := "CyclicPlannerModel", name := "number", desc := "(IZ)I" } : Jvm.MethodName)) ∈ lw_all := lw_g (lw_at lw_m0 198 rfl) rfl
theorem q218 : (Jvm.Cond.privateMethod ({ cls := "CyclicPlannerModel", name := "number", desc := "(IZ)I" } : Jvm.MethodName)) ∈ lw_tbl := lw_at lw_m0 199 rfl
theorem q219 : (Jvm.Cond.instanceMethod ({ cls := "CyclicPlannerModel", name := "number", desc := "(IZ)I" } : Jvm.MethodName)) ∈ lw_all := lw_g (lw_at lw_m0 200 rfl) rfl
theorem q220 : (Jvm.Cond.code ({ cls := "CyclicPlannerModel", name := "number", desc := "(IZ)I" } : Jvm.MethodName) prog_3_method_13_code (3 : Nat) (Option.some Jvm.ClassFile.FieldType.int)) ∈ lw_all := lw_g (lw_at lw_m0 201 rfl) rfl
theorem q222 : (Jvm.Cond.instanceMethod ({ cls := "CyclicPlannerModel", name := "luck", desc := "(I)I" } : Jvm.MethodName)) ∈ lw_all := lw_g (lw_at lw_m0 203 rfl) rfl
theorem q223 : (Jvm.Cond.selects "CyclicPlannerModel" ({ cls := "CyclicPlannerModel", name := "luck", desc := "(I)I" } : Jvm.MethodName) ({ cls := "CyclicPlannerModel", name := "luck", desc := "(I)I" } : Jvm.MethodName)) ∈ lw_all := lw_g (lw_at lw_m0 204 rfl) rfl
theorem q224 : (Jvm.Cond.code ({ cls := "CyclicPlannerModel", name := "luck", desc := "(I)I" } : Jvm.MethodName) prog_3_method_15_code (2 : Nat) (Option.some Jvm.ClassFile.FieldType.int)) ∈ lw_all := lw_g (lw_at lw_m0 205 rfl) rfl
theorem q226 : (Jvm.Cond.instanceMethod ({ cls := "CyclicPlannerModel", name := "safeActions", desc := "(I)I" } : Jvm.MethodName)) ∈ lw_all := lw_g (lw_at lw_m0 207 rfl) rfl
theorem q227 : (Jvm.Cond.selects "CyclicPlannerModel" ({ cls := "CyclicPlannerModel", name := "safeActions", desc := "(I)I" } : Jvm.MethodName) ({ cls := "CyclicPlannerModel", name := "safeActions", desc := "(I)I" } : Jvm.MethodName)) ∈ lw_all := lw_g (lw_at lw_m0 208 rfl) rfl
theorem q228 : (Jvm.Cond.code ({ cls := "CyclicPlannerModel", name := "safeActions", desc := "(I)I" } : Jvm.MethodName) prog_3_method_16_code (5 : Nat) (Option.some Jvm.ClassFile.FieldType.int)) ∈ lw_all := lw_g (lw_at lw_m0 209 rfl) rfl
theorem q229 : (Jvm.Cond.methodLink "CyclicPlannerModel" (46 : Nat) ({ cls := "CyclicPlannerModel", name := "safe", desc := "()I" } : Jvm.MethodName)) ∈ lw_all := lw_g (lw_at lw_m0 210 rfl) rfl
theorem q231 : (Jvm.Cond.instanceMethod ({ cls := "CyclicPlannerModel", name := "sureAction", desc := "(I)I" } : Jvm.MethodName)) ∈ lw_all := lw_g (lw_at lw_m0 212 rfl) rfl
theorem q232 : (Jvm.Cond.selects "CyclicPlannerModel" ({ cls := "CyclicPlannerModel", name := "sureAction", desc := "(I)I" } : Jvm.MethodName) ({ cls := "CyclicPlannerModel", name := "sureAction", desc := "(I)I" } : Jvm.MethodName)) ∈ lw_all := lw_g (lw_at lw_m0 213 rfl) rfl
theorem q233 : (Jvm.Cond.code ({ cls := "CyclicPlannerModel", name := "sureAction", desc := "(I)I" } : Jvm.MethodName) prog_3_method_17_code (4 : Nat) (Option.some Jvm.ClassFile.FieldType.int)) ∈ lw_all := lw_g (lw_at lw_m0 214 rfl) rfl
theorem q234 : (Jvm.Cond.methodLink "CyclicPlannerModel" (49 : Nat) ({ cls := "CyclicPlannerModel", name := "steps", desc := "(I)I" } : Jvm.MethodName)) ∈ lw_all := lw_g (lw_at lw_m0 215 rfl) rfl
theorem q236 : (Jvm.Cond.instanceMethod ({ cls := "CyclicPlannerModel", name := "prune", desc := "()I" } : Jvm.MethodName)) ∈ lw_all := lw_g (lw_at lw_m0 217 rfl) rfl
theorem q237 : (Jvm.Cond.selects "CyclicPlannerModel" ({ cls := "CyclicPlannerModel", name := "prune", desc := "()I" } : Jvm.MethodName) ({ cls := "CyclicPlannerModel", name := "prune", desc := "()I" } : Jvm.MethodName)) ∈ lw_all := lw_g (lw_at lw_m0 218 rfl) rfl
theorem q238 : (Jvm.Cond.code ({ cls := "CyclicPlannerModel", name := "prune", desc := "()I" } : Jvm.MethodName) prog_3_method_18_code (4 : Nat) (Option.some Jvm.ClassFile.FieldType.int)) ∈ lw_all := lw_g (lw_at lw_m0 219 rfl) rfl
theorem q240 : (Jvm.Cond.instanceMethod ({ cls := "CyclicPlannerModel", name := "hopeful", desc := "()I" } : Jvm.MethodName)) ∈ lw_all := lw_g (lw_at lw_m0 221 rfl) rfl
theorem q241 : (Jvm.Cond.selects "CyclicPlannerModel" ({ cls := "CyclicPlannerModel", name := "hopeful", desc := "()I" } : Jvm.MethodName) ({ cls := "CyclicPlannerModel", name := "hopeful", desc := "()I" } : Jvm.MethodName)) ∈ lw_all := lw_g (lw_at lw_m0 222 rfl) rfl
theorem q242 : (Jvm.Cond.code ({ cls := "CyclicPlannerModel", name := "hopeful", desc := "()I" } : Jvm.MethodName) prog_3_method_19_code (5 : Nat) (Option.some Jvm.ClassFile.FieldType.int)) ∈ lw_all := lw_g (lw_at lw_m0 223 rfl) rfl
theorem q243 : (Jvm.Cond.methodLink "CyclicPlannerModel" (53 : Nat) ({ cls := "CyclicPlannerModel", name := "sure", desc := "()I" } : Jvm.MethodName)) ∈ lw_all := lw_g (lw_at lw_m0 224 rfl) rfl
theorem in_X1 : ∀ w ∈ wsX10, w ∈ lw_all := lw_in wsX10 [161, 163, 165] (by decide +kernel) (by decide +kernel)
end
section
/-! java/lang/Object -/
set_option maxRecDepth 100000
def RJ0 : String := "java/lang/Object"
abbrev cJ0_init : ByteArray := object_method_1_code
def yJ0_init : MethodName := ⟨RJ0, "<init>", "()V"⟩
theorem dJ0_init_0 : decode cJ0_init 0 = .ok (.return_, 1) := by decide +kernel
theorem q28 : (Jvm.Cond.instanceMethod ({ cls := "java/lang/Object", name := "<init>", desc := "()V" } : Jvm.MethodName)) ∈ lw_all := lw_g (lw_at lw_m0 9 rfl) rfl
theorem q29 : (Jvm.Cond.code ({ cls := "java/lang/Object", name := "<init>", desc := "()V" } : Jvm.MethodName) object_method_1_code (1 : Nat) (Option.none : Option Jvm.ClassFile.FieldType)) ∈ lw_all := lw_g (lw_at lw_m0 10 rfl) rfl
theorem q58 : (Jvm.Cond.arrayClass Jvm.ClassFile.FieldType.short) ∈ lw_all := lw_g (lw_at lw_m0 39 rfl) rfl
theorem q59 : (Jvm.Cond.arrayClass Jvm.ClassFile.FieldType.byte) ∈ lw_all := lw_g (lw_at lw_m0 40 rfl) rfl
theorem q168 : (Jvm.Cond.arrayClass Jvm.ClassFile.FieldType.int) ∈ lw_all := lw_g (lw_at lw_m0 149 rfl) rfl
theorem q19 : (Jvm.Cond.initialized "CyclicPlannerLaw") ∈ lw_all := lw_g (lw_at lw_m0 0 rfl) rfl
theorem q22 : (Jvm.Cond.classLink "CyclicPlannerLaw" (7 : Nat) "CyclicPlanner") ∈ lw_all := lw_g (lw_at lw_m0 3 rfl) rfl
theorem q24 : (Jvm.Cond.methodLink "CyclicPlannerLaw" (9 : Nat) ({ cls := "CyclicPlanner", name := "<init>", desc := "()V" } : Jvm.MethodName)) ∈ lw_all := lw_g (lw_at lw_m0 5 rfl) rfl
theorem q60 : (Jvm.Cond.methodLink "CyclicPlannerLaw" (13 : Nat) ({ cls := "CyclicPlanner", name := "action", desc := "(III)Z" } : Jvm.MethodName)) ∈ lw_all := lw_g (lw_at lw_m0 41 rfl) rfl
theorem q68 : (Jvm.Cond.methodLink "CyclicPlannerLaw" (18 : Nat) ({ cls := "CyclicPlanner", name := "goals", desc := "(I)Z" } : Jvm.MethodName)) ∈ lw_all := lw_g (lw_at lw_m0 49 rfl) rfl
theorem q72 : (Jvm.Cond.methodLink "CyclicPlannerLaw" (23 : Nat) ({ cls := "CyclicPlanner", name := "weak", desc := "()I" } : Jvm.MethodName)) ∈ lw_all := lw_g (lw_at lw_m0 53 rfl) rfl
theorem q116 : (Jvm.Cond.methodLink "CyclicPlannerLaw" (28 : Nat) ({ cls := "CyclicPlanner", name := "safe", desc := "()I" } : Jvm.MethodName)) ∈ lw_all := lw_g (lw_at lw_m0 97 rfl) rfl
theorem q120 : (Jvm.Cond.methodLink "CyclicPlannerLaw" (32 : Nat) ({ cls := "CyclicPlanner", name := "sure", desc := "()I" } : Jvm.MethodName)) ∈ lw_all := lw_g (lw_at lw_m0 101 rfl) rfl
theorem q124 : (Jvm.Cond.methodLink "CyclicPlannerLaw" (36 : Nat) ({ cls := "CyclicPlanner", name := "steps", desc := "(I)I" } : Jvm.MethodName)) ∈ lw_all := lw_g (lw_at lw_m0 105 rfl) rfl
theorem q128 : (Jvm.Cond.methodLink "CyclicPlannerLaw" (41 : Nat) ({ cls := "CyclicPlanner", name := "luck", desc := "(I)I" } : Jvm.MethodName)) ∈ lw_all := lw_g (lw_at lw_m0 109 rfl) rfl
theorem q132 : (Jvm.Cond.methodLink "CyclicPlannerLaw" (45 : Nat) ({ cls := "CyclicPlanner", name := "safeActions", desc := "(I)I" } : Jvm.MethodName)) ∈ lw_all := lw_g (lw_at lw_m0 113 rfl) rfl
theorem q136 : (Jvm.Cond.methodLink "CyclicPlannerLaw" (49 : Nat) ({ cls := "CyclicPlanner", name := "sureAction", desc := "(I)I" } : Jvm.MethodName)) ∈ lw_all := lw_g (lw_at lw_m0 117 rfl) rfl
theorem q144 : (Jvm.Cond.methodLink "CyclicPlannerLaw" (53 : Nat) ({ cls := "CyclicPlanner", name := "prune", desc := "()I" } : Jvm.MethodName)) ∈ lw_all := lw_g (lw_at lw_m0 125 rfl) rfl
theorem q148 : (Jvm.Cond.methodLink "CyclicPlannerLaw" (57 : Nat) ({ cls := "CyclicPlanner", name := "hopeful", desc := "()I" } : Jvm.MethodName)) ∈ lw_all := lw_g (lw_at lw_m0 129 rfl) rfl
theorem q152 : (Jvm.Cond.classLink "CyclicPlannerLaw" (10 : Nat) "CyclicPlannerModel") ∈ lw_all := lw_g (lw_at lw_m0 133 rfl) rfl
theorem q154 : (Jvm.Cond.methodLink "CyclicPlannerLaw" (12 : Nat) ({ cls := "CyclicPlannerModel", name := "<init>", desc := "()V" } : Jvm.MethodName)) ∈ lw_all := lw_g (lw_at lw_m0 135 rfl) rfl
theorem q169 : (Jvm.Cond.methodLink "CyclicPlannerLaw" (17 : Nat) ({ cls := "CyclicPlannerModel", name := "action", desc := "(III)Z" } : Jvm.MethodName)) ∈ lw_all := lw_g (lw_at lw_m0 150 rfl) rfl
theorem q177 : (Jvm.Cond.methodLink "CyclicPlannerLaw" (22 : Nat) ({ cls := "CyclicPlannerModel", name := "goals", desc := "(I)Z" } : Jvm.MethodName)) ∈ lw_all := lw_g (lw_at lw_m0 158 rfl) rfl
theorem q181 : (Jvm.Cond.methodLink "CyclicPlannerLaw" (27 : Nat) ({ cls := "CyclicPlannerModel", name := "weak", desc := "()I" } : Jvm.MethodName)) ∈ lw_all := lw_g (lw_at lw_m0 162 rfl) rfl
theorem q201 : (Jvm.Cond.methodLink "CyclicPlannerLaw" (31 : Nat) ({ cls := "CyclicPlannerModel", name := "safe", desc := "()I" } : Jvm.MethodName)) ∈ lw_all := lw_g (lw_at lw_m0 182 rfl) rfl
theorem q209 : (Jvm.Cond.methodLink "CyclicPlannerLaw" (35 : Nat) ({ cls := "CyclicPlannerModel", name := "sure", desc := "()I" } : Jvm.MethodName)) ∈ lw_all := lw_g (lw_at lw_m0 190 rfl) rfl
theorem q213 : (Jvm.Cond.methodLink "CyclicPlannerLaw" (40 : Nat) ({ cls := "CyclicPlannerModel", name := "steps", desc := "(I)I" } : Jvm.MethodName)) ∈ lw_all := lw_g (lw_at lw_m0 194 rfl) rfl
theorem q221 : (Jvm.Cond.methodLink "CyclicPlannerLaw" (44 : Nat) ({ cls := "CyclicPlannerModel", name := "luck", desc := "(I)I" } : Jvm.MethodName)) ∈ lw_all := lw_g (lw_at lw_m0 202 rfl) rfl
theorem q225 : (Jvm.Cond.methodLink "CyclicPlannerLaw" (48 : Nat) ({ cls := "CyclicPlannerModel", name := "safeActions", desc := "(I)I" } : Jvm.MethodName)) ∈ lw_all := lw_g (lw_at lw_m0 206 rfl) rfl
theorem q230 : (Jvm.Cond.methodLink "CyclicPlannerLaw" (52 : Nat) ({ cls := "CyclicPlannerModel", name := "sureAction", desc := "(I)I" } : Jvm.MethodName)) ∈ lw_all := lw_g (lw_at lw_m0 211 rfl) rfl
theorem q235 : (Jvm.Cond.methodLink "CyclicPlannerLaw" (56 : Nat) ({ cls := "CyclicPlannerModel", name := "prune", desc := "()I" } : Jvm.MethodName)) ∈ lw_all := lw_g (lw_at lw_m0 216 rfl) rfl
theorem q239 : (Jvm.Cond.methodLink "CyclicPlannerLaw" (60 : Nat) ({ cls := "CyclicPlannerModel", name := "hopeful", desc := "()I" } : Jvm.MethodName)) ∈ lw_all := lw_g (lw_at lw_m0 220 rfl) rfl
/-! the law's own entry -/
abbrev cL_law : ByteArray := code
theorem dL_law_0 : decode cL_law 0 = .ok (.new 7, 3) := by decide +kernel
theorem dL_law_3 : decode cL_law 3 = .ok (.dup, 1) := by decide +kernel
theorem dL_law_4 : decode cL_law 4 = .ok (.invokespecial 9, 3) := by decide +kernel
theorem dL_law_7 : decode cL_law 7 = .ok (.astore_n 1, 1) := by decide +kernel
theorem dL_law_8 : decode cL_law 8 = .ok (.new 10, 3) := by decide +kernel
theorem dL_law_11 : decode cL_law 11 = .ok (.dup, 1) := by decide +kernel
theorem dL_law_12 : decode cL_law 12 = .ok (.invokespecial 12, 3) := by decide +kernel
theorem dL_law_15 : decode cL_law 15 = .ok (.astore_n 2, 1) := by decide +kernel
theorem dL_law_16 : decode cL_law 16 = .ok (.iconst 0, 1) := by decide +kernel
theorem dL_law_17 : decode cL_law 17 = .ok (.istore_n 3, 1) := by decide +kernel
theorem dL_law_18 : decode cL_law 18 = .ok (.iload_n 3, 1) := by decide +kernel
theorem dL_law_19 : decode cL_law 19 = .ok (.aload_n 0, 1) := by decide +kernel
theorem dL_law_20 : decode cL_law 20 = .ok (.arraylength, 1) := by decide +kernel
theorem dL_law_21 : decode cL_law 21 = .ok (.iconst 4, 1) := by decide +kernel
theorem dL_law_22 : decode cL_law 22 = .ok (.isub, 1) := by decide +kernel
theorem dL_law_23 : decode cL_law 23 = .ok (.if_icmp .gt 298, 3) := by decide +kernel
theorem dL_law_26 : decode cL_law 26 = .ok (.aload_n 0, 1) := by decide +kernel
theorem dL_law_27 : decode cL_law 27 = .ok (.iload_n 3, 1) := by decide +kernel
theorem dL_law_28 : decode cL_law 28 = .ok (.iaload, 1) := by decide +kernel
theorem dL_law_29 : decode cL_law 29 = .ok (.bipush 15, 2) := by decide +kernel
theorem dL_law_31 : decode cL_law 31 = .ok (.iand, 1) := by decide +kernel
theorem dL_law_32 : decode cL_law 32 = .ok (.tableswitch 283 0 10 #[60, 103, 126, 139, 152, 165, 188, 211, 234, 257, 270], 60) := by decide +kernel
theorem dL_law_92 : decode cL_law 92 = .ok (.aload_n 1, 1) := by decide +kernel
theorem dL_law_93 : decode cL_law 93 = .ok (.aload_n 0, 1) := by decide +kernel
theorem dL_law_94 : decode cL_law 94 = .ok (.iload_n 3, 1) := by decide +kernel
theorem dL_law_95 : decode cL_law 95 = .ok (.iconst 1, 1) := by decide +kernel
theorem dL_law_96 : decode cL_law 96 = .ok (.iadd, 1) := by decide +kernel
theorem dL_law_97 : decode cL_law 97 = .ok (.iaload, 1) := by decide +kernel
theorem dL_law_98 : decode cL_law 98 = .ok (.aload_n 0, 1) := by decide +kernel
theorem dL_law_99 : decode cL_law 99 = .ok (.iload_n 3, 1) := by decide +kernel
theorem dL_law_100 : decode cL_law 100 = .ok (.iconst 2, 1) := by decide +kernel
theorem dL_law_101 : decode cL_law 101 = .ok (.iadd, 1) := by decide +kernel
theorem dL_law_102 : decode cL_law 102 = .ok (.iaload, 1) := by decide +kernel
theorem dL_law_103 : decode cL_law 103 = .ok (.aload_n 0, 1) := by decide +kernel
theorem dL_law_104 : decode cL_law 104 = .ok (.iload_n 3, 1) := by decide +kernel
theorem dL_law_105 : decode cL_law 105 = .ok (.iconst 3, 1) := by decide +kernel
theorem dL_law_106 : decode cL_law 106 = .ok (.iadd, 1) := by decide +kernel
theorem dL_law_107 : decode cL_law 107 = .ok (.iaload, 1) := by decide +kernel
theorem dL_law_108 : decode cL_law 108 = .ok (.invokevirtual 13, 3) := by decide +kernel
theorem dL_law_111 : decode cL_law 111 = .ok (.aload_n 2, 1) := by decide +kernel
theorem dL_law_112 : decode cL_law 112 = .ok (.aload_n 0, 1) := by decide +kernel
theorem dL_law_113 : decode cL_law 113 = .ok (.iload_n 3, 1) := by decide +kernel
theorem dL_law_114 : decode cL_law 114 = .ok (.iconst 1, 1) := by decide +kernel
theorem dL_law_115 : decode cL_law 115 = .ok (.iadd, 1) := by decide +kernel
theorem dL_law_116 : decode cL_law 116 = .ok (.iaload, 1) := by decide +kernel
theorem dL_law_117 : decode cL_law 117 = .ok (.aload_n 0, 1) := by decide +kernel
theorem dL_law_118 : decode cL_law 118 = .ok (.iload_n 3, 1) := by decide +kernel
theorem dL_law_119 : decode cL_law 119 = .ok (.iconst 2, 1) := by decide +kernel
theorem dL_law_120 : decode cL_law 120 = .ok (.iadd, 1) := by decide +kernel
theorem dL_law_121 : decode cL_law 121 = .ok (.iaload, 1) := by decide +kernel
theorem dL_law_122 : decode cL_law 122 = .ok (.aload_n 0, 1) := by decide +kernel
theorem dL_law_123 : decode cL_law 123 = .ok (.iload_n 3, 1) := by decide +kernel
theorem dL_law_124 : decode cL_law 124 = .ok (.iconst 3, 1) := by decide +kernel
theorem dL_law_125 : decode cL_law 125 = .ok (.iadd, 1) := by decide +kernel
theorem dL_law_126 : decode cL_law 126 = .ok (.iaload, 1) := by decide +kernel
theorem dL_law_127 : decode cL_law 127 = .ok (.invokevirtual 17, 3) := by decide +kernel
theorem dL_law_130 : decode cL_law 130 = .ok (.if_icmp .eq 185, 3) := by decide +kernel
theorem dL_law_133 : decode cL_law 133 = .ok (.iconst 0, 1) := by decide +kernel
theorem dL_law_134 : decode cL_law 134 = .ok (.ireturn, 1) := by decide +kernel
theorem dL_law_135 : decode cL_law 135 = .ok (.aload_n 1, 1) := by decide +kernel
theorem dL_law_136 : decode cL_law 136 = .ok (.aload_n 0, 1) := by decide +kernel
theorem dL_law_137 : decode cL_law 137 = .ok (.iload_n 3, 1) := by decide +kernel
theorem dL_law_138 : decode cL_law 138 = .ok (.iconst 1, 1) := by decide +kernel
theorem dL_law_139 : decode cL_law 139 = .ok (.iadd, 1) := by decide +kernel
theorem dL_law_140 : decode cL_law 140 = .ok (.iaload, 1) := by decide +kernel
theorem dL_law_141 : decode cL_law 141 = .ok (.invokevirtual 18, 3) := by decide +kernel
theorem dL_law_144 : decode cL_law 144 = .ok (.aload_n 2, 1) := by decide +kernel
theorem dL_law_145 : decode cL_law 145 = .ok (.aload_n 0, 1) := by decide +kernel
theorem dL_law_146 : decode cL_law 146 = .ok (.iload_n 3, 1) := by decide +kernel
theorem dL_law_147 : decode cL_law 147 = .ok (.iconst 1, 1) := by decide +kernel
theorem dL_law_148 : decode cL_law 148 = .ok (.iadd, 1) := by decide +kernel
theorem dL_law_149 : decode cL_law 149 = .ok (.iaload, 1) := by decide +kernel
theorem dL_law_150 : decode cL_law 150 = .ok (.invokevirtual 22, 3) := by decide +kernel
theorem dL_law_153 : decode cL_law 153 = .ok (.if_icmp .eq 162, 3) := by decide +kernel
theorem dL_law_156 : decode cL_law 156 = .ok (.iconst 0, 1) := by decide +kernel
theorem dL_law_157 : decode cL_law 157 = .ok (.ireturn, 1) := by decide +kernel
theorem dL_law_158 : decode cL_law 158 = .ok (.aload_n 1, 1) := by decide +kernel
theorem dL_law_159 : decode cL_law 159 = .ok (.invokevirtual 23, 3) := by decide +kernel
theorem dL_law_162 : decode cL_law 162 = .ok (.aload_n 2, 1) := by decide +kernel
theorem dL_law_163 : decode cL_law 163 = .ok (.invokevirtual 27, 3) := by decide +kernel
theorem dL_law_166 : decode cL_law 166 = .ok (.if_icmp .eq 149, 3) := by decide +kernel
theorem dL_law_169 : decode cL_law 169 = .ok (.iconst 0, 1) := by decide +kernel
theorem dL_law_170 : decode cL_law 170 = .ok (.ireturn, 1) := by decide +kernel
theorem dL_law_171 : decode cL_law 171 = .ok (.aload_n 1, 1) := by decide +kernel
theorem dL_law_172 : decode cL_law 172 = .ok (.invokevirtual 28, 3) := by decide +kernel
theorem dL_law_175 : decode cL_law 175 = .ok (.aload_n 2, 1) := by decide +kernel
theorem dL_law_176 : decode cL_law 176 = .ok (.invokevirtual 31, 3) := by decide +kernel
theorem dL_law_179 : decode cL_law 179 = .ok (.if_icmp .eq 136, 3) := by decide +kernel
theorem dL_law_182 : decode cL_law 182 = .ok (.iconst 0, 1) := by decide +kernel
theorem dL_law_183 : decode cL_law 183 = .ok (.ireturn, 1) := by decide +kernel
theorem dL_law_184 : decode cL_law 184 = .ok (.aload_n 1, 1) := by decide +kernel
theorem dL_law_185 : decode cL_law 185 = .ok (.invokevirtual 32, 3) := by decide +kernel
theorem dL_law_188 : decode cL_law 188 = .ok (.aload_n 2, 1) := by decide +kernel
theorem dL_law_189 : decode cL_law 189 = .ok (.invokevirtual 35, 3) := by decide +kernel
theorem dL_law_192 : decode cL_law 192 = .ok (.if_icmp .eq 123, 3) := by decide +kernel
theorem dL_law_195 : decode cL_law 195 = .ok (.iconst 0, 1) := by decide +kernel
theorem dL_law_196 : decode cL_law 196 = .ok (.ireturn, 1) := by decide +kernel
theorem dL_law_197 : decode cL_law 197 = .ok (.aload_n 1, 1) := by decide +kernel
theorem dL_law_198 : decode cL_law 198 = .ok (.aload_n 0, 1) := by decide +kernel
theorem dL_law_199 : decode cL_law 199 = .ok (.iload_n 3, 1) := by decide +kernel
theorem dL_law_200 : decode cL_law 200 = .ok (.iconst 1, 1) := by decide +kernel
theorem dL_law_201 : decode cL_law 201 = .ok (.iadd, 1) := by decide +kernel
theorem dL_law_202 : decode cL_law 202 = .ok (.iaload, 1) := by decide +kernel
theorem dL_law_203 : decode cL_law 203 = .ok (.invokevirtual 36, 3) := by decide +kernel
theorem dL_law_206 : decode cL_law 206 = .ok (.aload_n 2, 1) := by decide +kernel
theorem dL_law_207 : decode cL_law 207 = .ok (.aload_n 0, 1) := by decide +kernel
theorem dL_law_208 : decode cL_law 208 = .ok (.iload_n 3, 1) := by decide +kernel
theorem dL_law_209 : decode cL_law 209 = .ok (.iconst 1, 1) := by decide +kernel
theorem dL_law_210 : decode cL_law 210 = .ok (.iadd, 1) := by decide +kernel
theorem dL_law_211 : decode cL_law 211 = .ok (.iaload, 1) := by decide +kernel
theorem dL_law_212 : decode cL_law 212 = .ok (.invokevirtual 40, 3) := by decide +kernel
theorem dL_law_215 : decode cL_law 215 = .ok (.if_icmp .eq 100, 3) := by decide +kernel
theorem dL_law_218 : decode cL_law 218 = .ok (.iconst 0, 1) := by decide +kernel
theorem dL_law_219 : decode cL_law 219 = .ok (.ireturn, 1) := by decide +kernel
theorem dL_law_220 : decode cL_law 220 = .ok (.aload_n 1, 1) := by decide +kernel
theorem dL_law_221 : decode cL_law 221 = .ok (.aload_n 0, 1) := by decide +kernel
theorem dL_law_222 : decode cL_law 222 = .ok (.iload_n 3, 1) := by decide +kernel
theorem dL_law_223 : decode cL_law 223 = .ok (.iconst 1, 1) := by decide +kernel
theorem dL_law_224 : decode cL_law 224 = .ok (.iadd, 1) := by decide +kernel
theorem dL_law_225 : decode cL_law 225 = .ok (.iaload, 1) := by decide +kernel
theorem dL_law_226 : decode cL_law 226 = .ok (.invokevirtual 41, 3) := by decide +kernel
theorem dL_law_229 : decode cL_law 229 = .ok (.aload_n 2, 1) := by decide +kernel
theorem dL_law_230 : decode cL_law 230 = .ok (.aload_n 0, 1) := by decide +kernel
theorem dL_law_231 : decode cL_law 231 = .ok (.iload_n 3, 1) := by decide +kernel
theorem dL_law_232 : decode cL_law 232 = .ok (.iconst 1, 1) := by decide +kernel
theorem dL_law_233 : decode cL_law 233 = .ok (.iadd, 1) := by decide +kernel
theorem dL_law_234 : decode cL_law 234 = .ok (.iaload, 1) := by decide +kernel
theorem dL_law_235 : decode cL_law 235 = .ok (.invokevirtual 44, 3) := by decide +kernel
theorem dL_law_238 : decode cL_law 238 = .ok (.if_icmp .eq 77, 3) := by decide +kernel
theorem dL_law_241 : decode cL_law 241 = .ok (.iconst 0, 1) := by decide +kernel
theorem dL_law_242 : decode cL_law 242 = .ok (.ireturn, 1) := by decide +kernel
theorem dL_law_243 : decode cL_law 243 = .ok (.aload_n 1, 1) := by decide +kernel
theorem dL_law_244 : decode cL_law 244 = .ok (.aload_n 0, 1) := by decide +kernel
theorem dL_law_245 : decode cL_law 245 = .ok (.iload_n 3, 1) := by decide +kernel
theorem dL_law_246 : decode cL_law 246 = .ok (.iconst 1, 1) := by decide +kernel
theorem dL_law_247 : decode cL_law 247 = .ok (.iadd, 1) := by decide +kernel
theorem dL_law_248 : decode cL_law 248 = .ok (.iaload, 1) := by decide +kernel
theorem dL_law_249 : decode cL_law 249 = .ok (.invokevirtual 45, 3) := by decide +kernel
theorem dL_law_252 : decode cL_law 252 = .ok (.aload_n 2, 1) := by decide +kernel
theorem dL_law_253 : decode cL_law 253 = .ok (.aload_n 0, 1) := by decide +kernel
theorem dL_law_254 : decode cL_law 254 = .ok (.iload_n 3, 1) := by decide +kernel
theorem dL_law_255 : decode cL_law 255 = .ok (.iconst 1, 1) := by decide +kernel
theorem dL_law_256 : decode cL_law 256 = .ok (.iadd, 1) := by decide +kernel
theorem dL_law_257 : decode cL_law 257 = .ok (.iaload, 1) := by decide +kernel
theorem dL_law_258 : decode cL_law 258 = .ok (.invokevirtual 48, 3) := by decide +kernel
theorem dL_law_261 : decode cL_law 261 = .ok (.if_icmp .eq 54, 3) := by decide +kernel
theorem dL_law_264 : decode cL_law 264 = .ok (.iconst 0, 1) := by decide +kernel
theorem dL_law_265 : decode cL_law 265 = .ok (.ireturn, 1) := by decide +kernel
theorem dL_law_266 : decode cL_law 266 = .ok (.aload_n 1, 1) := by decide +kernel
theorem dL_law_267 : decode cL_law 267 = .ok (.aload_n 0, 1) := by decide +kernel
theorem dL_law_268 : decode cL_law 268 = .ok (.iload_n 3, 1) := by decide +kernel
theorem dL_law_269 : decode cL_law 269 = .ok (.iconst 1, 1) := by decide +kernel
theorem dL_law_270 : decode cL_law 270 = .ok (.iadd, 1) := by decide +kernel
theorem dL_law_271 : decode cL_law 271 = .ok (.iaload, 1) := by decide +kernel
theorem dL_law_272 : decode cL_law 272 = .ok (.invokevirtual 49, 3) := by decide +kernel
theorem dL_law_275 : decode cL_law 275 = .ok (.aload_n 2, 1) := by decide +kernel
theorem dL_law_276 : decode cL_law 276 = .ok (.aload_n 0, 1) := by decide +kernel
theorem dL_law_277 : decode cL_law 277 = .ok (.iload_n 3, 1) := by decide +kernel
theorem dL_law_278 : decode cL_law 278 = .ok (.iconst 1, 1) := by decide +kernel
theorem dL_law_279 : decode cL_law 279 = .ok (.iadd, 1) := by decide +kernel
theorem dL_law_280 : decode cL_law 280 = .ok (.iaload, 1) := by decide +kernel
theorem dL_law_281 : decode cL_law 281 = .ok (.invokevirtual 52, 3) := by decide +kernel
theorem dL_law_284 : decode cL_law 284 = .ok (.if_icmp .eq 31, 3) := by decide +kernel
theorem dL_law_287 : decode cL_law 287 = .ok (.iconst 0, 1) := by decide +kernel
theorem dL_law_288 : decode cL_law 288 = .ok (.ireturn, 1) := by decide +kernel
theorem dL_law_289 : decode cL_law 289 = .ok (.aload_n 1, 1) := by decide +kernel
theorem dL_law_290 : decode cL_law 290 = .ok (.invokevirtual 53, 3) := by decide +kernel
theorem dL_law_293 : decode cL_law 293 = .ok (.aload_n 2, 1) := by decide +kernel
theorem dL_law_294 : decode cL_law 294 = .ok (.invokevirtual 56, 3) := by decide +kernel
theorem dL_law_297 : decode cL_law 297 = .ok (.if_icmp .eq 18, 3) := by decide +kernel
theorem dL_law_300 : decode cL_law 300 = .ok (.iconst 0, 1) := by decide +kernel
theorem dL_law_301 : decode cL_law 301 = .ok (.ireturn, 1) := by decide +kernel
theorem dL_law_302 : decode cL_law 302 = .ok (.aload_n 1, 1) := by decide +kernel
theorem dL_law_303 : decode cL_law 303 = .ok (.invokevirtual 57, 3) := by decide +kernel
theorem dL_law_306 : decode cL_law 306 = .ok (.aload_n 2, 1) := by decide +kernel
theorem dL_law_307 : decode cL_law 307 = .ok (.invokevirtual 60, 3) := by decide +kernel
theorem dL_law_310 : decode cL_law 310 = .ok (.if_icmp .eq 5, 3) := by decide +kernel
theorem dL_law_313 : decode cL_law 313 = .ok (.iconst 0, 1) := by decide +kernel
theorem dL_law_314 : decode cL_law 314 = .ok (.ireturn, 1) := by decide +kernel
theorem dL_law_315 : decode cL_law 315 = .ok (.iinc 3 4, 3) := by decide +kernel
theorem dL_law_318 : decode cL_law 318 = .ok (.goto (-300), 3) := by decide +kernel
theorem dL_law_321 : decode cL_law 321 = .ok (.iconst 1, 1) := by decide +kernel
theorem dL_law_322 : decode cL_law 322 = .ok (.ireturn, 1) := by decide +kernel
end
section
/-! ===== own rows over the kit: bits, contracts in one row, entry, return, call, arrays by a Nat index ===== -/
set_option maxRecDepth 100000
def bt (x : Int32) (i : Nat) : Bool := x.toBitVec.getLsbD i
theorem b_ext {x y : Int32} (h : ∀ i, i < 32 → bt x i = bt y i) : x = y := Int32.toBitVec_inj.mp (BitVec.eq_of_getLsbD_eq (fun i hi => h i hi))
theorem b_or (x y : Int32) (i : Nat) : bt (x ||| y) i = (bt x i || bt y i) := by unfold bt; rw [Int32.toBitVec_or, BitVec.getLsbD_or]
theorem b_and (x y : Int32) (i : Nat) : bt (x &&& y) i = (bt x i && bt y i) := by unfold bt; rw [Int32.toBitVec_and, BitVec.getLsbD_and]
theorem b_xor (x y : Int32) (i : Nat) : bt (x ^^^ y) i = (bt x i ^^ bt y i) := by unfold bt; rw [Int32.toBitVec_xor, BitVec.getLsbD_xor]
theorem b_big {x : Int32} {i : Nat} (h : 32 ≤ i) : bt x i = false := BitVec.getLsbD_of_ge _ _ h
theorem b_m1 : ∀ i, i < 32 → bt (-1) i = true := by decide +kernel
theorem b_0 (i : Nat) : bt 0 i = false := BitVec.getLsbD_zero
theorem b_255 (i : Nat) : bt 255 i = decide (i < 8) := by
  rcases Nat.lt_or_ge i 32 with h | h
  · exact (by decide +kernel : ∀ i, i < 32 → bt 255 i = decide (i < 8)) i h
  · rw [b_big h, decide_eq_false (by omega)]
theorem s_l : ∀ n, n < 32 → ((nI n &&& 31).toBitVec.smod 32).toNat = n := by decide +kernel
theorem b_shl (n : Nat) (hn : n < 32) (x : Int32) {i : Nat} (hi : i < 32) : bt (x <<< (nI n &&& 31)) i = (decide (n ≤ i) && bt x (i - n)) := by
  unfold bt
  rw [Int32.toBitVec_shiftLeft]
  show (x.toBitVec <<< ((nI n &&& 31).toBitVec.smod 32).toNat).getLsbD i = _
  rw [s_l n hn, BitVec.getLsbD_shiftLeft]
  rcases Nat.lt_or_ge i n with h | h
  · simp [h, Nat.not_le.mpr h]
  · simp [hi, h, Nat.not_lt.mpr h]
theorem b_sshr (n : Nat) (hn : n < 32) (x : Int32) {i : Nat} (hi : i < 32) : bt (x >>> (nI n &&& 31)) i = if n + i < 32 then bt x (n + i) else bt x 31 := by
  unfold bt
  rw [Int32.toBitVec_shiftRight]
  show (x.toBitVec.sshiftRight ((nI n &&& 31).toBitVec.smod 32).toNat).getLsbD i = _
  rw [s_l n hn, BitVec.getLsbD_sshiftRight, BitVec.msb_eq_getLsbD_last]
  simp [hi]
theorem b_1 (i : Nat) : bt 1 i = decide (i = 0) := by
  rcases Nat.lt_or_ge i 32 with h | h
  · exact (by decide +kernel : ∀ i, i < 32 → bt 1 i = decide (i = 0)) i h
  · rw [b_big h, decide_eq_false (by omega)]
/-- the bit i alone -/
def one (i : Nat) : Int32 := (1 : Int32) <<< (nI i &&& 31)
theorem b_one {i j : Nat} (hi : i < 32) : bt (one i) j = decide (j = i) := by
  rcases Nat.lt_or_ge j 32 with h | h
  · unfold one
    rw [b_shl i hi 1 h, b_1]
    by_cases e : j = i
    · subst e; simp
    · rcases Nat.lt_or_ge j i with q | q
      · simp [Nat.not_le.mpr q, e]
      · simp [show ¬ j - i = 0 by omega, e]
  · rw [b_big h, decide_eq_false (by omega)]
theorem zz_low (x : Int32) {i : Nat} (hi : i < 32) : (x >>> (nI i &&& 31)) &&& 1 = if bt x i = true then 1 else 0 := by
  apply b_ext
  intro j hj
  rw [b_and, b_1, b_sshr i hi x hj]
  by_cases e : j = 0
  · subst e
    rw [if_pos (show i + 0 < 32 by omega)]
    cases h : bt x i
    · simp [h, b_0]
    · simp [h, b_1]
  · cases h : bt x i
    · simp [e, b_0]
    · simp [e, b_1]
theorem zz_bit0 {x : Int32} {i : Nat} (hi : i < 32) (h : (x >>> (nI i &&& 31)) &&& 1 = 0) : bt x i = false := by
  rw [zz_low x hi] at h
  cases e : bt x i
  · rfl
  · rw [e, if_pos rfl] at h; exact absurd h (by decide)
theorem zz_bit1 {x : Int32} {i : Nat} (hi : i < 32) (h : ¬ (x >>> (nI i &&& 31)) &&& 1 = 0) : bt x i = true := by
  rw [zz_low x hi] at h
  cases e : bt x i
  · rw [e] at h; exact absurd (if_neg (by decide)) h
  · rfl
theorem zz_one1 {x : Int32} {i : Nat} (hi : i < 32) (h : (x >>> (nI i &&& 31)) &&& 1 = 1) : bt x i = true := zz_bit1 hi (by rw [h]; decide)
theorem zz_one0 {x : Int32} {i : Nat} (hi : i < 32) (h : ¬ (x >>> (nI i &&& 31)) &&& 1 = 1) : bt x i = false := by
  rw [zz_low x hi] at h
  cases e : bt x i
  · rfl
  · rw [e] at h; exact absurd (if_pos rfl) h
/-- a boolean's int -/
def bI (b : Bool) : Int32 := if b = true then 1 else 0
theorem zz_bI0 {b : Bool} (h : bI b = 0) : b = false := by
  cases b
  · rfl
  · exact absurd h (by decide)
theorem zz_bI1 {b : Bool} (h : ¬ bI b = 0) : b = true := by
  cases b
  · exact absurd rfl h
  · rfl
theorem zz_bIn (b : Bool) : narrow .boolean (.int (bI b)) = .int (bI b) := by cases b <;> rfl
theorem zz_i1 (i : Nat) : nI i + Int32.ofInt 1 = nI (i + 1) := nI_1 i
theorem zz_cle {a b : Nat} (ha : a < 2 ^ 31) (hb : b < 2 ^ 31) (h : nI a ≤ nI b) : a ≤ b := (nI_leI ha hb).mp h
theorem zz_cnle {a b : Nat} (ha : a < 2 ^ 31) (hb : b < 2 ^ 31) (h : ¬ nI a ≤ nI b) : b < a := Nat.lt_of_not_le (fun q => h ((nI_leI ha hb).mpr q))
theorem zz_clt {a b : Nat} (ha : a < 2 ^ 31) (hb : b < 2 ^ 31) (h : nI a < nI b) : a < b := (nI_ltI ha hb).mp h
theorem zz_cnlt {a b : Nat} (ha : a < 2 ^ 31) (hb : b < 2 ^ 31) (h : ¬ nI a < nI b) : b ≤ a := Nat.le_of_not_lt (fun q => h ((nI_ltI ha hb).mpr q))
theorem zz_div3 {k : Nat} (h : k < 2 ^ 31) : nI k / nI 3 = nI (k / 3) := pk_div h (by decide) (by decide)
theorem zz_n3 : ¬ nI 3 = 0 := by decide +kernel
abbrev vCl : List vw_C := [(RX0, TX0, 9), (RX1, TX1, 3)]
abbrev zR (d : Nat) : Room := { frames := d, cells := 0, slots := 0, locals := 25 * d }
def zz_B (D : va_G) (tys : List (ClassId × FieldType)) (A : Nat → Prop) (ws : va_W) : Unit → State → Prop := fun _ t => va_P D vCl ws t.heap ∧ va_K D vCl tys t ∧ va_D A ws
def zz_Pre (D : va_G) (tys : List (ClassId × FieldType)) (sz : Nat) (ws : va_W) (U : State) : Prop := U.heap.size = sz ∧ va_P D vCl ws U.heap ∧ va_K D vCl tys U ∧ va_D (fun _ => True) ws
/-- a contract: int answer r, world ws before, ws' after -/
def zI (l : Launch) (D : va_G) (y : MethodName) (cc : ByteArray) (n : Nat) (ty : FieldType) (d : Nat) (av : List Value) (tys : List (ClassId × FieldType)) (ws : va_W) (r : Int32) (ws' : va_W) : Prop :=
  ∀ sz : Nat, Met l y (ws_ y cc n (some ty)) (zR d) (va_Pc av (zz_Pre D tys sz ws)) (va_Qi (fun (r' : Int32) (_ : Unit) => r' = r) (zz_B D tys (va_A ws sz) ws') (va_A ws sz)) 0 0 (va_A ws sz)
def zV (l : Launch) (D : va_G) (y : MethodName) (cc : ByteArray) (n : Nat) (d : Nat) (av : List Value) (tys : List (ClassId × FieldType)) (ws : va_W) (ws' : va_W) : Prop :=
  ∀ sz : Nat, Met l y (ws_ y cc n none) (zR d) (va_Pc av (zz_Pre D tys sz ws)) (va_Qv (fun (_ : Unit) => True) (zz_B D tys (va_A ws sz) ws') (va_A ws sz)) 0 0 (va_A ws sz)
set_option maxHeartbeats 4000000 in
theorem zz_I {l : Launch} {D : va_G} {y : MethodName} {cc : ByteArray} {n : Nat} {ty : FieldType} {d : Nat} {av : List Value} {tys : List (ClassId × FieldType)} {ws ws' : va_W} {r : Int32} (hy : plainName y.cls = true) (hav : (lg_sl av).length ≤ n) (hn : narrow ty (.int r) = .int r)
    (body : ∀ (p : Program) (e : Env) (s : State) (m : MethodId) (args : Array Value) (below : List Frame) (meth : Method) (c : Code) (A : Nat → Prop) (Q : State → Prop), p.tables.exec = Jvm.exec → c.code = cc → c.maxLocals = n → s.vm.findClass y.cls = some m.cls → (∀ w ∈ lw_all, w.before args s = true) → (∀ q : Nat, s.heap.size ≤ q → A q) → va_K D vCl tys s → va_P D vCl ws s.heap → va_D A ws → va_S A s.heap s.heap [] →
      (∀ (H : Heap) (locs : List Loc) (pc : Nat) (ls : Array Slot) (v : Int32), va_P D vCl ws' H → va_D A ws' → va_S A s.heap H locs → v = r → decode cc pc = .ok (.ireturn, 1) → W p l e (zR d) s m args below meth c H locs 0 0 Q (F0 m pc ls [.int v])) →
      ∀ ls : Array Slot, lv_has ls n (lv_args 0 av) → W p l e (zR d) s m args below meth c s.heap [] 0 0 Q (F0 m 0 ls [])) : zI l D y cc n ty d av tys ws r ws' := by
  intro sz
  refine Met.ofW (cc := cc) (maxL := n) (ret := some ty) hy rfl ?_
  intro p e s m args below meth c s₁ B hml hv
  obtain ⟨rfl, hsz, hP, hK, hD0⟩ := hv
  subst hsz
  have hx := B.exec
  have hb := B.bytes
  have hr := B.returns
  have hlocks := B.notSynchronized
  have hts := atoms_spec (ws := ws_ y cc n (some ty)) B.pre
  have hts : ∀ w ∈ lw_all, w.before _ s = true := fun w h => hts w (List.mem_cons_of_mem _ h)
  have hown : s.vm.findClass y.cls = some m.cls := findClass_of_methodNamed B.named
  have hD := hD0.self (sz := s.heap.size)
  have hl := lv_entry av (n := n) hav
  rw [lg_entry_eq]
  refine body p e s m _ below meth c (va_A ws s.heap.size) _ hx hb hml hown hts (fun q h => Or.inr h) hK hP hD va_S.rf ?_ _ hl
  intro H locs pc ls v hP hD hS hv hdg
  rw [hv]
  exact W.zret (v := r) hx hb hr hn (fun t ht hW => ⟨⟨r, (), rfl, rfl, by rw [ht]; exact hP, va_K.moved hW.alike hK, hD⟩, hS.F ht⟩) hS.2.2 hdg
set_option maxHeartbeats 4000000 in
theorem zz_V {l : Launch} {D : va_G} {y : MethodName} {cc : ByteArray} {n : Nat} {d : Nat} {av : List Value} {tys : List (ClassId × FieldType)} {ws ws' : va_W} (hy : plainName y.cls = true) (hav : (lg_sl av).length ≤ n)
    (body : ∀ (p : Program) (e : Env) (s : State) (m : MethodId) (args : Array Value) (below : List Frame) (meth : Method) (c : Code) (A : Nat → Prop) (Q : State → Prop), p.tables.exec = Jvm.exec → c.code = cc → c.maxLocals = n → s.vm.findClass y.cls = some m.cls → (∀ w ∈ lw_all, w.before args s = true) → (∀ q : Nat, s.heap.size ≤ q → A q) → va_K D vCl tys s → va_P D vCl ws s.heap → va_D A ws → va_S A s.heap s.heap [] →
      (∀ (H : Heap) (locs : List Loc) (pc : Nat) (ls : Array Slot), va_P D vCl ws' H → va_D A ws' → va_S A s.heap H locs → decode cc pc = .ok (.return_, 1) → W p l e (zR d) s m args below meth c H locs 0 0 Q (F0 m pc ls [])) →
      ∀ ls : Array Slot, lv_has ls n (lv_args 0 av) → W p l e (zR d) s m args below meth c s.heap [] 0 0 Q (F0 m 0 ls [])) : zV l D y cc n d av tys ws ws' := by
  intro sz
  refine Met.ofW (cc := cc) (maxL := n) (ret := none) hy rfl ?_
  intro p e s m args below meth c s₁ B hml hv
  obtain ⟨rfl, hsz, hP, hK, hD0⟩ := hv
  subst hsz
  have hx := B.exec
  have hb := B.bytes
  have hr := B.returns
  have hlocks := B.notSynchronized
  have hts := atoms_spec (ws := ws_ y cc n none) B.pre
  have hts : ∀ w ∈ lw_all, w.before _ s = true := fun w h => hts w (List.mem_cons_of_mem _ h)
  have hown : s.vm.findClass y.cls = some m.cls := findClass_of_methodNamed B.named
  have hD := hD0.self (sz := s.heap.size)
  have hl := lv_entry av (n := n) hav
  rw [lg_entry_eq]
  refine body p e s m _ below meth c (va_A ws s.heap.size) _ hx hb hml hown hts (fun q h => Or.inr h) hK hP hD va_S.rf ?_ _ hl
  intro H locs pc ls hP hD hS hdg
  exact W.vret hx hb hr (fun t ht hW => ⟨⟨(), rfl, trivial, by rw [ht]; exact hP, va_K.moved hW.alike hK, hD⟩, hS.F ht⟩) hS.2.2 hdg
theorem zz_blind {D : va_G} {tys : List (ClassId × FieldType)} {sz : Nat} {ws : va_W} {av : List Value} : FrameBlind (va_Pc av (zz_Pre D tys sz ws)) := fun a U g mk q => by obtain ⟨q0, q1, qP, qK, qD⟩ := q; exact ⟨q0, q1, qP, va_K.moved (u := U) (U := U.calling g mk a) (Vm.Alike.refl U.vm) qK, qD⟩
theorem zz_eqP {D : va_G} {cl : List vw_C} {ws ws' : va_W} {H : Heap} (e : ws = ws') (h : va_P D cl ws H) : va_P D cl ws' H := e ▸ h
theorem zz_eqD {A : Nat → Prop} {ws ws' : va_W} (e : ws = ws') (h : va_D A ws) : va_D A ws' := e ▸ h
theorem zz_arr {D : va_G} {cl : List vw_C} {ws : va_W} {H : Heap} {q n : Nat} {cA : ClassId} {f f' : Nat → Int32} (hP : va_P D cl ws H) (k : Nat) (hk : ws[k]? = some (q, .inl (cA, n, .inl f))) (hf : ∀ j, j < n → f j = f' j) : va_P D cl (ws.set k (q, .inl (cA, n, .inl f'))) H := by
  intro j x hx
  by_cases e : k = j
  · subst e
    have hl : k < ws.length := (List.getElem?_eq_some_iff.mp hk).1
    rw [List.getElem?_set_self hl] at hx
    cases hx
    have h0 := hP k _ hk
    show H[q]? = some (vp_cell cA (n, .inl f'))
    have e2 : vp_cell cA (n, .inl f) = vp_cell cA (n, .inl f') := by
      rw [vp_cell_i, vp_cell_i]
      unfold arrV
      congr 2
      funext i
      show Value.int (f i.val) = Value.int (f' i.val)
      rw [hf i.val i.isLt]
    rw [← e2]
    exact h0
  · rw [List.getElem?_set_ne e] at hx
    exact hP j x hx
section ZC
variable {p : Program} {l : Launch} {e : Env} {R : Room} {s : State} {m : MethodId} {args : Array Value} {below : List Frame} {meth : Method} {c : Code} {H : Heap} {locs : List Loc} {cells slots : Nat} {Q : State → Prop} {cc bytes : ByteArray} {pc nL maxL index n d ci q0 : Nat} {ls : Array Slot} {rest : List Value} {D : va_G} {A : Nat → Prop} {b : Nat} {tys tysC : List (ClassId × FieldType)} {ws wc wr w1 : va_W} {own C : String} {y : MethodName} {ty : FieldType} {As : List Value} {r : Int32} {fs : List Value} {T : u_T} {N : Nat}
theorem zz_top {x z : Int32} (h : x = z) (k : W p l e R s m args below meth c H locs cells slots Q (F0 m pc ls (.int z :: rest))) : W p l e R s m args below meth c H locs cells slots Q (F0 m pc ls (.int x :: rest)) := h ▸ k
set_option maxHeartbeats 4000000 in
/-- a call of a method whose world is a part of ours -/
theorem zz_callI (S : CallFix p m c cc nL s args lw_all own) (hA : ∀ q : Nat, s.heap.size ≤ q → A q) (hK : va_K D vCl tys s) (hP : va_P D vCl ws H) (hD : va_D A ws) (hS : va_S A s.heap H locs)
    (hM : zI l D y bytes maxL ty d (.ref b :: As) tysC wc r w1) (cw : CallW R s args own C index y bytes maxL (some ty) (ws_ y bytes maxL (some ty)) (zR d) 0 0 n)
    (he : ws[q0]? = some (b, .inr (ci, fs))) (hc : vCl[ci]? = some (C, T, N)) (isC isR isT : List Nat) (hC : isC.map (fun i => ws[i]?) = wc.map some) (hR : isR.map (fun i => ws[i]?) = wr.map some) (hn1 : va_nd isC = true) (hn2 : va_nd isR = true) (hdis : ∀ i ∈ isR, i ∉ isC) (hT : isT.filterMap (fun i => tys[i]?) = tysC)
    (hn : As.length = n) (hsize : ls.size = nL) {st0 : List Value} (hst : st0 = As.reverse ++ .ref b :: rest) (hW : (rest.map fun v => v.category).sum ≤ 8) (hdg : decode cc pc = .ok (.invokevirtual index, 3)) (hf : cells ≤ R.cells ∧ slots ≤ R.slots)
    (kk : ∀ (H1 : Heap) (locs1 : List Loc), va_P D vCl (wr ++ w1) H1 → va_D A (wr ++ w1) → va_S A s.heap H1 locs1 → W p l e R s m args below meth c H1 locs1 cells slots Q (F0 m (pc + 3) ls (.int r :: rest))) :
    W p l e R s m args below meth c H locs cells slots Q (F0 m pc ls st0) := by
  have hC2 : isC.filterMap (fun i => ws[i]?) = wc := by
    have h1 : isC.filterMap (fun i => ws[i]?) = (isC.map (fun i => ws[i]?)).filterMap id := by simp [List.filterMap_map]
    rw [h1, hC]
    simp [List.filterMap_map]
  have hPc : va_P D vCl wc H := hP.sub isC hC2
  have hDc := hD.sub isC hn1 hC
  have hKc := hK.sub isT hT
  have hFc := va_free hD hS hA isC hC
  refine va_calli (va_runV (As := As) (rest := rest) S (hM H.size) cw ⟨zz_blind, va_recv hK hP hc he, fun U hU hW => ⟨rfl, by rw [hU], by rw [hU]; exact hPc, va_K.moved hW.alike hKc, hDc.weaken (fun _ _ _ _ => trivial)⟩⟩ rfl hn hsize hst (lv_room hW) hdg hf) hS (fun q _ h => hFc q h) hFc (fun r' u t H1 locs1 ht hvm hw hB hz1 hk1 hS1 => ?_)
  obtain ⟨hP1, hK1, hD1⟩ := hB
  rw [ht] at hP1
  obtain ⟨hP2, hD2⟩ := va_join hP hD isC isR hC hR hn2 hdis hk1 hFc hP1 hD1
  rw [show r' = r from hw]
  exact kk H1 locs1 hP2 hD2 hS1
theorem zz_noA {q : Nat} {H : Heap} (h : q < H.size) : ¬ va_A [] H.size q := by
  rintro (⟨k, e, h1⟩ | h1)
  · simp at h1
  · omega
set_option maxHeartbeats 4000000 in
/-- a call of a method that touches no cell -/
theorem zz_call0 (S : CallFix p m c cc nL s args lw_all own) (hA : ∀ q : Nat, s.heap.size ≤ q → A q) (hK : va_K D vCl tys s) (hP : va_P D vCl ws H) (hD : va_D A ws) (hS : va_S A s.heap H locs)
    (hM : zI l D y bytes maxL ty d (.ref b :: As) [] [] r []) (cw : CallW R s args own C index y bytes maxL (some ty) (ws_ y bytes maxL (some ty)) (zR d) 0 0 n)
    (he : ws[q0]? = some (b, .inr (ci, fs))) (hc : vCl[ci]? = some (C, T, N))
    (hn : As.length = n) (hsize : ls.size = nL) {st0 : List Value} (hst : st0 = As.reverse ++ .ref b :: rest) (hW : (rest.map fun v => v.category).sum ≤ 8) (hdg : decode cc pc = .ok (.invokevirtual index, 3)) (hf : cells ≤ R.cells ∧ slots ≤ R.slots)
    (kk : ∀ (H1 : Heap) (locs1 : List Loc), va_P D vCl ws H1 → va_D A ws → va_S A s.heap H1 locs1 → W p l e R s m args below meth c H1 locs1 cells slots Q (F0 m (pc + 3) ls (.int r :: rest))) :
    W p l e R s m args below meth c H locs cells slots Q (F0 m pc ls st0) := by
  have hPc : va_P D vCl [] H := fun k q h => by simp at h
  have hDc : va_D A ([] : va_W) := ⟨fun i j p q h => by simp at h, fun k q h => by simp at h⟩
  have hKc : va_K D vCl [] s := hK.sub [] rfl
  have hFc : ∀ q, va_A [] H.size q → A q := by
    rintro q (⟨k, e, h1⟩ | h1)
    · simp at h1
    · exact hA q (Nat.le_trans hS.1 h1)
  refine va_calli (va_runV (As := As) (rest := rest) S (hM H.size) cw ⟨zz_blind, va_recv hK hP hc he, fun U hU hW => ⟨rfl, by rw [hU], by rw [hU]; exact hPc, va_K.moved hW.alike hKc, hDc.weaken (fun _ _ _ _ => trivial)⟩⟩ rfl hn hsize hst (lv_room hW) hdg hf) hS (fun q _ h => hFc q h) hFc (fun r' u t H1 locs1 ht hvm hw hB hz1 hk1 hS1 => ?_)
  rw [show r' = r from hw]
  exact kk H1 locs1 (hP.kept (fun k q hq => hk1 q.1 (hP k q hq).lt (zz_noA (hP k q hq).lt))) hD hS1
theorem zz_inA (hA : ∀ q : Nat, s.heap.size ≤ q → A q) (hD : va_D A ws) (hS : va_S A s.heap H locs) : ∀ q, va_A ws H.size q → A q := by
  rintro q (⟨k, e, h1⟩ | h1)
  · exact hD.2 k _ h1
  · exact hA q (Nat.le_trans hS.1 h1)
set_option maxHeartbeats 4000000 in
/-- a call of a method whose world is ours -/
theorem zz_callW (S : CallFix p m c cc nL s args lw_all own) (hA : ∀ q : Nat, s.heap.size ≤ q → A q) (hK : va_K D vCl tys s) (hP : va_P D vCl ws H) (hD : va_D A ws) (hS : va_S A s.heap H locs)
    (hM : zI l D y bytes maxL ty d (.ref b :: As) tys ws r w1) (cw : CallW R s args own C index y bytes maxL (some ty) (ws_ y bytes maxL (some ty)) (zR d) 0 0 n)
    (he : ws[q0]? = some (b, .inr (ci, fs))) (hc : vCl[ci]? = some (C, T, N))
    (hn : As.length = n) (hsize : ls.size = nL) {st0 : List Value} (hst : st0 = As.reverse ++ .ref b :: rest) (hW : (rest.map fun v => v.category).sum ≤ 8) (hdg : decode cc pc = .ok (.invokevirtual index, 3)) (hf : cells ≤ R.cells ∧ slots ≤ R.slots)
    (kk : ∀ (H1 : Heap) (locs1 : List Loc), va_P D vCl w1 H1 → va_D A w1 → va_S A s.heap H1 locs1 → W p l e R s m args below meth c H1 locs1 cells slots Q (F0 m (pc + 3) ls (.int r :: rest))) :
    W p l e R s m args below meth c H locs cells slots Q (F0 m pc ls st0) := by
  have hFc := zz_inA hA hD hS
  refine va_calli (va_runV (As := As) (rest := rest) S (hM H.size) cw ⟨zz_blind, va_recv hK hP hc he, fun U hU hW => ⟨rfl, by rw [hU], by rw [hU]; exact hP, va_K.moved hW.alike hK, hD.weaken (fun _ _ _ _ => trivial)⟩⟩ rfl hn hsize hst (lv_room hW) hdg hf) hS (fun q _ h => hFc q h) hFc (fun r' u t H1 locs1 ht hvm hw hB hz1 hk1 hS1 => ?_)
  obtain ⟨hP1, hK1, hD1⟩ := hB
  rw [ht] at hP1
  rw [show r' = r from hw]
  exact kk H1 locs1 hP1 (hD1.weaken (fun k q _ h => hFc q.1 h)) hS1
set_option maxHeartbeats 4000000 in
theorem zz_callVW (S : CallFix p m c cc nL s args lw_all own) (hA : ∀ q : Nat, s.heap.size ≤ q → A q) (hK : va_K D vCl tys s) (hP : va_P D vCl ws H) (hD : va_D A ws) (hS : va_S A s.heap H locs)
    (hM : zV l D y bytes maxL d (.ref b :: As) tys ws w1) (cw : CallW R s args own C index y bytes maxL none (ws_ y bytes maxL none) (zR d) 0 0 n)
    (he : ws[q0]? = some (b, .inr (ci, fs))) (hc : vCl[ci]? = some (C, T, N))
    (hn : As.length = n) (hsize : ls.size = nL) {st0 : List Value} (hst : st0 = As.reverse ++ .ref b :: rest) (hW : (rest.map fun v => v.category).sum ≤ 8) (hdg : decode cc pc = .ok (.invokevirtual index, 3)) (hf : cells ≤ R.cells ∧ slots ≤ R.slots)
    (kk : ∀ (H1 : Heap) (locs1 : List Loc), va_P D vCl w1 H1 → va_D A w1 → va_S A s.heap H1 locs1 → W p l e R s m args below meth c H1 locs1 cells slots Q (F0 m (pc + 3) ls rest)) :
    W p l e R s m args below meth c H locs cells slots Q (F0 m pc ls st0) := by
  have hFc := zz_inA hA hD hS
  refine va_callv (va_runV (As := As) (rest := rest) S (hM H.size) cw ⟨zz_blind, va_recv hK hP hc he, fun U hU hW => ⟨rfl, by rw [hU], by rw [hU]; exact hP, va_K.moved hW.alike hK, hD.weaken (fun _ _ _ _ => trivial)⟩⟩ rfl hn hsize hst (lv_room hW) hdg hf) hS (fun q _ h => hFc q h) hFc (fun u t H1 locs1 ht hvm hw hB hz1 hk1 hS1 => ?_)
  obtain ⟨hP1, hK1, hD1⟩ := hB
  rw [ht] at hP1
  exact kk H1 locs1 hP1 (hD1.weaken (fun k q _ h => hFc q.1 h)) hS1
variable {cA : ClassId} {f : Nat → Int32} {k : Nat} {x x' : Int32} {H0 : Heap} {a : Nat} {cl : List vw_C}
theorem zz_iald (hexec : p.tables.exec = Jvm.exec) (hb : c.code = cc) (hK : va_K D cl tys s) (hP : va_P D cl ws H) (q0 t0 : Nat) (ha : ws[q0]? = some (a, .inl (cA, n, .inl f))) (ht : tys[t0]? = some (cA, .int)) (hk : k < n) (hn : n < 2 ^ 31) (hdg : decode cc pc = .ok (.iaload, 1))
    (kk : W p l e R s m args below meth c H locs cells slots Q (F0 m (pc + 1) ls (.int (f k) :: rest))) : W p l e R s m args below meth c H locs cells slots Q (F0 m pc ls (.int (nI k) :: .ref a :: rest)) :=
  va_iald hexec hb hK hP q0 t0 ha ht (vp_in_nI hk hn) hdg (by rw [nI_clamp (Nat.lt_trans hk hn)]; exact kk)
theorem zz_sald (hexec : p.tables.exec = Jvm.exec) (hb : c.code = cc) (hK : va_K D cl tys s) (hP : va_P D cl ws H) (q0 t0 : Nat) (ha : ws[q0]? = some (a, .inl (cA, n, .inl f))) (ht : tys[t0]? = some (cA, .short)) (hk : k < n) (hn : n < 2 ^ 31) (hdg : decode cc pc = .ok (.saload, 1))
    (kk : W p l e R s m args below meth c H locs cells slots Q (F0 m (pc + 1) ls (.int (f k) :: rest))) : W p l e R s m args below meth c H locs cells slots Q (F0 m pc ls (.int (nI k) :: .ref a :: rest)) :=
  va_sald hexec hb hK hP q0 t0 ha ht (vp_in_nI hk hn) hdg (by rw [nI_clamp (Nat.lt_trans hk hn)]; exact kk)
theorem zz_bald (hexec : p.tables.exec = Jvm.exec) (hb : c.code = cc) (hK : va_K D cl tys s) (hP : va_P D cl ws H) (q0 t0 : Nat) (ha : ws[q0]? = some (a, .inl (cA, n, .inl f))) (ht : tys[t0]? = some (cA, .byte)) (hk : k < n) (hn : n < 2 ^ 31) (hdg : decode cc pc = .ok (.baload, 1))
    (kk : W p l e R s m args below meth c H locs cells slots Q (F0 m (pc + 1) ls (.int (f k) :: rest))) : W p l e R s m args below meth c H locs cells slots Q (F0 m pc ls (.int (nI k) :: .ref a :: rest)) :=
  va_bald hexec hb hK hP q0 t0 ha ht (vp_in_nI hk hn) hdg (by rw [nI_clamp (Nat.lt_trans hk hn)]; exact kk)
theorem zz_iast (hexec : p.tables.exec = Jvm.exec) (hb : c.code = cc) (hK : va_K D cl tys s) (hP : va_P D cl ws H) (hD : va_D A ws) (hS : va_S A H0 H locs) (q0 t0 : Nat) (ha : ws[q0]? = some (a, .inl (cA, n, .inl f))) (ht : tys[t0]? = some (cA, .int)) (hk : k < n) (hn : n < 2 ^ 31) (hdg : decode cc pc = .ok (.iastore, 1))
    (kk : ∀ (H1 : Heap) (locs1 : List Loc), va_P D cl (ws.set q0 (a, .inl (cA, n, .inl (upd f k x)))) H1 → va_D A (ws.set q0 (a, .inl (cA, n, .inl (upd f k x)))) → va_S A H0 H1 locs1 → W p l e R s m args below meth c H1 locs1 cells slots Q (F0 m (pc + 1) ls rest)) : W p l e R s m args below meth c H locs cells slots Q (F0 m pc ls (.int x :: .int (nI k) :: .ref a :: rest)) :=
  va_iast hexec hb hK hP hD hS q0 t0 ha ht (vp_in_nI hk hn) hdg (by rw [nI_clamp (Nat.lt_trans hk hn)]; exact kk)
theorem zz_sast (hexec : p.tables.exec = Jvm.exec) (hb : c.code = cc) (hK : va_K D cl tys s) (hP : va_P D cl ws H) (hD : va_D A ws) (hS : va_S A H0 H locs) (q0 t0 : Nat) (ha : ws[q0]? = some (a, .inl (cA, n, .inl f))) (ht : tys[t0]? = some (cA, .short)) (hk : k < n) (hn : n < 2 ^ 31) (hx : vp_nar .short x = x') (hdg : decode cc pc = .ok (.sastore, 1))
    (kk : ∀ (H1 : Heap) (locs1 : List Loc), va_P D cl (ws.set q0 (a, .inl (cA, n, .inl (upd f k x')))) H1 → va_D A (ws.set q0 (a, .inl (cA, n, .inl (upd f k x')))) → va_S A H0 H1 locs1 → W p l e R s m args below meth c H1 locs1 cells slots Q (F0 m (pc + 1) ls rest)) : W p l e R s m args below meth c H locs cells slots Q (F0 m pc ls (.int x :: .int (nI k) :: .ref a :: rest)) :=
  va_sast hexec hb hK hP hD hS q0 t0 ha ht (vp_in_nI hk hn) hdg (by rw [nI_clamp (Nat.lt_trans hk hn), hx]; exact kk)
theorem zz_bast (hexec : p.tables.exec = Jvm.exec) (hb : c.code = cc) (hK : va_K D cl tys s) (hP : va_P D cl ws H) (hD : va_D A ws) (hS : va_S A H0 H locs) (q0 t0 : Nat) (ha : ws[q0]? = some (a, .inl (cA, n, .inl f))) (ht : tys[t0]? = some (cA, .byte)) (hk : k < n) (hn : n < 2 ^ 31) (hx : vp_nar .byte x = x') (hdg : decode cc pc = .ok (.bastore, 1))
    (kk : ∀ (H1 : Heap) (locs1 : List Loc), va_P D cl (ws.set q0 (a, .inl (cA, n, .inl (upd f k x')))) H1 → va_D A (ws.set q0 (a, .inl (cA, n, .inl (upd f k x')))) → va_S A H0 H1 locs1 → W p l e R s m args below meth c H1 locs1 cells slots Q (F0 m (pc + 1) ls rest)) : W p l e R s m args below meth c H locs cells slots Q (F0 m pc ls (.int x :: .int (nI k) :: .ref a :: rest)) :=
  va_bast hexec hb hK hP hD hS q0 t0 ha ht (vp_in_nI hk hn) hdg (by rw [nI_clamp (Nat.lt_trans hk hn), hx]; exact kk)
end ZC
end
section
/-! ===== what the methods compute: plain functions, loops as lp ===== -/
set_option maxRecDepth 100000
def lp {α : Type} (f : Nat → α → α) (s : α) : Nat → α
  | 0 => s
  | n + 1 => f n (lp f s n)
theorem lp_0 {α : Type} (f : Nat → α → α) (s : α) : lp f s 0 = s := rfl
theorem lp_s {α : Type} (f : Nat → α → α) (s : α) (n : Nat) : lp f s (n + 1) = f n (lp f s n) := rfl
def isS (x : Int32) : Bool := decide (¬ x < 0 ∧ x < nI 8)
def ldB (x set : Int32) : Bool := !(x == 0) && ((x &&& (set ^^^ (-1))) == 0)
def myB (x set : Int32) : Bool := !((x &&& set) == 0)
def tB (must : Bool) (x set : Int32) : Bool := if must = true then ldB x set else myB x set
def anyB (f : Nat → Bool) : Nat → Bool
  | 0 => false
  | n + 1 => anyB f n || f n
theorem any_1 {f : Nat → Bool} {n k : Nat} (h : f k = true) (hk : k < n) : anyB f n = true := by
  induction n with
  | zero => omega
  | succ n ih =>
    show (anyB f n || f n) = true
    rcases Nat.lt_or_ge k n with q | q
    · rw [ih q]; rfl
    · rw [show n = k by omega, h, Bool.or_true]
theorem any_s {f : Nat → Bool} {n : Nat} (h : anyB f n = false) (h2 : f n = false) : anyB f (n + 1) = false := by
  show (anyB f n || f n) = false
  rw [h, h2]; rfl
/-- some action of the state i leads into the set -/
def smB (must : Bool) (a : Nat → Int32) (i : Nat) (set : Int32) : Bool := anyB (fun j => tB must (a (3 * i + j)) set) 3
def wSt (must : Bool) (a : Nat → Int32) (bef : Int32) (i : Nat) (x : Int32) : Int32 := if (bt x i || !smB must a i bef) = true then x else x ||| one i
/-- the set behind k layers -/
def fW (must : Bool) (a : Nat → Int32) (g : Int32) : Nat → Int32
  | 0 => g
  | k + 1 => lp (wSt must a (fW must a g k)) (fW must a g k) 8
/-- the layer numbers behind k layers -/
def lay (must : Bool) (a : Nat → Int32) (g : Int32) : Nat → Nat → Int32
  | 0 => fun _ => 0
  | k + 1 => fun j => if (!bt (fW must a g k) j && smB must a j (fW must a g k)) = true then nI (k + 1) else lay must a g k j
def kSt (a : Nat → Int32) (sf : Int32) (k : Nat) (x : Int32) : Int32 := if ldB (a k) sf = true then x ||| one k else x
def fLeft (a : Nat → Int32) (sf : Int32) : Int32 := lp (kSt a sf) 0 24
def abSt (a : Nat → Int32) (la : Int32) (k : Nat) (z : Int32) : Int32 := if (bt la k && myB (a k) z) = true then z ||| one (k / 3) else z
def abR (a : Nat → Int32) (la : Int32) (_ : Nat) (z : Int32) : Int32 := lp (abSt a la) z 24
def ableF (a : Nat → Int32) (g la : Int32) : Int32 := lp (abR a la) g 8
def sF (a : Nat → Int32) (g S : Int32) : Int32 := ableF a g (fLeft a S) &&& (S ||| g)
def sIt (a : Nat → Int32) (g : Int32) : Nat → Int32
  | 0 => 255
  | k + 1 => sF a g (sIt a g k)
def xSafe (a : Nat → Int32) (g : Int32) : Int32 := sIt a g 9
abbrev XS : Type := Int32 × Int32 × Int32 × Int32 × (Nat → Int32) × (Nat → Int32) × Int32
def xLrn (a : Nat → Int32) (g : Int32) : XS := (1, fW false a g 8, xSafe a g, fW true a g 8, lay true a g 8, lay false a g 8, fLeft a (xSafe a g))
/-- what the class knows is either nothing or right -/
def XI (a : Nat → Int32) (g : Int32) (z : XS) : Prop := z.1 = 0 ∨ z = xLrn a g
abbrev XW (h o sl wl : Nat) (dS d1 d2 : ClassId) (a : Nat → Int32) (g kn w sf su : Int32) (b1 b2 : Nat → Int32) (la : Int32) : va_W := [(h, .inr (0, [.ref o, .int g, .int kn, .int w, .int sf, .int su, .ref sl, .ref wl, .int la])), (o, .inl (dS, 24, .inl a)), (sl, .inl (d1, 8, .inl b1)), (wl, .inl (d2, 8, .inl b2))]
abbrev XZ (h o sl wl : Nat) (dS d1 d2 : ClassId) (a : Nat → Int32) (g : Int32) (z : XS) : va_W := XW h o sl wl dS d1 d2 a g z.1 z.2.1 z.2.2.1 z.2.2.2.1 z.2.2.2.2.1 z.2.2.2.2.2.1 z.2.2.2.2.2.2
abbrev XT (dS d1 d2 : ClassId) : List (ClassId × FieldType) := [(dS, .short), (d1, .byte), (d2, .byte)]
abbrev MW (h o f : Nat) (d1 d2 : ClassId) (a : Nat → Int32) (g : Int32) (fr : Nat → Int32) : va_W := [(h, .inr (1, [.ref o, .int g, .ref f])), (o, .inl (d1, 24, .inl a)), (f, .inl (d2, 8, .inl fr))]
abbrev MT (d1 d2 : ClassId) : List (ClassId × FieldType) := [(d1, .int), (d2, .int)]
/-- safeActions: the actions of state i that lead into the set -/
def saSt (a : Nat → Int32) (set : Int32) (i : Nat) (j : Nat) (x : Int32) : Int32 := if ldB (a (3 * i + j)) set = true then x ||| one j else x
def saF (a : Nat → Int32) (set : Int32) (i : Nat) : Int32 := lp (saSt a set i) 0 3
/-- the first of three, else -2 -/
def fst3 (f : Nat → Bool) : Int32 := if f 0 = true then 0 else if f 1 = true then 1 else if f 2 = true then 2 else -2
theorem fst3_1 {f : Nat → Bool} {k : Nat} (hk : k < 3) (h : f k = true) (h0 : ∀ j, j < k → f j = false) : nI k = fst3 f := by
  unfold fst3
  rcases (show k = 0 ∨ k = 1 ∨ k = 2 by omega) with rfl | rfl | rfl
  · rw [if_pos h]; rfl
  · rw [if_neg (by rw [h0 0 (by omega)]; decide), if_pos h]; rfl
  · rw [if_neg (by rw [h0 0 (by omega)]; decide), if_neg (by rw [h0 1 (by omega)]; decide), if_pos h]; rfl
theorem fst3_0 {f : Nat → Bool} (h0 : ∀ j, j < 3 → f j = false) : (-2 : Int32) = fst3 f := by
  unfold fst3
  rw [if_neg (by rw [h0 0 (by omega)]; decide), if_neg (by rw [h0 1 (by omega)]; decide), if_neg (by rw [h0 2 (by omega)]; decide)]
/-- keepsTo: the action k leads into the set and all its outcomes are in layers below ly -/
def allB (f : Nat → Bool) : Nat → Bool
  | 0 => true
  | n + 1 => allB f n && f n
theorem all_0 {f : Nat → Bool} {n k : Nat} (h : f k = false) (hk : k < n) : allB f n = false := by
  induction n with
  | zero => omega
  | succ n ih =>
    show (allB f n && f n) = false
    rcases Nat.lt_or_ge k n with q | q
    · rw [ih q]; rfl
    · rw [show n = k by omega, h, Bool.and_false]
theorem all_s {f : Nat → Bool} {n : Nat} (h : allB f n = true) (h2 : f n = true) : allB f (n + 1) = true := by
  show (allB f n && f n) = true
  rw [h, h2]; rfl
def ktB (x set : Int32) (b1 : Nat → Int32) (ly : Int32) : Bool := ldB x set && allB (fun t => !bt x t || decide (b1 t < ly)) 8
def pSt (set : Int32) (k : Nat) (q : (Nat → Int32) × Int32) : (Nat → Int32) × Int32 := if ((q.1 k &&& (set ^^^ (-1))) == 0) = true then q else (upd q.1 k 0, q.2 + 1)
def pF (a : Nat → Int32) (set : Int32) : (Nat → Int32) × Int32 := lp (pSt set) (a, 0) 24
def hSt (sf su : Int32) (i : Nat) (n : Int32) : Int32 := if (bt sf i && !bt su i) = true then n + 1 else n
def hF (sf su : Int32) : Int32 := lp (hSt sf su) 0 8
/-- the model's: outcome, count, reached, keeps, safe -/
def oSt (fr : Nat → Int32) (x : Int32) (i : Nat) (q : Int32 × Int32) : Int32 × Int32 := if bt x i = true then (if fr i ≤ q.1 then q.1 else fr i, if q.2 ≤ fr i then q.2 else fr i) else q
def oL (fr : Nat → Int32) (x : Int32) : Int32 × Int32 := lp (oSt fr x) (-1, nI 99) 8
def outF (fr : Nat → Int32) (x : Int32) (wo : Bool) : Int32 := if (wo && !decide ((oL fr x).1 < 0)) = true then (oL fr x).1 else (oL fr x).2
def far0 (g : Int32) (i : Nat) : Int32 := if bt g i = true then 0 else nI 99
def cSt (a : Nat → Int32) (wo : Bool) (k : Nat) (fr : Nat → Int32) : Nat → Int32 := if fr (k / 3) ≤ outF fr (a k) wo + 1 then fr else upd fr (k / 3) (outF fr (a k) wo + 1)
def cR (a : Nat → Int32) (wo : Bool) (_ : Nat) (fr : Nat → Int32) : Nat → Int32 := lp (cSt a wo) fr 24
def cF (a : Nat → Int32) (g : Int32) (wo : Bool) : Nat → Int32 := lp (cR a wo) (far0 g) 8
def rSt (fr : Nat → Int32) (i : Nat) (x : Int32) : Int32 := if nI 99 ≤ fr i then x else x ||| one i
def rF (fr : Nat → Int32) : Int32 := lp (rSt fr) 0 8
def nSt (a : Nat → Int32) (set : Int32) (k : Nat) (z : Int32) : Int32 := if (bt set (k / 3) && ((a k &&& (set ^^^ (-1))) == 0) && !((a k &&& z) == 0)) = true then z ||| one (k / 3) else z
def nR (a : Nat → Int32) (set : Int32) (_ : Nat) (z : Int32) : Int32 := lp (nSt a set) z 24
def nF (a : Nat → Int32) (g set : Int32) : Int32 := lp (nR a set) g 8
def kpB (a : Nat → Int32) (g set : Int32) : Bool := (set &&& (nF a g set ^^^ (-1))) == 0
def msSt (a : Nat → Int32) (g : Int32) (k : Nat) (x : Int32) : Int32 := if (((g &&& (nI k ^^^ (-1))) == 0) && kpB a g (nI k)) = true then x ||| nI k else x
def mSafe (a : Nat → Int32) (g : Int32) : Int32 := lp (msSt a g) g 256
def numF (fr : Nat → Int32) (x : Int32) : Int32 := if isS x = true then (if nI 99 ≤ fr x.toNatClampNeg then -2 else fr x.toNatClampNeg) else -1
theorem isS_of {x : Int32} (h : isS x = true) : ∃ j : Nat, j < 8 ∧ x = nI j := by
  have h2 := of_decide_eq_true h
  obtain ⟨j, hj, rfl⟩ := nI_of h2.1
  exact ⟨j, zz_clt hj (by omega) h2.2, rfl⟩
theorem isS_nI {j : Nat} (h : j < 8) : isS (nI j) = true := decide_eq_true ⟨nI_pos (by omega), nI_lt h (by omega)⟩
theorem isS_0 {x : Int32} (h : x < 0) : isS x = false := decide_eq_false (fun q => q.1 h)
theorem isS_2 {x : Int32} (h : nI 8 ≤ x) : isS x = false := decide_eq_false (fun q => by
  have h1 := q.2
  rw [Int32.lt_iff_toInt_lt] at h1
  rw [Int32.le_iff_toInt_le] at h
  omega)
theorem isS_1 {x : Int32} (h1 : ¬ x < 0) (h2 : ¬ nI 8 ≤ x) : isS x = true := decide_eq_true ⟨h1, by
  rw [Int32.le_iff_toInt_le] at h2
  rw [Int32.lt_iff_toInt_lt]
  omega⟩
theorem isS_4 {x : Int32} (h : nI 7 < x) : isS x = false := isS_2 (by
  rw [Int32.lt_iff_toInt_lt, nI_toInt (by omega)] at h
  rw [Int32.le_iff_toInt_le, nI_toInt (by omega)]
  omega)
theorem isS_3 {x : Int32} (h1 : ¬ x < 0) (h2 : ¬ nI 7 < x) : isS x = true := isS_1 h1 (fun q => h2 (by
  rw [Int32.le_iff_toInt_le, nI_toInt (by omega)] at q
  rw [Int32.lt_iff_toInt_lt, nI_toInt (by omega)]
  omega))
theorem ld_0 {x s : Int32} (h : x = 0) : ldB x s = false := by unfold ldB; rw [h]; rfl
theorem ld_1 {x s : Int32} (h : ¬ x &&& (s ^^^ (-1)) = 0) : ldB x s = false := by
  unfold ldB
  rw [show ((x &&& (s ^^^ (-1))) == 0) = false from beq_false_of_ne h, Bool.and_false]
theorem ld_2 {x s : Int32} (h1 : ¬ x = 0) (h : x &&& (s ^^^ (-1)) = 0) : ldB x s = true := by
  unfold ldB
  rw [h, show (x == 0) = false from beq_false_of_ne h1]; rfl
theorem my_0 {x s : Int32} (h : x &&& s = 0) : myB x s = false := by unfold myB; rw [h]; rfl
theorem my_1 {x s : Int32} (h : ¬ x &&& s = 0) : myB x s = true := by unfold myB; rw [show ((x &&& s) == 0) = false from beq_false_of_ne h]; rfl
end
section
/-! ===== rows about the functions that the walks lean on ===== -/
set_option maxRecDepth 100000
/-- only the low 8 bits -/
def s8 (x : Int32) : Prop := ∀ i, 8 ≤ i → bt x i = false
theorem w_sk {mu : Bool} {a : Nat → Int32} {b x : Int32} {i : Nat} (h : bt x i = true) : wSt mu a b i x = x := by unfold wSt; rw [if_pos (by rw [h]; rfl)]
theorem w_sn {mu : Bool} {a : Nat → Int32} {b x : Int32} {i : Nat} (h : smB mu a i b = false) : wSt mu a b i x = x := by unfold wSt; rw [if_pos (by rw [h]; simp)]
theorem w_ad {mu : Bool} {a : Nat → Int32} {b x : Int32} {i : Nat} (h1 : bt x i = false) (h : smB mu a i b = true) : wSt mu a b i x = x ||| one i := by unfold wSt; rw [if_neg (by rw [h, h1]; decide)]
theorem w_bt {mu : Bool} {a : Nat → Int32} {b x : Int32} {i j : Nat} (hi : i < 32) : bt (wSt mu a b i x) j = if j = i then (bt x i || smB mu a i b) else bt x j := by
  cases h1 : bt x i
  · cases h2 : smB mu a i b
    · rw [w_sn h2]; by_cases e : j = i
      · subst e; rw [if_pos rfl, h1]; rfl
      · rw [if_neg e]
    · rw [w_ad h1 h2, b_or, b_one hi]; by_cases e : j = i
      · subst e; simp
      · simp [e]
  · rw [w_sk h1]; by_cases e : j = i
    · subst e; rw [if_pos rfl, h1]; rfl
    · rw [if_neg e]
theorem w_lp {mu : Bool} {a : Nat → Int32} {b x : Int32} (j : Nat) : ∀ i, i ≤ 32 → bt (lp (wSt mu a b) x i) j = if j < i then (bt x j || smB mu a j b) else bt x j := by
  intro i
  induction i with
  | zero => intro _; rw [lp_0, if_neg (by omega)]
  | succ i ih =>
    intro hi
    rw [lp_s, w_bt (by omega), ih (by omega)]
    by_cases e : j = i
    · subst e
      rw [if_pos rfl, if_pos (by omega)]
      have := ih (by omega)
      rw [if_neg (by omega)] at this
      rw [this]
    · rw [if_neg e]
      by_cases h : j < i
      · rw [if_pos h, if_pos (by omega)]
      · rw [if_neg h, if_neg (by omega)]
theorem ly_sk {mu : Bool} {a : Nat → Int32} {g b x : Int32} {y : Nat → Int32} {k i : Nat} (hi : i < 8) (hb : b = fW mu a g k) (hx : x = lp (wSt mu a b) b i) (hy : ∀ j, j < 8 → y j = if j < i then lay mu a g (k + 1) j else lay mu a g k j) (h : bt x i = true ∨ smB mu a i b = false) :
    ∀ j, j < 8 → y j = if j < i + 1 then lay mu a g (k + 1) j else lay mu a g k j := by
  intro j hj
  rw [hy j hj]
  by_cases e : j = i
  · subst e
    rw [if_neg (by omega), if_pos (by omega)]
    have e2 : bt x j = bt b j := by rw [hx, w_lp j j (by omega), if_neg (by omega)]
    show _ = if (!bt (fW mu a g k) j && smB mu a j (fW mu a g k)) = true then nI (k + 1) else lay mu a g k j
    rw [← hb, ← e2]
    rcases h with h | h
    · rw [h]; rfl
    · rw [h]; simp
  · by_cases q : j < i
    · rw [if_pos q, if_pos (by omega)]
    · rw [if_neg q, if_neg (by omega)]
theorem ly_ad {mu : Bool} {a : Nat → Int32} {g b x : Int32} {y : Nat → Int32} {k i : Nat} (hi : i < 8) (hb : b = fW mu a g k) (hx : x = lp (wSt mu a b) b i) (hy : ∀ j, j < 8 → y j = if j < i then lay mu a g (k + 1) j else lay mu a g k j) (h1 : bt x i = false) (h2 : smB mu a i b = true) :
    ∀ j, j < 8 → upd y i (nI (k + 1)) j = if j < i + 1 then lay mu a g (k + 1) j else lay mu a g k j := by
  intro j hj
  by_cases e : j = i
  · subst e
    rw [pk_us, if_pos (by omega)]
    have e2 : bt x j = bt b j := by rw [hx, w_lp j j (by omega), if_neg (by omega)]
    show _ = if (!bt (fW mu a g k) j && smB mu a j (fW mu a g k)) = true then nI (k + 1) else lay mu a g k j
    rw [← hb, ← e2, h1, h2]; rfl
  · rw [pk_un e, hy j hj]
    by_cases q : j < i
    · rw [if_pos q, if_pos (by omega)]
    · rw [if_neg q, if_neg (by omega)]
theorem ab_0 {a : Nat → Int32} {la z : Int32} {k : Nat} (h : bt la k = false) : abSt a la k z = z := by unfold abSt; rw [if_neg (by rw [h]; simp)]
theorem ab_1 {a : Nat → Int32} {la z : Int32} {k : Nat} (h : myB (a k) z = false) : abSt a la k z = z := by unfold abSt; rw [if_neg (by rw [h]; simp)]
theorem ab_2 {a : Nat → Int32} {la z : Int32} {k : Nat} (h1 : bt la k = true) (h2 : myB (a k) z = true) : abSt a la k z = z ||| one (k / 3) := by unfold abSt; rw [if_pos (by rw [h1, h2]; rfl)]
theorem k_1 {a : Nat → Int32} {sf x : Int32} {k : Nat} (h : ldB (a k) sf = true) : kSt a sf k x = x ||| one k := if_pos h
theorem k_0 {a : Nat → Int32} {sf x : Int32} {k : Nat} (h : ldB (a k) sf = false) : kSt a sf k x = x := if_neg (by rw [h]; decide)
theorem sa_1 {a : Nat → Int32} {sf x : Int32} {i j : Nat} (h : ldB (a (3 * i + j)) sf = true) : saSt a sf i j x = x ||| one j := if_pos h
theorem sa_0 {a : Nat → Int32} {sf x : Int32} {i j : Nat} (h : ldB (a (3 * i + j)) sf = false) : saSt a sf i j x = x := if_neg (by rw [h]; decide)
theorem bt_diff {x y : Int32} {i : Nat} (hi : i < 32) : bt (x &&& (y ^^^ (-1))) i = (bt x i && !bt y i) := by rw [b_and, b_xor, b_m1 i hi]; simp
theorem h_1 {sf su n : Int32} {i : Nat} (hi : i < 32) (h : bt (sf &&& (su ^^^ (-1))) i = true) : hSt sf su i n = n + 1 := by rw [bt_diff hi] at h; exact if_pos h
theorem h_0 {sf su n : Int32} {i : Nat} (hi : i < 32) (h : bt (sf &&& (su ^^^ (-1))) i = false) : hSt sf su i n = n := by rw [bt_diff hi] at h; exact if_neg (by rw [h]; decide)
theorem p_0 {set : Int32} {f : Nat → Int32} {n : Int32} {k : Nat} (h : f k &&& (set ^^^ (-1)) = 0) : pSt set k (f, n) = (f, n) := if_pos (by show ((f k &&& (set ^^^ (-1))) == 0) = true; rw [h]; rfl)
theorem p_1 {set : Int32} {f : Nat → Int32} {n : Int32} {k : Nat} (h : ¬ f k &&& (set ^^^ (-1)) = 0) : pSt set k (f, n) = (upd f k 0, n + 1) := if_neg (by show ¬ ((f k &&& (set ^^^ (-1))) == 0) = true; rw [beq_false_of_ne h]; decide)
theorem z_and (x : Int32) : (0 : Int32) &&& x = 0 := Int32.zero_and
theorem ld_z {x s : Int32} (h : ldB x s = true) : x &&& (s ^^^ (-1)) = 0 := by
  by_cases q : x &&& (s ^^^ (-1)) = 0
  · exact q
  · rw [ld_1 q] at h; cases h
theorem ld_nz {x s : Int32} (h : ldB x s = false) (h0 : ¬ x = 0) : ¬ x &&& (s ^^^ (-1)) = 0 := fun q => by rw [ld_2 h0 q] at h; cases h
theorem zz_s16 : ∀ k, k < 256 → (nI k).toInt16.toInt32 = nI k := by decide +kernel
theorem zz_s8 : ∀ k, k < 128 → (nI k).toInt8.toInt32 = nI k := by decide +kernel
theorem XI_eq {h o sl wl : Nat} {dS d1 d2 : ClassId} {a : Nat → Int32} {g kn w sf su : Int32} {b1 b2 : Nat → Int32} {la : Int32} (hI : XI a g (kn, w, sf, su, b1, b2, la)) (hn : ¬ kn = 0) :
    XW h o sl wl dS d1 d2 a g kn w sf su b1 b2 la = XZ h o sl wl dS d1 d2 a g (xLrn a g) := by
  rcases hI with q | q
  · exact absurd q hn
  · unfold xLrn at q
    simp only [Prod.mk.injEq] at q
    obtain ⟨rfl, rfl, rfl, rfl, rfl, rfl, rfl⟩ := q
    rfl
def xNum (mu : Bool) (a : Nat → Int32) (g x : Int32) : Int32 := if isS x = true then (if bt (fW mu a g 8) x.toNatClampNeg = true then lay mu a g 8 x.toNatClampNeg else -2) else -1
def xSA (a : Nat → Int32) (g x : Int32) : Int32 := if isS x = true then (if (bt g x.toNatClampNeg || !bt (xSafe a g) x.toNatClampNeg) = true then 0 else saF a (xSafe a g) x.toNatClampNeg) else 0
def xSu (a : Nat → Int32) (g x : Int32) : Int32 := if isS x = true then (if (bt g x.toNatClampNeg || !bt (fW true a g 8) x.toNatClampNeg) = true then -2 else fst3 (fun t => ktB (a (3 * x.toNatClampNeg + t)) (fW true a g 8) (lay true a g 8) (lay true a g 8 x.toNatClampNeg))) else -2
def acB (x y z : Int32) : Bool := isS x && decide (¬ y < 0 ∧ ¬ nI 2 < y) && decide (¬ z < 0 ∧ z ≤ nI 255)
def glB (x : Int32) : Bool := decide (¬ x < 0 ∧ x ≤ nI 255)
theorem z_up {f : Nat → Int32} {x : Int32} {i : Nat} (h : ∀ j, j < i → f j = x) : ∀ j, j < i + 1 → upd f i x j = x := by
  intro j hj
  by_cases e : j = i
  · rw [e, pk_us]
  · rw [pk_un e]; exact h j (by omega)
theorem z_eq {P : Nat → Prop} {j k : Nat} (h : P j) (e : j = k) : P k := e ▸ h
end
section
/-! ===== sets of bits: subset, count, chains, loops that only add ===== -/
set_option maxRecDepth 100000
def sb (x y : Int32) : Prop := ∀ i, bt x i = true → bt y i = true
theorem sb_r (x : Int32) : sb x x := fun _ h => h
theorem sb_t {x y z : Int32} (h : sb x y) (h2 : sb y z) : sb x z := fun i q => h2 i (h i q)
theorem sb_a {x y : Int32} (h : sb x y) (h2 : sb y x) : x = y := b_ext (fun i _ => by
  have a := h i
  have b := h2 i
  cases e : bt x i
  · cases e2 : bt y i
    · rfl
    · rw [b e2] at e; cases e
  · rw [a e])
theorem sb_orl (x y : Int32) : sb x (x ||| y) := fun i h => by rw [b_or, h]; rfl
theorem sb_orr (x y : Int32) : sb y (x ||| y) := fun i h => by rw [b_or, h, Bool.or_true]
theorem sb_or {x y z : Int32} (h : sb x z) (h2 : sb y z) : sb (x ||| y) z := fun i q => by
  rw [b_or] at q
  cases e : bt x i
  · rw [e, Bool.false_or] at q; exact h2 i q
  · exact h i e
def cn (x : Int32) : Nat → Nat
  | 0 => 0
  | n + 1 => cn x n + (if bt x n = true then 1 else 0)
theorem cn_le {x y : Int32} (h : sb x y) (n : Nat) : cn x n ≤ cn y n := by
  induction n with
  | zero => exact Nat.le_refl _
  | succ n ih =>
    show cn x n + (if bt x n = true then 1 else 0) ≤ cn y n + (if bt y n = true then 1 else 0)
    cases e : bt x n
    · simp; omega
    · rw [h n e]; simp; omega
theorem cn_n (x : Int32) (n : Nat) : cn x n ≤ n := by
  induction n with
  | zero => exact Nat.le_refl _
  | succ n ih =>
    show cn x n + (if bt x n = true then 1 else 0) ≤ n + 1
    split <;> omega
theorem cn_lt {x y : Int32} (h : sb x y) {i n : Nat} (hi : i < n) (h1 : bt y i = true) (h2 : bt x i = false) : cn x n < cn y n := by
  induction n with
  | zero => omega
  | succ n ih =>
    show cn x n + (if bt x n = true then 1 else 0) < cn y n + (if bt y n = true then 1 else 0)
    rcases Nat.lt_or_ge i n with q | q
    · have := ih q
      cases e : bt x n
      · simp; omega
      · rw [h n e]; simp; omega
    · have e : n = i := by omega
      subst e
      rw [h1, h2]
      have := cn_le h n
      simp; omega
theorem cn_s {x y : Int32} (h : sb x y) (hy : s8 y) (ne : ¬ x = y) : cn x 8 < cn y 8 := by
  have : ∃ i, i < 8 ∧ bt y i = true ∧ bt x i = false := by
    apply Classical.byContradiction
    intro q
    apply ne
    apply sb_a h
    intro i hi
    rcases Nat.lt_or_ge i 8 with u | u
    · cases e : bt x i
      · exact absurd ⟨i, u, hi, e⟩ q
      · rfl
    · rw [hy i u] at hi; cases hi
  obtain ⟨i, hi, h1, h2⟩ := this
  exact cn_lt h hi h1 h2
theorem lp_ind {α : Type} {f : Nat → α → α} {P : α → Prop} {s : α} (h0 : P s) : ∀ n, (∀ k z, k < n → P z → P (f k z)) → P (lp f s n) := by
  intro n
  induction n with
  | zero => intro _; exact h0
  | succ n ih => intro h; exact h n _ (Nat.lt_succ_self n) (ih (fun k z hk => h k z (by omega)))
theorem lp_inf {f : Nat → Int32 → Int32} {s : Int32} {n : Nat} (h : ∀ k z, k < n → sb z (f k z)) : sb s (lp f s n) :=
  lp_ind (P := fun z => sb s z) (sb_r s) n (fun k z hk q => sb_t q (h k z hk))
theorem lp_mono {f : Nat → Int32 → Int32} {s : Int32} (h : ∀ k z, sb z (f k z)) : ∀ n m, m ≤ n → sb (lp f s m) (lp f s n) := by
  intro n
  induction n with
  | zero => intro m hm; rw [show m = 0 by omega]; exact sb_r _
  | succ n ih =>
    intro m hm
    rcases Nat.lt_or_ge n m with q | q
    · rw [show m = n + 1 by omega]; exact sb_r _
    · exact sb_t (ih m q) (h n _)
/-- a loop that only adds and comes back to where it began had no step that adds -/
theorem lp_fixed {f : Nat → Int32 → Int32} {z : Int32} (h : ∀ k z, sb z (f k z)) {n : Nat} (e : lp f z n = z) : ∀ k, k < n → f k z = z := by
  have e2 : ∀ m, m ≤ n → lp f z m = z := fun m hm => sb_a (by
    have := lp_mono (s := z) h n m hm
    rw [e] at this; exact this) (lp_mono (s := z) h m 0 (by omega))
  intro k hk
  have := e2 (k + 1) hk
  rw [lp_s, e2 k (by omega)] at this
  exact this
/-- eight rounds of a function that only adds, on eight bits, come to rest -/
theorem rest8 {R : Int32 → Int32} (h : ∀ z, sb z (R z)) (h8 : ∀ z, s8 z → s8 (R z)) {g : Int32} (hg : s8 g) : R (lp (fun _ => R) g 8) = lp (fun _ => R) g 8 := by
  have hs : ∀ k, s8 (lp (fun _ => R) g k) := fun k => lp_ind (P := s8) hg k (fun _ z _ q => h8 z q)
  have hk : ∀ k, ¬ R (lp (fun _ => R) g k) = lp (fun _ => R) g k → k + 1 ≤ cn (lp (fun _ => R) g (k + 1)) 8 := by
    intro k
    induction k with
    | zero =>
      intro ne
      have := cn_s (h g) (h8 g hg) (fun q => ne q.symm)
      show 1 ≤ cn (R g) 8
      omega
    | succ k ih =>
      intro ne
      have q := ih (fun q => ne (by rw [lp_s, q, q]))
      have := cn_s (h (lp (fun _ => R) g (k + 1))) (hs (k + 2)) (fun q => ne q.symm)
      rw [lp_s]
      omega
  apply Classical.byContradiction
  intro ne
  have := hk 8 ne
  have := cn_n (lp (fun _ => R) g (8 + 1)) 8
  omega
theorem one_8 {k : Nat} (hk : k < 24) : s8 (one (k / 3)) := fun i hi => by rw [b_one (by omega), decide_eq_false (by omega)]
theorem s8_or {x y : Int32} (h : s8 x) (h2 : s8 y) : s8 (x ||| y) := fun i hi => by rw [b_or, h i hi, h2 i hi]; rfl
theorem s8_and {x y : Int32} (h : s8 y) : s8 (x &&& y) := fun i hi => by rw [b_and, h i hi, Bool.and_false]
theorem s8_255 : s8 255 := fun i hi => by rw [b_255, decide_eq_false (by omega)]
theorem ab_inf {a : Nat → Int32} {la : Int32} (k : Nat) (z : Int32) : sb z (abSt a la k z) := by
  unfold abSt; split
  · exact sb_orl _ _
  · exact sb_r _
theorem abR_inf {a : Nat → Int32} {la : Int32} (k : Nat) (z : Int32) : sb z (abR a la k z) := lp_inf (fun k z _ => ab_inf k z)
theorem able_inf {a : Nat → Int32} {g la : Int32} : sb g (ableF a g la) := lp_inf (fun k z _ => abR_inf k z)
theorem g_255 {g : Int32} (hg : s8 g) : sb g 255 := fun i h => by
  rcases Nat.lt_or_ge i 8 with q | q
  · rw [b_255, decide_eq_true q]
  · rw [hg i q] at h; cases h
theorem sIt_g {a : Nat → Int32} {g : Int32} (hg : s8 g) (k : Nat) : sb g (sIt a g k) := by
  cases k with
  | zero => exact g_255 hg
  | succ k =>
    intro i h
    show bt (ableF a g (fLeft a (sIt a g k)) &&& (sIt a g k ||| g)) i = true
    rw [b_and, able_inf i h, b_or, h, Bool.or_true]; rfl
theorem sIt_8 {a : Nat → Int32} {g : Int32} (hg : s8 g) (k : Nat) : s8 (sIt a g k) := by
  induction k with
  | zero => exact s8_255
  | succ k ih => exact s8_and (s8_or ih hg)
theorem sIt_d {a : Nat → Int32} {g : Int32} (hg : s8 g) (k : Nat) : sb (sF a g (sIt a g k)) (sIt a g k) := fun i h => by
  unfold sF at h
  rw [b_and] at h
  have h2 : bt (sIt a g k ||| g) i = true := by
    cases e : bt (sIt a g k ||| g) i
    · rw [e, Bool.and_false] at h; cases h
    · rfl
  exact sb_or (sb_r _) (sIt_g hg k) i h2
theorem s_chain {a : Nat → Int32} {g : Int32} (hg : s8 g) {k : Nat} (h : ¬ sF a g (sIt a g k) = sIt a g k) : k + 1 ≤ 8 := by
  have hk : ∀ k, ¬ sF a g (sIt a g k) = sIt a g k → cn (sIt a g (k + 1)) 8 + (k + 1) ≤ 8 := by
    intro k
    induction k with
    | zero =>
      intro ne
      have h1 := cn_s (sIt_d hg 0) (sIt_8 (a := a) hg 0) ne
      have h2 := cn_n (sIt a g 0) 8
      have h3 : cn (sIt a g (0 + 1)) 8 = cn (sF a g (sIt a g 0)) 8 := rfl
      omega
    | succ k ih =>
      intro ne
      have q := ih (fun q => ne (by
        show sF a g (sF a g (sIt a g k)) = sF a g (sIt a g k)
        rw [q, q]))
      have h1 := cn_s (sIt_d hg (k + 1)) (sIt_8 (a := a) hg (k + 1)) ne
      have h3 : cn (sIt a g (k + 1 + 1)) 8 = cn (sF a g (sIt a g (k + 1))) 8 := rfl
      omega
  have := hk k h
  omega
theorem s_fix {a : Nat → Int32} {g : Int32} {k : Nat} (hk : k ≤ 9) (h : sF a g (sIt a g k) = sIt a g k) : sIt a g k = xSafe a g := by
  have h2 : ∀ n, sIt a g (k + n) = sIt a g k := by
    intro n
    induction n with
    | zero => rfl
    | succ n ih =>
      show sF a g (sIt a g (k + n)) = _
      rw [ih, h]
  have := h2 (9 - k)
  rw [show k + (9 - k) = 9 by omega] at this
  exact this.symm
end
section
/-! ===== CyclicPlanner: contracts of its leaves (printed by specX.py) ===== -/
set_option maxRecDepth 100000
theorem gX0_isState : GoodIn lw_all (wsV RX0 20 RX0 yX0_isState (ws_ yX0_isState cX0_isState 2 (some .boolean))) := lw_V q64 q66 qs0 q20 q67
theorem hX0_isState : yX0_isState.cls = RX0 ∧ yX0_isState.cls ≠ "java/lang/invoke/MethodHandle" ∧ yX0_isState.cls ≠ "java/lang/invoke/VarHandle" ∧ (parseMethodDescriptor yX0_isState.desc).map (fun d => d.parameters.length) = some 1 := by decide +kernel
theorem gX0_learn : GoodIn lw_all (wsV RX0 32 RX0 yX0_learn (ws_ yX0_learn cX0_learn 1 none)) := lw_V q76 q78 qs1 q20 q79
theorem hX0_learn : yX0_learn.cls = RX0 ∧ yX0_learn.cls ≠ "java/lang/invoke/MethodHandle" ∧ yX0_learn.cls ≠ "java/lang/invoke/VarHandle" ∧ (parseMethodDescriptor yX0_learn.desc).map (fun d => d.parameters.length) = some 0 := by decide +kernel
theorem gX0_findWeak : GoodIn lw_all (wsV RX0 54 RX0 yX0_findWeak (ws_ yX0_findWeak cX0_findWeak 4 none)) := lw_V q80 q82 qs2 q20 q83
theorem hX0_findWeak : yX0_findWeak.cls = RX0 ∧ yX0_findWeak.cls ≠ "java/lang/invoke/MethodHandle" ∧ yX0_findWeak.cls ≠ "java/lang/invoke/VarHandle" ∧ (parseMethodDescriptor yX0_findWeak.desc).map (fun d => d.parameters.length) = some 0 := by decide +kernel
theorem gX0_isIn : GoodIn lw_all (wsV RX0 44 RX0 yX0_isIn (ws_ yX0_isIn cX0_isIn 3 (some .boolean))) := lw_V q84 q86 qs3 q20 q87
theorem hX0_isIn : yX0_isIn.cls = RX0 ∧ yX0_isIn.cls ≠ "java/lang/invoke/MethodHandle" ∧ yX0_isIn.cls ≠ "java/lang/invoke/VarHandle" ∧ (parseMethodDescriptor yX0_isIn.desc).map (fun d => d.parameters.length) = some 2 := by decide +kernel
theorem gX0_someLeads : GoodIn lw_all (wsV RX0 63 RX0 yX0_someLeads (ws_ yX0_someLeads cX0_someLeads 5 (some .boolean))) := lw_V q88 q90 qs4 q20 q91
theorem hX0_someLeads : yX0_someLeads.cls = RX0 ∧ yX0_someLeads.cls ≠ "java/lang/invoke/MethodHandle" ∧ yX0_someLeads.cls ≠ "java/lang/invoke/VarHandle" ∧ (parseMethodDescriptor yX0_someLeads.desc).map (fun d => d.parameters.length) = some 3 := by decide +kernel
theorem gX0_leadsInto : GoodIn lw_all (wsV RX0 48 RX0 yX0_leadsInto (ws_ yX0_leadsInto cX0_leadsInto 3 (some .boolean))) := lw_V q92 q94 qs5 q20 q95
theorem hX0_leadsInto : yX0_leadsInto.cls = RX0 ∧ yX0_leadsInto.cls ≠ "java/lang/invoke/MethodHandle" ∧ yX0_leadsInto.cls ≠ "java/lang/invoke/VarHandle" ∧ (parseMethodDescriptor yX0_leadsInto.desc).map (fun d => d.parameters.length) = some 2 := by decide +kernel
theorem gX0_mayLeadInto : GoodIn lw_all (wsV RX0 67 RX0 yX0_mayLeadInto (ws_ yX0_mayLeadInto cX0_mayLeadInto 3 (some .boolean))) := lw_V q96 q98 qs6 q20 q99
theorem hX0_mayLeadInto : yX0_mayLeadInto.cls = RX0 ∧ yX0_mayLeadInto.cls ≠ "java/lang/invoke/MethodHandle" ∧ yX0_mayLeadInto.cls ≠ "java/lang/invoke/VarHandle" ∧ (parseMethodDescriptor yX0_mayLeadInto.desc).map (fun d => d.parameters.length) = some 2 := by decide +kernel
theorem gX0_findSure : GoodIn lw_all (wsV RX0 57 RX0 yX0_findSure (ws_ yX0_findSure cX0_findSure 4 none)) := lw_V q100 q102 qs7 q20 q103
theorem hX0_findSure : yX0_findSure.cls = RX0 ∧ yX0_findSure.cls ≠ "java/lang/invoke/MethodHandle" ∧ yX0_findSure.cls ≠ "java/lang/invoke/VarHandle" ∧ (parseMethodDescriptor yX0_findSure.desc).map (fun d => d.parameters.length) = some 0 := by decide +kernel
theorem gX0_findSafe : GoodIn lw_all (wsV RX0 60 RX0 yX0_findSafe (ws_ yX0_findSafe cX0_findSafe 3 none)) := lw_V q104 q106 qs8 q20 q107
theorem hX0_findSafe : yX0_findSafe.cls = RX0 ∧ yX0_findSafe.cls ≠ "java/lang/invoke/MethodHandle" ∧ yX0_findSafe.cls ≠ "java/lang/invoke/VarHandle" ∧ (parseMethodDescriptor yX0_findSafe.desc).map (fun d => d.parameters.length) = some 0 := by decide +kernel
theorem gX0_keepActions : GoodIn lw_all (wsV RX0 70 RX0 yX0_keepActions (ws_ yX0_keepActions cX0_keepActions 2 none)) := lw_V q108 q110 qs9 q20 q111
theorem hX0_keepActions : yX0_keepActions.cls = RX0 ∧ yX0_keepActions.cls ≠ "java/lang/invoke/MethodHandle" ∧ yX0_keepActions.cls ≠ "java/lang/invoke/VarHandle" ∧ (parseMethodDescriptor yX0_keepActions.desc).map (fun d => d.parameters.length) = some 0 := by decide +kernel
theorem gX0_ableStates : GoodIn lw_all (wsV RX0 73 RX0 yX0_ableStates (ws_ yX0_ableStates cX0_ableStates 4 (some .int))) := lw_V q112 q114 qs10 q20 q115
theorem hX0_ableStates : yX0_ableStates.cls = RX0 ∧ yX0_ableStates.cls ≠ "java/lang/invoke/MethodHandle" ∧ yX0_ableStates.cls ≠ "java/lang/invoke/VarHandle" ∧ (parseMethodDescriptor yX0_ableStates.desc).map (fun d => d.parameters.length) = some 0 := by decide +kernel
theorem gX0_keepsTo : GoodIn lw_all (wsV RX0 51 RX0 yX0_keepsTo (ws_ yX0_keepsTo cX0_keepsTo 4 (some .boolean))) := lw_V q140 q142 qs11 q20 q143
theorem hX0_keepsTo : yX0_keepsTo.cls = RX0 ∧ yX0_keepsTo.cls ≠ "java/lang/invoke/MethodHandle" ∧ yX0_keepsTo.cls ≠ "java/lang/invoke/VarHandle" ∧ (parseMethodDescriptor yX0_keepsTo.desc).map (fun d => d.parameters.length) = some 2 := by decide +kernel
set_option maxHeartbeats 4000000 in
theorem tX0_isState (l : Launch) (D : va_G) (h : Nat) (x : Int32) : zI l D yX0_isState cX0_isState 2 .boolean 0 [.ref h, .int x] [] [] (bI (isS x)) [] := by
  refine zz_I (by decide) (Nat.le_of_ble_eq_true rfl) (zz_bIn _) ?_
  intro p e s m args below meth c A Q hx hb hml hown hts hA hK hP hD hS hret ls hl
  have hown : s.vm.findClass RX0 = some m.cls := hown
  have hl : lv_has ls 2 [(0, .ref h), (1, .int x)] := hl
  refine lv_iload_n hx hb dX0_isState_0 rfl (lv_at hl 1 rfl) ?_
  refine lv_if_lt (tgt := 14) hx hb dX0_isState_1 (by decide) (fun c_1 => ?_) (fun c_1 => ?_)
  · have c_1 := c_1
    refine lv_iconst (v := 0) hx hb dX0_isState_14 (by decide +kernel) ?_
    exact hret _ _ _ _ _ hP hD hS (by rw [isS_0 c_1]; rfl) dX0_isState_15
  · have c_1 := c_1
    refine lv_iload_n hx hb dX0_isState_4 rfl (lv_at hl 1 rfl) ?_
    refine lv_bipush (v := nI 8) hx hb dX0_isState_5 (by decide +kernel) ?_
    refine lv_icmp_ge (tgt := 14) hx hb dX0_isState_7 (by decide) (fun c_7 => ?_) (fun c_7 => ?_)
    · have c_7 := c_7
      refine lv_iconst (v := 0) hx hb dX0_isState_14 (by decide +kernel) ?_
      exact hret _ _ _ _ _ hP hD hS (by rw [isS_2 c_7]; rfl) dX0_isState_15
    · have c_7 := c_7
      refine lv_iconst (v := 1) hx hb dX0_isState_10 (by decide +kernel) ?_
      refine lv_goto (tgt := 15) hx hb dX0_isState_11 (by decide) ?_
      exact hret _ _ _ _ _ hP hD hS (by rw [isS_1 c_1 c_7]; rfl) dX0_isState_15
set_option maxHeartbeats 4000000 in
theorem tX0_isIn (l : Launch) (D : va_G) (h : Nat) (x : Int32) (i : Nat) (hi : i < 32) : zI l D yX0_isIn cX0_isIn 3 .boolean 0 [.ref h, .int x, .int (nI i)] [] [] (bI (bt x i)) [] := by
  refine zz_I (by decide) (Nat.le_of_ble_eq_true rfl) (zz_bIn _) ?_
  intro p e s m args below meth c A Q hx hb hml hown hts hA hK hP hD hS hret ls hl
  have hown : s.vm.findClass RX0 = some m.cls := hown
  have hl : lv_has ls 3 [(0, .ref h), (1, .int x), (2, .int (nI i))] := hl
  refine lv_iload_n hx hb dX0_isIn_0 rfl (lv_at hl 1 rfl) ?_
  refine lv_iload_n hx hb dX0_isIn_1 rfl (lv_at hl 2 rfl) ?_
  refine lv_ishr hx hb dX0_isIn_2 ?_
  refine lv_iconst (v := 1) hx hb dX0_isIn_3 (by decide +kernel) ?_
  refine lv_iand hx hb dX0_isIn_4 ?_
  refine lv_if_eq (tgt := 12) hx hb dX0_isIn_5 (by decide) (fun c_5 => ?_) (fun c_5 => ?_)
  · have c_5 : bt x i = false := zz_bit0 (by omega) c_5
    refine lv_iconst (v := 0) hx hb dX0_isIn_12 (by decide +kernel) ?_
    exact hret _ _ _ _ _ hP hD hS (by rw [c_5]; rfl) dX0_isIn_13
  · have c_5 : bt x i = true := zz_bit1 (by omega) c_5
    refine lv_iconst (v := 1) hx hb dX0_isIn_8 (by decide +kernel) ?_
    refine lv_goto (tgt := 13) hx hb dX0_isIn_9 (by decide) ?_
    exact hret _ _ _ _ _ hP hD hS (by rw [c_5]; rfl) dX0_isIn_13
set_option maxHeartbeats 4000000 in
theorem tX0_leadsInto (l : Launch) (D : va_G) (h o sl wl : Nat) (dS d1 d2 : ClassId) (a b1 b2 : Nat → Int32) (g kn w sf su la : Int32) (k : Nat) (x : Int32) (hk : k < 24) : zI l D yX0_leadsInto cX0_leadsInto 3 .boolean 0 [.ref h, .int (nI k), .int x] (XT dS d1 d2) (XW h o sl wl dS d1 d2 a g kn w sf su b1 b2 la) (bI (ldB (a k) x)) (XW h o sl wl dS d1 d2 a g kn w sf su b1 b2 la) := by
  refine zz_I (by decide) (Nat.le_of_ble_eq_true rfl) (zz_bIn _) ?_
  intro p e s m args below meth c A Q hx hb hml hown hts hA hK hP hD hS hret ls hl
  have hown : s.vm.findClass RX0 = some m.cls := hown
  have hl : lv_has ls 3 [(0, .ref h), (1, .int (nI k)), (2, .int x)] := hl
  refine lv_aload_n hx hb dX0_leadsInto_0 rfl (lv_at hl 0 rfl) ?_
  refine va_get (D := D) (ci := 0) (v := .ref o) (C := RX0) (T := TX0) (N := 9) hx hb hts in_X0 hown hK hP 0 rfl rfl 0 (by decide) (hts _ q30) (fun _ h9 => h9) rfl dX0_leadsInto_1 ?_
  refine lv_iload_n hx hb dX0_leadsInto_4 rfl (lv_at hl 1 rfl) ?_
  refine zz_sald (k := k) hx hb hK hP 1 0 rfl rfl (by omega) (by decide) dX0_leadsInto_5 ?_
  refine lv_if_eq (tgt := 26) hx hb dX0_leadsInto_6 (by decide) (fun c_6 => ?_) (fun c_6 => ?_)
  · have c_6 := c_6
    refine lv_iconst (v := 0) hx hb dX0_leadsInto_26 (by decide +kernel) ?_
    exact hret _ _ _ _ _ hP hD hS (by rw [ld_0 c_6]; rfl) dX0_leadsInto_27
  · have c_6 := c_6
    refine lv_aload_n hx hb dX0_leadsInto_9 rfl (lv_at hl 0 rfl) ?_
    refine va_get (D := D) (ci := 0) (v := .ref o) (C := RX0) (T := TX0) (N := 9) hx hb hts in_X0 hown hK hP 0 rfl rfl 0 (by decide) (hts _ q30) (fun _ h9 => h9) rfl dX0_leadsInto_10 ?_
    refine lv_iload_n hx hb dX0_leadsInto_13 rfl (lv_at hl 1 rfl) ?_
    refine zz_sald (k := k) hx hb hK hP 1 0 rfl rfl (by omega) (by decide) dX0_leadsInto_14 ?_
    refine lv_iload_n hx hb dX0_leadsInto_15 rfl (lv_at hl 2 rfl) ?_
    refine lv_iconst (v := (-1)) hx hb dX0_leadsInto_16 (by decide +kernel) ?_
    refine lv_ixor hx hb dX0_leadsInto_17 ?_
    refine lv_iand hx hb dX0_leadsInto_18 ?_
    refine lv_if_ne (tgt := 26) hx hb dX0_leadsInto_19 (by decide) (fun c_19 => ?_) (fun c_19 => ?_)
    · have c_19 := c_19
      refine lv_iconst (v := 0) hx hb dX0_leadsInto_26 (by decide +kernel) ?_
      exact hret _ _ _ _ _ hP hD hS (by rw [ld_1 c_19]; rfl) dX0_leadsInto_27
    · have c_19 := c_19
      refine lv_iconst (v := 1) hx hb dX0_leadsInto_22 (by decide +kernel) ?_
      refine lv_goto (tgt := 27) hx hb dX0_leadsInto_23 (by decide) ?_
      exact hret _ _ _ _ _ hP hD hS (by rw [ld_2 c_6 c_19]; rfl) dX0_leadsInto_27
set_option maxHeartbeats 4000000 in
theorem tX0_mayLeadInto (l : Launch) (D : va_G) (h o sl wl : Nat) (dS d1 d2 : ClassId) (a b1 b2 : Nat → Int32) (g kn w sf su la : Int32) (k : Nat) (x : Int32) (hk : k < 24) : zI l D yX0_mayLeadInto cX0_mayLeadInto 3 .boolean 0 [.ref h, .int (nI k), .int x] (XT dS d1 d2) (XW h o sl wl dS d1 d2 a g kn w sf su b1 b2 la) (bI (myB (a k) x)) (XW h o sl wl dS d1 d2 a g kn w sf su b1 b2 la) := by
  refine zz_I (by decide) (Nat.le_of_ble_eq_true rfl) (zz_bIn _) ?_
  intro p e s m args below meth c A Q hx hb hml hown hts hA hK hP hD hS hret ls hl
  have hown : s.vm.findClass RX0 = some m.cls := hown
  have hl : lv_has ls 3 [(0, .ref h), (1, .int (nI k)), (2, .int x)] := hl
  refine lv_aload_n hx hb dX0_mayLeadInto_0 rfl (lv_at hl 0 rfl) ?_
  refine va_get (D := D) (ci := 0) (v := .ref o) (C := RX0) (T := TX0) (N := 9) hx hb hts in_X0 hown hK hP 0 rfl rfl 0 (by decide) (hts _ q30) (fun _ h9 => h9) rfl dX0_mayLeadInto_1 ?_
  refine lv_iload_n hx hb dX0_mayLeadInto_4 rfl (lv_at hl 1 rfl) ?_
  refine zz_sald (k := k) hx hb hK hP 1 0 rfl rfl (by omega) (by decide) dX0_mayLeadInto_5 ?_
  refine lv_iload_n hx hb dX0_mayLeadInto_6 rfl (lv_at hl 2 rfl) ?_
  refine lv_iand hx hb dX0_mayLeadInto_7 ?_
  refine lv_if_eq (tgt := 15) hx hb dX0_mayLeadInto_8 (by decide) (fun c_8 => ?_) (fun c_8 => ?_)
  · have c_8 := c_8
    refine lv_iconst (v := 0) hx hb dX0_mayLeadInto_15 (by decide +kernel) ?_
    exact hret _ _ _ _ _ hP hD hS (by rw [my_0 c_8]; rfl) dX0_mayLeadInto_16
  · have c_8 := c_8
    refine lv_iconst (v := 1) hx hb dX0_mayLeadInto_11 (by decide +kernel) ?_
    refine lv_goto (tgt := 16) hx hb dX0_mayLeadInto_12 (by decide) ?_
    exact hret _ _ _ _ _ hP hD hS (by rw [my_1 c_8]; rfl) dX0_mayLeadInto_16
end
section
/-! ===== CyclicPlanner: finding out (printed by specX.py) ===== -/
set_option maxRecDepth 100000
set_option maxHeartbeats 4000000 in
theorem tX0_someLeads (l : Launch) (D : va_G) (h o sl wl : Nat) (dS d1 d2 : ClassId) (a b1 b2 : Nat → Int32) (g kn w sf su la : Int32) (i : Nat) (x : Int32) (mu : Bool) (hi : i < 8) : zI l D yX0_someLeads cX0_someLeads 5 .boolean 1 [.ref h, .int (nI i), .int x, .int (bI mu)] (XT dS d1 d2) (XW h o sl wl dS d1 d2 a g kn w sf su b1 b2 la) (bI (smB mu a i x)) (XW h o sl wl dS d1 d2 a g kn w sf su b1 b2 la) := by
  refine zz_I (by decide) (Nat.le_of_ble_eq_true rfl) (zz_bIn _) ?_
  intro p e s m args below meth c A Q hx hb hml hown hts hA hK hP hD hS hret ls hl
  have hown : s.vm.findClass RX0 = some m.cls := hown
  have hl : lv_has ls 5 [(0, .ref h), (1, .int (nI i)), (2, .int x), (3, .int (bI mu))] := hl
  refine lv_iconst (v := nI 3) hx hb dX0_someLeads_0 (by decide +kernel) ?_
  refine lv_iload_n hx hb dX0_someLeads_1 rfl (lv_at hl 1 rfl) ?_
  refine lv_imul hx hb dX0_someLeads_2 ?_
  refine zz_top (z := nI (3 * i)) (pk_mul _ _) ?_
  refine lv_istore (lv' := [(4, .int (nI (3 * i))), (0, .ref h), (1, .int (nI i)), (2, .int x), (3, .int (bI mu))]) hx hb dX0_someLeads_3 hl (by decide) rfl (fun ls hl => ?_)
  have loop_5 : ∀ (n j : Nat), j ≤ 3 → 3 < j + n → (anyB (fun j => tB mu (a (3 * i + j)) x) j = false) → ∀ (H : Heap) (locs : List Loc), va_P D vCl (XW h o sl wl dS d1 d2 a g kn w sf su b1 b2 la) H → va_D A (XW h o sl wl dS d1 d2 a g kn w sf su b1 b2 la) → va_S A s.heap H locs → ∀ (ls : Array Slot), lv_has ls 5 [(0, .ref h), (1, .int (nI i)), (2, .int x), (3, .int (bI mu)), (4, .int (nI (3 * i + j)))] → W p l e (zR 1) s m args below meth c H locs 0 0 Q (F0 m 5 ls []) := by
    intro n
    induction n with
    | zero =>
      intro j h1 h2
      exact absurd h2 (by omega)
    | succ n ih_5 =>
      intro j hi_5 hn_5 v_1 H locs hP hD hS ls hl
      refine lv_iload hx hb dX0_someLeads_5 (lv_at hl 4 rfl) ?_
      refine lv_iconst (v := nI 3) hx hb dX0_someLeads_7 (by decide +kernel) ?_
      refine lv_iload_n hx hb dX0_someLeads_8 rfl (lv_at hl 1 rfl) ?_
      refine lv_imul hx hb dX0_someLeads_9 ?_
      refine zz_top (z := nI (3 * i)) (pk_mul _ _) ?_
      refine lv_iconst (v := nI 3) hx hb dX0_someLeads_10 (by decide +kernel) ?_
      refine lv_iadd hx hb dX0_someLeads_11 ?_
      refine zz_top (z := nI (3 * i + 3)) (nI_add _ _) ?_
      refine lv_icmp_ge (tgt := 50) hx hb dX0_someLeads_12 (by decide) (fun c_12 => ?_) (fun c_12 => ?_)
      · have c_12 : 3 * i + 3 ≤ 3 * i + j := zz_cle (by omega) (by omega) c_12
        refine lv_iconst (v := 0) hx hb dX0_someLeads_50 (by decide +kernel) ?_
        exact hret _ _ _ _ _ hP hD hS (by rw [show j = 3 by omega] at v_1; rw [show smB mu a i x = false from v_1]; rfl) dX0_someLeads_51
      · have c_12 : 3 * i + j < 3 * i + 3 := zz_cnle (by omega) (by omega) c_12
        refine lv_iload_n hx hb dX0_someLeads_15 rfl (lv_at hl 3 rfl) ?_
        refine lv_if_eq (tgt := 32) hx hb dX0_someLeads_16 (by decide) (fun c_16 => ?_) (fun c_16 => ?_)
        · have c_16 : mu = false := zz_bI0 c_16
          refine lv_aload_n hx hb dX0_someLeads_32 rfl (lv_at hl 0 rfl) ?_
          refine lv_iload hx hb dX0_someLeads_33 (lv_at hl 4 rfl) ?_
          refine lv_iload_n hx hb dX0_someLeads_35 rfl (lv_at hl 2 rfl) ?_
          refine zz_callW (As := [.int (nI (3 * i + j)), .int x]) (rest := []) (q0 := 0) (ci := 0) ⟨hx, hb, hml, hown, hts⟩ hA hK hP hD hS (tX0_mayLeadInto l D h o sl wl dS d1 d2 a b1 b2 g kn w sf su la (3 * i + j) x (by omega)) (cwV 2 hts gX0_mayLeadInto rfl rfl rfl hX0_mayLeadInto ⟨by decide, by decide⟩) rfl rfl rfl hl.1 rfl (Nat.le_of_ble_eq_true rfl) dX0_someLeads_36 ⟨Nat.le_refl _, Nat.le_refl _⟩ (fun H locs hP hD hS => ?_)
          refine lv_if_eq (tgt := 44) hx hb dX0_someLeads_39 (by decide) (fun c_39 => ?_) (fun c_39 => ?_)
          · have c_39 : (myB (a (3 * i + j)) x) = false := zz_bI0 c_39
            refine lv_iinc (v := nI (3 * i + j + 1)) (lv' := [(4, .int (nI (3 * i + j + 1))), (0, .ref h), (1, .int (nI i)), (2, .int x), (3, .int (bI mu))]) hx hb dX0_someLeads_44 hl (k := 4) rfl (zz_i1 _) (by decide) rfl (fun ls hl => ?_)
            refine lv_goto (tgt := 5) hx hb dX0_someLeads_47 (by decide) ?_
            exact ih_5 (j + 1) (by omega) (by omega) (any_s v_1 (by show tB mu (a (3 * i + j)) x = false; rw [c_16]; exact c_39)) _ _ hP hD hS ls (lv_sub hl [1, 2, 3, 4, 0] rfl)
          · have c_39 : (myB (a (3 * i + j)) x) = true := zz_bI1 c_39
            refine lv_iconst (v := 1) hx hb dX0_someLeads_42 (by decide +kernel) ?_
            exact hret _ _ _ _ _ hP hD hS (by rw [show smB mu a i x = true from any_1 (k := j) (by show tB mu (a (3 * i + j)) x = true; rw [c_16]; exact c_39) (by omega)]; rfl) dX0_someLeads_43
        · have c_16 : mu = true := zz_bI1 c_16
          refine lv_aload_n hx hb dX0_someLeads_19 rfl (lv_at hl 0 rfl) ?_
          refine lv_iload hx hb dX0_someLeads_20 (lv_at hl 4 rfl) ?_
          refine lv_iload_n hx hb dX0_someLeads_22 rfl (lv_at hl 2 rfl) ?_
          refine zz_callW (As := [.int (nI (3 * i + j)), .int x]) (rest := []) (q0 := 0) (ci := 0) ⟨hx, hb, hml, hown, hts⟩ hA hK hP hD hS (tX0_leadsInto l D h o sl wl dS d1 d2 a b1 b2 g kn w sf su la (3 * i + j) x (by omega)) (cwV 2 hts gX0_leadsInto rfl rfl rfl hX0_leadsInto ⟨by decide, by decide⟩) rfl rfl rfl hl.1 rfl (Nat.le_of_ble_eq_true rfl) dX0_someLeads_23 ⟨Nat.le_refl _, Nat.le_refl _⟩ (fun H locs hP hD hS => ?_)
          refine lv_if_eq (tgt := 44) hx hb dX0_someLeads_26 (by decide) (fun c_26 => ?_) (fun c_26 => ?_)
          · have c_26 : (ldB (a (3 * i + j)) x) = false := zz_bI0 c_26
            refine lv_iinc (v := nI (3 * i + j + 1)) (lv' := [(4, .int (nI (3 * i + j + 1))), (0, .ref h), (1, .int (nI i)), (2, .int x), (3, .int (bI mu))]) hx hb dX0_someLeads_44 hl (k := 4) rfl (zz_i1 _) (by decide) rfl (fun ls hl => ?_)
            refine lv_goto (tgt := 5) hx hb dX0_someLeads_47 (by decide) ?_
            exact ih_5 (j + 1) (by omega) (by omega) (any_s v_1 (by show tB mu (a (3 * i + j)) x = false; rw [c_16]; exact c_26)) _ _ hP hD hS ls (lv_sub hl [1, 2, 3, 4, 0] rfl)
          · have c_26 : (ldB (a (3 * i + j)) x) = true := zz_bI1 c_26
            refine lv_goto (tgt := 42) hx hb dX0_someLeads_29 (by decide) ?_
            refine lv_iconst (v := 1) hx hb dX0_someLeads_42 (by decide +kernel) ?_
            exact hret _ _ _ _ _ hP hD hS (by rw [show smB mu a i x = true from any_1 (k := j) (by show tB mu (a (3 * i + j)) x = true; rw [c_16]; exact c_26) (by omega)]; rfl) dX0_someLeads_43
  exact loop_5 (3 + 1) 0 (by omega) (by omega) (rfl) _ _ hP hD hS ls (lv_sub hl [1, 2, 3, 4, 0] rfl)
set_option maxHeartbeats 4000000 in
theorem tX0_findWeak (l : Launch) (D : va_G) (h o sl wl : Nat) (dS d1 d2 : ClassId) (a b1 b2 : Nat → Int32) (g kn w sf su la : Int32)  : zV l D yX0_findWeak cX0_findWeak 4 2 [.ref h] (XT dS d1 d2) (XW h o sl wl dS d1 d2 a g kn w sf su b1 b2 la) (XW h o sl wl dS d1 d2 a g kn (fW false a g 8) sf su b1 (lay false a g 8) la) := by
  refine zz_V (by decide) (Nat.le_of_ble_eq_true rfl) ?_
  intro p e s m args below meth c A Q hx hb hml hown hts hA hK hP hD hS hret ls hl
  have hown : s.vm.findClass RX0 = some m.cls := hown
  have hl : lv_has ls 4 [(0, .ref h)] := hl
  refine lv_aload_n hx hb dX0_findWeak_0 rfl (lv_at hl 0 rfl) ?_
  refine lv_aload_n hx hb dX0_findWeak_1 rfl (lv_at hl 0 rfl) ?_
  refine va_get (D := D) (ci := 0) (v := .int g) (C := RX0) (T := TX0) (N := 9) hx hb hts in_X0 hown hK hP 0 rfl rfl 1 (by decide) (hts _ q31) (fun _ h9 => h9) rfl dX0_findWeak_2 ?_
  refine va_put (D := D) (ci := 0) (v := .int g) (ty := .int) (C := RX0) (T := TX0) (N := 9) hx hb hts in_X0 tyX0 tyX0_ok nmX0 hown hK hP hD hS 0 rfl rfl 3 (by decide) (hts _ q33) (fun _ h9 => h9) rfl (by decide +kernel) rfl rfl (Nat.le_of_ble_eq_true rfl) dX0_findWeak_5 (fun H locs hP hD hS => ?_)
  have hP : va_P D vCl (XW h o sl wl dS d1 d2 a g kn g sf su b1 b2 la) H := hP
  have hD : va_D A (XW h o sl wl dS d1 d2 a g kn g sf su b1 b2 la) := hD
  refine lv_iconst (v := 0) hx hb dX0_findWeak_8 (by decide +kernel) ?_
  refine lv_istore_n (lv' := [(1, .int 0), (0, .ref h)]) hx hb dX0_findWeak_9 rfl hl (by decide) rfl (fun ls hl => ?_)
  have loop_10 : ∀ (n i : Nat) (y1 : Nat → Int32), i ≤ 8 → 8 < i + n → (∀ j, j < i → y1 j = 0) → ∀ (H : Heap) (locs : List Loc), va_P D vCl (XW h o sl wl dS d1 d2 a g kn g sf su b1 y1 la) H → va_D A (XW h o sl wl dS d1 d2 a g kn g sf su b1 y1 la) → va_S A s.heap H locs → ∀ (ls : Array Slot), lv_has ls 4 [(0, .ref h), (1, .int (nI i))] → W p l e (zR 2) s m args below meth c H locs 0 0 Q (F0 m 10 ls []) := by
    intro n
    induction n with
    | zero =>
      intro i y1 h1 h2
      exact absurd h2 (by omega)
    | succ n ih_10 =>
      intro i y1 hi_10 hn_10 v_1 H locs hP hD hS ls hl
      refine lv_iload_n hx hb dX0_findWeak_10 rfl (lv_at hl 1 rfl) ?_
      refine lv_bipush (v := nI 8) hx hb dX0_findWeak_11 (by decide +kernel) ?_
      refine lv_icmp_ge (tgt := 29) hx hb dX0_findWeak_13 (by decide) (fun c_13 => ?_) (fun c_13 => ?_)
      · have c_13 : 8 ≤ i := zz_cle (by omega) (by omega) c_13
        refine lv_iconst (v := 1) hx hb dX0_findWeak_29 (by decide +kernel) ?_
        refine lv_istore_n (lv' := [(1, .int 1), (0, .ref h)]) hx hb dX0_findWeak_30 rfl hl (by decide) rfl (fun ls hl => ?_)
        have loop_31 : ∀ (n k : Nat) (w1 : Int32) (y2 : Nat → Int32), k ≤ 8 → 8 < k + n → (w1 = fW false a g k) → (∀ j, j < 8 → y2 j = lay false a g k j) → ∀ (H : Heap) (locs : List Loc), va_P D vCl (XW h o sl wl dS d1 d2 a g kn w1 sf su b1 y2 la) H → va_D A (XW h o sl wl dS d1 d2 a g kn w1 sf su b1 y2 la) → va_S A s.heap H locs → ∀ (ls : Array Slot), lv_has ls 4 [(0, .ref h), (1, .int (nI (k + 1)))] → W p l e (zR 2) s m args below meth c H locs 0 0 Q (F0 m 31 ls []) := by
          intro n
          induction n with
          | zero =>
            intro k w1 y2 h1 h2
            exact absurd h2 (by omega)
          | succ n ih_31 =>
            intro k w1 y2 hi_31 hn_31 v_2 v_3 H locs hP hD hS ls hl
            refine lv_iload_n hx hb dX0_findWeak_31 rfl (lv_at hl 1 rfl) ?_
            refine lv_bipush (v := nI 8) hx hb dX0_findWeak_32 (by decide +kernel) ?_
            refine lv_icmp_gt (tgt := 107) hx hb dX0_findWeak_34 (by decide) (fun c_34 => ?_) (fun c_34 => ?_)
            · have c_34 : 8 < k + 1 := zz_clt (by omega) (by omega) c_34
              have e8 : k = 8 := by omega
              subst e8
              subst v_2
              have hP := zz_arr hP 3 rfl v_3
              have hD := hD.set (p := 3) (e := .inl (d2, 8, .inl (lay false a g 8))) rfl
              exact hret _ _ _ _ hP hD hS dX0_findWeak_107
            · have c_34 : k + 1 ≤ 8 := zz_cnlt (by omega) (by omega) c_34
              refine lv_aload_n hx hb dX0_findWeak_37 rfl (lv_at hl 0 rfl) ?_
              refine va_get (D := D) (ci := 0) (v := .int w1) (C := RX0) (T := TX0) (N := 9) hx hb hts in_X0 hown hK hP 0 rfl rfl 3 (by decide) (hts _ q33) (fun _ h9 => h9) rfl dX0_findWeak_38 ?_
              refine lv_istore_n (lv' := [(2, .int w1), (0, .ref h), (1, .int (nI (k + 1)))]) hx hb dX0_findWeak_41 rfl hl (by decide) rfl (fun ls hl => ?_)
              refine lv_iconst (v := 0) hx hb dX0_findWeak_42 (by decide +kernel) ?_
              refine lv_istore_n (lv' := [(3, .int 0), (2, .int w1), (0, .ref h), (1, .int (nI (k + 1)))]) hx hb dX0_findWeak_43 rfl hl (by decide) rfl (fun ls hl => ?_)
              have loop_44 : ∀ (n r : Nat) (w2 : Int32) (y3 : Nat → Int32), r ≤ 8 → 8 < r + n → (w2 = lp (wSt false a w1) w1 r) → (∀ j, j < 8 → y3 j = if j < r then lay false a g (k + 1) j else lay false a g k j) → ∀ (H : Heap) (locs : List Loc), va_P D vCl (XW h o sl wl dS d1 d2 a g kn w2 sf su b1 y3 la) H → va_D A (XW h o sl wl dS d1 d2 a g kn w2 sf su b1 y3 la) → va_S A s.heap H locs → ∀ (ls : Array Slot), lv_has ls 4 [(0, .ref h), (1, .int (nI (k + 1))), (2, .int w1), (3, .int (nI r))] → W p l e (zR 2) s m args below meth c H locs 0 0 Q (F0 m 44 ls []) := by
                intro n
                induction n with
                | zero =>
                  intro r w2 y3 h1 h2
                  exact absurd h2 (by omega)
                | succ n ih_44 =>
                  intro r w2 y3 hi_44 hn_44 v_4 v_5 H locs hP hD hS ls hl
                  refine lv_iload_n hx hb dX0_findWeak_44 rfl (lv_at hl 3 rfl) ?_
                  refine lv_bipush (v := nI 8) hx hb dX0_findWeak_45 (by decide +kernel) ?_
                  refine lv_icmp_ge (tgt := 101) hx hb dX0_findWeak_47 (by decide) (fun c_47 => ?_) (fun c_47 => ?_)
                  · have c_47 : 8 ≤ r := zz_cle (by omega) (by omega) c_47
                    refine lv_iinc (v := nI (k + 1 + 1)) (lv' := [(1, .int (nI (k + 1 + 1))), (0, .ref h), (2, .int w1), (3, .int (nI r))]) hx hb dX0_findWeak_101 hl (k := 1) rfl (zz_i1 _) (by decide) rfl (fun ls hl => ?_)
                    refine lv_goto (tgt := 31) hx hb dX0_findWeak_104 (by decide) ?_
                    exact ih_31 (k + 1) w2 y3 (by omega) (by omega) (by rw [v_4, v_2, show r = 8 by omega]; rfl) (fun j hj => (v_5 j hj).trans (if_pos (by omega))) _ _ hP hD hS ls (lv_sub hl [1, 0] rfl)
                  · have c_47 : r < 8 := zz_cnle (by omega) (by omega) c_47
                    refine lv_aload_n hx hb dX0_findWeak_50 rfl (lv_at hl 0 rfl) ?_
                    refine lv_aload_n hx hb dX0_findWeak_51 rfl (lv_at hl 0 rfl) ?_
                    refine va_get (D := D) (ci := 0) (v := .int w2) (C := RX0) (T := TX0) (N := 9) hx hb hts in_X0 hown hK hP 0 rfl rfl 3 (by decide) (hts _ q33) (fun _ h9 => h9) rfl dX0_findWeak_52 ?_
                    refine lv_iload_n hx hb dX0_findWeak_55 rfl (lv_at hl 3 rfl) ?_
                    refine zz_call0 (As := [.int w2, .int (nI r)]) (rest := []) (q0 := 0) (ci := 0) ⟨hx, hb, hml, hown, hts⟩ hA hK hP hD hS (tX0_isIn l D h w2 r (by omega)) (cwV 2 hts gX0_isIn rfl rfl rfl hX0_isIn ⟨by decide, by decide⟩) rfl rfl rfl hl.1 rfl (Nat.le_of_ble_eq_true rfl) dX0_findWeak_56 ⟨Nat.le_refl _, Nat.le_refl _⟩ (fun H locs hP hD hS => ?_)
                    refine lv_if_ne (tgt := 95) hx hb dX0_findWeak_59 (by decide) (fun c_59 => ?_) (fun c_59 => ?_)
                    · have c_59 : (bt w2 r) = true := zz_bI1 c_59
                      refine lv_iinc (v := nI (r + 1)) (lv' := [(3, .int (nI (r + 1))), (0, .ref h), (1, .int (nI (k + 1))), (2, .int w1)]) hx hb dX0_findWeak_95 hl (k := 3) rfl (zz_i1 _) (by decide) rfl (fun ls hl => ?_)
                      refine lv_goto (tgt := 44) hx hb dX0_findWeak_98 (by decide) ?_
                      exact ih_44 (r + 1) w2 y3 (by omega) (by omega) (by rw [lp_s, ← v_4, w_sk c_59]) (ly_sk (by omega) v_2 v_4 v_5 (Or.inl c_59)) _ _ hP hD hS ls (lv_sub hl [1, 2, 3, 0] rfl)
                    · have c_59 : (bt w2 r) = false := zz_bI0 c_59
                      refine lv_aload_n hx hb dX0_findWeak_62 rfl (lv_at hl 0 rfl) ?_
                      refine lv_iload_n hx hb dX0_findWeak_63 rfl (lv_at hl 3 rfl) ?_
                      refine lv_iload_n hx hb dX0_findWeak_64 rfl (lv_at hl 2 rfl) ?_
                      refine lv_iconst (v := 0) hx hb dX0_findWeak_65 (by decide +kernel) ?_
                      refine zz_callW (As := [.int (nI r), .int w1, .int 0]) (rest := []) (q0 := 0) (ci := 0) ⟨hx, hb, hml, hown, hts⟩ hA hK hP hD hS (tX0_someLeads l D h o sl wl dS d1 d2 a b1 y3 g kn w2 sf su la r w1 false (by omega)) (cwV 3 hts gX0_someLeads rfl rfl rfl hX0_someLeads ⟨by decide, by decide⟩) rfl rfl rfl hl.1 rfl (Nat.le_of_ble_eq_true rfl) dX0_findWeak_66 ⟨Nat.le_refl _, Nat.le_refl _⟩ (fun H locs hP hD hS => ?_)
                      refine lv_if_ne (tgt := 75) hx hb dX0_findWeak_69 (by decide) (fun c_69 => ?_) (fun c_69 => ?_)
                      · have c_69 : (smB false a r w1) = true := zz_bI1 c_69
                        refine lv_aload_n hx hb dX0_findWeak_75 rfl (lv_at hl 0 rfl) ?_
                        refine lv_dup hx hb dX0_findWeak_76 rfl ?_
                        refine va_get (D := D) (ci := 0) (v := .int w2) (C := RX0) (T := TX0) (N := 9) hx hb hts in_X0 hown hK hP 0 rfl rfl 3 (by decide) (hts _ q33) (fun _ h9 => h9) rfl dX0_findWeak_77 ?_
                        refine lv_iconst (v := 1) hx hb dX0_findWeak_80 (by decide +kernel) ?_
                        refine lv_iload_n hx hb dX0_findWeak_81 rfl (lv_at hl 3 rfl) ?_
                        refine lv_ishl hx hb dX0_findWeak_82 ?_
                        refine zz_top (z := one r) (rfl) ?_
                        refine lv_ior hx hb dX0_findWeak_83 ?_
                        refine va_put (D := D) (ci := 0) (v := .int (w2 ||| (one r))) (ty := .int) (C := RX0) (T := TX0) (N := 9) hx hb hts in_X0 tyX0 tyX0_ok nmX0 hown hK hP hD hS 0 rfl rfl 3 (by decide) (hts _ q33) (fun _ h9 => h9) rfl (by decide +kernel) rfl rfl (Nat.le_of_ble_eq_true rfl) dX0_findWeak_84 (fun H locs hP hD hS => ?_)
                        have hP : va_P D vCl (XW h o sl wl dS d1 d2 a g kn (w2 ||| (one r)) sf su b1 y3 la) H := hP
                        have hD : va_D A (XW h o sl wl dS d1 d2 a g kn (w2 ||| (one r)) sf su b1 y3 la) := hD
                        refine lv_aload_n hx hb dX0_findWeak_87 rfl (lv_at hl 0 rfl) ?_
                        refine va_get (D := D) (ci := 0) (v := .ref wl) (C := RX0) (T := TX0) (N := 9) hx hb hts in_X0 hown hK hP 0 rfl rfl 7 (by decide) (hts _ q37) (fun _ h9 => h9) rfl dX0_findWeak_88 ?_
                        refine lv_iload_n hx hb dX0_findWeak_91 rfl (lv_at hl 3 rfl) ?_
                        refine lv_iload_n hx hb dX0_findWeak_92 rfl (lv_at hl 1 rfl) ?_
                        refine lv_i2b (v := nI (k + 1)) hx hb dX0_findWeak_93 (zz_s8 _ (by omega)) ?_
                        refine zz_bast (k := r) (x := nI (k + 1)) (x' := nI (k + 1)) hx hb hK hP hD hS 3 2 rfl rfl (by omega) (by decide) (zz_s8 _ (by omega)) dX0_findWeak_94 (fun H locs hP hD hS => ?_)
                        have hP : va_P D vCl (XW h o sl wl dS d1 d2 a g kn (w2 ||| (one r)) sf su b1 (upd y3 r (nI (k + 1))) la) H := hP
                        have hD : va_D A (XW h o sl wl dS d1 d2 a g kn (w2 ||| (one r)) sf su b1 (upd y3 r (nI (k + 1))) la) := hD
                        refine lv_iinc (v := nI (r + 1)) (lv' := [(3, .int (nI (r + 1))), (0, .ref h), (1, .int (nI (k + 1))), (2, .int w1)]) hx hb dX0_findWeak_95 hl (k := 3) rfl (zz_i1 _) (by decide) rfl (fun ls hl => ?_)
                        refine lv_goto (tgt := 44) hx hb dX0_findWeak_98 (by decide) ?_
                        exact ih_44 (r + 1) (w2 ||| (one r)) (upd y3 r (nI (k + 1))) (by omega) (by omega) (by rw [lp_s, ← v_4, w_ad c_59 c_69]) (ly_ad (by omega) v_2 v_4 v_5 c_59 c_69) _ _ hP hD hS ls (lv_sub hl [1, 2, 3, 0] rfl)
                      · have c_69 : (smB false a r w1) = false := zz_bI0 c_69
                        refine lv_goto (tgt := 95) hx hb dX0_findWeak_72 (by decide) ?_
                        refine lv_iinc (v := nI (r + 1)) (lv' := [(3, .int (nI (r + 1))), (0, .ref h), (1, .int (nI (k + 1))), (2, .int w1)]) hx hb dX0_findWeak_95 hl (k := 3) rfl (zz_i1 _) (by decide) rfl (fun ls hl => ?_)
                        refine lv_goto (tgt := 44) hx hb dX0_findWeak_98 (by decide) ?_
                        exact ih_44 (r + 1) w2 y3 (by omega) (by omega) (by rw [lp_s, ← v_4, w_sn c_69]) (ly_sk (by omega) v_2 v_4 v_5 (Or.inr c_69)) _ _ hP hD hS ls (lv_sub hl [1, 2, 3, 0] rfl)
              exact loop_44 (8 + 1) 0 w1 y2 (by omega) (by omega) (rfl) (fun j hj => (v_3 j hj).trans (if_neg (by omega)).symm) _ _ hP hD hS ls (lv_sub hl [2, 3, 1, 0] rfl)
        exact loop_31 (8 + 1) 0 g y1 (by omega) (by omega) (rfl) (fun j hj => v_1 j (by omega)) _ _ hP hD hS ls (lv_sub hl [1, 0] rfl)
      · have c_13 : i < 8 := zz_cnle (by omega) (by omega) c_13
        refine lv_aload_n hx hb dX0_findWeak_16 rfl (lv_at hl 0 rfl) ?_
        refine va_get (D := D) (ci := 0) (v := .ref wl) (C := RX0) (T := TX0) (N := 9) hx hb hts in_X0 hown hK hP 0 rfl rfl 7 (by decide) (hts _ q37) (fun _ h9 => h9) rfl dX0_findWeak_17 ?_
        refine lv_iload_n hx hb dX0_findWeak_20 rfl (lv_at hl 1 rfl) ?_
        refine lv_iconst (v := 0) hx hb dX0_findWeak_21 (by decide +kernel) ?_
        refine zz_bast (k := i) (x := 0) (x' := 0) hx hb hK hP hD hS 3 2 rfl rfl (by omega) (by decide) (by decide +kernel) dX0_findWeak_22 (fun H locs hP hD hS => ?_)
        have hP : va_P D vCl (XW h o sl wl dS d1 d2 a g kn g sf su b1 (upd y1 i 0) la) H := hP
        have hD : va_D A (XW h o sl wl dS d1 d2 a g kn g sf su b1 (upd y1 i 0) la) := hD
        refine lv_iinc (v := nI (i + 1)) (lv' := [(1, .int (nI (i + 1))), (0, .ref h)]) hx hb dX0_findWeak_23 hl (k := 1) rfl (zz_i1 _) (by decide) rfl (fun ls hl => ?_)
        refine lv_goto (tgt := 10) hx hb dX0_findWeak_26 (by decide) ?_
        exact ih_10 (i + 1) (upd y1 i 0) (by omega) (by omega) (z_up v_1) _ _ hP hD hS ls (lv_sub hl [1, 0] rfl)
  exact loop_10 (8 + 1) 0 b2 (by omega) (by omega) (fun j hj => absurd hj (Nat.not_lt_zero j)) _ _ hP hD hS ls (lv_sub hl [1, 0] rfl)
set_option maxHeartbeats 4000000 in
theorem tX0_findSure (l : Launch) (D : va_G) (h o sl wl : Nat) (dS d1 d2 : ClassId) (a b1 b2 : Nat → Int32) (g kn w sf su la : Int32)  : zV l D yX0_findSure cX0_findSure 4 2 [.ref h] (XT dS d1 d2) (XW h o sl wl dS d1 d2 a g kn w sf su b1 b2 la) (XW h o sl wl dS d1 d2 a g kn w sf (fW true a g 8) (lay true a g 8) b2 la) := by
  refine zz_V (by decide) (Nat.le_of_ble_eq_true rfl) ?_
  intro p e s m args below meth c A Q hx hb hml hown hts hA hK hP hD hS hret ls hl
  have hown : s.vm.findClass RX0 = some m.cls := hown
  have hl : lv_has ls 4 [(0, .ref h)] := hl
  refine lv_aload_n hx hb dX0_findSure_0 rfl (lv_at hl 0 rfl) ?_
  refine lv_aload_n hx hb dX0_findSure_1 rfl (lv_at hl 0 rfl) ?_
  refine va_get (D := D) (ci := 0) (v := .int g) (C := RX0) (T := TX0) (N := 9) hx hb hts in_X0 hown hK hP 0 rfl rfl 1 (by decide) (hts _ q31) (fun _ h9 => h9) rfl dX0_findSure_2 ?_
  refine va_put (D := D) (ci := 0) (v := .int g) (ty := .int) (C := RX0) (T := TX0) (N := 9) hx hb hts in_X0 tyX0 tyX0_ok nmX0 hown hK hP hD hS 0 rfl rfl 5 (by decide) (hts _ q35) (fun _ h9 => h9) rfl (by decide +kernel) rfl rfl (Nat.le_of_ble_eq_true rfl) dX0_findSure_5 (fun H locs hP hD hS => ?_)
  have hP : va_P D vCl (XW h o sl wl dS d1 d2 a g kn w sf g b1 b2 la) H := hP
  have hD : va_D A (XW h o sl wl dS d1 d2 a g kn w sf g b1 b2 la) := hD
  refine lv_iconst (v := 0) hx hb dX0_findSure_8 (by decide +kernel) ?_
  refine lv_istore_n (lv' := [(1, .int 0), (0, .ref h)]) hx hb dX0_findSure_9 rfl hl (by decide) rfl (fun ls hl => ?_)
  have loop_10 : ∀ (n i : Nat) (y1 : Nat → Int32), i ≤ 8 → 8 < i + n → (∀ j, j < i → y1 j = 0) → ∀ (H : Heap) (locs : List Loc), va_P D vCl (XW h o sl wl dS d1 d2 a g kn w sf g y1 b2 la) H → va_D A (XW h o sl wl dS d1 d2 a g kn w sf g y1 b2 la) → va_S A s.heap H locs → ∀ (ls : Array Slot), lv_has ls 4 [(0, .ref h), (1, .int (nI i))] → W p l e (zR 2) s m args below meth c H locs 0 0 Q (F0 m 10 ls []) := by
    intro n
    induction n with
    | zero =>
      intro i y1 h1 h2
      exact absurd h2 (by omega)
    | succ n ih_10 =>
      intro i y1 hi_10 hn_10 v_1 H locs hP hD hS ls hl
      refine lv_iload_n hx hb dX0_findSure_10 rfl (lv_at hl 1 rfl) ?_
      refine lv_bipush (v := nI 8) hx hb dX0_findSure_11 (by decide +kernel) ?_
      refine lv_icmp_ge (tgt := 29) hx hb dX0_findSure_13 (by decide) (fun c_13 => ?_) (fun c_13 => ?_)
      · have c_13 : 8 ≤ i := zz_cle (by omega) (by omega) c_13
        refine lv_iconst (v := 1) hx hb dX0_findSure_29 (by decide +kernel) ?_
        refine lv_istore_n (lv' := [(1, .int 1), (0, .ref h)]) hx hb dX0_findSure_30 rfl hl (by decide) rfl (fun ls hl => ?_)
        have loop_31 : ∀ (n k : Nat) (w1 : Int32) (y2 : Nat → Int32), k ≤ 8 → 8 < k + n → (w1 = fW true a g k) → (∀ j, j < 8 → y2 j = lay true a g k j) → ∀ (H : Heap) (locs : List Loc), va_P D vCl (XW h o sl wl dS d1 d2 a g kn w sf w1 y2 b2 la) H → va_D A (XW h o sl wl dS d1 d2 a g kn w sf w1 y2 b2 la) → va_S A s.heap H locs → ∀ (ls : Array Slot), lv_has ls 4 [(0, .ref h), (1, .int (nI (k + 1)))] → W p l e (zR 2) s m args below meth c H locs 0 0 Q (F0 m 31 ls []) := by
          intro n
          induction n with
          | zero =>
            intro k w1 y2 h1 h2
            exact absurd h2 (by omega)
          | succ n ih_31 =>
            intro k w1 y2 hi_31 hn_31 v_2 v_3 H locs hP hD hS ls hl
            refine lv_iload_n hx hb dX0_findSure_31 rfl (lv_at hl 1 rfl) ?_
            refine lv_bipush (v := nI 8) hx hb dX0_findSure_32 (by decide +kernel) ?_
            refine lv_icmp_gt (tgt := 107) hx hb dX0_findSure_34 (by decide) (fun c_34 => ?_) (fun c_34 => ?_)
            · have c_34 : 8 < k + 1 := zz_clt (by omega) (by omega) c_34
              have e8 : k = 8 := by omega
              subst e8
              subst v_2
              have hP := zz_arr hP 2 rfl v_3
              have hD := hD.set (p := 2) (e := .inl (d1, 8, .inl (lay true a g 8))) rfl
              exact hret _ _ _ _ hP hD hS dX0_findSure_107
            · have c_34 : k + 1 ≤ 8 := zz_cnlt (by omega) (by omega) c_34
              refine lv_aload_n hx hb dX0_findSure_37 rfl (lv_at hl 0 rfl) ?_
              refine va_get (D := D) (ci := 0) (v := .int w1) (C := RX0) (T := TX0) (N := 9) hx hb hts in_X0 hown hK hP 0 rfl rfl 5 (by decide) (hts _ q35) (fun _ h9 => h9) rfl dX0_findSure_38 ?_
              refine lv_istore_n (lv' := [(2, .int w1), (0, .ref h), (1, .int (nI (k + 1)))]) hx hb dX0_findSure_41 rfl hl (by decide) rfl (fun ls hl => ?_)
              refine lv_iconst (v := 0) hx hb dX0_findSure_42 (by decide +kernel) ?_
              refine lv_istore_n (lv' := [(3, .int 0), (2, .int w1), (0, .ref h), (1, .int (nI (k + 1)))]) hx hb dX0_findSure_43 rfl hl (by decide) rfl (fun ls hl => ?_)
              have loop_44 : ∀ (n r : Nat) (w2 : Int32) (y3 : Nat → Int32), r ≤ 8 → 8 < r + n → (w2 = lp (wSt true a w1) w1 r) → (∀ j, j < 8 → y3 j = if j < r then lay true a g (k + 1) j else lay true a g k j) → ∀ (H : Heap) (locs : List Loc), va_P D vCl (XW h o sl wl dS d1 d2 a g kn w sf w2 y3 b2 la) H → va_D A (XW h o sl wl dS d1 d2 a g kn w sf w2 y3 b2 la) → va_S A s.heap H locs → ∀ (ls : Array Slot), lv_has ls 4 [(0, .ref h), (1, .int (nI (k + 1))), (2, .int w1), (3, .int (nI r))] → W p l e (zR 2) s m args below meth c H locs 0 0 Q (F0 m 44 ls []) := by
                intro n
                induction n with
                | zero =>
                  intro r w2 y3 h1 h2
                  exact absurd h2 (by omega)
                | succ n ih_44 =>
                  intro r w2 y3 hi_44 hn_44 v_4 v_5 H locs hP hD hS ls hl
                  refine lv_iload_n hx hb dX0_findSure_44 rfl (lv_at hl 3 rfl) ?_
                  refine lv_bipush (v := nI 8) hx hb dX0_findSure_45 (by decide +kernel) ?_
                  refine lv_icmp_ge (tgt := 101) hx hb dX0_findSure_47 (by decide) (fun c_47 => ?_) (fun c_47 => ?_)
                  · have c_47 : 8 ≤ r := zz_cle (by omega) (by omega) c_47
                    refine lv_iinc (v := nI (k + 1 + 1)) (lv' := [(1, .int (nI (k + 1 + 1))), (0, .ref h), (2, .int w1), (3, .int (nI r))]) hx hb dX0_findSure_101 hl (k := 1) rfl (zz_i1 _) (by decide) rfl (fun ls hl => ?_)
                    refine lv_goto (tgt := 31) hx hb dX0_findSure_104 (by decide) ?_
                    exact ih_31 (k + 1) w2 y3 (by omega) (by omega) (by rw [v_4, v_2, show r = 8 by omega]; rfl) (fun j hj => (v_5 j hj).trans (if_pos (by omega))) _ _ hP hD hS ls (lv_sub hl [1, 0] rfl)
                  · have c_47 : r < 8 := zz_cnle (by omega) (by omega) c_47
                    refine lv_aload_n hx hb dX0_findSure_50 rfl (lv_at hl 0 rfl) ?_
                    refine lv_aload_n hx hb dX0_findSure_51 rfl (lv_at hl 0 rfl) ?_
                    refine va_get (D := D) (ci := 0) (v := .int w2) (C := RX0) (T := TX0) (N := 9) hx hb hts in_X0 hown hK hP 0 rfl rfl 5 (by decide) (hts _ q35) (fun _ h9 => h9) rfl dX0_findSure_52 ?_
                    refine lv_iload_n hx hb dX0_findSure_55 rfl (lv_at hl 3 rfl) ?_
                    refine zz_call0 (As := [.int w2, .int (nI r)]) (rest := []) (q0 := 0) (ci := 0) ⟨hx, hb, hml, hown, hts⟩ hA hK hP hD hS (tX0_isIn l D h w2 r (by omega)) (cwV 2 hts gX0_isIn rfl rfl rfl hX0_isIn ⟨by decide, by decide⟩) rfl rfl rfl hl.1 rfl (Nat.le_of_ble_eq_true rfl) dX0_findSure_56 ⟨Nat.le_refl _, Nat.le_refl _⟩ (fun H locs hP hD hS => ?_)
                    refine lv_if_ne (tgt := 95) hx hb dX0_findSure_59 (by decide) (fun c_59 => ?_) (fun c_59 => ?_)
                    · have c_59 : (bt w2 r) = true := zz_bI1 c_59
                      refine lv_iinc (v := nI (r + 1)) (lv' := [(3, .int (nI (r + 1))), (0, .ref h), (1, .int (nI (k + 1))), (2, .int w1)]) hx hb dX0_findSure_95 hl (k := 3) rfl (zz_i1 _) (by decide) rfl (fun ls hl => ?_)
                      refine lv_goto (tgt := 44) hx hb dX0_findSure_98 (by decide) ?_
                      exact ih_44 (r + 1) w2 y3 (by omega) (by omega) (by rw [lp_s, ← v_4, w_sk c_59]) (ly_sk (by omega) v_2 v_4 v_5 (Or.inl c_59)) _ _ hP hD hS ls (lv_sub hl [1, 2, 3, 0] rfl)
                    · have c_59 : (bt w2 r) = false := zz_bI0 c_59
                      refine lv_aload_n hx hb dX0_findSure_62 rfl (lv_at hl 0 rfl) ?_
                      refine lv_iload_n hx hb dX0_findSure_63 rfl (lv_at hl 3 rfl) ?_
                      refine lv_iload_n hx hb dX0_findSure_64 rfl (lv_at hl 2 rfl) ?_
                      refine lv_iconst (v := 1) hx hb dX0_findSure_65 (by decide +kernel) ?_
                      refine zz_callW (As := [.int (nI r), .int w1, .int 1]) (rest := []) (q0 := 0) (ci := 0) ⟨hx, hb, hml, hown, hts⟩ hA hK hP hD hS (tX0_someLeads l D h o sl wl dS d1 d2 a y3 b2 g kn w sf w2 la r w1 true (by omega)) (cwV 3 hts gX0_someLeads rfl rfl rfl hX0_someLeads ⟨by decide, by decide⟩) rfl rfl rfl hl.1 rfl (Nat.le_of_ble_eq_true rfl) dX0_findSure_66 ⟨Nat.le_refl _, Nat.le_refl _⟩ (fun H locs hP hD hS => ?_)
                      refine lv_if_ne (tgt := 75) hx hb dX0_findSure_69 (by decide) (fun c_69 => ?_) (fun c_69 => ?_)
                      · have c_69 : (smB true a r w1) = true := zz_bI1 c_69
                        refine lv_aload_n hx hb dX0_findSure_75 rfl (lv_at hl 0 rfl) ?_
                        refine lv_dup hx hb dX0_findSure_76 rfl ?_
                        refine va_get (D := D) (ci := 0) (v := .int w2) (C := RX0) (T := TX0) (N := 9) hx hb hts in_X0 hown hK hP 0 rfl rfl 5 (by decide) (hts _ q35) (fun _ h9 => h9) rfl dX0_findSure_77 ?_
                        refine lv_iconst (v := 1) hx hb dX0_findSure_80 (by decide +kernel) ?_
                        refine lv_iload_n hx hb dX0_findSure_81 rfl (lv_at hl 3 rfl) ?_
                        refine lv_ishl hx hb dX0_findSure_82 ?_
                        refine zz_top (z := one r) (rfl) ?_
                        refine lv_ior hx hb dX0_findSure_83 ?_
                        refine va_put (D := D) (ci := 0) (v := .int (w2 ||| (one r))) (ty := .int) (C := RX0) (T := TX0) (N := 9) hx hb hts in_X0 tyX0 tyX0_ok nmX0 hown hK hP hD hS 0 rfl rfl 5 (by decide) (hts _ q35) (fun _ h9 => h9) rfl (by decide +kernel) rfl rfl (Nat.le_of_ble_eq_true rfl) dX0_findSure_84 (fun H locs hP hD hS => ?_)
                        have hP : va_P D vCl (XW h o sl wl dS d1 d2 a g kn w sf (w2 ||| (one r)) y3 b2 la) H := hP
                        have hD : va_D A (XW h o sl wl dS d1 d2 a g kn w sf (w2 ||| (one r)) y3 b2 la) := hD
                        refine lv_aload_n hx hb dX0_findSure_87 rfl (lv_at hl 0 rfl) ?_
                        refine va_get (D := D) (ci := 0) (v := .ref sl) (C := RX0) (T := TX0) (N := 9) hx hb hts in_X0 hown hK hP 0 rfl rfl 6 (by decide) (hts _ q36) (fun _ h9 => h9) rfl dX0_findSure_88 ?_
                        refine lv_iload_n hx hb dX0_findSure_91 rfl (lv_at hl 3 rfl) ?_
                        refine lv_iload_n hx hb dX0_findSure_92 rfl (lv_at hl 1 rfl) ?_
                        refine lv_i2b (v := nI (k + 1)) hx hb dX0_findSure_93 (zz_s8 _ (by omega)) ?_
                        refine zz_bast (k := r) (x := nI (k + 1)) (x' := nI (k + 1)) hx hb hK hP hD hS 2 1 rfl rfl (by omega) (by decide) (zz_s8 _ (by omega)) dX0_findSure_94 (fun H locs hP hD hS => ?_)
                        have hP : va_P D vCl (XW h o sl wl dS d1 d2 a g kn w sf (w2 ||| (one r)) (upd y3 r (nI (k + 1))) b2 la) H := hP
                        have hD : va_D A (XW h o sl wl dS d1 d2 a g kn w sf (w2 ||| (one r)) (upd y3 r (nI (k + 1))) b2 la) := hD
                        refine lv_iinc (v := nI (r + 1)) (lv' := [(3, .int (nI (r + 1))), (0, .ref h), (1, .int (nI (k + 1))), (2, .int w1)]) hx hb dX0_findSure_95 hl (k := 3) rfl (zz_i1 _) (by decide) rfl (fun ls hl => ?_)
                        refine lv_goto (tgt := 44) hx hb dX0_findSure_98 (by decide) ?_
                        exact ih_44 (r + 1) (w2 ||| (one r)) (upd y3 r (nI (k + 1))) (by omega) (by omega) (by rw [lp_s, ← v_4, w_ad c_59 c_69]) (ly_ad (by omega) v_2 v_4 v_5 c_59 c_69) _ _ hP hD hS ls (lv_sub hl [1, 2, 3, 0] rfl)
                      · have c_69 : (smB true a r w1) = false := zz_bI0 c_69
                        refine lv_goto (tgt := 95) hx hb dX0_findSure_72 (by decide) ?_
                        refine lv_iinc (v := nI (r + 1)) (lv' := [(3, .int (nI (r + 1))), (0, .ref h), (1, .int (nI (k + 1))), (2, .int w1)]) hx hb dX0_findSure_95 hl (k := 3) rfl (zz_i1 _) (by decide) rfl (fun ls hl => ?_)
                        refine lv_goto (tgt := 44) hx hb dX0_findSure_98 (by decide) ?_
                        exact ih_44 (r + 1) w2 y3 (by omega) (by omega) (by rw [lp_s, ← v_4, w_sn c_69]) (ly_sk (by omega) v_2 v_4 v_5 (Or.inr c_69)) _ _ hP hD hS ls (lv_sub hl [1, 2, 3, 0] rfl)
              exact loop_44 (8 + 1) 0 w1 y2 (by omega) (by omega) (rfl) (fun j hj => (v_3 j hj).trans (if_neg (by omega)).symm) _ _ hP hD hS ls (lv_sub hl [2, 3, 1, 0] rfl)
        exact loop_31 (8 + 1) 0 g y1 (by omega) (by omega) (rfl) (fun j hj => v_1 j (by omega)) _ _ hP hD hS ls (lv_sub hl [1, 0] rfl)
      · have c_13 : i < 8 := zz_cnle (by omega) (by omega) c_13
        refine lv_aload_n hx hb dX0_findSure_16 rfl (lv_at hl 0 rfl) ?_
        refine va_get (D := D) (ci := 0) (v := .ref sl) (C := RX0) (T := TX0) (N := 9) hx hb hts in_X0 hown hK hP 0 rfl rfl 6 (by decide) (hts _ q36) (fun _ h9 => h9) rfl dX0_findSure_17 ?_
        refine lv_iload_n hx hb dX0_findSure_20 rfl (lv_at hl 1 rfl) ?_
        refine lv_iconst (v := 0) hx hb dX0_findSure_21 (by decide +kernel) ?_
        refine zz_bast (k := i) (x := 0) (x' := 0) hx hb hK hP hD hS 2 1 rfl rfl (by omega) (by decide) (by decide +kernel) dX0_findSure_22 (fun H locs hP hD hS => ?_)
        have hP : va_P D vCl (XW h o sl wl dS d1 d2 a g kn w sf g (upd y1 i 0) b2 la) H := hP
        have hD : va_D A (XW h o sl wl dS d1 d2 a g kn w sf g (upd y1 i 0) b2 la) := hD
        refine lv_iinc (v := nI (i + 1)) (lv' := [(1, .int (nI (i + 1))), (0, .ref h)]) hx hb dX0_findSure_23 hl (k := 1) rfl (zz_i1 _) (by decide) rfl (fun ls hl => ?_)
        refine lv_goto (tgt := 10) hx hb dX0_findSure_26 (by decide) ?_
        exact ih_10 (i + 1) (upd y1 i 0) (by omega) (by omega) (z_up v_1) _ _ hP hD hS ls (lv_sub hl [1, 0] rfl)
  exact loop_10 (8 + 1) 0 b1 (by omega) (by omega) (fun j hj => absurd hj (Nat.not_lt_zero j)) _ _ hP hD hS ls (lv_sub hl [1, 0] rfl)
set_option maxHeartbeats 4000000 in
theorem tX0_keepActions (l : Launch) (D : va_G) (h o sl wl : Nat) (dS d1 d2 : ClassId) (a b1 b2 : Nat → Int32) (g kn w sf su la : Int32)  : zV l D yX0_keepActions cX0_keepActions 2 1 [.ref h] (XT dS d1 d2) (XW h o sl wl dS d1 d2 a g kn w sf su b1 b2 la) (XW h o sl wl dS d1 d2 a g kn w sf su b1 b2 (fLeft a sf)) := by
  refine zz_V (by decide) (Nat.le_of_ble_eq_true rfl) ?_
  intro p e s m args below meth c A Q hx hb hml hown hts hA hK hP hD hS hret ls hl
  have hown : s.vm.findClass RX0 = some m.cls := hown
  have hl : lv_has ls 2 [(0, .ref h)] := hl
  refine lv_aload_n hx hb dX0_keepActions_0 rfl (lv_at hl 0 rfl) ?_
  refine lv_iconst (v := 0) hx hb dX0_keepActions_1 (by decide +kernel) ?_
  refine va_put (D := D) (ci := 0) (v := .int 0) (ty := .int) (C := RX0) (T := TX0) (N := 9) hx hb hts in_X0 tyX0 tyX0_ok nmX0 hown hK hP hD hS 0 rfl rfl 8 (by decide) (hts _ q38) (fun _ h9 => h9) rfl (by decide +kernel) rfl rfl (Nat.le_of_ble_eq_true rfl) dX0_keepActions_2 (fun H locs hP hD hS => ?_)
  have hP : va_P D vCl (XW h o sl wl dS d1 d2 a g kn w sf su b1 b2 0) H := hP
  have hD : va_D A (XW h o sl wl dS d1 d2 a g kn w sf su b1 b2 0) := hD
  refine lv_iconst (v := 0) hx hb dX0_keepActions_5 (by decide +kernel) ?_
  refine lv_istore_n (lv' := [(1, .int 0), (0, .ref h)]) hx hb dX0_keepActions_6 rfl hl (by decide) rfl (fun ls hl => ?_)
  have loop_7 : ∀ (n k : Nat) (l1 : Int32), k ≤ 24 → 24 < k + n → (l1 = lp (kSt a sf) 0 k) → ∀ (H : Heap) (locs : List Loc), va_P D vCl (XW h o sl wl dS d1 d2 a g kn w sf su b1 b2 l1) H → va_D A (XW h o sl wl dS d1 d2 a g kn w sf su b1 b2 l1) → va_S A s.heap H locs → ∀ (ls : Array Slot), lv_has ls 2 [(0, .ref h), (1, .int (nI k))] → W p l e (zR 1) s m args below meth c H locs 0 0 Q (F0 m 7 ls []) := by
    intro n
    induction n with
    | zero =>
      intro k l1 h1 h2
      exact absurd h2 (by omega)
    | succ n ih_7 =>
      intro k l1 hi_7 hn_7 v_1 H locs hP hD hS ls hl
      refine lv_iload_n hx hb dX0_keepActions_7 rfl (lv_at hl 1 rfl) ?_
      refine lv_bipush (v := nI 24) hx hb dX0_keepActions_8 (by decide +kernel) ?_
      refine lv_icmp_ge (tgt := 43) hx hb dX0_keepActions_10 (by decide) (fun c_10 => ?_) (fun c_10 => ?_)
      · have c_10 : 24 ≤ k := zz_cle (by omega) (by omega) c_10
        exact hret _ _ _ _ (zz_eqP (by rw [v_1, show k = 24 by omega]; rfl) hP) (zz_eqD (by rw [v_1, show k = 24 by omega]; rfl) hD) hS dX0_keepActions_43
      · have c_10 : k < 24 := zz_cnle (by omega) (by omega) c_10
        refine lv_aload_n hx hb dX0_keepActions_13 rfl (lv_at hl 0 rfl) ?_
        refine lv_iload_n hx hb dX0_keepActions_14 rfl (lv_at hl 1 rfl) ?_
        refine lv_aload_n hx hb dX0_keepActions_15 rfl (lv_at hl 0 rfl) ?_
        refine va_get (D := D) (ci := 0) (v := .int sf) (C := RX0) (T := TX0) (N := 9) hx hb hts in_X0 hown hK hP 0 rfl rfl 4 (by decide) (hts _ q34) (fun _ h9 => h9) rfl dX0_keepActions_16 ?_
        refine zz_callW (As := [.int (nI k), .int sf]) (rest := []) (q0 := 0) (ci := 0) ⟨hx, hb, hml, hown, hts⟩ hA hK hP hD hS (tX0_leadsInto l D h o sl wl dS d1 d2 a b1 b2 g kn w sf su l1 k sf (by omega)) (cwV 2 hts gX0_leadsInto rfl rfl rfl hX0_leadsInto ⟨by decide, by decide⟩) rfl rfl rfl hl.1 rfl (Nat.le_of_ble_eq_true rfl) dX0_keepActions_19 ⟨Nat.le_refl _, Nat.le_refl _⟩ (fun H locs hP hD hS => ?_)
        refine lv_if_eq (tgt := 37) hx hb dX0_keepActions_22 (by decide) (fun c_22 => ?_) (fun c_22 => ?_)
        · have c_22 : (ldB (a k) sf) = false := zz_bI0 c_22
          refine lv_iinc (v := nI (k + 1)) (lv' := [(1, .int (nI (k + 1))), (0, .ref h)]) hx hb dX0_keepActions_37 hl (k := 1) rfl (zz_i1 _) (by decide) rfl (fun ls hl => ?_)
          refine lv_goto (tgt := 7) hx hb dX0_keepActions_40 (by decide) ?_
          exact ih_7 (k + 1) l1 (by omega) (by omega) (by rw [lp_s, ← v_1, k_0 c_22]) _ _ hP hD hS ls (lv_sub hl [1, 0] rfl)
        · have c_22 : (ldB (a k) sf) = true := zz_bI1 c_22
          refine lv_aload_n hx hb dX0_keepActions_25 rfl (lv_at hl 0 rfl) ?_
          refine lv_dup hx hb dX0_keepActions_26 rfl ?_
          refine va_get (D := D) (ci := 0) (v := .int l1) (C := RX0) (T := TX0) (N := 9) hx hb hts in_X0 hown hK hP 0 rfl rfl 8 (by decide) (hts _ q38) (fun _ h9 => h9) rfl dX0_keepActions_27 ?_
          refine lv_iconst (v := 1) hx hb dX0_keepActions_30 (by decide +kernel) ?_
          refine lv_iload_n hx hb dX0_keepActions_31 rfl (lv_at hl 1 rfl) ?_
          refine lv_ishl hx hb dX0_keepActions_32 ?_
          refine zz_top (z := one k) (rfl) ?_
          refine lv_ior hx hb dX0_keepActions_33 ?_
          refine va_put (D := D) (ci := 0) (v := .int (l1 ||| (one k))) (ty := .int) (C := RX0) (T := TX0) (N := 9) hx hb hts in_X0 tyX0 tyX0_ok nmX0 hown hK hP hD hS 0 rfl rfl 8 (by decide) (hts _ q38) (fun _ h9 => h9) rfl (by decide +kernel) rfl rfl (Nat.le_of_ble_eq_true rfl) dX0_keepActions_34 (fun H locs hP hD hS => ?_)
          have hP : va_P D vCl (XW h o sl wl dS d1 d2 a g kn w sf su b1 b2 (l1 ||| (one k))) H := hP
          have hD : va_D A (XW h o sl wl dS d1 d2 a g kn w sf su b1 b2 (l1 ||| (one k))) := hD
          refine lv_iinc (v := nI (k + 1)) (lv' := [(1, .int (nI (k + 1))), (0, .ref h)]) hx hb dX0_keepActions_37 hl (k := 1) rfl (zz_i1 _) (by decide) rfl (fun ls hl => ?_)
          refine lv_goto (tgt := 7) hx hb dX0_keepActions_40 (by decide) ?_
          exact ih_7 (k + 1) (l1 ||| (one k)) (by omega) (by omega) (by rw [lp_s, ← v_1, k_1 c_22]) _ _ hP hD hS ls (lv_sub hl [1, 0] rfl)
  exact loop_7 (24 + 1) 0 0 (by omega) (by omega) (rfl) _ _ hP hD hS ls (lv_sub hl [1, 0] rfl)
set_option maxHeartbeats 4000000 in
theorem tX0_ableStates (l : Launch) (D : va_G) (h o sl wl : Nat) (dS d1 d2 : ClassId) (a b1 b2 : Nat → Int32) (g kn w sf su la : Int32)  : zI l D yX0_ableStates cX0_ableStates 4 .int 1 [.ref h] (XT dS d1 d2) (XW h o sl wl dS d1 d2 a g kn w sf su b1 b2 la) (ableF a g la &&& (sf ||| g)) (XW h o sl wl dS d1 d2 a g kn w sf su b1 b2 la) := by
  refine zz_I (by decide) (Nat.le_of_ble_eq_true rfl) (rfl) ?_
  intro p e s m args below meth c A Q hx hb hml hown hts hA hK hP hD hS hret ls hl
  have hown : s.vm.findClass RX0 = some m.cls := hown
  have hl : lv_has ls 4 [(0, .ref h)] := hl
  refine lv_aload_n hx hb dX0_ableStates_0 rfl (lv_at hl 0 rfl) ?_
  refine va_get (D := D) (ci := 0) (v := .int g) (C := RX0) (T := TX0) (N := 9) hx hb hts in_X0 hown hK hP 0 rfl rfl 1 (by decide) (hts _ q31) (fun _ h9 => h9) rfl dX0_ableStates_1 ?_
  refine lv_istore_n (lv' := [(1, .int g), (0, .ref h)]) hx hb dX0_ableStates_4 rfl hl (by decide) rfl (fun ls hl => ?_)
  refine lv_iconst (v := 0) hx hb dX0_ableStates_5 (by decide +kernel) ?_
  refine lv_istore_n (lv' := [(2, .int 0), (1, .int g), (0, .ref h)]) hx hb dX0_ableStates_6 rfl hl (by decide) rfl (fun ls hl => ?_)
  have loop_7 : ∀ (n r : Nat) (x1 : Int32), r ≤ 8 → 8 < r + n → (x1 = lp (abR a la) g r) → ∀ (H : Heap) (locs : List Loc), va_P D vCl (XW h o sl wl dS d1 d2 a g kn w sf su b1 b2 la) H → va_D A (XW h o sl wl dS d1 d2 a g kn w sf su b1 b2 la) → va_S A s.heap H locs → ∀ (ls : Array Slot), lv_has ls 4 [(0, .ref h), (1, .int x1), (2, .int (nI r))] → W p l e (zR 1) s m args below meth c H locs 0 0 Q (F0 m 7 ls []) := by
    intro n
    induction n with
    | zero =>
      intro r x1 h1 h2
      exact absurd h2 (by omega)
    | succ n ih_7 =>
      intro r x1 hi_7 hn_7 v_1 H locs hP hD hS ls hl
      refine lv_iload_n hx hb dX0_ableStates_7 rfl (lv_at hl 2 rfl) ?_
      refine lv_bipush (v := nI 8) hx hb dX0_ableStates_8 (by decide +kernel) ?_
      refine lv_icmp_ge (tgt := 61) hx hb dX0_ableStates_10 (by decide) (fun c_10 => ?_) (fun c_10 => ?_)
      · have c_10 : 8 ≤ r := zz_cle (by omega) (by omega) c_10
        refine lv_iload_n hx hb dX0_ableStates_61 rfl (lv_at hl 1 rfl) ?_
        refine lv_aload_n hx hb dX0_ableStates_62 rfl (lv_at hl 0 rfl) ?_
        refine va_get (D := D) (ci := 0) (v := .int sf) (C := RX0) (T := TX0) (N := 9) hx hb hts in_X0 hown hK hP 0 rfl rfl 4 (by decide) (hts _ q34) (fun _ h9 => h9) rfl dX0_ableStates_63 ?_
        refine lv_aload_n hx hb dX0_ableStates_66 rfl (lv_at hl 0 rfl) ?_
        refine va_get (D := D) (ci := 0) (v := .int g) (C := RX0) (T := TX0) (N := 9) hx hb hts in_X0 hown hK hP 0 rfl rfl 1 (by decide) (hts _ q31) (fun _ h9 => h9) rfl dX0_ableStates_67 ?_
        refine lv_ior hx hb dX0_ableStates_70 ?_
        refine lv_iand hx hb dX0_ableStates_71 ?_
        exact hret _ _ _ _ _ hP hD hS (by rw [v_1, show r = 8 by omega]; rfl) dX0_ableStates_72
      · have c_10 : r < 8 := zz_cnle (by omega) (by omega) c_10
        refine lv_iconst (v := 0) hx hb dX0_ableStates_13 (by decide +kernel) ?_
        refine lv_istore_n (lv' := [(3, .int 0), (0, .ref h), (1, .int x1), (2, .int (nI r))]) hx hb dX0_ableStates_14 rfl hl (by decide) rfl (fun ls hl => ?_)
        have loop_15 : ∀ (n k : Nat) (x2 : Int32), k ≤ 24 → 24 < k + n → (x2 = lp (abSt a la) x1 k) → ∀ (H : Heap) (locs : List Loc), va_P D vCl (XW h o sl wl dS d1 d2 a g kn w sf su b1 b2 la) H → va_D A (XW h o sl wl dS d1 d2 a g kn w sf su b1 b2 la) → va_S A s.heap H locs → ∀ (ls : Array Slot), lv_has ls 4 [(0, .ref h), (1, .int x2), (2, .int (nI r)), (3, .int (nI k))] → W p l e (zR 1) s m args below meth c H locs 0 0 Q (F0 m 15 ls []) := by
          intro n
          induction n with
          | zero =>
            intro k x2 h1 h2
            exact absurd h2 (by omega)
          | succ n ih_15 =>
            intro k x2 hi_15 hn_15 v_2 H locs hP hD hS ls hl
            refine lv_iload_n hx hb dX0_ableStates_15 rfl (lv_at hl 3 rfl) ?_
            refine lv_bipush (v := nI 24) hx hb dX0_ableStates_16 (by decide +kernel) ?_
            refine lv_icmp_ge (tgt := 55) hx hb dX0_ableStates_18 (by decide) (fun c_18 => ?_) (fun c_18 => ?_)
            · have c_18 : 24 ≤ k := zz_cle (by omega) (by omega) c_18
              refine lv_iinc (v := nI (r + 1)) (lv' := [(2, .int (nI (r + 1))), (0, .ref h), (1, .int x2), (3, .int (nI k))]) hx hb dX0_ableStates_55 hl (k := 2) rfl (zz_i1 _) (by decide) rfl (fun ls hl => ?_)
              refine lv_goto (tgt := 7) hx hb dX0_ableStates_58 (by decide) ?_
              exact ih_7 (r + 1) x2 (by omega) (by omega) (by rw [lp_s, ← v_1, v_2, show k = 24 by omega]; rfl) _ _ hP hD hS ls (lv_sub hl [1, 2, 0] rfl)
            · have c_18 : k < 24 := zz_cnle (by omega) (by omega) c_18
              refine lv_aload_n hx hb dX0_ableStates_21 rfl (lv_at hl 0 rfl) ?_
              refine va_get (D := D) (ci := 0) (v := .int la) (C := RX0) (T := TX0) (N := 9) hx hb hts in_X0 hown hK hP 0 rfl rfl 8 (by decide) (hts _ q38) (fun _ h9 => h9) rfl dX0_ableStates_22 ?_
              refine lv_iload_n hx hb dX0_ableStates_25 rfl (lv_at hl 3 rfl) ?_
              refine lv_ishr hx hb dX0_ableStates_26 ?_
              refine lv_iconst (v := 1) hx hb dX0_ableStates_27 (by decide +kernel) ?_
              refine lv_iand hx hb dX0_ableStates_28 ?_
              refine lv_if_eq (tgt := 49) hx hb dX0_ableStates_29 (by decide) (fun c_29 => ?_) (fun c_29 => ?_)
              · have c_29 : bt la k = false := zz_bit0 (by omega) c_29
                refine lv_iinc (v := nI (k + 1)) (lv' := [(3, .int (nI (k + 1))), (0, .ref h), (1, .int x2), (2, .int (nI r))]) hx hb dX0_ableStates_49 hl (k := 3) rfl (zz_i1 _) (by decide) rfl (fun ls hl => ?_)
                refine lv_goto (tgt := 15) hx hb dX0_ableStates_52 (by decide) ?_
                exact ih_15 (k + 1) x2 (by omega) (by omega) (by rw [lp_s, ← v_2, ab_0 c_29]) _ _ hP hD hS ls (lv_sub hl [1, 2, 3, 0] rfl)
              · have c_29 : bt la k = true := zz_bit1 (by omega) c_29
                refine lv_aload_n hx hb dX0_ableStates_32 rfl (lv_at hl 0 rfl) ?_
                refine lv_iload_n hx hb dX0_ableStates_33 rfl (lv_at hl 3 rfl) ?_
                refine lv_iload_n hx hb dX0_ableStates_34 rfl (lv_at hl 1 rfl) ?_
                refine zz_callW (As := [.int (nI k), .int x2]) (rest := []) (q0 := 0) (ci := 0) ⟨hx, hb, hml, hown, hts⟩ hA hK hP hD hS (tX0_mayLeadInto l D h o sl wl dS d1 d2 a b1 b2 g kn w sf su la k x2 (by omega)) (cwV 2 hts gX0_mayLeadInto rfl rfl rfl hX0_mayLeadInto ⟨by decide, by decide⟩) rfl rfl rfl hl.1 rfl (Nat.le_of_ble_eq_true rfl) dX0_ableStates_35 ⟨Nat.le_refl _, Nat.le_refl _⟩ (fun H locs hP hD hS => ?_)
                refine lv_if_eq (tgt := 49) hx hb dX0_ableStates_38 (by decide) (fun c_38 => ?_) (fun c_38 => ?_)
                · have c_38 : (myB (a k) x2) = false := zz_bI0 c_38
                  refine lv_iinc (v := nI (k + 1)) (lv' := [(3, .int (nI (k + 1))), (0, .ref h), (1, .int x2), (2, .int (nI r))]) hx hb dX0_ableStates_49 hl (k := 3) rfl (zz_i1 _) (by decide) rfl (fun ls hl => ?_)
                  refine lv_goto (tgt := 15) hx hb dX0_ableStates_52 (by decide) ?_
                  exact ih_15 (k + 1) x2 (by omega) (by omega) (by rw [lp_s, ← v_2, ab_1 c_38]) _ _ hP hD hS ls (lv_sub hl [1, 2, 3, 0] rfl)
                · have c_38 : (myB (a k) x2) = true := zz_bI1 c_38
                  refine lv_iload_n hx hb dX0_ableStates_41 rfl (lv_at hl 1 rfl) ?_
                  refine lv_iconst (v := 1) hx hb dX0_ableStates_42 (by decide +kernel) ?_
                  refine lv_iload_n hx hb dX0_ableStates_43 rfl (lv_at hl 3 rfl) ?_
                  refine lv_iconst (v := nI 3) hx hb dX0_ableStates_44 (by decide +kernel) ?_
                  refine lv_idiv hx hb dX0_ableStates_45 zz_n3 ?_
                  refine zz_top (z := nI (k / 3)) (zz_div3 (by omega)) ?_
                  refine lv_ishl hx hb dX0_ableStates_46 ?_
                  refine zz_top (z := one (k / 3)) (rfl) ?_
                  refine lv_ior hx hb dX0_ableStates_47 ?_
                  refine lv_istore_n (lv' := [(1, .int (x2 ||| (one (k / 3)))), (0, .ref h), (2, .int (nI r)), (3, .int (nI k))]) hx hb dX0_ableStates_48 rfl hl (by decide) rfl (fun ls hl => ?_)
                  refine lv_iinc (v := nI (k + 1)) (lv' := [(3, .int (nI (k + 1))), (1, .int (x2 ||| (one (k / 3)))), (0, .ref h), (2, .int (nI r))]) hx hb dX0_ableStates_49 hl (k := 3) rfl (zz_i1 _) (by decide) rfl (fun ls hl => ?_)
                  refine lv_goto (tgt := 15) hx hb dX0_ableStates_52 (by decide) ?_
                  exact ih_15 (k + 1) (x2 ||| (one (k / 3))) (by omega) (by omega) (by rw [lp_s, ← v_2, ab_2 c_29 c_38]) _ _ hP hD hS ls (lv_sub hl [2, 1, 3, 0] rfl)
        exact loop_15 (24 + 1) 0 x1 (by omega) (by omega) (rfl) _ _ hP hD hS ls (lv_sub hl [1, 2, 3, 0] rfl)
  exact loop_7 (8 + 1) 0 g (by omega) (by omega) (rfl) _ _ hP hD hS ls (lv_sub hl [2, 1, 0] rfl)
set_option maxHeartbeats 4000000 in
theorem tX0_findSafe (l : Launch) (D : va_G) (h o sl wl : Nat) (dS d1 d2 : ClassId) (a b1 b2 : Nat → Int32) (g kn w sf su la : Int32) (hg : s8 g) : zV l D yX0_findSafe cX0_findSafe 3 2 [.ref h] (XT dS d1 d2) (XW h o sl wl dS d1 d2 a g kn w sf su b1 b2 la) (XW h o sl wl dS d1 d2 a g kn w (xSafe a g) su b1 b2 (fLeft a (xSafe a g))) := by
  refine zz_V (by decide) (Nat.le_of_ble_eq_true rfl) ?_
  intro p e s m args below meth c A Q hx hb hml hown hts hA hK hP hD hS hret ls hl
  have hown : s.vm.findClass RX0 = some m.cls := hown
  have hl : lv_has ls 3 [(0, .ref h)] := hl
  refine lv_aload_n hx hb dX0_findSafe_0 rfl (lv_at hl 0 rfl) ?_
  refine lv_sipush (v := nI 255) hx hb dX0_findSafe_1 (by decide +kernel) ?_
  refine va_put (D := D) (ci := 0) (v := .int (nI 255)) (ty := .int) (C := RX0) (T := TX0) (N := 9) hx hb hts in_X0 tyX0 tyX0_ok nmX0 hown hK hP hD hS 0 rfl rfl 4 (by decide) (hts _ q34) (fun _ h9 => h9) rfl (by decide +kernel) rfl rfl (Nat.le_of_ble_eq_true rfl) dX0_findSafe_4 (fun H locs hP hD hS => ?_)
  have hP : va_P D vCl (XW h o sl wl dS d1 d2 a g kn w (nI 255) su b1 b2 la) H := hP
  have hD : va_D A (XW h o sl wl dS d1 d2 a g kn w (nI 255) su b1 b2 la) := hD
  refine lv_iconst (v := 1) hx hb dX0_findSafe_7 (by decide +kernel) ?_
  refine lv_istore_n (lv' := [(1, .int 1), (0, .ref h)]) hx hb dX0_findSafe_8 rfl hl (by decide) rfl (fun ls hl => ?_)
  have loop_9 : ∀ (n k : Nat) (z : Bool) (s1 : Int32) (l1 : Int32), k ≤ 9 → 9 < k + n → (z = true → s1 = sIt a g k ∧ k ≤ 8) → (z = false → s1 = xSafe a g ∧ l1 = fLeft a (xSafe a g)) → ∀ (H : Heap) (locs : List Loc), va_P D vCl (XW h o sl wl dS d1 d2 a g kn w s1 su b1 b2 l1) H → va_D A (XW h o sl wl dS d1 d2 a g kn w s1 su b1 b2 l1) → va_S A s.heap H locs → ∀ (ls : Array Slot), lv_has ls 3 [(0, .ref h), (1, .int (bI z))] → W p l e (zR 2) s m args below meth c H locs 0 0 Q (F0 m 9 ls []) := by
    intro n
    induction n with
    | zero =>
      intro k z s1 l1 h1 h2
      exact absurd h2 (by omega)
    | succ n ih_9 =>
      intro k z s1 l1 hi_9 hn_9 v_1 v_2 H locs hP hD hS ls hl
      refine lv_iload_n hx hb dX0_findSafe_9 rfl (lv_at hl 1 rfl) ?_
      refine lv_if_eq (tgt := 44) hx hb dX0_findSafe_10 (by decide) (fun c_10 => ?_) (fun c_10 => ?_)
      · have c_10 : z = false := zz_bI0 c_10
        exact hret _ _ _ _ (zz_eqP (by rw [(v_2 c_10).1, (v_2 c_10).2]) hP) (zz_eqD (by rw [(v_2 c_10).1, (v_2 c_10).2]) hD) hS dX0_findSafe_44
      · have c_10 : z = true := zz_bI1 c_10
        obtain ⟨u_0, hk8⟩ := v_1 c_10
        refine lv_aload_n hx hb dX0_findSafe_13 rfl (lv_at hl 0 rfl) ?_
        refine zz_callVW (As := []) (rest := []) (q0 := 0) (ci := 0) ⟨hx, hb, hml, hown, hts⟩ hA hK hP hD hS (tX0_keepActions l D h o sl wl dS d1 d2 a b1 b2 g kn w s1 su l1) (cwV 0 hts gX0_keepActions rfl rfl rfl hX0_keepActions ⟨by decide, by decide⟩) rfl rfl rfl hl.1 rfl (Nat.le_of_ble_eq_true rfl) dX0_findSafe_14 ⟨Nat.le_refl _, Nat.le_refl _⟩ (fun H locs hP hD hS => ?_)
        have hP : va_P D vCl (XW h o sl wl dS d1 d2 a g kn w s1 su b1 b2 (fLeft a s1)) H := hP
        have hD : va_D A (XW h o sl wl dS d1 d2 a g kn w s1 su b1 b2 (fLeft a s1)) := hD
        refine lv_aload_n hx hb dX0_findSafe_17 rfl (lv_at hl 0 rfl) ?_
        refine zz_callW (As := []) (rest := []) (q0 := 0) (ci := 0) ⟨hx, hb, hml, hown, hts⟩ hA hK hP hD hS (tX0_ableStates l D h o sl wl dS d1 d2 a b1 b2 g kn w s1 su (fLeft a s1)) (cwV 0 hts gX0_ableStates rfl rfl rfl hX0_ableStates ⟨by decide, by decide⟩) rfl rfl rfl hl.1 rfl (Nat.le_of_ble_eq_true rfl) dX0_findSafe_18 ⟨Nat.le_refl _, Nat.le_refl _⟩ (fun H locs hP hD hS => ?_)
        refine zz_top (z := sF a g s1) rfl ?_
        refine lv_istore_n (lv' := [(2, .int (sF a g s1)), (0, .ref h), (1, .int (bI z))]) hx hb dX0_findSafe_21 rfl hl (by decide) rfl (fun ls hl => ?_)
        refine lv_iload_n hx hb dX0_findSafe_22 rfl (lv_at hl 0 rfl) ?_
        refine lv_aload_n hx hb dX0_findSafe_23 rfl (lv_at hl 1 rfl) ?_
        refine va_get (D := D) (ci := 0) (v := .int s1) (C := RX0) (T := TX0) (N := 9) hx hb hts in_X0 hown hK hP 0 rfl rfl 4 (by decide) (hts _ q34) (fun _ h9 => h9) rfl dX0_findSafe_24 ?_
        refine lv_icmp_eq (tgt := 34) hx hb dX0_findSafe_27 (by decide) (fun c_27 => ?_) (fun c_27 => ?_)
        · have c_27 := c_27
          have u_1 : sF a g s1 = xSafe a g := by
            rw [c_27, u_0]
            exact s_fix (by omega) (by rw [← u_0]; exact c_27)
          refine lv_iconst (v := 0) hx hb dX0_findSafe_34 (by decide +kernel) ?_
          refine lv_istore_n (lv' := [(1, .int 0), (2, .int (sF a g s1)), (0, .ref h)]) hx hb dX0_findSafe_35 rfl hl (by decide) rfl (fun ls hl => ?_)
          refine lv_aload_n hx hb dX0_findSafe_36 rfl (lv_at hl 2 rfl) ?_
          refine lv_iload_n hx hb dX0_findSafe_37 rfl (lv_at hl 1 rfl) ?_
          refine va_put (D := D) (ci := 0) (v := .int (sF a g s1)) (ty := .int) (C := RX0) (T := TX0) (N := 9) hx hb hts in_X0 tyX0 tyX0_ok nmX0 hown hK hP hD hS 0 rfl rfl 4 (by decide) (hts _ q34) (fun _ h9 => h9) rfl (by decide +kernel) rfl rfl (Nat.le_of_ble_eq_true rfl) dX0_findSafe_38 (fun H locs hP hD hS => ?_)
          have hP : va_P D vCl (XW h o sl wl dS d1 d2 a g kn w (sF a g s1) su b1 b2 (fLeft a s1)) H := hP
          have hD : va_D A (XW h o sl wl dS d1 d2 a g kn w (sF a g s1) su b1 b2 (fLeft a s1)) := hD
          refine lv_goto (tgt := 9) hx hb dX0_findSafe_41 (by decide) ?_
          exact ih_9 (k + 1) false (sF a g s1) (fLeft a s1) (by omega) (by omega) (fun q => absurd q (by decide)) (fun _ => ⟨u_1, by rw [← u_1, c_27]⟩) _ _ hP hD hS ls (lv_sub hl [2, 0] rfl)
        · have c_27 := c_27
          have u_2 := s_chain hg (k := k) (by rw [← u_0]; exact c_27)
          refine lv_iconst (v := 1) hx hb dX0_findSafe_30 (by decide +kernel) ?_
          refine lv_goto (tgt := 35) hx hb dX0_findSafe_31 (by decide) ?_
          refine lv_istore_n (lv' := [(1, .int 1), (2, .int (sF a g s1)), (0, .ref h)]) hx hb dX0_findSafe_35 rfl hl (by decide) rfl (fun ls hl => ?_)
          refine lv_aload_n hx hb dX0_findSafe_36 rfl (lv_at hl 2 rfl) ?_
          refine lv_iload_n hx hb dX0_findSafe_37 rfl (lv_at hl 1 rfl) ?_
          refine va_put (D := D) (ci := 0) (v := .int (sF a g s1)) (ty := .int) (C := RX0) (T := TX0) (N := 9) hx hb hts in_X0 tyX0 tyX0_ok nmX0 hown hK hP hD hS 0 rfl rfl 4 (by decide) (hts _ q34) (fun _ h9 => h9) rfl (by decide +kernel) rfl rfl (Nat.le_of_ble_eq_true rfl) dX0_findSafe_38 (fun H locs hP hD hS => ?_)
          have hP : va_P D vCl (XW h o sl wl dS d1 d2 a g kn w (sF a g s1) su b1 b2 (fLeft a s1)) H := hP
          have hD : va_D A (XW h o sl wl dS d1 d2 a g kn w (sF a g s1) su b1 b2 (fLeft a s1)) := hD
          refine lv_goto (tgt := 9) hx hb dX0_findSafe_41 (by decide) ?_
          exact ih_9 (k + 1) true (sF a g s1) (fLeft a s1) (by omega) (by omega) (fun _ => ⟨by rw [u_0]; rfl, s_chain hg (by rw [← u_0]; exact c_27)⟩) (fun q => absurd q (by decide)) _ _ hP hD hS ls (lv_sub hl [2, 0] rfl)
  exact loop_9 (9 + 1) 0 true (nI 255) la (by omega) (by omega) (fun _ => ⟨rfl, by omega⟩) (fun q => absurd q (by decide)) _ _ hP hD hS ls (lv_sub hl [1, 0] rfl)
set_option maxHeartbeats 4000000 in
theorem tX0_learn (l : Launch) (D : va_G) (h o sl wl : Nat) (dS d1 d2 : ClassId) (a b1 b2 : Nat → Int32) (g kn w sf su la : Int32) (hg : s8 g) (hI : XI a g (kn, w, sf, su, b1, b2, la)) : zV l D yX0_learn cX0_learn 1 3 [.ref h] (XT dS d1 d2) (XW h o sl wl dS d1 d2 a g kn w sf su b1 b2 la) (XZ h o sl wl dS d1 d2 a g (xLrn a g)) := by
  refine zz_V (by decide) (Nat.le_of_ble_eq_true rfl) ?_
  intro p e s m args below meth c A Q hx hb hml hown hts hA hK hP hD hS hret ls hl
  have hown : s.vm.findClass RX0 = some m.cls := hown
  have hl : lv_has ls 1 [(0, .ref h)] := hl
  refine lv_aload_n hx hb dX0_learn_0 rfl (lv_at hl 0 rfl) ?_
  refine va_get (D := D) (ci := 0) (v := .int kn) (C := RX0) (T := TX0) (N := 9) hx hb hts in_X0 hown hK hP 0 rfl rfl 2 (by decide) (hts _ q32) (fun _ h9 => h9) rfl dX0_learn_1 ?_
  refine lv_if_eq (tgt := 8) hx hb dX0_learn_4 (by decide) (fun c_4 => ?_) (fun c_4 => ?_)
  · have c_4 := c_4
    refine lv_aload_n hx hb dX0_learn_8 rfl (lv_at hl 0 rfl) ?_
    refine lv_iconst (v := 1) hx hb dX0_learn_9 (by decide +kernel) ?_
    refine va_put (D := D) (ci := 0) (v := .int 1) (ty := .boolean) (C := RX0) (T := TX0) (N := 9) hx hb hts in_X0 tyX0 tyX0_ok nmX0 hown hK hP hD hS 0 rfl rfl 2 (by decide) (hts _ q32) (fun _ h9 => h9) rfl (by decide +kernel) rfl rfl (Nat.le_of_ble_eq_true rfl) dX0_learn_10 (fun H locs hP hD hS => ?_)
    have hP : va_P D vCl (XW h o sl wl dS d1 d2 a g 1 w sf su b1 b2 la) H := hP
    have hD : va_D A (XW h o sl wl dS d1 d2 a g 1 w sf su b1 b2 la) := hD
    refine lv_aload_n hx hb dX0_learn_13 rfl (lv_at hl 0 rfl) ?_
    refine zz_callVW (As := []) (rest := []) (q0 := 0) (ci := 0) ⟨hx, hb, hml, hown, hts⟩ hA hK hP hD hS (tX0_findWeak l D h o sl wl dS d1 d2 a b1 b2 g 1 w sf su la) (cwV 0 hts gX0_findWeak rfl rfl rfl hX0_findWeak ⟨by decide, by decide⟩) rfl rfl rfl hl.1 rfl (Nat.le_of_ble_eq_true rfl) dX0_learn_14 ⟨Nat.le_refl _, Nat.le_refl _⟩ (fun H locs hP hD hS => ?_)
    have hP : va_P D vCl (XW h o sl wl dS d1 d2 a g 1 (fW false a g 8) sf su b1 (lay false a g 8) la) H := hP
    have hD : va_D A (XW h o sl wl dS d1 d2 a g 1 (fW false a g 8) sf su b1 (lay false a g 8) la) := hD
    refine lv_aload_n hx hb dX0_learn_17 rfl (lv_at hl 0 rfl) ?_
    refine zz_callVW (As := []) (rest := []) (q0 := 0) (ci := 0) ⟨hx, hb, hml, hown, hts⟩ hA hK hP hD hS (tX0_findSure l D h o sl wl dS d1 d2 a b1 (lay false a g 8) g 1 (fW false a g 8) sf su la) (cwV 0 hts gX0_findSure rfl rfl rfl hX0_findSure ⟨by decide, by decide⟩) rfl rfl rfl hl.1 rfl (Nat.le_of_ble_eq_true rfl) dX0_learn_18 ⟨Nat.le_refl _, Nat.le_refl _⟩ (fun H locs hP hD hS => ?_)
    have hP : va_P D vCl (XW h o sl wl dS d1 d2 a g 1 (fW false a g 8) sf (fW true a g 8) (lay true a g 8) (lay false a g 8) la) H := hP
    have hD : va_D A (XW h o sl wl dS d1 d2 a g 1 (fW false a g 8) sf (fW true a g 8) (lay true a g 8) (lay false a g 8) la) := hD
    refine lv_aload_n hx hb dX0_learn_21 rfl (lv_at hl 0 rfl) ?_
    refine zz_callVW (As := []) (rest := []) (q0 := 0) (ci := 0) ⟨hx, hb, hml, hown, hts⟩ hA hK hP hD hS (tX0_findSafe l D h o sl wl dS d1 d2 a (lay true a g 8) (lay false a g 8) g 1 (fW false a g 8) sf (fW true a g 8) la hg) (cwV 0 hts gX0_findSafe rfl rfl rfl hX0_findSafe ⟨by decide, by decide⟩) rfl rfl rfl hl.1 rfl (Nat.le_of_ble_eq_true rfl) dX0_learn_22 ⟨Nat.le_refl _, Nat.le_refl _⟩ (fun H locs hP hD hS => ?_)
    have hP : va_P D vCl (XW h o sl wl dS d1 d2 a g 1 (fW false a g 8) (xSafe a g) (fW true a g 8) (lay true a g 8) (lay false a g 8) (fLeft a (xSafe a g))) H := hP
    have hD : va_D A (XW h o sl wl dS d1 d2 a g 1 (fW false a g 8) (xSafe a g) (fW true a g 8) (lay true a g 8) (lay false a g 8) (fLeft a (xSafe a g))) := hD
    exact hret _ _ _ _ (zz_eqP (rfl) hP) (zz_eqD (rfl) hD) hS dX0_learn_25
  · have c_4 := c_4
    exact hret _ _ _ _ (zz_eqP (XI_eq hI c_4) hP) (zz_eqD (XI_eq hI c_4) hD) hS dX0_learn_7
end
section
/-! ===== CyclicPlanner: public methods (printed by specX.py) ===== -/
set_option maxRecDepth 100000
set_option maxHeartbeats 4000000 in
theorem tX0_weak (l : Launch) (D : va_G) (h o sl wl : Nat) (dS d1 d2 : ClassId) (a b1 b2 : Nat → Int32) (g kn w sf su la : Int32) (hg : s8 g) (hI : XI a g (kn, w, sf, su, b1, b2, la))  : zI l D yX0_weak cX0_weak 1 .int 4 [.ref h] (XT dS d1 d2) (XW h o sl wl dS d1 d2 a g kn w sf su b1 b2 la) (fW false a g 8) (XZ h o sl wl dS d1 d2 a g (xLrn a g)) := by
  refine zz_I (by decide) (Nat.le_of_ble_eq_true rfl) (rfl) ?_
  intro p e s m args below meth c A Q hx hb hml hown hts hA hK hP hD hS hret ls hl
  have hown : s.vm.findClass RX0 = some m.cls := hown
  have hl : lv_has ls 1 [(0, .ref h)] := hl
  refine lv_aload_n hx hb dX0_weak_0 rfl (lv_at hl 0 rfl) ?_
  refine zz_callVW (As := []) (rest := []) (q0 := 0) (ci := 0) ⟨hx, hb, hml, hown, hts⟩ hA hK hP hD hS (tX0_learn l D h o sl wl dS d1 d2 a b1 b2 g kn w sf su la hg hI) (cwV 0 hts gX0_learn rfl rfl rfl hX0_learn ⟨by decide, by decide⟩) rfl rfl rfl hl.1 rfl (Nat.le_of_ble_eq_true rfl) dX0_weak_1 ⟨Nat.le_refl _, Nat.le_refl _⟩ (fun H locs hP hD hS => ?_)
  have hP : va_P D vCl (XW h o sl wl dS d1 d2 a g 1 (fW false a g 8) (xSafe a g) (fW true a g 8) (lay true a g 8) (lay false a g 8) (fLeft a (xSafe a g))) H := hP
  have hD : va_D A (XW h o sl wl dS d1 d2 a g 1 (fW false a g 8) (xSafe a g) (fW true a g 8) (lay true a g 8) (lay false a g 8) (fLeft a (xSafe a g))) := hD
  refine lv_aload_n hx hb dX0_weak_4 rfl (lv_at hl 0 rfl) ?_
  refine va_get (D := D) (ci := 0) (v := .int (fW false a g 8)) (C := RX0) (T := TX0) (N := 9) hx hb hts in_X0 hown hK hP 0 rfl rfl 3 (by decide) (hts _ q33) (fun _ h9 => h9) rfl dX0_weak_5 ?_
  exact hret _ _ _ _ _ (zz_eqP (rfl) hP) (zz_eqD (rfl) hD) hS (rfl) dX0_weak_8
set_option maxHeartbeats 4000000 in
theorem tX0_safe (l : Launch) (D : va_G) (h o sl wl : Nat) (dS d1 d2 : ClassId) (a b1 b2 : Nat → Int32) (g kn w sf su la : Int32) (hg : s8 g) (hI : XI a g (kn, w, sf, su, b1, b2, la))  : zI l D yX0_safe cX0_safe 1 .int 4 [.ref h] (XT dS d1 d2) (XW h o sl wl dS d1 d2 a g kn w sf su b1 b2 la) (xSafe a g) (XZ h o sl wl dS d1 d2 a g (xLrn a g)) := by
  refine zz_I (by decide) (Nat.le_of_ble_eq_true rfl) (rfl) ?_
  intro p e s m args below meth c A Q hx hb hml hown hts hA hK hP hD hS hret ls hl
  have hown : s.vm.findClass RX0 = some m.cls := hown
  have hl : lv_has ls 1 [(0, .ref h)] := hl
  refine lv_aload_n hx hb dX0_safe_0 rfl (lv_at hl 0 rfl) ?_
  refine zz_callVW (As := []) (rest := []) (q0 := 0) (ci := 0) ⟨hx, hb, hml, hown, hts⟩ hA hK hP hD hS (tX0_learn l D h o sl wl dS d1 d2 a b1 b2 g kn w sf su la hg hI) (cwV 0 hts gX0_learn rfl rfl rfl hX0_learn ⟨by decide, by decide⟩) rfl rfl rfl hl.1 rfl (Nat.le_of_ble_eq_true rfl) dX0_safe_1 ⟨Nat.le_refl _, Nat.le_refl _⟩ (fun H locs hP hD hS => ?_)
  have hP : va_P D vCl (XW h o sl wl dS d1 d2 a g 1 (fW false a g 8) (xSafe a g) (fW true a g 8) (lay true a g 8) (lay false a g 8) (fLeft a (xSafe a g))) H := hP
  have hD : va_D A (XW h o sl wl dS d1 d2 a g 1 (fW false a g 8) (xSafe a g) (fW true a g 8) (lay true a g 8) (lay false a g 8) (fLeft a (xSafe a g))) := hD
  refine lv_aload_n hx hb dX0_safe_4 rfl (lv_at hl 0 rfl) ?_
  refine va_get (D := D) (ci := 0) (v := .int (xSafe a g)) (C := RX0) (T := TX0) (N := 9) hx hb hts in_X0 hown hK hP 0 rfl rfl 4 (by decide) (hts _ q34) (fun _ h9 => h9) rfl dX0_safe_5 ?_
  exact hret _ _ _ _ _ (zz_eqP (rfl) hP) (zz_eqD (rfl) hD) hS (rfl) dX0_safe_8
set_option maxHeartbeats 4000000 in
theorem tX0_sure (l : Launch) (D : va_G) (h o sl wl : Nat) (dS d1 d2 : ClassId) (a b1 b2 : Nat → Int32) (g kn w sf su la : Int32) (hg : s8 g) (hI : XI a g (kn, w, sf, su, b1, b2, la))  : zI l D yX0_sure cX0_sure 1 .int 4 [.ref h] (XT dS d1 d2) (XW h o sl wl dS d1 d2 a g kn w sf su b1 b2 la) (fW true a g 8) (XZ h o sl wl dS d1 d2 a g (xLrn a g)) := by
  refine zz_I (by decide) (Nat.le_of_ble_eq_true rfl) (rfl) ?_
  intro p e s m args below meth c A Q hx hb hml hown hts hA hK hP hD hS hret ls hl
  have hown : s.vm.findClass RX0 = some m.cls := hown
  have hl : lv_has ls 1 [(0, .ref h)] := hl
  refine lv_aload_n hx hb dX0_sure_0 rfl (lv_at hl 0 rfl) ?_
  refine zz_callVW (As := []) (rest := []) (q0 := 0) (ci := 0) ⟨hx, hb, hml, hown, hts⟩ hA hK hP hD hS (tX0_learn l D h o sl wl dS d1 d2 a b1 b2 g kn w sf su la hg hI) (cwV 0 hts gX0_learn rfl rfl rfl hX0_learn ⟨by decide, by decide⟩) rfl rfl rfl hl.1 rfl (Nat.le_of_ble_eq_true rfl) dX0_sure_1 ⟨Nat.le_refl _, Nat.le_refl _⟩ (fun H locs hP hD hS => ?_)
  have hP : va_P D vCl (XW h o sl wl dS d1 d2 a g 1 (fW false a g 8) (xSafe a g) (fW true a g 8) (lay true a g 8) (lay false a g 8) (fLeft a (xSafe a g))) H := hP
  have hD : va_D A (XW h o sl wl dS d1 d2 a g 1 (fW false a g 8) (xSafe a g) (fW true a g 8) (lay true a g 8) (lay false a g 8) (fLeft a (xSafe a g))) := hD
  refine lv_aload_n hx hb dX0_sure_4 rfl (lv_at hl 0 rfl) ?_
  refine va_get (D := D) (ci := 0) (v := .int (fW true a g 8)) (C := RX0) (T := TX0) (N := 9) hx hb hts in_X0 hown hK hP 0 rfl rfl 5 (by decide) (hts _ q35) (fun _ h9 => h9) rfl dX0_sure_5 ?_
  exact hret _ _ _ _ _ (zz_eqP (rfl) hP) (zz_eqD (rfl) hD) hS (rfl) dX0_sure_8
set_option maxHeartbeats 4000000 in
theorem tX0_steps (l : Launch) (D : va_G) (h o sl wl : Nat) (dS d1 d2 : ClassId) (a b1 b2 : Nat → Int32) (g kn w sf su la : Int32) (hg : s8 g) (hI : XI a g (kn, w, sf, su, b1, b2, la)) (x : Int32) : zI l D yX0_steps cX0_steps 2 .int 4 [.ref h, .int x] (XT dS d1 d2) (XW h o sl wl dS d1 d2 a g kn w sf su b1 b2 la) (xNum true a g x) (XZ h o sl wl dS d1 d2 a g (if isS x = true then xLrn a g else (kn, w, sf, su, b1, b2, la))) := by
  refine zz_I (by decide) (Nat.le_of_ble_eq_true rfl) (rfl) ?_
  intro p e s m args below meth c A Q hx hb hml hown hts hA hK hP hD hS hret ls hl
  have hown : s.vm.findClass RX0 = some m.cls := hown
  have hl : lv_has ls 2 [(0, .ref h), (1, .int x)] := hl
  refine lv_aload_n hx hb dX0_steps_0 rfl (lv_at hl 0 rfl) ?_
  refine lv_iload_n hx hb dX0_steps_1 rfl (lv_at hl 1 rfl) ?_
  refine zz_call0 (As := [.int x]) (rest := []) (q0 := 0) (ci := 0) ⟨hx, hb, hml, hown, hts⟩ hA hK hP hD hS (tX0_isState l D h x) (cwV 1 hts gX0_isState rfl rfl rfl hX0_isState ⟨by decide, by decide⟩) rfl rfl rfl hl.1 rfl (Nat.le_of_ble_eq_true rfl) dX0_steps_2 ⟨Nat.le_refl _, Nat.le_refl _⟩ (fun H locs hP hD hS => ?_)
  refine lv_if_ne (tgt := 10) hx hb dX0_steps_5 (by decide) (fun c_5 => ?_) (fun c_5 => ?_)
  · have c_5 : (isS x) = true := zz_bI1 c_5
    obtain ⟨j, hj, ej⟩ := isS_of c_5
    subst ej
    refine lv_aload_n hx hb dX0_steps_10 rfl (lv_at hl 0 rfl) ?_
    refine zz_callVW (As := []) (rest := []) (q0 := 0) (ci := 0) ⟨hx, hb, hml, hown, hts⟩ hA hK hP hD hS (tX0_learn l D h o sl wl dS d1 d2 a b1 b2 g kn w sf su la hg hI) (cwV 0 hts gX0_learn rfl rfl rfl hX0_learn ⟨by decide, by decide⟩) rfl rfl rfl hl.1 rfl (Nat.le_of_ble_eq_true rfl) dX0_steps_11 ⟨Nat.le_refl _, Nat.le_refl _⟩ (fun H locs hP hD hS => ?_)
    have hP : va_P D vCl (XW h o sl wl dS d1 d2 a g 1 (fW false a g 8) (xSafe a g) (fW true a g 8) (lay true a g 8) (lay false a g 8) (fLeft a (xSafe a g))) H := hP
    have hD : va_D A (XW h o sl wl dS d1 d2 a g 1 (fW false a g 8) (xSafe a g) (fW true a g 8) (lay true a g 8) (lay false a g 8) (fLeft a (xSafe a g))) := hD
    refine lv_aload_n hx hb dX0_steps_14 rfl (lv_at hl 0 rfl) ?_
    refine lv_aload_n hx hb dX0_steps_15 rfl (lv_at hl 0 rfl) ?_
    refine va_get (D := D) (ci := 0) (v := .int (fW true a g 8)) (C := RX0) (T := TX0) (N := 9) hx hb hts in_X0 hown hK hP 0 rfl rfl 5 (by decide) (hts _ q35) (fun _ h9 => h9) rfl dX0_steps_16 ?_
    refine lv_iload_n hx hb dX0_steps_19 rfl (lv_at hl 1 rfl) ?_
    refine zz_call0 (As := [.int (fW true a g 8), .int (nI j)]) (rest := []) (q0 := 0) (ci := 0) ⟨hx, hb, hml, hown, hts⟩ hA hK hP hD hS (tX0_isIn l D h (fW true a g 8) j (by omega)) (cwV 2 hts gX0_isIn rfl rfl rfl hX0_isIn ⟨by decide, by decide⟩) rfl rfl rfl hl.1 rfl (Nat.le_of_ble_eq_true rfl) dX0_steps_20 ⟨Nat.le_refl _, Nat.le_refl _⟩ (fun H locs hP hD hS => ?_)
    refine lv_if_eq (tgt := 35) hx hb dX0_steps_23 (by decide) (fun c_23 => ?_) (fun c_23 => ?_)
    · have c_23 : (bt (fW true a g 8) j) = false := zz_bI0 c_23
      refine lv_bipush (v := (-2)) hx hb dX0_steps_35 (by decide +kernel) ?_
      exact hret _ _ _ _ _ (zz_eqP ((congrArg (fun z => XZ h o sl wl dS d1 d2 a g z) (if_pos c_5)).symm) hP) (zz_eqD ((congrArg (fun z => XZ h o sl wl dS d1 d2 a g z) (if_pos c_5)).symm) hD) hS (by unfold xNum; rw [if_pos c_5, nI_clamp (by omega), if_neg (by rw [c_23]; decide)]) dX0_steps_37
    · have c_23 : (bt (fW true a g 8) j) = true := zz_bI1 c_23
      refine lv_aload_n hx hb dX0_steps_26 rfl (lv_at hl 0 rfl) ?_
      refine va_get (D := D) (ci := 0) (v := .ref sl) (C := RX0) (T := TX0) (N := 9) hx hb hts in_X0 hown hK hP 0 rfl rfl 6 (by decide) (hts _ q36) (fun _ h9 => h9) rfl dX0_steps_27 ?_
      refine lv_iload_n hx hb dX0_steps_30 rfl (lv_at hl 1 rfl) ?_
      refine zz_bald (k := j) hx hb hK hP 2 1 rfl rfl (by omega) (by decide) dX0_steps_31 ?_
      refine lv_goto (tgt := 37) hx hb dX0_steps_32 (by decide) ?_
      exact hret _ _ _ _ _ (zz_eqP ((congrArg (fun z => XZ h o sl wl dS d1 d2 a g z) (if_pos c_5)).symm) hP) (zz_eqD ((congrArg (fun z => XZ h o sl wl dS d1 d2 a g z) (if_pos c_5)).symm) hD) hS (by unfold xNum; rw [if_pos c_5, nI_clamp (by omega), if_pos c_23]) dX0_steps_37
  · have c_5 : (isS x) = false := zz_bI0 c_5
    refine lv_iconst (v := (-1)) hx hb dX0_steps_8 (by decide +kernel) ?_
    exact hret _ _ _ _ _ (zz_eqP ((congrArg (fun z => XZ h o sl wl dS d1 d2 a g z) (if_neg (by rw [c_5]; decide))).symm) hP) (zz_eqD ((congrArg (fun z => XZ h o sl wl dS d1 d2 a g z) (if_neg (by rw [c_5]; decide))).symm) hD) hS (by unfold xNum; rw [if_neg (by rw [c_5]; decide)]) dX0_steps_9
set_option maxHeartbeats 4000000 in
theorem tX0_luck (l : Launch) (D : va_G) (h o sl wl : Nat) (dS d1 d2 : ClassId) (a b1 b2 : Nat → Int32) (g kn w sf su la : Int32) (hg : s8 g) (hI : XI a g (kn, w, sf, su, b1, b2, la)) (x : Int32) : zI l D yX0_luck cX0_luck 2 .int 4 [.ref h, .int x] (XT dS d1 d2) (XW h o sl wl dS d1 d2 a g kn w sf su b1 b2 la) (xNum false a g x) (XZ h o sl wl dS d1 d2 a g (if isS x = true then xLrn a g else (kn, w, sf, su, b1, b2, la))) := by
  refine zz_I (by decide) (Nat.le_of_ble_eq_true rfl) (rfl) ?_
  intro p e s m args below meth c A Q hx hb hml hown hts hA hK hP hD hS hret ls hl
  have hown : s.vm.findClass RX0 = some m.cls := hown
  have hl : lv_has ls 2 [(0, .ref h), (1, .int x)] := hl
  refine lv_aload_n hx hb dX0_luck_0 rfl (lv_at hl 0 rfl) ?_
  refine lv_iload_n hx hb dX0_luck_1 rfl (lv_at hl 1 rfl) ?_
  refine zz_call0 (As := [.int x]) (rest := []) (q0 := 0) (ci := 0) ⟨hx, hb, hml, hown, hts⟩ hA hK hP hD hS (tX0_isState l D h x) (cwV 1 hts gX0_isState rfl rfl rfl hX0_isState ⟨by decide, by decide⟩) rfl rfl rfl hl.1 rfl (Nat.le_of_ble_eq_true rfl) dX0_luck_2 ⟨Nat.le_refl _, Nat.le_refl _⟩ (fun H locs hP hD hS => ?_)
  refine lv_if_ne (tgt := 10) hx hb dX0_luck_5 (by decide) (fun c_5 => ?_) (fun c_5 => ?_)
  · have c_5 : (isS x) = true := zz_bI1 c_5
    obtain ⟨j, hj, ej⟩ := isS_of c_5
    subst ej
    refine lv_aload_n hx hb dX0_luck_10 rfl (lv_at hl 0 rfl) ?_
    refine zz_callVW (As := []) (rest := []) (q0 := 0) (ci := 0) ⟨hx, hb, hml, hown, hts⟩ hA hK hP hD hS (tX0_learn l D h o sl wl dS d1 d2 a b1 b2 g kn w sf su la hg hI) (cwV 0 hts gX0_learn rfl rfl rfl hX0_learn ⟨by decide, by decide⟩) rfl rfl rfl hl.1 rfl (Nat.le_of_ble_eq_true rfl) dX0_luck_11 ⟨Nat.le_refl _, Nat.le_refl _⟩ (fun H locs hP hD hS => ?_)
    have hP : va_P D vCl (XW h o sl wl dS d1 d2 a g 1 (fW false a g 8) (xSafe a g) (fW true a g 8) (lay true a g 8) (lay false a g 8) (fLeft a (xSafe a g))) H := hP
    have hD : va_D A (XW h o sl wl dS d1 d2 a g 1 (fW false a g 8) (xSafe a g) (fW true a g 8) (lay true a g 8) (lay false a g 8) (fLeft a (xSafe a g))) := hD
    refine lv_aload_n hx hb dX0_luck_14 rfl (lv_at hl 0 rfl) ?_
    refine lv_aload_n hx hb dX0_luck_15 rfl (lv_at hl 0 rfl) ?_
    refine va_get (D := D) (ci := 0) (v := .int (fW false a g 8)) (C := RX0) (T := TX0) (N := 9) hx hb hts in_X0 hown hK hP 0 rfl rfl 3 (by decide) (hts _ q33) (fun _ h9 => h9) rfl dX0_luck_16 ?_
    refine lv_iload_n hx hb dX0_luck_19 rfl (lv_at hl 1 rfl) ?_
    refine zz_call0 (As := [.int (fW false a g 8), .int (nI j)]) (rest := []) (q0 := 0) (ci := 0) ⟨hx, hb, hml, hown, hts⟩ hA hK hP hD hS (tX0_isIn l D h (fW false a g 8) j (by omega)) (cwV 2 hts gX0_isIn rfl rfl rfl hX0_isIn ⟨by decide, by decide⟩) rfl rfl rfl hl.1 rfl (Nat.le_of_ble_eq_true rfl) dX0_luck_20 ⟨Nat.le_refl _, Nat.le_refl _⟩ (fun H locs hP hD hS => ?_)
    refine lv_if_eq (tgt := 35) hx hb dX0_luck_23 (by decide) (fun c_23 => ?_) (fun c_23 => ?_)
    · have c_23 : (bt (fW false a g 8) j) = false := zz_bI0 c_23
      refine lv_bipush (v := (-2)) hx hb dX0_luck_35 (by decide +kernel) ?_
      exact hret _ _ _ _ _ (zz_eqP ((congrArg (fun z => XZ h o sl wl dS d1 d2 a g z) (if_pos c_5)).symm) hP) (zz_eqD ((congrArg (fun z => XZ h o sl wl dS d1 d2 a g z) (if_pos c_5)).symm) hD) hS (by unfold xNum; rw [if_pos c_5, nI_clamp (by omega), if_neg (by rw [c_23]; decide)]) dX0_luck_37
    · have c_23 : (bt (fW false a g 8) j) = true := zz_bI1 c_23
      refine lv_aload_n hx hb dX0_luck_26 rfl (lv_at hl 0 rfl) ?_
      refine va_get (D := D) (ci := 0) (v := .ref wl) (C := RX0) (T := TX0) (N := 9) hx hb hts in_X0 hown hK hP 0 rfl rfl 7 (by decide) (hts _ q37) (fun _ h9 => h9) rfl dX0_luck_27 ?_
      refine lv_iload_n hx hb dX0_luck_30 rfl (lv_at hl 1 rfl) ?_
      refine zz_bald (k := j) hx hb hK hP 3 2 rfl rfl (by omega) (by decide) dX0_luck_31 ?_
      refine lv_goto (tgt := 37) hx hb dX0_luck_32 (by decide) ?_
      exact hret _ _ _ _ _ (zz_eqP ((congrArg (fun z => XZ h o sl wl dS d1 d2 a g z) (if_pos c_5)).symm) hP) (zz_eqD ((congrArg (fun z => XZ h o sl wl dS d1 d2 a g z) (if_pos c_5)).symm) hD) hS (by unfold xNum; rw [if_pos c_5, nI_clamp (by omega), if_pos c_23]) dX0_luck_37
  · have c_5 : (isS x) = false := zz_bI0 c_5
    refine lv_iconst (v := (-1)) hx hb dX0_luck_8 (by decide +kernel) ?_
    exact hret _ _ _ _ _ (zz_eqP ((congrArg (fun z => XZ h o sl wl dS d1 d2 a g z) (if_neg (by rw [c_5]; decide))).symm) hP) (zz_eqD ((congrArg (fun z => XZ h o sl wl dS d1 d2 a g z) (if_neg (by rw [c_5]; decide))).symm) hD) hS (by unfold xNum; rw [if_neg (by rw [c_5]; decide)]) dX0_luck_9
set_option maxHeartbeats 4000000 in
theorem tX0_safeActions (l : Launch) (D : va_G) (h o sl wl : Nat) (dS d1 d2 : ClassId) (a b1 b2 : Nat → Int32) (g kn w sf su la : Int32) (hg : s8 g) (hI : XI a g (kn, w, sf, su, b1, b2, la)) (x : Int32) : zI l D yX0_safeActions cX0_safeActions 4 .int 4 [.ref h, .int x] (XT dS d1 d2) (XW h o sl wl dS d1 d2 a g kn w sf su b1 b2 la) (xSA a g x) (XZ h o sl wl dS d1 d2 a g (if isS x = true then xLrn a g else (kn, w, sf, su, b1, b2, la))) := by
  refine zz_I (by decide) (Nat.le_of_ble_eq_true rfl) (rfl) ?_
  intro p e s m args below meth c A Q hx hb hml hown hts hA hK hP hD hS hret ls hl
  have hown : s.vm.findClass RX0 = some m.cls := hown
  have hl : lv_has ls 4 [(0, .ref h), (1, .int x)] := hl
  refine lv_aload_n hx hb dX0_safeActions_0 rfl (lv_at hl 0 rfl) ?_
  refine lv_iload_n hx hb dX0_safeActions_1 rfl (lv_at hl 1 rfl) ?_
  refine zz_call0 (As := [.int x]) (rest := []) (q0 := 0) (ci := 0) ⟨hx, hb, hml, hown, hts⟩ hA hK hP hD hS (tX0_isState l D h x) (cwV 1 hts gX0_isState rfl rfl rfl hX0_isState ⟨by decide, by decide⟩) rfl rfl rfl hl.1 rfl (Nat.le_of_ble_eq_true rfl) dX0_safeActions_2 ⟨Nat.le_refl _, Nat.le_refl _⟩ (fun H locs hP hD hS => ?_)
  refine lv_if_ne (tgt := 10) hx hb dX0_safeActions_5 (by decide) (fun c_5 => ?_) (fun c_5 => ?_)
  · have c_5 : (isS x) = true := zz_bI1 c_5
    obtain ⟨j, hj, ej⟩ := isS_of c_5
    subst ej
    refine lv_aload_n hx hb dX0_safeActions_10 rfl (lv_at hl 0 rfl) ?_
    refine zz_callVW (As := []) (rest := []) (q0 := 0) (ci := 0) ⟨hx, hb, hml, hown, hts⟩ hA hK hP hD hS (tX0_learn l D h o sl wl dS d1 d2 a b1 b2 g kn w sf su la hg hI) (cwV 0 hts gX0_learn rfl rfl rfl hX0_learn ⟨by decide, by decide⟩) rfl rfl rfl hl.1 rfl (Nat.le_of_ble_eq_true rfl) dX0_safeActions_11 ⟨Nat.le_refl _, Nat.le_refl _⟩ (fun H locs hP hD hS => ?_)
    have hP : va_P D vCl (XW h o sl wl dS d1 d2 a g 1 (fW false a g 8) (xSafe a g) (fW true a g 8) (lay true a g 8) (lay false a g 8) (fLeft a (xSafe a g))) H := hP
    have hD : va_D A (XW h o sl wl dS d1 d2 a g 1 (fW false a g 8) (xSafe a g) (fW true a g 8) (lay true a g 8) (lay false a g 8) (fLeft a (xSafe a g))) := hD
    refine lv_aload_n hx hb dX0_safeActions_14 rfl (lv_at hl 0 rfl) ?_
    refine lv_aload_n hx hb dX0_safeActions_15 rfl (lv_at hl 0 rfl) ?_
    refine va_get (D := D) (ci := 0) (v := .int g) (C := RX0) (T := TX0) (N := 9) hx hb hts in_X0 hown hK hP 0 rfl rfl 1 (by decide) (hts _ q31) (fun _ h9 => h9) rfl dX0_safeActions_16 ?_
    refine lv_iload_n hx hb dX0_safeActions_19 rfl (lv_at hl 1 rfl) ?_
    refine zz_call0 (As := [.int g, .int (nI j)]) (rest := []) (q0 := 0) (ci := 0) ⟨hx, hb, hml, hown, hts⟩ hA hK hP hD hS (tX0_isIn l D h g j (by omega)) (cwV 2 hts gX0_isIn rfl rfl rfl hX0_isIn ⟨by decide, by decide⟩) rfl rfl rfl hl.1 rfl (Nat.le_of_ble_eq_true rfl) dX0_safeActions_20 ⟨Nat.le_refl _, Nat.le_refl _⟩ (fun H locs hP hD hS => ?_)
    refine lv_if_ne (tgt := 38) hx hb dX0_safeActions_23 (by decide) (fun c_23 => ?_) (fun c_23 => ?_)
    · have c_23 : (bt g j) = true := zz_bI1 c_23
      refine lv_iconst (v := 0) hx hb dX0_safeActions_38 (by decide +kernel) ?_
      exact hret _ _ _ _ _ (zz_eqP ((congrArg (fun z => XZ h o sl wl dS d1 d2 a g z) (if_pos c_5)).symm) hP) (zz_eqD ((congrArg (fun z => XZ h o sl wl dS d1 d2 a g z) (if_pos c_5)).symm) hD) hS (by unfold xSA; rw [if_pos c_5, nI_clamp (by omega), if_pos (by rw [c_23]; rfl)]) dX0_safeActions_39
    · have c_23 : (bt g j) = false := zz_bI0 c_23
      refine lv_aload_n hx hb dX0_safeActions_26 rfl (lv_at hl 0 rfl) ?_
      refine lv_aload_n hx hb dX0_safeActions_27 rfl (lv_at hl 0 rfl) ?_
      refine va_get (D := D) (ci := 0) (v := .int (xSafe a g)) (C := RX0) (T := TX0) (N := 9) hx hb hts in_X0 hown hK hP 0 rfl rfl 4 (by decide) (hts _ q34) (fun _ h9 => h9) rfl dX0_safeActions_28 ?_
      refine lv_iload_n hx hb dX0_safeActions_31 rfl (lv_at hl 1 rfl) ?_
      refine zz_call0 (As := [.int (xSafe a g), .int (nI j)]) (rest := []) (q0 := 0) (ci := 0) ⟨hx, hb, hml, hown, hts⟩ hA hK hP hD hS (tX0_isIn l D h (xSafe a g) j (by omega)) (cwV 2 hts gX0_isIn rfl rfl rfl hX0_isIn ⟨by decide, by decide⟩) rfl rfl rfl hl.1 rfl (Nat.le_of_ble_eq_true rfl) dX0_safeActions_32 ⟨Nat.le_refl _, Nat.le_refl _⟩ (fun H locs hP hD hS => ?_)
      refine lv_if_ne (tgt := 40) hx hb dX0_safeActions_35 (by decide) (fun c_35 => ?_) (fun c_35 => ?_)
      · have c_35 : (bt (xSafe a g) j) = true := zz_bI1 c_35
        refine lv_iconst (v := 0) hx hb dX0_safeActions_40 (by decide +kernel) ?_
        refine lv_istore_n (lv' := [(2, .int 0), (0, .ref h), (1, .int (nI j))]) hx hb dX0_safeActions_41 rfl hl (by decide) rfl (fun ls hl => ?_)
        refine lv_iconst (v := 0) hx hb dX0_safeActions_42 (by decide +kernel) ?_
        refine lv_istore_n (lv' := [(3, .int 0), (2, .int 0), (0, .ref h), (1, .int (nI j))]) hx hb dX0_safeActions_43 rfl hl (by decide) rfl (fun ls hl => ?_)
        have loop_44 : ∀ (n q : Nat) (x1 : Int32), q ≤ 3 → 3 < q + n → (x1 = lp (saSt a (xSafe a g) j) 0 q) → ∀ (H : Heap) (locs : List Loc), va_P D vCl (XW h o sl wl dS d1 d2 a g 1 (fW false a g 8) (xSafe a g) (fW true a g 8) (lay true a g 8) (lay false a g 8) (fLeft a (xSafe a g))) H → va_D A (XW h o sl wl dS d1 d2 a g 1 (fW false a g 8) (xSafe a g) (fW true a g 8) (lay true a g 8) (lay false a g 8) (fLeft a (xSafe a g))) → va_S A s.heap H locs → ∀ (ls : Array Slot), lv_has ls 4 [(0, .ref h), (1, .int (nI j)), (2, .int x1), (3, .int (nI q))] → W p l e (zR 4) s m args below meth c H locs 0 0 Q (F0 m 44 ls []) := by
          intro n
          induction n with
          | zero =>
            intro q x1 h1 h2
            exact absurd h2 (by omega)
          | succ n ih_44 =>
            intro q x1 hi_44 hn_44 v_1 H locs hP hD hS ls hl
            refine lv_iload_n hx hb dX0_safeActions_44 rfl (lv_at hl 3 rfl) ?_
            refine lv_iconst (v := nI 3) hx hb dX0_safeActions_45 (by decide +kernel) ?_
            refine lv_icmp_ge (tgt := 77) hx hb dX0_safeActions_46 (by decide) (fun c_46 => ?_) (fun c_46 => ?_)
            · have c_46 : 3 ≤ q := zz_cle (by omega) (by omega) c_46
              refine lv_iload_n hx hb dX0_safeActions_77 rfl (lv_at hl 2 rfl) ?_
              exact hret _ _ _ _ _ (zz_eqP ((congrArg (fun z => XZ h o sl wl dS d1 d2 a g z) (if_pos c_5)).symm) hP) (zz_eqD ((congrArg (fun z => XZ h o sl wl dS d1 d2 a g z) (if_pos c_5)).symm) hD) hS (by unfold xSA; rw [if_pos c_5, nI_clamp (by omega), if_neg (by rw [c_23, c_35]; decide), v_1, show q = 3 by omega]; rw [saF]) dX0_safeActions_78
            · have c_46 : q < 3 := zz_cnle (by omega) (by omega) c_46
              refine lv_aload_n hx hb dX0_safeActions_49 rfl (lv_at hl 0 rfl) ?_
              refine lv_iconst (v := nI 3) hx hb dX0_safeActions_50 (by decide +kernel) ?_
              refine lv_iload_n hx hb dX0_safeActions_51 rfl (lv_at hl 1 rfl) ?_
              refine lv_imul hx hb dX0_safeActions_52 ?_
              refine zz_top (z := nI (3 * j)) (pk_mul _ _) ?_
              refine lv_iload_n hx hb dX0_safeActions_53 rfl (lv_at hl 3 rfl) ?_
              refine lv_iadd hx hb dX0_safeActions_54 ?_
              refine zz_top (z := nI (3 * j + q)) (nI_add _ _) ?_
              refine lv_aload_n hx hb dX0_safeActions_55 rfl (lv_at hl 0 rfl) ?_
              refine va_get (D := D) (ci := 0) (v := .int (xSafe a g)) (C := RX0) (T := TX0) (N := 9) hx hb hts in_X0 hown hK hP 0 rfl rfl 4 (by decide) (hts _ q34) (fun _ h9 => h9) rfl dX0_safeActions_56 ?_
              refine zz_callW (As := [.int (nI (3 * j + q)), .int (xSafe a g)]) (rest := []) (q0 := 0) (ci := 0) ⟨hx, hb, hml, hown, hts⟩ hA hK hP hD hS (tX0_leadsInto l D h o sl wl dS d1 d2 a (lay true a g 8) (lay false a g 8) g 1 (fW false a g 8) (xSafe a g) (fW true a g 8) (fLeft a (xSafe a g)) (3 * j + q) (xSafe a g) (by omega)) (cwV 2 hts gX0_leadsInto rfl rfl rfl hX0_leadsInto ⟨by decide, by decide⟩) rfl rfl rfl hl.1 rfl (Nat.le_of_ble_eq_true rfl) dX0_safeActions_59 ⟨Nat.le_refl _, Nat.le_refl _⟩ (fun H locs hP hD hS => ?_)
              refine lv_if_eq (tgt := 71) hx hb dX0_safeActions_62 (by decide) (fun c_62 => ?_) (fun c_62 => ?_)
              · have c_62 : (ldB (a (3 * j + q)) (xSafe a g)) = false := zz_bI0 c_62
                refine lv_iinc (v := nI (q + 1)) (lv' := [(3, .int (nI (q + 1))), (0, .ref h), (1, .int (nI j)), (2, .int x1)]) hx hb dX0_safeActions_71 hl (k := 3) rfl (zz_i1 _) (by decide) rfl (fun ls hl => ?_)
                refine lv_goto (tgt := 44) hx hb dX0_safeActions_74 (by decide) ?_
                exact ih_44 (q + 1) x1 (by omega) (by omega) (by rw [lp_s, ← v_1, sa_0 c_62]) _ _ hP hD hS ls (lv_sub hl [1, 2, 3, 0] rfl)
              · have c_62 : (ldB (a (3 * j + q)) (xSafe a g)) = true := zz_bI1 c_62
                refine lv_iload_n hx hb dX0_safeActions_65 rfl (lv_at hl 2 rfl) ?_
                refine lv_iconst (v := 1) hx hb dX0_safeActions_66 (by decide +kernel) ?_
                refine lv_iload_n hx hb dX0_safeActions_67 rfl (lv_at hl 3 rfl) ?_
                refine lv_ishl hx hb dX0_safeActions_68 ?_
                refine zz_top (z := one q) (rfl) ?_
                refine lv_ior hx hb dX0_safeActions_69 ?_
                refine lv_istore_n (lv' := [(2, .int (x1 ||| (one q))), (0, .ref h), (1, .int (nI j)), (3, .int (nI q))]) hx hb dX0_safeActions_70 rfl hl (by decide) rfl (fun ls hl => ?_)
                refine lv_iinc (v := nI (q + 1)) (lv' := [(3, .int (nI (q + 1))), (2, .int (x1 ||| (one q))), (0, .ref h), (1, .int (nI j))]) hx hb dX0_safeActions_71 hl (k := 3) rfl (zz_i1 _) (by decide) rfl (fun ls hl => ?_)
                refine lv_goto (tgt := 44) hx hb dX0_safeActions_74 (by decide) ?_
                exact ih_44 (q + 1) (x1 ||| (one q)) (by omega) (by omega) (by rw [lp_s, ← v_1, sa_1 c_62]) _ _ hP hD hS ls (lv_sub hl [2, 3, 1, 0] rfl)
        exact loop_44 (3 + 1) 0 0 (by omega) (by omega) (rfl) _ _ hP hD hS ls (lv_sub hl [2, 3, 1, 0] rfl)
      · have c_35 : (bt (xSafe a g) j) = false := zz_bI0 c_35
        refine lv_iconst (v := 0) hx hb dX0_safeActions_38 (by decide +kernel) ?_
        exact hret _ _ _ _ _ (zz_eqP ((congrArg (fun z => XZ h o sl wl dS d1 d2 a g z) (if_pos c_5)).symm) hP) (zz_eqD ((congrArg (fun z => XZ h o sl wl dS d1 d2 a g z) (if_pos c_5)).symm) hD) hS (by unfold xSA; rw [if_pos c_5, nI_clamp (by omega), if_pos (by rw [c_35]; simp)]) dX0_safeActions_39
  · have c_5 : (isS x) = false := zz_bI0 c_5
    refine lv_iconst (v := 0) hx hb dX0_safeActions_8 (by decide +kernel) ?_
    exact hret _ _ _ _ _ (zz_eqP ((congrArg (fun z => XZ h o sl wl dS d1 d2 a g z) (if_neg (by rw [c_5]; decide))).symm) hP) (zz_eqD ((congrArg (fun z => XZ h o sl wl dS d1 d2 a g z) (if_neg (by rw [c_5]; decide))).symm) hD) hS (by unfold xSA; rw [if_neg (by rw [c_5]; decide)]) dX0_safeActions_9
set_option maxHeartbeats 4000000 in
theorem tX0_keepsTo (l : Launch) (D : va_G) (h o sl wl : Nat) (dS d1 d2 : ClassId) (a b1 b2 : Nat → Int32) (g kn w sf su la : Int32) (k : Nat) (ly : Int32) (hk : k < 24) : zI l D yX0_keepsTo cX0_keepsTo 4 .boolean 1 [.ref h, .int (nI k), .int ly] (XT dS d1 d2) (XW h o sl wl dS d1 d2 a g kn w sf su b1 b2 la) (bI (ktB (a k) su b1 ly)) (XW h o sl wl dS d1 d2 a g kn w sf su b1 b2 la) := by
  refine zz_I (by decide) (Nat.le_of_ble_eq_true rfl) (zz_bIn _) ?_
  intro p e s m args below meth c A Q hx hb hml hown hts hA hK hP hD hS hret ls hl
  have hown : s.vm.findClass RX0 = some m.cls := hown
  have hl : lv_has ls 4 [(0, .ref h), (1, .int (nI k)), (2, .int ly)] := hl
  refine lv_aload_n hx hb dX0_keepsTo_0 rfl (lv_at hl 0 rfl) ?_
  refine lv_iload_n hx hb dX0_keepsTo_1 rfl (lv_at hl 1 rfl) ?_
  refine lv_aload_n hx hb dX0_keepsTo_2 rfl (lv_at hl 0 rfl) ?_
  refine va_get (D := D) (ci := 0) (v := .int su) (C := RX0) (T := TX0) (N := 9) hx hb hts in_X0 hown hK hP 0 rfl rfl 5 (by decide) (hts _ q35) (fun _ h9 => h9) rfl dX0_keepsTo_3 ?_
  refine zz_callW (As := [.int (nI k), .int su]) (rest := []) (q0 := 0) (ci := 0) ⟨hx, hb, hml, hown, hts⟩ hA hK hP hD hS (tX0_leadsInto l D h o sl wl dS d1 d2 a b1 b2 g kn w sf su la k su (by omega)) (cwV 2 hts gX0_leadsInto rfl rfl rfl hX0_leadsInto ⟨by decide, by decide⟩) rfl rfl rfl hl.1 rfl (Nat.le_of_ble_eq_true rfl) dX0_keepsTo_6 ⟨Nat.le_refl _, Nat.le_refl _⟩ (fun H locs hP hD hS => ?_)
  refine lv_if_ne (tgt := 14) hx hb dX0_keepsTo_9 (by decide) (fun c_9 => ?_) (fun c_9 => ?_)
  · have c_9 : (ldB (a k) su) = true := zz_bI1 c_9
    refine lv_iconst (v := 0) hx hb dX0_keepsTo_14 (by decide +kernel) ?_
    refine lv_istore_n (lv' := [(3, .int 0), (0, .ref h), (1, .int (nI k)), (2, .int ly)]) hx hb dX0_keepsTo_15 rfl hl (by decide) rfl (fun ls hl => ?_)
    have loop_16 : ∀ (n t : Nat), t ≤ 8 → 8 < t + n → (allB (fun t => !bt (a k) t || decide (b1 t < ly)) t = true) → ∀ (H : Heap) (locs : List Loc), va_P D vCl (XW h o sl wl dS d1 d2 a g kn w sf su b1 b2 la) H → va_D A (XW h o sl wl dS d1 d2 a g kn w sf su b1 b2 la) → va_S A s.heap H locs → ∀ (ls : Array Slot), lv_has ls 4 [(0, .ref h), (1, .int (nI k)), (2, .int ly), (3, .int (nI t))] → W p l e (zR 1) s m args below meth c H locs 0 0 Q (F0 m 16 ls []) := by
      intro n
      induction n with
      | zero =>
        intro t h1 h2
        exact absurd h2 (by omega)
      | succ n ih_16 =>
        intro t hi_16 hn_16 v_1 H locs hP hD hS ls hl
        refine lv_iload_n hx hb dX0_keepsTo_16 rfl (lv_at hl 3 rfl) ?_
        refine lv_bipush (v := nI 8) hx hb dX0_keepsTo_17 (by decide +kernel) ?_
        refine lv_icmp_ge (tgt := 54) hx hb dX0_keepsTo_19 (by decide) (fun c_19 => ?_) (fun c_19 => ?_)
        · have c_19 : 8 ≤ t := zz_cle (by omega) (by omega) c_19
          refine lv_iconst (v := 1) hx hb dX0_keepsTo_54 (by decide +kernel) ?_
          exact hret _ _ _ _ _ hP hD hS (by rw [show t = 8 by omega] at v_1; unfold ktB; rw [c_9, v_1]; rfl) dX0_keepsTo_55
        · have c_19 : t < 8 := zz_cnle (by omega) (by omega) c_19
          refine lv_aload_n hx hb dX0_keepsTo_22 rfl (lv_at hl 0 rfl) ?_
          refine lv_aload_n hx hb dX0_keepsTo_23 rfl (lv_at hl 0 rfl) ?_
          refine va_get (D := D) (ci := 0) (v := .ref o) (C := RX0) (T := TX0) (N := 9) hx hb hts in_X0 hown hK hP 0 rfl rfl 0 (by decide) (hts _ q30) (fun _ h9 => h9) rfl dX0_keepsTo_24 ?_
          refine lv_iload_n hx hb dX0_keepsTo_27 rfl (lv_at hl 1 rfl) ?_
          refine zz_sald (k := k) hx hb hK hP 1 0 rfl rfl (by omega) (by decide) dX0_keepsTo_28 ?_
          refine lv_iload_n hx hb dX0_keepsTo_29 rfl (lv_at hl 3 rfl) ?_
          refine zz_call0 (As := [.int (a k), .int (nI t)]) (rest := []) (q0 := 0) (ci := 0) ⟨hx, hb, hml, hown, hts⟩ hA hK hP hD hS (tX0_isIn l D h (a k) t (by omega)) (cwV 2 hts gX0_isIn rfl rfl rfl hX0_isIn ⟨by decide, by decide⟩) rfl rfl rfl hl.1 rfl (Nat.le_of_ble_eq_true rfl) dX0_keepsTo_30 ⟨Nat.le_refl _, Nat.le_refl _⟩ (fun H locs hP hD hS => ?_)
          refine lv_if_eq (tgt := 48) hx hb dX0_keepsTo_33 (by decide) (fun c_33 => ?_) (fun c_33 => ?_)
          · have c_33 : (bt (a k) t) = false := zz_bI0 c_33
            refine lv_iinc (v := nI (t + 1)) (lv' := [(3, .int (nI (t + 1))), (0, .ref h), (1, .int (nI k)), (2, .int ly)]) hx hb dX0_keepsTo_48 hl (k := 3) rfl (zz_i1 _) (by decide) rfl (fun ls hl => ?_)
            refine lv_goto (tgt := 16) hx hb dX0_keepsTo_51 (by decide) ?_
            exact ih_16 (t + 1) (by omega) (by omega) (all_s v_1 (by show (!bt (a k) t || decide (b1 t < ly)) = true; rw [c_33]; simp)) _ _ hP hD hS ls (lv_sub hl [1, 2, 3, 0] rfl)
          · have c_33 : (bt (a k) t) = true := zz_bI1 c_33
            refine lv_aload_n hx hb dX0_keepsTo_36 rfl (lv_at hl 0 rfl) ?_
            refine va_get (D := D) (ci := 0) (v := .ref sl) (C := RX0) (T := TX0) (N := 9) hx hb hts in_X0 hown hK hP 0 rfl rfl 6 (by decide) (hts _ q36) (fun _ h9 => h9) rfl dX0_keepsTo_37 ?_
            refine lv_iload_n hx hb dX0_keepsTo_40 rfl (lv_at hl 3 rfl) ?_
            refine zz_bald (k := t) hx hb hK hP 2 1 rfl rfl (by omega) (by decide) dX0_keepsTo_41 ?_
            refine lv_iload_n hx hb dX0_keepsTo_42 rfl (lv_at hl 2 rfl) ?_
            refine lv_icmp_lt (tgt := 48) hx hb dX0_keepsTo_43 (by decide) (fun c_43 => ?_) (fun c_43 => ?_)
            · have c_43 := c_43
              refine lv_iinc (v := nI (t + 1)) (lv' := [(3, .int (nI (t + 1))), (0, .ref h), (1, .int (nI k)), (2, .int ly)]) hx hb dX0_keepsTo_48 hl (k := 3) rfl (zz_i1 _) (by decide) rfl (fun ls hl => ?_)
              refine lv_goto (tgt := 16) hx hb dX0_keepsTo_51 (by decide) ?_
              exact ih_16 (t + 1) (by omega) (by omega) (all_s v_1 (by show (!bt (a k) t || decide (b1 t < ly)) = true; rw [decide_eq_true c_43]; simp)) _ _ hP hD hS ls (lv_sub hl [1, 2, 3, 0] rfl)
            · have c_43 := c_43
              refine lv_iconst (v := 0) hx hb dX0_keepsTo_46 (by decide +kernel) ?_
              exact hret _ _ _ _ _ hP hD hS (by unfold ktB; rw [all_0 (k := t) (by show (!bt (a k) t || decide (b1 t < ly)) = false; rw [c_33, decide_eq_false c_43]; rfl) (by omega), Bool.and_false]; rfl) dX0_keepsTo_47
    exact loop_16 (8 + 1) 0 (by omega) (by omega) (rfl) _ _ hP hD hS ls (lv_sub hl [1, 2, 3, 0] rfl)
  · have c_9 : (ldB (a k) su) = false := zz_bI0 c_9
    refine lv_iconst (v := 0) hx hb dX0_keepsTo_12 (by decide +kernel) ?_
    exact hret _ _ _ _ _ hP hD hS (by unfold ktB; rw [c_9]; rfl) dX0_keepsTo_13
set_option maxHeartbeats 4000000 in
theorem tX0_sureAction (l : Launch) (D : va_G) (h o sl wl : Nat) (dS d1 d2 : ClassId) (a b1 b2 : Nat → Int32) (g kn w sf su la : Int32) (hg : s8 g) (hI : XI a g (kn, w, sf, su, b1, b2, la)) (x : Int32) : zI l D yX0_sureAction cX0_sureAction 3 .int 4 [.ref h, .int x] (XT dS d1 d2) (XW h o sl wl dS d1 d2 a g kn w sf su b1 b2 la) (xSu a g x) (XZ h o sl wl dS d1 d2 a g (if isS x = true then xLrn a g else (kn, w, sf, su, b1, b2, la))) := by
  refine zz_I (by decide) (Nat.le_of_ble_eq_true rfl) (rfl) ?_
  intro p e s m args below meth c A Q hx hb hml hown hts hA hK hP hD hS hret ls hl
  have hown : s.vm.findClass RX0 = some m.cls := hown
  have hl : lv_has ls 3 [(0, .ref h), (1, .int x)] := hl
  refine lv_aload_n hx hb dX0_sureAction_0 rfl (lv_at hl 0 rfl) ?_
  refine lv_iload_n hx hb dX0_sureAction_1 rfl (lv_at hl 1 rfl) ?_
  refine zz_call0 (As := [.int x]) (rest := []) (q0 := 0) (ci := 0) ⟨hx, hb, hml, hown, hts⟩ hA hK hP hD hS (tX0_isState l D h x) (cwV 1 hts gX0_isState rfl rfl rfl hX0_isState ⟨by decide, by decide⟩) rfl rfl rfl hl.1 rfl (Nat.le_of_ble_eq_true rfl) dX0_sureAction_2 ⟨Nat.le_refl _, Nat.le_refl _⟩ (fun H locs hP hD hS => ?_)
  refine lv_if_ne (tgt := 11) hx hb dX0_sureAction_5 (by decide) (fun c_5 => ?_) (fun c_5 => ?_)
  · have c_5 : (isS x) = true := zz_bI1 c_5
    obtain ⟨j, hj, ej⟩ := isS_of c_5
    subst ej
    refine lv_aload_n hx hb dX0_sureAction_11 rfl (lv_at hl 0 rfl) ?_
    refine zz_callVW (As := []) (rest := []) (q0 := 0) (ci := 0) ⟨hx, hb, hml, hown, hts⟩ hA hK hP hD hS (tX0_learn l D h o sl wl dS d1 d2 a b1 b2 g kn w sf su la hg hI) (cwV 0 hts gX0_learn rfl rfl rfl hX0_learn ⟨by decide, by decide⟩) rfl rfl rfl hl.1 rfl (Nat.le_of_ble_eq_true rfl) dX0_sureAction_12 ⟨Nat.le_refl _, Nat.le_refl _⟩ (fun H locs hP hD hS => ?_)
    have hP : va_P D vCl (XW h o sl wl dS d1 d2 a g 1 (fW false a g 8) (xSafe a g) (fW true a g 8) (lay true a g 8) (lay false a g 8) (fLeft a (xSafe a g))) H := hP
    have hD : va_D A (XW h o sl wl dS d1 d2 a g 1 (fW false a g 8) (xSafe a g) (fW true a g 8) (lay true a g 8) (lay false a g 8) (fLeft a (xSafe a g))) := hD
    refine lv_aload_n hx hb dX0_sureAction_15 rfl (lv_at hl 0 rfl) ?_
    refine lv_aload_n hx hb dX0_sureAction_16 rfl (lv_at hl 0 rfl) ?_
    refine va_get (D := D) (ci := 0) (v := .int g) (C := RX0) (T := TX0) (N := 9) hx hb hts in_X0 hown hK hP 0 rfl rfl 1 (by decide) (hts _ q31) (fun _ h9 => h9) rfl dX0_sureAction_17 ?_
    refine lv_iload_n hx hb dX0_sureAction_20 rfl (lv_at hl 1 rfl) ?_
    refine zz_call0 (As := [.int g, .int (nI j)]) (rest := []) (q0 := 0) (ci := 0) ⟨hx, hb, hml, hown, hts⟩ hA hK hP hD hS (tX0_isIn l D h g j (by omega)) (cwV 2 hts gX0_isIn rfl rfl rfl hX0_isIn ⟨by decide, by decide⟩) rfl rfl rfl hl.1 rfl (Nat.le_of_ble_eq_true rfl) dX0_sureAction_21 ⟨Nat.le_refl _, Nat.le_refl _⟩ (fun H locs hP hD hS => ?_)
    refine lv_if_ne (tgt := 39) hx hb dX0_sureAction_24 (by decide) (fun c_24 => ?_) (fun c_24 => ?_)
    · have c_24 : (bt g j) = true := zz_bI1 c_24
      refine lv_bipush (v := (-2)) hx hb dX0_sureAction_39 (by decide +kernel) ?_
      exact hret _ _ _ _ _ (zz_eqP ((congrArg (fun z => XZ h o sl wl dS d1 d2 a g z) (if_pos c_5)).symm) hP) (zz_eqD ((congrArg (fun z => XZ h o sl wl dS d1 d2 a g z) (if_pos c_5)).symm) hD) hS (by unfold xSu; rw [if_pos c_5, nI_clamp (by omega), if_pos (by rw [c_24]; rfl)]) dX0_sureAction_41
    · have c_24 : (bt g j) = false := zz_bI0 c_24
      refine lv_aload_n hx hb dX0_sureAction_27 rfl (lv_at hl 0 rfl) ?_
      refine lv_aload_n hx hb dX0_sureAction_28 rfl (lv_at hl 0 rfl) ?_
      refine va_get (D := D) (ci := 0) (v := .int (fW true a g 8)) (C := RX0) (T := TX0) (N := 9) hx hb hts in_X0 hown hK hP 0 rfl rfl 5 (by decide) (hts _ q35) (fun _ h9 => h9) rfl dX0_sureAction_29 ?_
      refine lv_iload_n hx hb dX0_sureAction_32 rfl (lv_at hl 1 rfl) ?_
      refine zz_call0 (As := [.int (fW true a g 8), .int (nI j)]) (rest := []) (q0 := 0) (ci := 0) ⟨hx, hb, hml, hown, hts⟩ hA hK hP hD hS (tX0_isIn l D h (fW true a g 8) j (by omega)) (cwV 2 hts gX0_isIn rfl rfl rfl hX0_isIn ⟨by decide, by decide⟩) rfl rfl rfl hl.1 rfl (Nat.le_of_ble_eq_true rfl) dX0_sureAction_33 ⟨Nat.le_refl _, Nat.le_refl _⟩ (fun H locs hP hD hS => ?_)
      refine lv_if_ne (tgt := 42) hx hb dX0_sureAction_36 (by decide) (fun c_36 => ?_) (fun c_36 => ?_)
      · have c_36 : (bt (fW true a g 8) j) = true := zz_bI1 c_36
        refine lv_iconst (v := 0) hx hb dX0_sureAction_42 (by decide +kernel) ?_
        refine lv_istore_n (lv' := [(2, .int 0), (0, .ref h), (1, .int (nI j))]) hx hb dX0_sureAction_43 rfl hl (by decide) rfl (fun ls hl => ?_)
        have loop_44 : ∀ (n q : Nat), q ≤ 3 → 3 < q + n → (∀ t, t < q → ktB (a (3 * j + t)) (fW true a g 8) (lay true a g 8) (lay true a g 8 j) = false) → ∀ (H : Heap) (locs : List Loc), va_P D vCl (XW h o sl wl dS d1 d2 a g 1 (fW false a g 8) (xSafe a g) (fW true a g 8) (lay true a g 8) (lay false a g 8) (fLeft a (xSafe a g))) H → va_D A (XW h o sl wl dS d1 d2 a g 1 (fW false a g 8) (xSafe a g) (fW true a g 8) (lay true a g 8) (lay false a g 8) (fLeft a (xSafe a g))) → va_S A s.heap H locs → ∀ (ls : Array Slot), lv_has ls 3 [(0, .ref h), (1, .int (nI j)), (2, .int (nI q))] → W p l e (zR 4) s m args below meth c H locs 0 0 Q (F0 m 44 ls []) := by
          intro n
          induction n with
          | zero =>
            intro q h1 h2
            exact absurd h2 (by omega)
          | succ n ih_44 =>
            intro q hi_44 hn_44 v_1 H locs hP hD hS ls hl
            refine lv_iload_n hx hb dX0_sureAction_44 rfl (lv_at hl 2 rfl) ?_
            refine lv_iconst (v := nI 3) hx hb dX0_sureAction_45 (by decide +kernel) ?_
            refine lv_icmp_ge (tgt := 75) hx hb dX0_sureAction_46 (by decide) (fun c_46 => ?_) (fun c_46 => ?_)
            · have c_46 : 3 ≤ q := zz_cle (by omega) (by omega) c_46
              refine lv_bipush (v := (-2)) hx hb dX0_sureAction_75 (by decide +kernel) ?_
              exact hret _ _ _ _ _ (zz_eqP ((congrArg (fun z => XZ h o sl wl dS d1 d2 a g z) (if_pos c_5)).symm) hP) (zz_eqD ((congrArg (fun z => XZ h o sl wl dS d1 d2 a g z) (if_pos c_5)).symm) hD) hS (by unfold xSu; rw [if_pos c_5, nI_clamp (by omega), if_neg (by rw [c_24, c_36]; decide)]; exact fst3_0 (fun t ht => v_1 t (by omega)); rw []) dX0_sureAction_77
            · have c_46 : q < 3 := zz_cnle (by omega) (by omega) c_46
              refine lv_aload_n hx hb dX0_sureAction_49 rfl (lv_at hl 0 rfl) ?_
              refine lv_iconst (v := nI 3) hx hb dX0_sureAction_50 (by decide +kernel) ?_
              refine lv_iload_n hx hb dX0_sureAction_51 rfl (lv_at hl 1 rfl) ?_
              refine lv_imul hx hb dX0_sureAction_52 ?_
              refine zz_top (z := nI (3 * j)) (pk_mul _ _) ?_
              refine lv_iload_n hx hb dX0_sureAction_53 rfl (lv_at hl 2 rfl) ?_
              refine lv_iadd hx hb dX0_sureAction_54 ?_
              refine zz_top (z := nI (3 * j + q)) (nI_add _ _) ?_
              refine lv_aload_n hx hb dX0_sureAction_55 rfl (lv_at hl 0 rfl) ?_
              refine va_get (D := D) (ci := 0) (v := .ref sl) (C := RX0) (T := TX0) (N := 9) hx hb hts in_X0 hown hK hP 0 rfl rfl 6 (by decide) (hts _ q36) (fun _ h9 => h9) rfl dX0_sureAction_56 ?_
              refine lv_iload_n hx hb dX0_sureAction_59 rfl (lv_at hl 1 rfl) ?_
              refine zz_bald (k := j) hx hb hK hP 2 1 rfl rfl (by omega) (by decide) dX0_sureAction_60 ?_
              refine zz_callW (As := [.int (nI (3 * j + q)), .int ((lay true a g 8) j)]) (rest := []) (q0 := 0) (ci := 0) ⟨hx, hb, hml, hown, hts⟩ hA hK hP hD hS (tX0_keepsTo l D h o sl wl dS d1 d2 a (lay true a g 8) (lay false a g 8) g 1 (fW false a g 8) (xSafe a g) (fW true a g 8) (fLeft a (xSafe a g)) (3 * j + q) ((lay true a g 8) j) (by omega)) (cwV 2 hts gX0_keepsTo rfl rfl rfl hX0_keepsTo ⟨by decide, by decide⟩) rfl rfl rfl hl.1 rfl (Nat.le_of_ble_eq_true rfl) dX0_sureAction_61 ⟨Nat.le_refl _, Nat.le_refl _⟩ (fun H locs hP hD hS => ?_)
              refine lv_if_eq (tgt := 69) hx hb dX0_sureAction_64 (by decide) (fun c_64 => ?_) (fun c_64 => ?_)
              · have c_64 : (ktB (a (3 * j + q)) (fW true a g 8) (lay true a g 8) ((lay true a g 8) j)) = false := zz_bI0 c_64
                refine lv_iinc (v := nI (q + 1)) (lv' := [(2, .int (nI (q + 1))), (0, .ref h), (1, .int (nI j))]) hx hb dX0_sureAction_69 hl (k := 2) rfl (zz_i1 _) (by decide) rfl (fun ls hl => ?_)
                refine lv_goto (tgt := 44) hx hb dX0_sureAction_72 (by decide) ?_
                exact ih_44 (q + 1) (by omega) (by omega) (lt_s v_1 c_64) _ _ hP hD hS ls (lv_sub hl [1, 2, 0] rfl)
              · have c_64 : (ktB (a (3 * j + q)) (fW true a g 8) (lay true a g 8) ((lay true a g 8) j)) = true := zz_bI1 c_64
                refine lv_iload_n hx hb dX0_sureAction_67 rfl (lv_at hl 2 rfl) ?_
                exact hret _ _ _ _ _ (zz_eqP ((congrArg (fun z => XZ h o sl wl dS d1 d2 a g z) (if_pos c_5)).symm) hP) (zz_eqD ((congrArg (fun z => XZ h o sl wl dS d1 d2 a g z) (if_pos c_5)).symm) hD) hS (by unfold xSu; rw [if_pos c_5, nI_clamp (by omega), if_neg (by rw [c_24, c_36]; decide)]; exact fst3_1 (by omega) c_64 v_1; rw []) dX0_sureAction_68
        exact loop_44 (3 + 1) 0 (by omega) (by omega) (lt_0) _ _ hP hD hS ls (lv_sub hl [1, 2, 0] rfl)
      · have c_36 : (bt (fW true a g 8) j) = false := zz_bI0 c_36
        refine lv_bipush (v := (-2)) hx hb dX0_sureAction_39 (by decide +kernel) ?_
        exact hret _ _ _ _ _ (zz_eqP ((congrArg (fun z => XZ h o sl wl dS d1 d2 a g z) (if_pos c_5)).symm) hP) (zz_eqD ((congrArg (fun z => XZ h o sl wl dS d1 d2 a g z) (if_pos c_5)).symm) hD) hS (by unfold xSu; rw [if_pos c_5, nI_clamp (by omega), if_pos (by rw [c_36]; simp)]) dX0_sureAction_41
  · have c_5 : (isS x) = false := zz_bI0 c_5
    refine lv_bipush (v := (-2)) hx hb dX0_sureAction_8 (by decide +kernel) ?_
    exact hret _ _ _ _ _ (zz_eqP ((congrArg (fun z => XZ h o sl wl dS d1 d2 a g z) (if_neg (by rw [c_5]; decide))).symm) hP) (zz_eqD ((congrArg (fun z => XZ h o sl wl dS d1 d2 a g z) (if_neg (by rw [c_5]; decide))).symm) hD) hS (by unfold xSu; rw [if_neg (by rw [c_5]; decide)]) dX0_sureAction_10
set_option maxHeartbeats 4000000 in
theorem tX0_prune (l : Launch) (D : va_G) (h o sl wl : Nat) (dS d1 d2 : ClassId) (a b1 b2 : Nat → Int32) (g kn w sf su la : Int32) (hg : s8 g) (hI : XI a g (kn, w, sf, su, b1, b2, la))  : zI l D yX0_prune cX0_prune 3 .int 4 [.ref h] (XT dS d1 d2) (XW h o sl wl dS d1 d2 a g kn w sf su b1 b2 la) ((pF a (xSafe a g)).2) (XZ h o sl wl dS d1 d2 (pF a (xSafe a g)).1 g (0, (xLrn a g).2)) := by
  refine zz_I (by decide) (Nat.le_of_ble_eq_true rfl) (rfl) ?_
  intro p e s m args below meth c A Q hx hb hml hown hts hA hK hP hD hS hret ls hl
  have hown : s.vm.findClass RX0 = some m.cls := hown
  have hl : lv_has ls 3 [(0, .ref h)] := hl
  refine lv_aload_n hx hb dX0_prune_0 rfl (lv_at hl 0 rfl) ?_
  refine zz_callVW (As := []) (rest := []) (q0 := 0) (ci := 0) ⟨hx, hb, hml, hown, hts⟩ hA hK hP hD hS (tX0_learn l D h o sl wl dS d1 d2 a b1 b2 g kn w sf su la hg hI) (cwV 0 hts gX0_learn rfl rfl rfl hX0_learn ⟨by decide, by decide⟩) rfl rfl rfl hl.1 rfl (Nat.le_of_ble_eq_true rfl) dX0_prune_1 ⟨Nat.le_refl _, Nat.le_refl _⟩ (fun H locs hP hD hS => ?_)
  have hP : va_P D vCl (XW h o sl wl dS d1 d2 a g 1 (fW false a g 8) (xSafe a g) (fW true a g 8) (lay true a g 8) (lay false a g 8) (fLeft a (xSafe a g))) H := hP
  have hD : va_D A (XW h o sl wl dS d1 d2 a g 1 (fW false a g 8) (xSafe a g) (fW true a g 8) (lay true a g 8) (lay false a g 8) (fLeft a (xSafe a g))) := hD
  refine lv_iconst (v := 0) hx hb dX0_prune_4 (by decide +kernel) ?_
  refine lv_istore_n (lv' := [(1, .int 0), (0, .ref h)]) hx hb dX0_prune_5 rfl hl (by decide) rfl (fun ls hl => ?_)
  refine lv_iconst (v := 0) hx hb dX0_prune_6 (by decide +kernel) ?_
  refine lv_istore_n (lv' := [(2, .int 0), (1, .int 0), (0, .ref h)]) hx hb dX0_prune_7 rfl hl (by decide) rfl (fun ls hl => ?_)
  have loop_8 : ∀ (n k : Nat) (n1 : Int32) (a1 : Nat → Int32), k ≤ 24 → 24 < k + n → ((a1, n1) = lp (pSt (xSafe a g)) (a, 0) k) → ∀ (H : Heap) (locs : List Loc), va_P D vCl (XW h o sl wl dS d1 d2 a1 g 1 (fW false a g 8) (xSafe a g) (fW true a g 8) (lay true a g 8) (lay false a g 8) (fLeft a (xSafe a g))) H → va_D A (XW h o sl wl dS d1 d2 a1 g 1 (fW false a g 8) (xSafe a g) (fW true a g 8) (lay true a g 8) (lay false a g 8) (fLeft a (xSafe a g))) → va_S A s.heap H locs → ∀ (ls : Array Slot), lv_has ls 3 [(0, .ref h), (1, .int n1), (2, .int (nI k))] → W p l e (zR 4) s m args below meth c H locs 0 0 Q (F0 m 8 ls []) := by
    intro n
    induction n with
    | zero =>
      intro k n1 a1 h1 h2
      exact absurd h2 (by omega)
    | succ n ih_8 =>
      intro k n1 a1 hi_8 hn_8 v_1 H locs hP hD hS ls hl
      refine lv_iload_n hx hb dX0_prune_8 rfl (lv_at hl 2 rfl) ?_
      refine lv_bipush (v := nI 24) hx hb dX0_prune_9 (by decide +kernel) ?_
      refine lv_icmp_ge (tgt := 54) hx hb dX0_prune_11 (by decide) (fun c_11 => ?_) (fun c_11 => ?_)
      · have c_11 : 24 ≤ k := zz_cle (by omega) (by omega) c_11
        have e24 : k = 24 := by omega
        subst e24
        have u_1 : (a1, n1) = pF a (xSafe a g) := v_1
        refine lv_aload_n hx hb dX0_prune_54 rfl (lv_at hl 0 rfl) ?_
        refine lv_iconst (v := 0) hx hb dX0_prune_55 (by decide +kernel) ?_
        refine va_put (D := D) (ci := 0) (v := .int 0) (ty := .boolean) (C := RX0) (T := TX0) (N := 9) hx hb hts in_X0 tyX0 tyX0_ok nmX0 hown hK hP hD hS 0 rfl rfl 2 (by decide) (hts _ q32) (fun _ h9 => h9) rfl (by decide +kernel) rfl rfl (Nat.le_of_ble_eq_true rfl) dX0_prune_56 (fun H locs hP hD hS => ?_)
        have hP : va_P D vCl (XW h o sl wl dS d1 d2 a1 g 0 (fW false a g 8) (xSafe a g) (fW true a g 8) (lay true a g 8) (lay false a g 8) (fLeft a (xSafe a g))) H := hP
        have hD : va_D A (XW h o sl wl dS d1 d2 a1 g 0 (fW false a g 8) (xSafe a g) (fW true a g 8) (lay true a g 8) (lay false a g 8) (fLeft a (xSafe a g))) := hD
        refine lv_iload_n hx hb dX0_prune_59 rfl (lv_at hl 1 rfl) ?_
        exact hret _ _ _ _ _ (zz_eqP (by rw [← u_1]; rfl) hP) (zz_eqD (by rw [← u_1]; rfl) hD) hS (by rw [← u_1]) dX0_prune_60
      · have c_11 : k < 24 := zz_cnle (by omega) (by omega) c_11
        refine lv_aload_n hx hb dX0_prune_14 rfl (lv_at hl 0 rfl) ?_
        refine va_get (D := D) (ci := 0) (v := .ref o) (C := RX0) (T := TX0) (N := 9) hx hb hts in_X0 hown hK hP 0 rfl rfl 0 (by decide) (hts _ q30) (fun _ h9 => h9) rfl dX0_prune_15 ?_
        refine lv_iload_n hx hb dX0_prune_18 rfl (lv_at hl 2 rfl) ?_
        refine zz_sald (k := k) hx hb hK hP 1 0 rfl rfl (by omega) (by decide) dX0_prune_19 ?_
        refine lv_if_eq (tgt := 48) hx hb dX0_prune_20 (by decide) (fun c_20 => ?_) (fun c_20 => ?_)
        · have c_20 := c_20
          refine lv_iinc (v := nI (k + 1)) (lv' := [(2, .int (nI (k + 1))), (0, .ref h), (1, .int n1)]) hx hb dX0_prune_48 hl (k := 2) rfl (zz_i1 _) (by decide) rfl (fun ls hl => ?_)
          refine lv_goto (tgt := 8) hx hb dX0_prune_51 (by decide) ?_
          exact ih_8 (k + 1) n1 a1 (by omega) (by omega) (by rw [lp_s, ← v_1, p_0 (by rw [c_20]; exact z_and _)]) _ _ hP hD hS ls (lv_sub hl [1, 2, 0] rfl)
        · have c_20 := c_20
          refine lv_aload_n hx hb dX0_prune_23 rfl (lv_at hl 0 rfl) ?_
          refine lv_iload_n hx hb dX0_prune_24 rfl (lv_at hl 2 rfl) ?_
          refine lv_aload_n hx hb dX0_prune_25 rfl (lv_at hl 0 rfl) ?_
          refine va_get (D := D) (ci := 0) (v := .int (xSafe a g)) (C := RX0) (T := TX0) (N := 9) hx hb hts in_X0 hown hK hP 0 rfl rfl 4 (by decide) (hts _ q34) (fun _ h9 => h9) rfl dX0_prune_26 ?_
          refine zz_callW (As := [.int (nI k), .int (xSafe a g)]) (rest := []) (q0 := 0) (ci := 0) ⟨hx, hb, hml, hown, hts⟩ hA hK hP hD hS (tX0_leadsInto l D h o sl wl dS d1 d2 a1 (lay true a g 8) (lay false a g 8) g 1 (fW false a g 8) (xSafe a g) (fW true a g 8) (fLeft a (xSafe a g)) k (xSafe a g) (by omega)) (cwV 2 hts gX0_leadsInto rfl rfl rfl hX0_leadsInto ⟨by decide, by decide⟩) rfl rfl rfl hl.1 rfl (Nat.le_of_ble_eq_true rfl) dX0_prune_29 ⟨Nat.le_refl _, Nat.le_refl _⟩ (fun H locs hP hD hS => ?_)
          refine lv_if_eq (tgt := 38) hx hb dX0_prune_32 (by decide) (fun c_32 => ?_) (fun c_32 => ?_)
          · have c_32 : (ldB (a1 k) (xSafe a g)) = false := zz_bI0 c_32
            refine lv_aload_n hx hb dX0_prune_38 rfl (lv_at hl 0 rfl) ?_
            refine va_get (D := D) (ci := 0) (v := .ref o) (C := RX0) (T := TX0) (N := 9) hx hb hts in_X0 hown hK hP 0 rfl rfl 0 (by decide) (hts _ q30) (fun _ h9 => h9) rfl dX0_prune_39 ?_
            refine lv_iload_n hx hb dX0_prune_42 rfl (lv_at hl 2 rfl) ?_
            refine lv_iconst (v := 0) hx hb dX0_prune_43 (by decide +kernel) ?_
            refine zz_sast (k := k) (x := 0) (x' := 0) hx hb hK hP hD hS 1 0 rfl rfl (by omega) (by decide) (by decide +kernel) dX0_prune_44 (fun H locs hP hD hS => ?_)
            have hP : va_P D vCl (XW h o sl wl dS d1 d2 (upd a1 k 0) g 1 (fW false a g 8) (xSafe a g) (fW true a g 8) (lay true a g 8) (lay false a g 8) (fLeft a (xSafe a g))) H := hP
            have hD : va_D A (XW h o sl wl dS d1 d2 (upd a1 k 0) g 1 (fW false a g 8) (xSafe a g) (fW true a g 8) (lay true a g 8) (lay false a g 8) (fLeft a (xSafe a g))) := hD
            refine lv_iinc (v := (n1 + 1)) (lv' := [(1, .int (n1 + 1)), (0, .ref h), (2, .int (nI k))]) hx hb dX0_prune_45 hl (k := 1) rfl (rfl) (by decide) rfl (fun ls hl => ?_)
            refine lv_iinc (v := nI (k + 1)) (lv' := [(2, .int (nI (k + 1))), (1, .int (n1 + 1)), (0, .ref h)]) hx hb dX0_prune_48 hl (k := 2) rfl (zz_i1 _) (by decide) rfl (fun ls hl => ?_)
            refine lv_goto (tgt := 8) hx hb dX0_prune_51 (by decide) ?_
            exact ih_8 (k + 1) (n1 + 1) (upd a1 k 0) (by omega) (by omega) (by rw [lp_s, ← v_1, p_1 (ld_nz c_32 c_20)]) _ _ hP hD hS ls (lv_sub hl [2, 1, 0] rfl)
          · have c_32 : (ldB (a1 k) (xSafe a g)) = true := zz_bI1 c_32
            refine lv_goto (tgt := 48) hx hb dX0_prune_35 (by decide) ?_
            refine lv_iinc (v := nI (k + 1)) (lv' := [(2, .int (nI (k + 1))), (0, .ref h), (1, .int n1)]) hx hb dX0_prune_48 hl (k := 2) rfl (zz_i1 _) (by decide) rfl (fun ls hl => ?_)
            refine lv_goto (tgt := 8) hx hb dX0_prune_51 (by decide) ?_
            exact ih_8 (k + 1) n1 a1 (by omega) (by omega) (by rw [lp_s, ← v_1, p_0 (ld_z c_32)]) _ _ hP hD hS ls (lv_sub hl [1, 2, 0] rfl)
  exact loop_8 (24 + 1) 0 0 a (by omega) (by omega) (rfl) _ _ hP hD hS ls (lv_sub hl [2, 1, 0] rfl)
set_option maxHeartbeats 4000000 in
theorem tX0_hopeful (l : Launch) (D : va_G) (h o sl wl : Nat) (dS d1 d2 : ClassId) (a b1 b2 : Nat → Int32) (g kn w sf su la : Int32) (hg : s8 g) (hI : XI a g (kn, w, sf, su, b1, b2, la))  : zI l D yX0_hopeful cX0_hopeful 4 .int 4 [.ref h] (XT dS d1 d2) (XW h o sl wl dS d1 d2 a g kn w sf su b1 b2 la) (hF (xSafe a g) (fW true a g 8)) (XZ h o sl wl dS d1 d2 a g (xLrn a g)) := by
  refine zz_I (by decide) (Nat.le_of_ble_eq_true rfl) (rfl) ?_
  intro p e s m args below meth c A Q hx hb hml hown hts hA hK hP hD hS hret ls hl
  have hown : s.vm.findClass RX0 = some m.cls := hown
  have hl : lv_has ls 4 [(0, .ref h)] := hl
  refine lv_aload_n hx hb dX0_hopeful_0 rfl (lv_at hl 0 rfl) ?_
  refine zz_callVW (As := []) (rest := []) (q0 := 0) (ci := 0) ⟨hx, hb, hml, hown, hts⟩ hA hK hP hD hS (tX0_learn l D h o sl wl dS d1 d2 a b1 b2 g kn w sf su la hg hI) (cwV 0 hts gX0_learn rfl rfl rfl hX0_learn ⟨by decide, by decide⟩) rfl rfl rfl hl.1 rfl (Nat.le_of_ble_eq_true rfl) dX0_hopeful_1 ⟨Nat.le_refl _, Nat.le_refl _⟩ (fun H locs hP hD hS => ?_)
  have hP : va_P D vCl (XW h o sl wl dS d1 d2 a g 1 (fW false a g 8) (xSafe a g) (fW true a g 8) (lay true a g 8) (lay false a g 8) (fLeft a (xSafe a g))) H := hP
  have hD : va_D A (XW h o sl wl dS d1 d2 a g 1 (fW false a g 8) (xSafe a g) (fW true a g 8) (lay true a g 8) (lay false a g 8) (fLeft a (xSafe a g))) := hD
  refine lv_aload_n hx hb dX0_hopeful_4 rfl (lv_at hl 0 rfl) ?_
  refine va_get (D := D) (ci := 0) (v := .int (xSafe a g)) (C := RX0) (T := TX0) (N := 9) hx hb hts in_X0 hown hK hP 0 rfl rfl 4 (by decide) (hts _ q34) (fun _ h9 => h9) rfl dX0_hopeful_5 ?_
  refine lv_aload_n hx hb dX0_hopeful_8 rfl (lv_at hl 0 rfl) ?_
  refine va_get (D := D) (ci := 0) (v := .int (fW true a g 8)) (C := RX0) (T := TX0) (N := 9) hx hb hts in_X0 hown hK hP 0 rfl rfl 5 (by decide) (hts _ q35) (fun _ h9 => h9) rfl dX0_hopeful_9 ?_
  refine lv_iconst (v := (-1)) hx hb dX0_hopeful_12 (by decide +kernel) ?_
  refine lv_ixor hx hb dX0_hopeful_13 ?_
  refine lv_iand hx hb dX0_hopeful_14 ?_
  refine lv_istore_n (lv' := [(1, .int ((xSafe a g) &&& ((fW true a g 8) ^^^ (-1)))), (0, .ref h)]) hx hb dX0_hopeful_15 rfl hl (by decide) rfl (fun ls hl => ?_)
  refine lv_iconst (v := 0) hx hb dX0_hopeful_16 (by decide +kernel) ?_
  refine lv_istore_n (lv' := [(2, .int 0), (1, .int ((xSafe a g) &&& ((fW true a g 8) ^^^ (-1)))), (0, .ref h)]) hx hb dX0_hopeful_17 rfl hl (by decide) rfl (fun ls hl => ?_)
  refine lv_iconst (v := 0) hx hb dX0_hopeful_18 (by decide +kernel) ?_
  refine lv_istore_n (lv' := [(3, .int 0), (2, .int 0), (1, .int ((xSafe a g) &&& ((fW true a g 8) ^^^ (-1)))), (0, .ref h)]) hx hb dX0_hopeful_19 rfl hl (by decide) rfl (fun ls hl => ?_)
  have loop_20 : ∀ (n i : Nat) (n1 : Int32), i ≤ 8 → 8 < i + n → (n1 = lp (hSt (xSafe a g) (fW true a g 8)) 0 i) → ∀ (H : Heap) (locs : List Loc), va_P D vCl (XW h o sl wl dS d1 d2 a g 1 (fW false a g 8) (xSafe a g) (fW true a g 8) (lay true a g 8) (lay false a g 8) (fLeft a (xSafe a g))) H → va_D A (XW h o sl wl dS d1 d2 a g 1 (fW false a g 8) (xSafe a g) (fW true a g 8) (lay true a g 8) (lay false a g 8) (fLeft a (xSafe a g))) → va_S A s.heap H locs → ∀ (ls : Array Slot), lv_has ls 4 [(0, .ref h), (1, .int ((xSafe a g) &&& ((fW true a g 8) ^^^ (-1)))), (2, .int n1), (3, .int (nI i))] → W p l e (zR 4) s m args below meth c H locs 0 0 Q (F0 m 20 ls []) := by
    intro n
    induction n with
    | zero =>
      intro i n1 h1 h2
      exact absurd h2 (by omega)
    | succ n ih_20 =>
      intro i n1 hi_20 hn_20 v_1 H locs hP hD hS ls hl
      refine lv_iload_n hx hb dX0_hopeful_20 rfl (lv_at hl 3 rfl) ?_
      refine lv_bipush (v := nI 8) hx hb dX0_hopeful_21 (by decide +kernel) ?_
      refine lv_icmp_ge (tgt := 44) hx hb dX0_hopeful_23 (by decide) (fun c_23 => ?_) (fun c_23 => ?_)
      · have c_23 : 8 ≤ i := zz_cle (by omega) (by omega) c_23
        refine lv_iload_n hx hb dX0_hopeful_44 rfl (lv_at hl 2 rfl) ?_
        exact hret _ _ _ _ _ (zz_eqP (rfl) hP) (zz_eqD (rfl) hD) hS (by rw [v_1, show i = 8 by omega]; rfl) dX0_hopeful_45
      · have c_23 : i < 8 := zz_cnle (by omega) (by omega) c_23
        refine lv_aload_n hx hb dX0_hopeful_26 rfl (lv_at hl 0 rfl) ?_
        refine lv_iload_n hx hb dX0_hopeful_27 rfl (lv_at hl 1 rfl) ?_
        refine lv_iload_n hx hb dX0_hopeful_28 rfl (lv_at hl 3 rfl) ?_
        refine zz_call0 (As := [.int ((xSafe a g) &&& ((fW true a g 8) ^^^ (-1))), .int (nI i)]) (rest := []) (q0 := 0) (ci := 0) ⟨hx, hb, hml, hown, hts⟩ hA hK hP hD hS (tX0_isIn l D h ((xSafe a g) &&& ((fW true a g 8) ^^^ (-1))) i (by omega)) (cwV 2 hts gX0_isIn rfl rfl rfl hX0_isIn ⟨by decide, by decide⟩) rfl rfl rfl hl.1 rfl (Nat.le_of_ble_eq_true rfl) dX0_hopeful_29 ⟨Nat.le_refl _, Nat.le_refl _⟩ (fun H locs hP hD hS => ?_)
        refine lv_if_eq (tgt := 38) hx hb dX0_hopeful_32 (by decide) (fun c_32 => ?_) (fun c_32 => ?_)
        · have c_32 : (bt ((xSafe a g) &&& ((fW true a g 8) ^^^ (-1))) i) = false := zz_bI0 c_32
          refine lv_iinc (v := nI (i + 1)) (lv' := [(3, .int (nI (i + 1))), (0, .ref h), (1, .int ((xSafe a g) &&& ((fW true a g 8) ^^^ (-1)))), (2, .int n1)]) hx hb dX0_hopeful_38 hl (k := 3) rfl (zz_i1 _) (by decide) rfl (fun ls hl => ?_)
          refine lv_goto (tgt := 20) hx hb dX0_hopeful_41 (by decide) ?_
          exact ih_20 (i + 1) n1 (by omega) (by omega) (by rw [lp_s, ← v_1, h_0 (by omega) c_32]) _ _ hP hD hS ls (lv_sub hl [1, 2, 3, 0] rfl)
        · have c_32 : (bt ((xSafe a g) &&& ((fW true a g 8) ^^^ (-1))) i) = true := zz_bI1 c_32
          refine lv_iinc (v := (n1 + 1)) (lv' := [(2, .int (n1 + 1)), (0, .ref h), (1, .int ((xSafe a g) &&& ((fW true a g 8) ^^^ (-1)))), (3, .int (nI i))]) hx hb dX0_hopeful_35 hl (k := 2) rfl (rfl) (by decide) rfl (fun ls hl => ?_)
          refine lv_iinc (v := nI (i + 1)) (lv' := [(3, .int (nI (i + 1))), (2, .int (n1 + 1)), (0, .ref h), (1, .int ((xSafe a g) &&& ((fW true a g 8) ^^^ (-1))))]) hx hb dX0_hopeful_38 hl (k := 3) rfl (zz_i1 _) (by decide) rfl (fun ls hl => ?_)
          refine lv_goto (tgt := 20) hx hb dX0_hopeful_41 (by decide) ?_
          exact ih_20 (i + 1) (n1 + 1) (by omega) (by omega) (by rw [lp_s, ← v_1, h_1 (by omega) c_32]) _ _ hP hD hS ls (lv_sub hl [2, 3, 1, 0] rfl)
  exact loop_20 (8 + 1) 0 0 (by omega) (by omega) (rfl) _ _ hP hD hS ls (lv_sub hl [3, 2, 1, 0] rfl)
set_option maxHeartbeats 4000000 in
theorem tX0_action (l : Launch) (D : va_G) (h o sl wl : Nat) (dS d1 d2 : ClassId) (a b1 b2 : Nat → Int32) (g kn w sf su la : Int32) (x y z : Int32) : zI l D yX0_action cX0_action 4 .boolean 1 [.ref h, .int x, .int y, .int z] (XT dS d1 d2) (XW h o sl wl dS d1 d2 a g kn w sf su b1 b2 la) (bI (acB x y z)) (XZ h o sl wl dS d1 d2 (if acB x y z = true then upd a (3 * x.toNatClampNeg + y.toNatClampNeg) z else a) g (if acB x y z = true then 0 else kn, w, sf, su, b1, b2, la)) := by
  refine zz_I (by decide) (Nat.le_of_ble_eq_true rfl) (zz_bIn _) ?_
  intro p e s m args below meth c A Q hx hb hml hown hts hA hK hP hD hS hret ls hl
  have hown : s.vm.findClass RX0 = some m.cls := hown
  have hl : lv_has ls 4 [(0, .ref h), (1, .int x), (2, .int y), (3, .int z)] := hl
  refine lv_aload_n hx hb dX0_action_0 rfl (lv_at hl 0 rfl) ?_
  refine lv_iload_n hx hb dX0_action_1 rfl (lv_at hl 1 rfl) ?_
  refine zz_call0 (As := [.int x]) (rest := []) (q0 := 0) (ci := 0) ⟨hx, hb, hml, hown, hts⟩ hA hK hP hD hS (tX0_isState l D h x) (cwV 1 hts gX0_isState rfl rfl rfl hX0_isState ⟨by decide, by decide⟩) rfl rfl rfl hl.1 rfl (Nat.le_of_ble_eq_true rfl) dX0_action_2 ⟨Nat.le_refl _, Nat.le_refl _⟩ (fun H locs hP hD hS => ?_)
  refine lv_if_eq (tgt := 28) hx hb dX0_action_5 (by decide) (fun c_5 => ?_) (fun c_5 => ?_)
  · have c_5 : (isS x) = false := zz_bI0 c_5
    have nk : acB x y z = false := by unfold acB; rw [c_5]; simp
    refine lv_iconst (v := 0) hx hb dX0_action_28 (by decide +kernel) ?_
    exact hret _ _ _ _ _ (zz_eqP (by rw [nk]; rfl) hP) (zz_eqD (by rw [nk]; rfl) hD) hS (by rw [nk]; rfl) dX0_action_29
  · have c_5 : (isS x) = true := zz_bI1 c_5
    refine lv_iload_n hx hb dX0_action_8 rfl (lv_at hl 2 rfl) ?_
    refine lv_if_lt (tgt := 28) hx hb dX0_action_9 (by decide) (fun c_9 => ?_) (fun c_9 => ?_)
    · have c_9 := c_9
      have nk : acB x y z = false := by unfold acB; rw [show decide (¬ y < 0 ∧ ¬ nI 2 < y) = false from decide_eq_false (fun u => u.1 c_9)]; simp
      refine lv_iconst (v := 0) hx hb dX0_action_28 (by decide +kernel) ?_
      exact hret _ _ _ _ _ (zz_eqP (by rw [nk]; rfl) hP) (zz_eqD (by rw [nk]; rfl) hD) hS (by rw [nk]; rfl) dX0_action_29
    · have c_9 := c_9
      refine lv_iload_n hx hb dX0_action_12 rfl (lv_at hl 2 rfl) ?_
      refine lv_iconst (v := nI 2) hx hb dX0_action_13 (by decide +kernel) ?_
      refine lv_icmp_gt (tgt := 28) hx hb dX0_action_14 (by decide) (fun c_14 => ?_) (fun c_14 => ?_)
      · have c_14 := c_14
        have nk : acB x y z = false := by unfold acB; rw [show decide (¬ y < 0 ∧ ¬ nI 2 < y) = false from decide_eq_false (fun u => u.2 c_14)]; simp
        refine lv_iconst (v := 0) hx hb dX0_action_28 (by decide +kernel) ?_
        exact hret _ _ _ _ _ (zz_eqP (by rw [nk]; rfl) hP) (zz_eqD (by rw [nk]; rfl) hD) hS (by rw [nk]; rfl) dX0_action_29
      · have c_14 := c_14
        refine lv_iload_n hx hb dX0_action_17 rfl (lv_at hl 3 rfl) ?_
        refine lv_if_lt (tgt := 28) hx hb dX0_action_18 (by decide) (fun c_18 => ?_) (fun c_18 => ?_)
        · have c_18 := c_18
          have nk : acB x y z = false := by unfold acB; rw [show decide (¬ z < 0 ∧ z ≤ nI 255) = false from decide_eq_false (fun u => u.1 c_18)]; simp
          refine lv_iconst (v := 0) hx hb dX0_action_28 (by decide +kernel) ?_
          exact hret _ _ _ _ _ (zz_eqP (by rw [nk]; rfl) hP) (zz_eqD (by rw [nk]; rfl) hD) hS (by rw [nk]; rfl) dX0_action_29
        · have c_18 := c_18
          refine lv_iload_n hx hb dX0_action_21 rfl (lv_at hl 3 rfl) ?_
          refine lv_sipush (v := nI 255) hx hb dX0_action_22 (by decide +kernel) ?_
          refine lv_icmp_le (tgt := 30) hx hb dX0_action_25 (by decide) (fun c_25 => ?_) (fun c_25 => ?_)
          · have c_25 := c_25
            obtain ⟨j, hj, ej⟩ := isS_of c_5
            obtain ⟨q, hq, eq⟩ := nI_of2 (n := 2) (M := nI 2) (nI_toInt (by decide)) c_9 (Int32.not_lt.mp c_14)
            obtain ⟨t, ht, et⟩ := nI_of2 (n := 255) (M := nI 255) (nI_toInt (by decide)) c_18 c_25
            have ok : acB x y z = true := by unfold acB; rw [c_5, decide_eq_true ⟨c_9, c_14⟩, decide_eq_true ⟨c_18, c_25⟩]; rfl
            subst ej; subst eq; subst et
            refine lv_aload_n hx hb dX0_action_30 rfl (lv_at hl 0 rfl) ?_
            refine va_get (D := D) (ci := 0) (v := .ref o) (C := RX0) (T := TX0) (N := 9) hx hb hts in_X0 hown hK hP 0 rfl rfl 0 (by decide) (hts _ q30) (fun _ h9 => h9) rfl dX0_action_31 ?_
            refine lv_iconst (v := nI 3) hx hb dX0_action_34 (by decide +kernel) ?_
            refine lv_iload_n hx hb dX0_action_35 rfl (lv_at hl 1 rfl) ?_
            refine lv_imul hx hb dX0_action_36 ?_
            refine zz_top (z := nI (3 * j)) (pk_mul _ _) ?_
            refine lv_iload_n hx hb dX0_action_37 rfl (lv_at hl 2 rfl) ?_
            refine lv_iadd hx hb dX0_action_38 ?_
            refine zz_top (z := nI (3 * j + q)) (nI_add _ _) ?_
            refine lv_iload_n hx hb dX0_action_39 rfl (lv_at hl 3 rfl) ?_
            refine lv_i2s (v := nI t) hx hb dX0_action_40 (zz_s16 _ (by omega)) ?_
            refine zz_sast (k := 3 * j + q) (x := nI t) (x' := nI t) hx hb hK hP hD hS 1 0 rfl rfl (by omega) (by decide) (zz_s16 _ (by omega)) dX0_action_41 (fun H locs hP hD hS => ?_)
            have hP : va_P D vCl (XW h o sl wl dS d1 d2 (upd a (3 * j + q) (nI t)) g kn w sf su b1 b2 la) H := hP
            have hD : va_D A (XW h o sl wl dS d1 d2 (upd a (3 * j + q) (nI t)) g kn w sf su b1 b2 la) := hD
            refine lv_aload_n hx hb dX0_action_42 rfl (lv_at hl 0 rfl) ?_
            refine lv_iconst (v := 0) hx hb dX0_action_43 (by decide +kernel) ?_
            refine va_put (D := D) (ci := 0) (v := .int 0) (ty := .boolean) (C := RX0) (T := TX0) (N := 9) hx hb hts in_X0 tyX0 tyX0_ok nmX0 hown hK hP hD hS 0 rfl rfl 2 (by decide) (hts _ q32) (fun _ h9 => h9) rfl (by decide +kernel) rfl rfl (Nat.le_of_ble_eq_true rfl) dX0_action_44 (fun H locs hP hD hS => ?_)
            have hP : va_P D vCl (XW h o sl wl dS d1 d2 (upd a (3 * j + q) (nI t)) g 0 w sf su b1 b2 la) H := hP
            have hD : va_D A (XW h o sl wl dS d1 d2 (upd a (3 * j + q) (nI t)) g 0 w sf su b1 b2 la) := hD
            refine lv_iconst (v := 1) hx hb dX0_action_47 (by decide +kernel) ?_
            exact hret _ _ _ _ _ (zz_eqP (by rw [if_pos ok, if_pos ok, nI_clamp (by omega), nI_clamp (by omega)]) hP) (zz_eqD (by rw [if_pos ok, if_pos ok, nI_clamp (by omega), nI_clamp (by omega)]) hD) hS (by rw [ok]; rfl) dX0_action_48
          · have c_25 := c_25
            have nk : acB x y z = false := by unfold acB; rw [show decide (¬ z < 0 ∧ z ≤ nI 255) = false from decide_eq_false (fun u => c_25 u.2)]; simp
            refine lv_iconst (v := 0) hx hb dX0_action_28 (by decide +kernel) ?_
            exact hret _ _ _ _ _ (zz_eqP (by rw [nk]; rfl) hP) (zz_eqD (by rw [nk]; rfl) hD) hS (by rw [nk]; rfl) dX0_action_29
set_option maxHeartbeats 4000000 in
theorem tX0_goals (l : Launch) (D : va_G) (h o sl wl : Nat) (dS d1 d2 : ClassId) (a b1 b2 : Nat → Int32) (g kn w sf su la : Int32) (x : Int32) : zI l D yX0_goals cX0_goals 2 .boolean 0 [.ref h, .int x] (XT dS d1 d2) (XW h o sl wl dS d1 d2 a g kn w sf su b1 b2 la) (bI (glB x)) (XZ h o sl wl dS d1 d2 a (if glB x = true then x else g) (if glB x = true then 0 else kn, w, sf, su, b1, b2, la)) := by
  refine zz_I (by decide) (Nat.le_of_ble_eq_true rfl) (zz_bIn _) ?_
  intro p e s m args below meth c A Q hx hb hml hown hts hA hK hP hD hS hret ls hl
  have hown : s.vm.findClass RX0 = some m.cls := hown
  have hl : lv_has ls 2 [(0, .ref h), (1, .int x)] := hl
  refine lv_iload_n hx hb dX0_goals_0 rfl (lv_at hl 1 rfl) ?_
  refine lv_if_lt (tgt := 11) hx hb dX0_goals_1 (by decide) (fun c_1 => ?_) (fun c_1 => ?_)
  · have c_1 := c_1
    have nk : glB x = false := decide_eq_false (fun u => u.1 c_1)
    refine lv_iconst (v := 0) hx hb dX0_goals_11 (by decide +kernel) ?_
    exact hret _ _ _ _ _ (zz_eqP (by rw [nk]; rfl) hP) (zz_eqD (by rw [nk]; rfl) hD) hS (by rw [nk]; rfl) dX0_goals_12
  · have c_1 := c_1
    refine lv_iload_n hx hb dX0_goals_4 rfl (lv_at hl 1 rfl) ?_
    refine lv_sipush (v := nI 255) hx hb dX0_goals_5 (by decide +kernel) ?_
    refine lv_icmp_le (tgt := 13) hx hb dX0_goals_8 (by decide) (fun c_8 => ?_) (fun c_8 => ?_)
    · have c_8 := c_8
      have ok : glB x = true := decide_eq_true ⟨c_1, c_8⟩
      refine lv_aload_n hx hb dX0_goals_13 rfl (lv_at hl 0 rfl) ?_
      refine lv_iload_n hx hb dX0_goals_14 rfl (lv_at hl 1 rfl) ?_
      refine va_put (D := D) (ci := 0) (v := .int x) (ty := .int) (C := RX0) (T := TX0) (N := 9) hx hb hts in_X0 tyX0 tyX0_ok nmX0 hown hK hP hD hS 0 rfl rfl 1 (by decide) (hts _ q31) (fun _ h9 => h9) rfl (by decide +kernel) rfl rfl (Nat.le_of_ble_eq_true rfl) dX0_goals_15 (fun H locs hP hD hS => ?_)
      have hP : va_P D vCl (XW h o sl wl dS d1 d2 a x kn w sf su b1 b2 la) H := hP
      have hD : va_D A (XW h o sl wl dS d1 d2 a x kn w sf su b1 b2 la) := hD
      refine lv_aload_n hx hb dX0_goals_18 rfl (lv_at hl 0 rfl) ?_
      refine lv_iconst (v := 0) hx hb dX0_goals_19 (by decide +kernel) ?_
      refine va_put (D := D) (ci := 0) (v := .int 0) (ty := .boolean) (C := RX0) (T := TX0) (N := 9) hx hb hts in_X0 tyX0 tyX0_ok nmX0 hown hK hP hD hS 0 rfl rfl 2 (by decide) (hts _ q32) (fun _ h9 => h9) rfl (by decide +kernel) rfl rfl (Nat.le_of_ble_eq_true rfl) dX0_goals_20 (fun H locs hP hD hS => ?_)
      have hP : va_P D vCl (XW h o sl wl dS d1 d2 a x 0 w sf su b1 b2 la) H := hP
      have hD : va_D A (XW h o sl wl dS d1 d2 a x 0 w sf su b1 b2 la) := hD
      refine lv_iconst (v := 1) hx hb dX0_goals_23 (by decide +kernel) ?_
      exact hret _ _ _ _ _ (zz_eqP (by rw [if_pos ok, if_pos ok]) hP) (zz_eqD (by rw [if_pos ok, if_pos ok]) hD) hS (by rw [ok]; rfl) dX0_goals_24
    · have c_8 := c_8
      have nk : glB x = false := decide_eq_false (fun u => c_8 u.2)
      refine lv_iconst (v := 0) hx hb dX0_goals_11 (by decide +kernel) ?_
      exact hret _ _ _ _ _ (zz_eqP (by rw [nk]; rfl) hP) (zz_eqD (by rw [nk]; rfl) hD) hS (by rw [nk]; rfl) dX0_goals_12
end
section
/-! ===== rows that the model's walks lean on ===== -/
set_option maxRecDepth 100000
theorem o_0 {fr : Nat → Int32} {x : Int32} {i : Nat} {q : Int32 × Int32} (h : bt x i = false) : oSt fr x i q = q := if_neg (by rw [h]; decide)
theorem o_1 {fr : Nat → Int32} {x : Int32} {i : Nat} {u v : Int32} (h : bt x i = true) : oSt fr x i (u, v) = (if fr i ≤ u then u else fr i, if v ≤ fr i then v else fr i) := if_pos h
theorem out_1 {fr : Nat → Int32} {x m1 m2 : Int32} {wo : Bool} (h : (m1, m2) = oL fr x) (hw : wo = true) (hn : ¬ m1 < 0) : m1 = outF fr x wo := by
  unfold outF
  rw [← h, hw, if_pos (by rw [decide_eq_false hn]; rfl)]
theorem out_2 {fr : Nat → Int32} {x m1 m2 : Int32} {wo : Bool} (h : (m1, m2) = oL fr x) (hw : wo = false) : m2 = outF fr x wo := by
  unfold outF
  rw [← h, hw, if_neg (by simp)]
theorem out_3 {fr : Nat → Int32} {x m1 m2 : Int32} {wo : Bool} (h : (m1, m2) = oL fr x) (hn : m1 < 0) : m2 = outF fr x wo := by
  unfold outF
  rw [← h, if_neg (by rw [decide_eq_true hn]; simp)]
theorem f0_1 {g : Int32} {f1 : Nat → Int32} {i : Nat} (h : bt g i = true) (v : ∀ j, j < i → f1 j = far0 g j) : ∀ j, j < i + 1 → upd f1 i 0 j = far0 g j := by
  intro j hj
  by_cases e : j = i
  · rw [e, pk_us]; exact (if_pos h).symm
  · rw [pk_un e]; exact v j (by omega)
theorem f0_0 {g : Int32} {f1 : Nat → Int32} {i : Nat} (h : bt g i = false) (v : ∀ j, j < i → f1 j = far0 g j) : ∀ j, j < i + 1 → upd f1 i (nI 99) j = far0 g j := by
  intro j hj
  by_cases e : j = i
  · rw [e, pk_us]; exact (if_neg (by rw [h]; decide)).symm
  · rw [pk_un e]; exact v j (by omega)
theorem ct_1 {a fr : Nat → Int32} {wo : Bool} {k : Nat} (h : fr (k / 3) ≤ outF fr (a k) wo + 1) : cSt a wo k fr = fr := if_pos h
theorem ct_0 {a fr : Nat → Int32} {wo : Bool} {k : Nat} (h : ¬ fr (k / 3) ≤ outF fr (a k) wo + 1) : cSt a wo k fr = upd fr (k / 3) (outF fr (a k) wo + 1) := if_neg h
theorem r_1 {fr : Nat → Int32} {i : Nat} {x : Int32} (h : nI 99 ≤ fr i) : rSt fr i x = x := if_pos h
theorem r_0 {fr : Nat → Int32} {i : Nat} {x : Int32} (h : ¬ nI 99 ≤ fr i) : rSt fr i x = x ||| one i := if_neg h
theorem n_0 {a : Nat → Int32} {x z : Int32} {k : Nat} (h : bt x (k / 3) = false) : nSt a x k z = z := if_neg (by rw [h]; simp)
theorem n_1 {a : Nat → Int32} {x z : Int32} {k : Nat} (h : ¬ a k &&& (x ^^^ (-1)) = 0) : nSt a x k z = z := if_neg (by rw [beq_false_of_ne h]; simp)
theorem n_2 {a : Nat → Int32} {x z : Int32} {k : Nat} (h : a k &&& z = 0) : nSt a x k z = z := if_neg (by rw [h]; simp)
theorem n_3 {a : Nat → Int32} {x z : Int32} {k : Nat} (h : bt x (k / 3) = true) (h2 : a k &&& (x ^^^ (-1)) = 0) (h3 : ¬ a k &&& z = 0) : nSt a x k z = z ||| one (k / 3) := if_pos (by rw [h, h2, beq_false_of_ne h3]; rfl)
theorem kp_1 {a : Nat → Int32} {g x : Int32} (h : x &&& (nF a g x ^^^ (-1)) = 0) : kpB a g x = true := by unfold kpB; rw [h]; rfl
theorem kp_0 {a : Nat → Int32} {g x : Int32} (h : ¬ x &&& (nF a g x ^^^ (-1)) = 0) : kpB a g x = false := beq_false_of_ne h
theorem ms_0 {a : Nat → Int32} {g x : Int32} {k : Nat} (h : ¬ g &&& (nI k ^^^ (-1)) = 0) : msSt a g k x = x := if_neg (by rw [beq_false_of_ne h]; simp)
theorem ms_1 {a : Nat → Int32} {g x : Int32} {k : Nat} (h : kpB a g (nI k) = false) : msSt a g k x = x := if_neg (by rw [h]; simp)
theorem ms_2 {a : Nat → Int32} {g x : Int32} {k : Nat} (h : g &&& (nI k ^^^ (-1)) = 0) (h2 : kpB a g (nI k) = true) : msSt a g k x = x ||| nI k := if_pos (by rw [h, h2]; rfl)
theorem h_00 {sf su n : Int32} {i : Nat} (h : bt sf i = false) : hSt sf su i n = n := if_neg (by rw [h]; simp)
theorem h_01 {sf su n : Int32} {i : Nat} (h : bt su i = true) : hSt sf su i n = n := if_neg (by rw [h]; simp)
theorem h_02 {sf su n : Int32} {i : Nat} (h : bt sf i = true) (h2 : bt su i = false) : hSt sf su i n = n + 1 := if_pos (by rw [h, h2]; rfl)
def mSA (a : Nat → Int32) (g x : Int32) : Int32 := if isS x = true then (if (bt g x.toNatClampNeg || !bt (mSafe a g) x.toNatClampNeg) = true then 0 else saF a (mSafe a g) x.toNatClampNeg) else 0
def mSu (a : Nat → Int32) (g x : Int32) : Int32 := if isS x = true then (if bt g x.toNatClampNeg = true then -2 else if numF (cF a g true) x = -2 then -2 else fst3 (fun t => outF (cF a g true) (a (3 * x.toNatClampNeg + t)) true + 1 == cF a g true x.toNatClampNeg)) else -2
end
section
/-! ===== CyclicPlannerModel: counting and keeping (printed by specM.py) ===== -/
set_option maxRecDepth 100000
theorem gX1_isState : GoodIn lw_all (wsV RX1 20 RX1 yX1_isState (ws_ yX1_isState cX1_isState 2 (some .boolean))) := lw_V q173 q175 qs12 q21 q176
theorem hX1_isState : yX1_isState.cls = RX1 ∧ yX1_isState.cls ≠ "java/lang/invoke/MethodHandle" ∧ yX1_isState.cls ≠ "java/lang/invoke/VarHandle" ∧ (parseMethodDescriptor yX1_isState.desc).map (fun d => d.parameters.length) = some 1 := by decide +kernel
theorem gX1_count : GoodIn lw_all (wsV RX1 32 RX1 yX1_count (ws_ yX1_count cX1_count 5 none)) := lw_V q185 q187 qs13 q21 q188
theorem hX1_count : yX1_count.cls = RX1 ∧ yX1_count.cls ≠ "java/lang/invoke/MethodHandle" ∧ yX1_count.cls ≠ "java/lang/invoke/VarHandle" ∧ (parseMethodDescriptor yX1_count.desc).map (fun d => d.parameters.length) = some 1 := by decide +kernel
theorem gX1_in : GoodIn lw_all (wsV RX1 24 RX1 yX1_in (ws_ yX1_in cX1_in 3 (some .boolean))) := lw_V q189 q191 qs14 q21 q192
theorem hX1_in : yX1_in.cls = RX1 ∧ yX1_in.cls ≠ "java/lang/invoke/MethodHandle" ∧ yX1_in.cls ≠ "java/lang/invoke/VarHandle" ∧ (parseMethodDescriptor yX1_in.desc).map (fun d => d.parameters.length) = some 2 := by decide +kernel
theorem gX1_outcome : GoodIn lw_all (wsV RX1 28 RX1 yX1_outcome (ws_ yX1_outcome cX1_outcome 6 (some .int))) := lw_V q193 q195 qs15 q21 q196
theorem hX1_outcome : yX1_outcome.cls = RX1 ∧ yX1_outcome.cls ≠ "java/lang/invoke/MethodHandle" ∧ yX1_outcome.cls ≠ "java/lang/invoke/VarHandle" ∧ (parseMethodDescriptor yX1_outcome.desc).map (fun d => d.parameters.length) = some 2 := by decide +kernel
theorem gX1_reached : GoodIn lw_all (wsV RX1 36 RX1 yX1_reached (ws_ yX1_reached cX1_reached 3 (some .int))) := lw_V q197 q199 qs16 q21 q200
theorem hX1_reached : yX1_reached.cls = RX1 ∧ yX1_reached.cls ≠ "java/lang/invoke/MethodHandle" ∧ yX1_reached.cls ≠ "java/lang/invoke/VarHandle" ∧ (parseMethodDescriptor yX1_reached.desc).map (fun d => d.parameters.length) = some 0 := by decide +kernel
theorem gX1_keeps : GoodIn lw_all (wsV RX1 40 RX1 yX1_keeps (ws_ yX1_keeps cX1_keeps 5 (some .boolean))) := lw_V q205 q207 qs17 q21 q208
theorem hX1_keeps : yX1_keeps.cls = RX1 ∧ yX1_keeps.cls ≠ "java/lang/invoke/MethodHandle" ∧ yX1_keeps.cls ≠ "java/lang/invoke/VarHandle" ∧ (parseMethodDescriptor yX1_keeps.desc).map (fun d => d.parameters.length) = some 1 := by decide +kernel
theorem gX1_number : GoodIn lw_all (wsV RX1 43 RX1 yX1_number (ws_ yX1_number cX1_number 3 (some .int))) := lw_V q217 q219 qs18 q21 q220
theorem hX1_number : yX1_number.cls = RX1 ∧ yX1_number.cls ≠ "java/lang/invoke/MethodHandle" ∧ yX1_number.cls ≠ "java/lang/invoke/VarHandle" ∧ (parseMethodDescriptor yX1_number.desc).map (fun d => d.parameters.length) = some 2 := by decide +kernel
theorem gX1_safe : GoodIn lw_all (wsV RX1 46 RX1 yX1_safe (ws_ yX1_safe cX1_safe 3 (some .int))) := lw_V q229 q202 q203 q21 q204
theorem hX1_safe : yX1_safe.cls = RX1 ∧ yX1_safe.cls ≠ "java/lang/invoke/MethodHandle" ∧ yX1_safe.cls ≠ "java/lang/invoke/VarHandle" ∧ (parseMethodDescriptor yX1_safe.desc).map (fun d => d.parameters.length) = some 0 := by decide +kernel
theorem gX1_steps : GoodIn lw_all (wsV RX1 49 RX1 yX1_steps (ws_ yX1_steps cX1_steps 2 (some .int))) := lw_V q234 q214 q215 q21 q216
theorem hX1_steps : yX1_steps.cls = RX1 ∧ yX1_steps.cls ≠ "java/lang/invoke/MethodHandle" ∧ yX1_steps.cls ≠ "java/lang/invoke/VarHandle" ∧ (parseMethodDescriptor yX1_steps.desc).map (fun d => d.parameters.length) = some 1 := by decide +kernel
theorem gX1_sure : GoodIn lw_all (wsV RX1 53 RX1 yX1_sure (ws_ yX1_sure cX1_sure 1 (some .int))) := lw_V q243 q210 q211 q21 q212
theorem hX1_sure : yX1_sure.cls = RX1 ∧ yX1_sure.cls ≠ "java/lang/invoke/MethodHandle" ∧ yX1_sure.cls ≠ "java/lang/invoke/VarHandle" ∧ (parseMethodDescriptor yX1_sure.desc).map (fun d => d.parameters.length) = some 0 := by decide +kernel
set_option maxHeartbeats 4000000 in
theorem tX1_isState (l : Launch) (D : va_G) (h : Nat) (x : Int32) : zI l D yX1_isState cX1_isState 2 .boolean 0 [.ref h, .int x] [] [] (bI (isS x)) [] := by
  refine zz_I (by decide) (Nat.le_of_ble_eq_true rfl) (zz_bIn _) ?_
  intro p e s m args below meth c A Q hx hb hml hown hts hA hK hP hD hS hret ls hl
  have hown : s.vm.findClass RX1 = some m.cls := hown
  have hl : lv_has ls 2 [(0, .ref h), (1, .int x)] := hl
  refine lv_iload_n hx hb dX1_isState_0 rfl (lv_at hl 1 rfl) ?_
  refine lv_if_lt (tgt := 14) hx hb dX1_isState_1 (by decide) (fun c_1 => ?_) (fun c_1 => ?_)
  · have c_1 := c_1
    refine lv_iconst (v := 0) hx hb dX1_isState_14 (by decide +kernel) ?_
    exact hret _ _ _ _ _ hP hD hS (by rw [isS_0 c_1]; rfl) dX1_isState_15
  · have c_1 := c_1
    refine lv_iload_n hx hb dX1_isState_4 rfl (lv_at hl 1 rfl) ?_
    refine lv_bipush (v := nI 7) hx hb dX1_isState_5 (by decide +kernel) ?_
    refine lv_icmp_gt (tgt := 14) hx hb dX1_isState_7 (by decide) (fun c_7 => ?_) (fun c_7 => ?_)
    · have c_7 := c_7
      refine lv_iconst (v := 0) hx hb dX1_isState_14 (by decide +kernel) ?_
      exact hret _ _ _ _ _ hP hD hS (by rw [isS_4 c_7]; rfl) dX1_isState_15
    · have c_7 := c_7
      refine lv_iconst (v := 1) hx hb dX1_isState_10 (by decide +kernel) ?_
      refine lv_goto (tgt := 15) hx hb dX1_isState_11 (by decide) ?_
      exact hret _ _ _ _ _ hP hD hS (by rw [isS_3 c_1 c_7]; rfl) dX1_isState_15
set_option maxHeartbeats 4000000 in
theorem tX1_in (l : Launch) (D : va_G) (h : Nat) (x : Int32) (i : Nat) (hi : i < 32) : zI l D yX1_in cX1_in 3 .boolean 0 [.ref h, .int x, .int (nI i)] [] [] (bI (bt x i)) [] := by
  refine zz_I (by decide) (Nat.le_of_ble_eq_true rfl) (zz_bIn _) ?_
  intro p e s m args below meth c A Q hx hb hml hown hts hA hK hP hD hS hret ls hl
  have hown : s.vm.findClass RX1 = some m.cls := hown
  have hl : lv_has ls 3 [(0, .ref h), (1, .int x), (2, .int (nI i))] := hl
  refine lv_iload_n hx hb dX1_in_0 rfl (lv_at hl 1 rfl) ?_
  refine lv_iload_n hx hb dX1_in_1 rfl (lv_at hl 2 rfl) ?_
  refine lv_ishr hx hb dX1_in_2 ?_
  refine lv_iconst (v := 1) hx hb dX1_in_3 (by decide +kernel) ?_
  refine lv_iand hx hb dX1_in_4 ?_
  refine lv_iconst (v := 1) hx hb dX1_in_5 (by decide +kernel) ?_
  refine lv_icmp_ne (tgt := 13) hx hb dX1_in_6 (by decide) (fun c_6 => ?_) (fun c_6 => ?_)
  · have c_6 : bt x i = false := zz_one0 (by omega) c_6
    refine lv_iconst (v := 0) hx hb dX1_in_13 (by decide +kernel) ?_
    exact hret _ _ _ _ _ hP hD hS (by rw [c_6]; rfl) dX1_in_14
  · have c_6 : bt x i = true := zz_one1 (by omega) c_6
    refine lv_iconst (v := 1) hx hb dX1_in_9 (by decide +kernel) ?_
    refine lv_goto (tgt := 14) hx hb dX1_in_10 (by decide) ?_
    exact hret _ _ _ _ _ hP hD hS (by rw [c_6]; rfl) dX1_in_14
set_option maxHeartbeats 4000000 in
theorem tX1_outcome (l : Launch) (D : va_G) (h o f : Nat) (d1 d2 : ClassId) (a fr : Nat → Int32) (g : Int32) (x : Int32) (wo : Bool) : zI l D yX1_outcome cX1_outcome 6 .int 1 [.ref h, .int x, .int (bI wo)] (MT d1 d2) (MW h o f d1 d2 a g fr) (outF fr x wo) (MW h o f d1 d2 a g fr) := by
  refine zz_I (by decide) (Nat.le_of_ble_eq_true rfl) (rfl) ?_
  intro p e s m args below meth c A Q hx hb hml hown hts hA hK hP hD hS hret ls hl
  have hown : s.vm.findClass RX1 = some m.cls := hown
  have hl : lv_has ls 6 [(0, .ref h), (1, .int x), (2, .int (bI wo))] := hl
  refine lv_iconst (v := (-1)) hx hb dX1_outcome_0 (by decide +kernel) ?_
  refine lv_istore_n (lv' := [(3, .int (-1)), (0, .ref h), (1, .int x), (2, .int (bI wo))]) hx hb dX1_outcome_1 rfl hl (by decide) rfl (fun ls hl => ?_)
  refine lv_bipush (v := nI 99) hx hb dX1_outcome_2 (by decide +kernel) ?_
  refine lv_istore (lv' := [(4, .int (nI 99)), (3, .int (-1)), (0, .ref h), (1, .int x), (2, .int (bI wo))]) hx hb dX1_outcome_4 hl (by decide) rfl (fun ls hl => ?_)
  refine lv_iconst (v := 0) hx hb dX1_outcome_6 (by decide +kernel) ?_
  refine lv_istore (lv' := [(5, .int 0), (4, .int (nI 99)), (3, .int (-1)), (0, .ref h), (1, .int x), (2, .int (bI wo))]) hx hb dX1_outcome_7 hl (by decide) rfl (fun ls hl => ?_)
  have loop_9 : ∀ (n i : Nat) (m1 : Int32) (m2 : Int32), i ≤ 8 → 8 < i + n → ((m1, m2) = lp (oSt fr x) (-1, nI 99) i) → ∀ (H : Heap) (locs : List Loc), va_P D vCl (MW h o f d1 d2 a g fr) H → va_D A (MW h o f d1 d2 a g fr) → va_S A s.heap H locs → ∀ (ls : Array Slot), lv_has ls 6 [(0, .ref h), (1, .int x), (2, .int (bI wo)), (3, .int m1), (4, .int m2), (5, .int (nI i))] → W p l e (zR 1) s m args below meth c H locs 0 0 Q (F0 m 9 ls []) := by
    intro n
    induction n with
    | zero =>
      intro i m1 m2 h1 h2
      exact absurd h2 (by omega)
    | succ n ih_9 =>
      intro i m1 m2 hi_9 hn_9 v_1 H locs hP hD hS ls hl
      refine lv_iload hx hb dX1_outcome_9 (lv_at hl 5 rfl) ?_
      refine lv_bipush (v := nI 8) hx hb dX1_outcome_11 (by decide +kernel) ?_
      refine lv_icmp_ge (tgt := 72) hx hb dX1_outcome_13 (by decide) (fun c_13 => ?_) (fun c_13 => ?_)
      · have c_13 : 8 ≤ i := zz_cle (by omega) (by omega) c_13
        have u_1 : (m1, m2) = oL fr x := by rw [show i = 8 by omega] at v_1; exact v_1
        refine lv_iload_n hx hb dX1_outcome_72 rfl (lv_at hl 2 rfl) ?_
        refine lv_if_eq (tgt := 84) hx hb dX1_outcome_73 (by decide) (fun c_73 => ?_) (fun c_73 => ?_)
        · have c_73 : wo = false := zz_bI0 c_73
          refine lv_iload hx hb dX1_outcome_84 (lv_at hl 4 rfl) ?_
          exact hret _ _ _ _ _ hP hD hS (out_2 u_1 c_73) dX1_outcome_86
        · have c_73 : wo = true := zz_bI1 c_73
          refine lv_iload_n hx hb dX1_outcome_76 rfl (lv_at hl 3 rfl) ?_
          refine lv_if_lt (tgt := 84) hx hb dX1_outcome_77 (by decide) (fun c_77 => ?_) (fun c_77 => ?_)
          · have c_77 := c_77
            refine lv_iload hx hb dX1_outcome_84 (lv_at hl 4 rfl) ?_
            exact hret _ _ _ _ _ hP hD hS (out_3 u_1 c_77) dX1_outcome_86
          · have c_77 := c_77
            refine lv_iload_n hx hb dX1_outcome_80 rfl (lv_at hl 3 rfl) ?_
            refine lv_goto (tgt := 86) hx hb dX1_outcome_81 (by decide) ?_
            exact hret _ _ _ _ _ hP hD hS (out_1 u_1 c_73 c_77) dX1_outcome_86
      · have c_13 : i < 8 := zz_cnle (by omega) (by omega) c_13
        refine lv_aload_n hx hb dX1_outcome_16 rfl (lv_at hl 0 rfl) ?_
        refine lv_iload_n hx hb dX1_outcome_17 rfl (lv_at hl 1 rfl) ?_
        refine lv_iload hx hb dX1_outcome_18 (lv_at hl 5 rfl) ?_
        refine zz_call0 (As := [.int x, .int (nI i)]) (rest := []) (q0 := 0) (ci := 1) ⟨hx, hb, hml, hown, hts⟩ hA hK hP hD hS (tX1_in l D h x i (by omega)) (cwV 2 hts gX1_in rfl rfl rfl hX1_in ⟨by decide, by decide⟩) rfl rfl rfl hl.1 rfl (Nat.le_of_ble_eq_true rfl) dX1_outcome_20 ⟨Nat.le_refl _, Nat.le_refl _⟩ (fun H locs hP hD hS => ?_)
        refine lv_if_eq (tgt := 66) hx hb dX1_outcome_23 (by decide) (fun c_23 => ?_) (fun c_23 => ?_)
        · have c_23 : (bt x i) = false := zz_bI0 c_23
          refine lv_iinc (v := nI (i + 1)) (lv' := [(5, .int (nI (i + 1))), (0, .ref h), (1, .int x), (2, .int (bI wo)), (3, .int m1), (4, .int m2)]) hx hb dX1_outcome_66 hl (k := 5) rfl (zz_i1 _) (by decide) rfl (fun ls hl => ?_)
          refine lv_goto (tgt := 9) hx hb dX1_outcome_69 (by decide) ?_
          exact ih_9 (i + 1) m1 m2 (by omega) (by omega) (by rw [lp_s, ← v_1, o_0 c_23]) _ _ hP hD hS ls (lv_sub hl [1, 2, 3, 4, 5, 0] rfl)
        · have c_23 : (bt x i) = true := zz_bI1 c_23
          refine lv_aload_n hx hb dX1_outcome_26 rfl (lv_at hl 0 rfl) ?_
          refine va_get (D := D) (ci := 1) (v := .ref f) (C := RX1) (T := TX1) (N := 3) hx hb hts in_X1 hown hK hP 0 rfl rfl 2 (by decide) (hts _ q160) (fun _ h9 => h9) rfl dX1_outcome_27 ?_
          refine lv_iload hx hb dX1_outcome_30 (lv_at hl 5 rfl) ?_
          refine zz_iald (k := i) hx hb hK hP 2 1 rfl rfl (by omega) (by decide) dX1_outcome_32 ?_
          refine lv_iload_n hx hb dX1_outcome_33 rfl (lv_at hl 3 rfl) ?_
          refine lv_icmp_le (tgt := 45) hx hb dX1_outcome_34 (by decide) (fun c_34 => ?_) (fun c_34 => ?_)
          · have c_34 := c_34
            refine lv_aload_n hx hb dX1_outcome_45 rfl (lv_at hl 0 rfl) ?_
            refine va_get (D := D) (ci := 1) (v := .ref f) (C := RX1) (T := TX1) (N := 3) hx hb hts in_X1 hown hK hP 0 rfl rfl 2 (by decide) (hts _ q160) (fun _ h9 => h9) rfl dX1_outcome_46 ?_
            refine lv_iload hx hb dX1_outcome_49 (lv_at hl 5 rfl) ?_
            refine zz_iald (k := i) hx hb hK hP 2 1 rfl rfl (by omega) (by decide) dX1_outcome_51 ?_
            refine lv_iload hx hb dX1_outcome_52 (lv_at hl 4 rfl) ?_
            refine lv_icmp_ge (tgt := 66) hx hb dX1_outcome_54 (by decide) (fun c_54 => ?_) (fun c_54 => ?_)
            · have c_54 := c_54
              refine lv_iinc (v := nI (i + 1)) (lv' := [(5, .int (nI (i + 1))), (0, .ref h), (1, .int x), (2, .int (bI wo)), (3, .int m1), (4, .int m2)]) hx hb dX1_outcome_66 hl (k := 5) rfl (zz_i1 _) (by decide) rfl (fun ls hl => ?_)
              refine lv_goto (tgt := 9) hx hb dX1_outcome_69 (by decide) ?_
              exact ih_9 (i + 1) m1 m2 (by omega) (by omega) (by rw [lp_s, ← v_1, o_1 c_23, if_pos c_34, if_pos c_54]) _ _ hP hD hS ls (lv_sub hl [1, 2, 3, 4, 5, 0] rfl)
            · have c_54 := c_54
              refine lv_aload_n hx hb dX1_outcome_57 rfl (lv_at hl 0 rfl) ?_
              refine va_get (D := D) (ci := 1) (v := .ref f) (C := RX1) (T := TX1) (N := 3) hx hb hts in_X1 hown hK hP 0 rfl rfl 2 (by decide) (hts _ q160) (fun _ h9 => h9) rfl dX1_outcome_58 ?_
              refine lv_iload hx hb dX1_outcome_61 (lv_at hl 5 rfl) ?_
              refine zz_iald (k := i) hx hb hK hP 2 1 rfl rfl (by omega) (by decide) dX1_outcome_63 ?_
              refine lv_istore (lv' := [(4, .int (fr i)), (0, .ref h), (1, .int x), (2, .int (bI wo)), (3, .int m1), (5, .int (nI i))]) hx hb dX1_outcome_64 hl (by decide) rfl (fun ls hl => ?_)
              refine lv_iinc (v := nI (i + 1)) (lv' := [(5, .int (nI (i + 1))), (4, .int (fr i)), (0, .ref h), (1, .int x), (2, .int (bI wo)), (3, .int m1)]) hx hb dX1_outcome_66 hl (k := 5) rfl (zz_i1 _) (by decide) rfl (fun ls hl => ?_)
              refine lv_goto (tgt := 9) hx hb dX1_outcome_69 (by decide) ?_
              exact ih_9 (i + 1) m1 (fr i) (by omega) (by omega) (by rw [lp_s, ← v_1, o_1 c_23, if_pos c_34, if_neg c_54]) _ _ hP hD hS ls (lv_sub hl [2, 3, 4, 5, 1, 0] rfl)
          · have c_34 := c_34
            refine lv_aload_n hx hb dX1_outcome_37 rfl (lv_at hl 0 rfl) ?_
            refine va_get (D := D) (ci := 1) (v := .ref f) (C := RX1) (T := TX1) (N := 3) hx hb hts in_X1 hown hK hP 0 rfl rfl 2 (by decide) (hts _ q160) (fun _ h9 => h9) rfl dX1_outcome_38 ?_
            refine lv_iload hx hb dX1_outcome_41 (lv_at hl 5 rfl) ?_
            refine zz_iald (k := i) hx hb hK hP 2 1 rfl rfl (by omega) (by decide) dX1_outcome_43 ?_
            refine lv_istore_n (lv' := [(3, .int (fr i)), (0, .ref h), (1, .int x), (2, .int (bI wo)), (4, .int m2), (5, .int (nI i))]) hx hb dX1_outcome_44 rfl hl (by decide) rfl (fun ls hl => ?_)
            refine lv_aload_n hx hb dX1_outcome_45 rfl (lv_at hl 1 rfl) ?_
            refine va_get (D := D) (ci := 1) (v := .ref f) (C := RX1) (T := TX1) (N := 3) hx hb hts in_X1 hown hK hP 0 rfl rfl 2 (by decide) (hts _ q160) (fun _ h9 => h9) rfl dX1_outcome_46 ?_
            refine lv_iload hx hb dX1_outcome_49 (lv_at hl 5 rfl) ?_
            refine zz_iald (k := i) hx hb hK hP 2 1 rfl rfl (by omega) (by decide) dX1_outcome_51 ?_
            refine lv_iload hx hb dX1_outcome_52 (lv_at hl 4 rfl) ?_
            refine lv_icmp_ge (tgt := 66) hx hb dX1_outcome_54 (by decide) (fun c_54 => ?_) (fun c_54 => ?_)
            · have c_54 := c_54
              refine lv_iinc (v := nI (i + 1)) (lv' := [(5, .int (nI (i + 1))), (3, .int (fr i)), (0, .ref h), (1, .int x), (2, .int (bI wo)), (4, .int m2)]) hx hb dX1_outcome_66 hl (k := 5) rfl (zz_i1 _) (by decide) rfl (fun ls hl => ?_)
              refine lv_goto (tgt := 9) hx hb dX1_outcome_69 (by decide) ?_
              exact ih_9 (i + 1) (fr i) m2 (by omega) (by omega) (by rw [lp_s, ← v_1, o_1 c_23, if_neg c_34, if_pos c_54]) _ _ hP hD hS ls (lv_sub hl [2, 3, 4, 1, 5, 0] rfl)
            · have c_54 := c_54
              refine lv_aload_n hx hb dX1_outcome_57 rfl (lv_at hl 1 rfl) ?_
              refine va_get (D := D) (ci := 1) (v := .ref f) (C := RX1) (T := TX1) (N := 3) hx hb hts in_X1 hown hK hP 0 rfl rfl 2 (by decide) (hts _ q160) (fun _ h9 => h9) rfl dX1_outcome_58 ?_
              refine lv_iload hx hb dX1_outcome_61 (lv_at hl 5 rfl) ?_
              refine zz_iald (k := i) hx hb hK hP 2 1 rfl rfl (by omega) (by decide) dX1_outcome_63 ?_
              refine lv_istore (lv' := [(4, .int (fr i)), (3, .int (fr i)), (0, .ref h), (1, .int x), (2, .int (bI wo)), (5, .int (nI i))]) hx hb dX1_outcome_64 hl (by decide) rfl (fun ls hl => ?_)
              refine lv_iinc (v := nI (i + 1)) (lv' := [(5, .int (nI (i + 1))), (4, .int (fr i)), (3, .int (fr i)), (0, .ref h), (1, .int x), (2, .int (bI wo))]) hx hb dX1_outcome_66 hl (k := 5) rfl (zz_i1 _) (by decide) rfl (fun ls hl => ?_)
              refine lv_goto (tgt := 9) hx hb dX1_outcome_69 (by decide) ?_
              exact ih_9 (i + 1) (fr i) (fr i) (by omega) (by omega) (by rw [lp_s, ← v_1, o_1 c_23, if_neg c_34, if_neg c_54]) _ _ hP hD hS ls (lv_sub hl [3, 4, 5, 2, 1, 0] rfl)
  exact loop_9 (8 + 1) 0 (-1) (nI 99) (by omega) (by omega) (rfl) _ _ hP hD hS ls (lv_sub hl [3, 4, 5, 2, 1, 0] rfl)
set_option maxHeartbeats 4000000 in
theorem tX1_count (l : Launch) (D : va_G) (h o f : Nat) (d1 d2 : ClassId) (a fr : Nat → Int32) (g : Int32) (wo : Bool) : zV l D yX1_count cX1_count 5 2 [.ref h, .int (bI wo)] (MT d1 d2) (MW h o f d1 d2 a g fr) (MW h o f d1 d2 a g (cF a g wo)) := by
  refine zz_V (by decide) (Nat.le_of_ble_eq_true rfl) ?_
  intro p e s m args below meth c A Q hx hb hml hown hts hA hK hP hD hS hret ls hl
  have hown : s.vm.findClass RX1 = some m.cls := hown
  have hl : lv_has ls 5 [(0, .ref h), (1, .int (bI wo))] := hl
  refine lv_iconst (v := 0) hx hb dX1_count_0 (by decide +kernel) ?_
  refine lv_istore_n (lv' := [(2, .int 0), (0, .ref h), (1, .int (bI wo))]) hx hb dX1_count_1 rfl hl (by decide) rfl (fun ls hl => ?_)
  have loop_2 : ∀ (n i : Nat) (f1 : Nat → Int32), i ≤ 8 → 8 < i + n → (∀ j, j < i → f1 j = far0 g j) → ∀ (H : Heap) (locs : List Loc), va_P D vCl (MW h o f d1 d2 a g f1) H → va_D A (MW h o f d1 d2 a g f1) → va_S A s.heap H locs → ∀ (ls : Array Slot), lv_has ls 5 [(0, .ref h), (1, .int (bI wo)), (2, .int (nI i))] → W p l e (zR 2) s m args below meth c H locs 0 0 Q (F0 m 2 ls []) := by
    intro n
    induction n with
    | zero =>
      intro i f1 h1 h2
      exact absurd h2 (by omega)
    | succ n ih_2 =>
      intro i f1 hi_2 hn_2 v_1 H locs hP hD hS ls hl
      refine lv_iload_n hx hb dX1_count_2 rfl (lv_at hl 2 rfl) ?_
      refine lv_bipush (v := nI 8) hx hb dX1_count_3 (by decide +kernel) ?_
      refine lv_icmp_ge (tgt := 38) hx hb dX1_count_5 (by decide) (fun c_5 => ?_) (fun c_5 => ?_)
      · have c_5 : 8 ≤ i := zz_cle (by omega) (by omega) c_5
        have hP := zz_arr hP 2 rfl (f' := far0 g) (fun j hj => v_1 j (by omega))
        have hD := hD.set (p := 2) (e := .inl (d2, 8, .inl (far0 g))) rfl
        have hP : va_P D vCl (MW h o f d1 d2 a g (far0 g)) H := hP
        have hD : va_D A (MW h o f d1 d2 a g (far0 g)) := hD
        refine lv_iconst (v := 0) hx hb dX1_count_38 (by decide +kernel) ?_
        refine lv_istore_n (lv' := [(2, .int 0), (0, .ref h), (1, .int (bI wo))]) hx hb dX1_count_39 rfl hl (by decide) rfl (fun ls hl => ?_)
        have loop_40 : ∀ (n r : Nat) (f2 : Nat → Int32), r ≤ 8 → 8 < r + n → (f2 = lp (cR a wo) (far0 g) r) → ∀ (H : Heap) (locs : List Loc), va_P D vCl (MW h o f d1 d2 a g f2) H → va_D A (MW h o f d1 d2 a g f2) → va_S A s.heap H locs → ∀ (ls : Array Slot), lv_has ls 5 [(0, .ref h), (1, .int (bI wo)), (2, .int (nI r))] → W p l e (zR 2) s m args below meth c H locs 0 0 Q (F0 m 40 ls []) := by
          intro n
          induction n with
          | zero =>
            intro r f2 h1 h2
            exact absurd h2 (by omega)
          | succ n ih_40 =>
            intro r f2 hi_40 hn_40 v_2 H locs hP hD hS ls hl
            refine lv_iload_n hx hb dX1_count_40 rfl (lv_at hl 2 rfl) ?_
            refine lv_bipush (v := nI 8) hx hb dX1_count_41 (by decide +kernel) ?_
            refine lv_icmp_ge (tgt := 106) hx hb dX1_count_43 (by decide) (fun c_43 => ?_) (fun c_43 => ?_)
            · have c_43 : 8 ≤ r := zz_cle (by omega) (by omega) c_43
              exact hret _ _ _ _ (zz_eqP (by rw [v_2, show r = 8 by omega]; rfl) hP) (zz_eqD (by rw [v_2, show r = 8 by omega]; rfl) hD) hS dX1_count_106
            · have c_43 : r < 8 := zz_cnle (by omega) (by omega) c_43
              refine lv_iconst (v := 0) hx hb dX1_count_46 (by decide +kernel) ?_
              refine lv_istore_n (lv' := [(3, .int 0), (0, .ref h), (1, .int (bI wo)), (2, .int (nI r))]) hx hb dX1_count_47 rfl hl (by decide) rfl (fun ls hl => ?_)
              have loop_48 : ∀ (n k : Nat) (f3 : Nat → Int32), k ≤ 24 → 24 < k + n → (f3 = lp (cSt a wo) f2 k) → ∀ (H : Heap) (locs : List Loc), va_P D vCl (MW h o f d1 d2 a g f3) H → va_D A (MW h o f d1 d2 a g f3) → va_S A s.heap H locs → ∀ (ls : Array Slot), lv_has ls 5 [(0, .ref h), (1, .int (bI wo)), (2, .int (nI r)), (3, .int (nI k))] → W p l e (zR 2) s m args below meth c H locs 0 0 Q (F0 m 48 ls []) := by
                intro n
                induction n with
                | zero =>
                  intro k f3 h1 h2
                  exact absurd h2 (by omega)
                | succ n ih_48 =>
                  intro k f3 hi_48 hn_48 v_3 H locs hP hD hS ls hl
                  refine lv_iload_n hx hb dX1_count_48 rfl (lv_at hl 3 rfl) ?_
                  refine lv_bipush (v := nI 24) hx hb dX1_count_49 (by decide +kernel) ?_
                  refine lv_icmp_ge (tgt := 100) hx hb dX1_count_51 (by decide) (fun c_51 => ?_) (fun c_51 => ?_)
                  · have c_51 : 24 ≤ k := zz_cle (by omega) (by omega) c_51
                    refine lv_iinc (v := nI (r + 1)) (lv' := [(2, .int (nI (r + 1))), (0, .ref h), (1, .int (bI wo)), (3, .int (nI k))]) hx hb dX1_count_100 hl (k := 2) rfl (zz_i1 _) (by decide) rfl (fun ls hl => ?_)
                    refine lv_goto (tgt := 40) hx hb dX1_count_103 (by decide) ?_
                    exact ih_40 (r + 1) f3 (by omega) (by omega) (by rw [lp_s, ← v_2, v_3, show k = 24 by omega]; rfl) _ _ hP hD hS ls (lv_sub hl [1, 2, 0] rfl)
                  · have c_51 : k < 24 := zz_cnle (by omega) (by omega) c_51
                    refine lv_aload_n hx hb dX1_count_54 rfl (lv_at hl 0 rfl) ?_
                    refine lv_aload_n hx hb dX1_count_55 rfl (lv_at hl 0 rfl) ?_
                    refine va_get (D := D) (ci := 1) (v := .ref o) (C := RX1) (T := TX1) (N := 3) hx hb hts in_X1 hown hK hP 0 rfl rfl 0 (by decide) (hts _ q158) (fun _ h9 => h9) rfl dX1_count_56 ?_
                    refine lv_iload_n hx hb dX1_count_59 rfl (lv_at hl 3 rfl) ?_
                    refine zz_iald (k := k) hx hb hK hP 1 0 rfl rfl (by omega) (by decide) dX1_count_60 ?_
                    refine lv_iload_n hx hb dX1_count_61 rfl (lv_at hl 1 rfl) ?_
                    refine zz_callW (As := [.int (a k), .int (bI wo)]) (rest := []) (q0 := 0) (ci := 1) ⟨hx, hb, hml, hown, hts⟩ hA hK hP hD hS (tX1_outcome l D h o f d1 d2 a f3 g (a k) wo) (cwV 2 hts gX1_outcome rfl rfl rfl hX1_outcome ⟨by decide, by decide⟩) rfl rfl rfl hl.1 rfl (Nat.le_of_ble_eq_true rfl) dX1_count_62 ⟨Nat.le_refl _, Nat.le_refl _⟩ (fun H locs hP hD hS => ?_)
                    refine lv_istore (lv' := [(4, .int (outF f3 (a k) wo)), (0, .ref h), (1, .int (bI wo)), (2, .int (nI r)), (3, .int (nI k))]) hx hb dX1_count_65 hl (by decide) rfl (fun ls hl => ?_)
                    refine lv_iload hx hb dX1_count_67 (lv_at hl 0 rfl) ?_
                    refine lv_iconst (v := 1) hx hb dX1_count_69 (by decide +kernel) ?_
                    refine lv_iadd hx hb dX1_count_70 ?_
                    refine lv_aload_n hx hb dX1_count_71 rfl (lv_at hl 1 rfl) ?_
                    refine va_get (D := D) (ci := 1) (v := .ref f) (C := RX1) (T := TX1) (N := 3) hx hb hts in_X1 hown hK hP 0 rfl rfl 2 (by decide) (hts _ q160) (fun _ h9 => h9) rfl dX1_count_72 ?_
                    refine lv_iload_n hx hb dX1_count_75 rfl (lv_at hl 4 rfl) ?_
                    refine lv_iconst (v := nI 3) hx hb dX1_count_76 (by decide +kernel) ?_
                    refine lv_idiv hx hb dX1_count_77 zz_n3 ?_
                    refine zz_top (z := nI (k / 3)) (zz_div3 (by omega)) ?_
                    refine zz_iald (k := k / 3) hx hb hK hP 2 1 rfl rfl (by omega) (by decide) dX1_count_78 ?_
                    refine lv_icmp_ge (tgt := 94) hx hb dX1_count_79 (by decide) (fun c_79 => ?_) (fun c_79 => ?_)
                    · have c_79 := c_79
                      refine lv_iinc (v := nI (k + 1)) (lv' := [(3, .int (nI (k + 1))), (4, .int (outF f3 (a k) wo)), (0, .ref h), (1, .int (bI wo)), (2, .int (nI r))]) hx hb dX1_count_94 hl (k := 4) rfl (zz_i1 _) (by decide) rfl (fun ls hl => ?_)
                      refine lv_goto (tgt := 48) hx hb dX1_count_97 (by decide) ?_
                      exact ih_48 (k + 1) f3 (by omega) (by omega) (by rw [lp_s, ← v_3, ct_1 c_79]) _ _ hP hD hS ls (lv_sub hl [2, 3, 4, 0] rfl)
                    · have c_79 := c_79
                      refine lv_aload_n hx hb dX1_count_82 rfl (lv_at hl 1 rfl) ?_
                      refine va_get (D := D) (ci := 1) (v := .ref f) (C := RX1) (T := TX1) (N := 3) hx hb hts in_X1 hown hK hP 0 rfl rfl 2 (by decide) (hts _ q160) (fun _ h9 => h9) rfl dX1_count_83 ?_
                      refine lv_iload_n hx hb dX1_count_86 rfl (lv_at hl 4 rfl) ?_
                      refine lv_iconst (v := nI 3) hx hb dX1_count_87 (by decide +kernel) ?_
                      refine lv_idiv hx hb dX1_count_88 zz_n3 ?_
                      refine zz_top (z := nI (k / 3)) (zz_div3 (by omega)) ?_
                      refine lv_iload hx hb dX1_count_89 (lv_at hl 0 rfl) ?_
                      refine lv_iconst (v := 1) hx hb dX1_count_91 (by decide +kernel) ?_
                      refine lv_iadd hx hb dX1_count_92 ?_
                      refine zz_iast (k := k / 3) (x := ((outF f3 (a k) wo) + 1)) hx hb hK hP hD hS 2 1 rfl rfl (by omega) (by decide) dX1_count_93 (fun H locs hP hD hS => ?_)
                      have hP : va_P D vCl (MW h o f d1 d2 a g (upd f3 (k / 3) ((outF f3 (a k) wo) + 1))) H := hP
                      have hD : va_D A (MW h o f d1 d2 a g (upd f3 (k / 3) ((outF f3 (a k) wo) + 1))) := hD
                      refine lv_iinc (v := nI (k + 1)) (lv' := [(3, .int (nI (k + 1))), (4, .int (outF f3 (a k) wo)), (0, .ref h), (1, .int (bI wo)), (2, .int (nI r))]) hx hb dX1_count_94 hl (k := 4) rfl (zz_i1 _) (by decide) rfl (fun ls hl => ?_)
                      refine lv_goto (tgt := 48) hx hb dX1_count_97 (by decide) ?_
                      exact ih_48 (k + 1) (upd f3 (k / 3) ((outF f3 (a k) wo) + 1)) (by omega) (by omega) (by rw [lp_s, ← v_3, ct_0 c_79]) _ _ hP hD hS ls (lv_sub hl [2, 3, 4, 0] rfl)
              exact loop_48 (24 + 1) 0 f2 (by omega) (by omega) (rfl) _ _ hP hD hS ls (lv_sub hl [1, 2, 3, 0] rfl)
        exact loop_40 (8 + 1) 0 (far0 g) (by omega) (by omega) (rfl) _ _ hP hD hS ls (lv_sub hl [1, 2, 0] rfl)
      · have c_5 : i < 8 := zz_cnle (by omega) (by omega) c_5
        refine lv_aload_n hx hb dX1_count_8 rfl (lv_at hl 0 rfl) ?_
        refine va_get (D := D) (ci := 1) (v := .ref f) (C := RX1) (T := TX1) (N := 3) hx hb hts in_X1 hown hK hP 0 rfl rfl 2 (by decide) (hts _ q160) (fun _ h9 => h9) rfl dX1_count_9 ?_
        refine lv_iload_n hx hb dX1_count_12 rfl (lv_at hl 2 rfl) ?_
        refine lv_aload_n hx hb dX1_count_13 rfl (lv_at hl 0 rfl) ?_
        refine lv_aload_n hx hb dX1_count_14 rfl (lv_at hl 0 rfl) ?_
        refine va_get (D := D) (ci := 1) (v := .int g) (C := RX1) (T := TX1) (N := 3) hx hb hts in_X1 hown hK hP 0 rfl rfl 1 (by decide) (hts _ q159) (fun _ h9 => h9) rfl dX1_count_15 ?_
        refine lv_iload_n hx hb dX1_count_18 rfl (lv_at hl 2 rfl) ?_
        refine zz_call0 (As := [.int g, .int (nI i)]) (rest := [.int (nI i), .ref f]) (q0 := 0) (ci := 1) ⟨hx, hb, hml, hown, hts⟩ hA hK hP hD hS (tX1_in l D h g i (by omega)) (cwV 2 hts gX1_in rfl rfl rfl hX1_in ⟨by decide, by decide⟩) rfl rfl rfl hl.1 rfl (Nat.le_of_ble_eq_true rfl) dX1_count_19 ⟨Nat.le_refl _, Nat.le_refl _⟩ (fun H locs hP hD hS => ?_)
        refine lv_if_eq (tgt := 29) hx hb dX1_count_22 (by decide) (fun c_22 => ?_) (fun c_22 => ?_)
        · have c_22 : (bt g i) = false := zz_bI0 c_22
          refine lv_bipush (v := nI 99) hx hb dX1_count_29 (by decide +kernel) ?_
          refine zz_iast (k := i) (x := nI 99) hx hb hK hP hD hS 2 1 rfl rfl (by omega) (by decide) dX1_count_31 (fun H locs hP hD hS => ?_)
          have hP : va_P D vCl (MW h o f d1 d2 a g (upd f1 i (nI 99))) H := hP
          have hD : va_D A (MW h o f d1 d2 a g (upd f1 i (nI 99))) := hD
          refine lv_iinc (v := nI (i + 1)) (lv' := [(2, .int (nI (i + 1))), (0, .ref h), (1, .int (bI wo))]) hx hb dX1_count_32 hl (k := 2) rfl (zz_i1 _) (by decide) rfl (fun ls hl => ?_)
          refine lv_goto (tgt := 2) hx hb dX1_count_35 (by decide) ?_
          exact ih_2 (i + 1) (upd f1 i (nI 99)) (by omega) (by omega) (f0_0 c_22 v_1) _ _ hP hD hS ls (lv_sub hl [1, 2, 0] rfl)
        · have c_22 : (bt g i) = true := zz_bI1 c_22
          refine lv_iconst (v := 0) hx hb dX1_count_25 (by decide +kernel) ?_
          refine lv_goto (tgt := 31) hx hb dX1_count_26 (by decide) ?_
          refine zz_iast (k := i) (x := 0) hx hb hK hP hD hS 2 1 rfl rfl (by omega) (by decide) dX1_count_31 (fun H locs hP hD hS => ?_)
          have hP : va_P D vCl (MW h o f d1 d2 a g (upd f1 i 0)) H := hP
          have hD : va_D A (MW h o f d1 d2 a g (upd f1 i 0)) := hD
          refine lv_iinc (v := nI (i + 1)) (lv' := [(2, .int (nI (i + 1))), (0, .ref h), (1, .int (bI wo))]) hx hb dX1_count_32 hl (k := 2) rfl (zz_i1 _) (by decide) rfl (fun ls hl => ?_)
          refine lv_goto (tgt := 2) hx hb dX1_count_35 (by decide) ?_
          exact ih_2 (i + 1) (upd f1 i 0) (by omega) (by omega) (f0_1 c_22 v_1) _ _ hP hD hS ls (lv_sub hl [1, 2, 0] rfl)
  exact loop_2 (8 + 1) 0 fr (by omega) (by omega) (lt_0) _ _ hP hD hS ls (lv_sub hl [1, 2, 0] rfl)
set_option maxHeartbeats 4000000 in
theorem tX1_reached (l : Launch) (D : va_G) (h o f : Nat) (d1 d2 : ClassId) (a fr : Nat → Int32) (g : Int32)  : zI l D yX1_reached cX1_reached 3 .int 0 [.ref h] (MT d1 d2) (MW h o f d1 d2 a g fr) (rF fr) (MW h o f d1 d2 a g fr) := by
  refine zz_I (by decide) (Nat.le_of_ble_eq_true rfl) (rfl) ?_
  intro p e s m args below meth c A Q hx hb hml hown hts hA hK hP hD hS hret ls hl
  have hown : s.vm.findClass RX1 = some m.cls := hown
  have hl : lv_has ls 3 [(0, .ref h)] := hl
  refine lv_iconst (v := 0) hx hb dX1_reached_0 (by decide +kernel) ?_
  refine lv_istore_n (lv' := [(1, .int 0), (0, .ref h)]) hx hb dX1_reached_1 rfl hl (by decide) rfl (fun ls hl => ?_)
  refine lv_iconst (v := 0) hx hb dX1_reached_2 (by decide +kernel) ?_
  refine lv_istore_n (lv' := [(2, .int 0), (1, .int 0), (0, .ref h)]) hx hb dX1_reached_3 rfl hl (by decide) rfl (fun ls hl => ?_)
  have loop_4 : ∀ (n i : Nat) (x1 : Int32), i ≤ 8 → 8 < i + n → (x1 = lp (rSt fr) 0 i) → ∀ (H : Heap) (locs : List Loc), va_P D vCl (MW h o f d1 d2 a g fr) H → va_D A (MW h o f d1 d2 a g fr) → va_S A s.heap H locs → ∀ (ls : Array Slot), lv_has ls 3 [(0, .ref h), (1, .int x1), (2, .int (nI i))] → W p l e (zR 0) s m args below meth c H locs 0 0 Q (F0 m 4 ls []) := by
    intro n
    induction n with
    | zero =>
      intro i x1 h1 h2
      exact absurd h2 (by omega)
    | succ n ih_4 =>
      intro i x1 hi_4 hn_4 v_1 H locs hP hD hS ls hl
      refine lv_iload_n hx hb dX1_reached_4 rfl (lv_at hl 2 rfl) ?_
      refine lv_bipush (v := nI 8) hx hb dX1_reached_5 (by decide +kernel) ?_
      refine lv_icmp_ge (tgt := 33) hx hb dX1_reached_7 (by decide) (fun c_7 => ?_) (fun c_7 => ?_)
      · have c_7 : 8 ≤ i := zz_cle (by omega) (by omega) c_7
        refine lv_iload_n hx hb dX1_reached_33 rfl (lv_at hl 1 rfl) ?_
        exact hret _ _ _ _ _ hP hD hS (by rw [v_1, show i = 8 by omega]; rfl) dX1_reached_34
      · have c_7 : i < 8 := zz_cnle (by omega) (by omega) c_7
        refine lv_aload_n hx hb dX1_reached_10 rfl (lv_at hl 0 rfl) ?_
        refine va_get (D := D) (ci := 1) (v := .ref f) (C := RX1) (T := TX1) (N := 3) hx hb hts in_X1 hown hK hP 0 rfl rfl 2 (by decide) (hts _ q160) (fun _ h9 => h9) rfl dX1_reached_11 ?_
        refine lv_iload_n hx hb dX1_reached_14 rfl (lv_at hl 2 rfl) ?_
        refine zz_iald (k := i) hx hb hK hP 2 1 rfl rfl (by omega) (by decide) dX1_reached_15 ?_
        refine lv_bipush (v := nI 99) hx hb dX1_reached_16 (by decide +kernel) ?_
        refine lv_icmp_ge (tgt := 27) hx hb dX1_reached_18 (by decide) (fun c_18 => ?_) (fun c_18 => ?_)
        · have c_18 := c_18
          refine lv_iinc (v := nI (i + 1)) (lv' := [(2, .int (nI (i + 1))), (0, .ref h), (1, .int x1)]) hx hb dX1_reached_27 hl (k := 2) rfl (zz_i1 _) (by decide) rfl (fun ls hl => ?_)
          refine lv_goto (tgt := 4) hx hb dX1_reached_30 (by decide) ?_
          exact ih_4 (i + 1) x1 (by omega) (by omega) (by rw [lp_s, ← v_1, r_1 c_18]) _ _ hP hD hS ls (lv_sub hl [1, 2, 0] rfl)
        · have c_18 := c_18
          refine lv_iload_n hx hb dX1_reached_21 rfl (lv_at hl 1 rfl) ?_
          refine lv_iconst (v := 1) hx hb dX1_reached_22 (by decide +kernel) ?_
          refine lv_iload_n hx hb dX1_reached_23 rfl (lv_at hl 2 rfl) ?_
          refine lv_ishl hx hb dX1_reached_24 ?_
          refine zz_top (z := one i) (rfl) ?_
          refine lv_ior hx hb dX1_reached_25 ?_
          refine lv_istore_n (lv' := [(1, .int (x1 ||| (one i))), (0, .ref h), (2, .int (nI i))]) hx hb dX1_reached_26 rfl hl (by decide) rfl (fun ls hl => ?_)
          refine lv_iinc (v := nI (i + 1)) (lv' := [(2, .int (nI (i + 1))), (1, .int (x1 ||| (one i))), (0, .ref h)]) hx hb dX1_reached_27 hl (k := 2) rfl (zz_i1 _) (by decide) rfl (fun ls hl => ?_)
          refine lv_goto (tgt := 4) hx hb dX1_reached_30 (by decide) ?_
          exact ih_4 (i + 1) (x1 ||| (one i)) (by omega) (by omega) (by rw [lp_s, ← v_1, r_0 c_18]) _ _ hP hD hS ls (lv_sub hl [2, 1, 0] rfl)
  exact loop_4 (8 + 1) 0 0 (by omega) (by omega) (rfl) _ _ hP hD hS ls (lv_sub hl [2, 1, 0] rfl)
set_option maxHeartbeats 4000000 in
theorem tX1_keeps (l : Launch) (D : va_G) (h o f : Nat) (d1 d2 : ClassId) (a fr : Nat → Int32) (g : Int32) (x : Int32) : zI l D yX1_keeps cX1_keeps 5 .boolean 1 [.ref h, .int x] (MT d1 d2) (MW h o f d1 d2 a g fr) (bI (kpB a g x)) (MW h o f d1 d2 a g fr) := by
  refine zz_I (by decide) (Nat.le_of_ble_eq_true rfl) (zz_bIn _) ?_
  intro p e s m args below meth c A Q hx hb hml hown hts hA hK hP hD hS hret ls hl
  have hown : s.vm.findClass RX1 = some m.cls := hown
  have hl : lv_has ls 5 [(0, .ref h), (1, .int x)] := hl
  refine lv_aload_n hx hb dX1_keeps_0 rfl (lv_at hl 0 rfl) ?_
  refine va_get (D := D) (ci := 1) (v := .int g) (C := RX1) (T := TX1) (N := 3) hx hb hts in_X1 hown hK hP 0 rfl rfl 1 (by decide) (hts _ q159) (fun _ h9 => h9) rfl dX1_keeps_1 ?_
  refine lv_istore_n (lv' := [(2, .int g), (0, .ref h), (1, .int x)]) hx hb dX1_keeps_4 rfl hl (by decide) rfl (fun ls hl => ?_)
  refine lv_iconst (v := 0) hx hb dX1_keeps_5 (by decide +kernel) ?_
  refine lv_istore_n (lv' := [(3, .int 0), (2, .int g), (0, .ref h), (1, .int x)]) hx hb dX1_keeps_6 rfl hl (by decide) rfl (fun ls hl => ?_)
  have loop_7 : ∀ (n r : Nat) (x1 : Int32), r ≤ 8 → 8 < r + n → (x1 = lp (nR a x) g r) → ∀ (H : Heap) (locs : List Loc), va_P D vCl (MW h o f d1 d2 a g fr) H → va_D A (MW h o f d1 d2 a g fr) → va_S A s.heap H locs → ∀ (ls : Array Slot), lv_has ls 5 [(0, .ref h), (1, .int x), (2, .int x1), (3, .int (nI r))] → W p l e (zR 1) s m args below meth c H locs 0 0 Q (F0 m 7 ls []) := by
    intro n
    induction n with
    | zero =>
      intro r x1 h1 h2
      exact absurd h2 (by omega)
    | succ n ih_7 =>
      intro r x1 hi_7 hn_7 v_1 H locs hP hD hS ls hl
      refine lv_iload_n hx hb dX1_keeps_7 rfl (lv_at hl 3 rfl) ?_
      refine lv_bipush (v := nI 8) hx hb dX1_keeps_8 (by decide +kernel) ?_
      refine lv_icmp_ge (tgt := 82) hx hb dX1_keeps_10 (by decide) (fun c_10 => ?_) (fun c_10 => ?_)
      · have c_10 : 8 ≤ r := zz_cle (by omega) (by omega) c_10
        have u_1 : x1 = nF a g x := by rw [show r = 8 by omega] at v_1; exact v_1
        refine lv_iload_n hx hb dX1_keeps_82 rfl (lv_at hl 1 rfl) ?_
        refine lv_iload_n hx hb dX1_keeps_83 rfl (lv_at hl 2 rfl) ?_
        refine lv_iconst (v := (-1)) hx hb dX1_keeps_84 (by decide +kernel) ?_
        refine lv_ixor hx hb dX1_keeps_85 ?_
        refine lv_iand hx hb dX1_keeps_86 ?_
        refine lv_if_ne (tgt := 94) hx hb dX1_keeps_87 (by decide) (fun c_87 => ?_) (fun c_87 => ?_)
        · have c_87 := c_87
          rw [u_1] at c_87
          refine lv_iconst (v := 0) hx hb dX1_keeps_94 (by decide +kernel) ?_
          exact hret _ _ _ _ _ hP hD hS (by rw [kp_0 c_87]; rfl) dX1_keeps_95
        · have c_87 := c_87
          rw [u_1] at c_87
          refine lv_iconst (v := 1) hx hb dX1_keeps_90 (by decide +kernel) ?_
          refine lv_goto (tgt := 95) hx hb dX1_keeps_91 (by decide) ?_
          exact hret _ _ _ _ _ hP hD hS (by rw [kp_1 c_87]; rfl) dX1_keeps_95
      · have c_10 : r < 8 := zz_cnle (by omega) (by omega) c_10
        refine lv_iconst (v := 0) hx hb dX1_keeps_13 (by decide +kernel) ?_
        refine lv_istore (lv' := [(4, .int 0), (0, .ref h), (1, .int x), (2, .int x1), (3, .int (nI r))]) hx hb dX1_keeps_14 hl (by decide) rfl (fun ls hl => ?_)
        have loop_16 : ∀ (n k : Nat) (x2 : Int32), k ≤ 24 → 24 < k + n → (x2 = lp (nSt a x) x1 k) → ∀ (H : Heap) (locs : List Loc), va_P D vCl (MW h o f d1 d2 a g fr) H → va_D A (MW h o f d1 d2 a g fr) → va_S A s.heap H locs → ∀ (ls : Array Slot), lv_has ls 5 [(0, .ref h), (1, .int x), (2, .int x2), (3, .int (nI r)), (4, .int (nI k))] → W p l e (zR 1) s m args below meth c H locs 0 0 Q (F0 m 16 ls []) := by
          intro n
          induction n with
          | zero =>
            intro k x2 h1 h2
            exact absurd h2 (by omega)
          | succ n ih_16 =>
            intro k x2 hi_16 hn_16 v_2 H locs hP hD hS ls hl
            refine lv_iload hx hb dX1_keeps_16 (lv_at hl 4 rfl) ?_
            refine lv_bipush (v := nI 24) hx hb dX1_keeps_18 (by decide +kernel) ?_
            refine lv_icmp_ge (tgt := 76) hx hb dX1_keeps_20 (by decide) (fun c_20 => ?_) (fun c_20 => ?_)
            · have c_20 : 24 ≤ k := zz_cle (by omega) (by omega) c_20
              refine lv_iinc (v := nI (r + 1)) (lv' := [(3, .int (nI (r + 1))), (0, .ref h), (1, .int x), (2, .int x2), (4, .int (nI k))]) hx hb dX1_keeps_76 hl (k := 3) rfl (zz_i1 _) (by decide) rfl (fun ls hl => ?_)
              refine lv_goto (tgt := 7) hx hb dX1_keeps_79 (by decide) ?_
              exact ih_7 (r + 1) x2 (by omega) (by omega) (by rw [lp_s, ← v_1, v_2, show k = 24 by omega]; rfl) _ _ hP hD hS ls (lv_sub hl [1, 2, 3, 0] rfl)
            · have c_20 : k < 24 := zz_cnle (by omega) (by omega) c_20
              refine lv_aload_n hx hb dX1_keeps_23 rfl (lv_at hl 0 rfl) ?_
              refine lv_iload_n hx hb dX1_keeps_24 rfl (lv_at hl 1 rfl) ?_
              refine lv_iload hx hb dX1_keeps_25 (lv_at hl 4 rfl) ?_
              refine lv_iconst (v := nI 3) hx hb dX1_keeps_27 (by decide +kernel) ?_
              refine lv_idiv hx hb dX1_keeps_28 zz_n3 ?_
              refine zz_top (z := nI (k / 3)) (zz_div3 (by omega)) ?_
              refine zz_call0 (As := [.int x, .int (nI (k / 3))]) (rest := []) (q0 := 0) (ci := 1) ⟨hx, hb, hml, hown, hts⟩ hA hK hP hD hS (tX1_in l D h x (k / 3) (by omega)) (cwV 2 hts gX1_in rfl rfl rfl hX1_in ⟨by decide, by decide⟩) rfl rfl rfl hl.1 rfl (Nat.le_of_ble_eq_true rfl) dX1_keeps_29 ⟨Nat.le_refl _, Nat.le_refl _⟩ (fun H locs hP hD hS => ?_)
              refine lv_if_eq (tgt := 70) hx hb dX1_keeps_32 (by decide) (fun c_32 => ?_) (fun c_32 => ?_)
              · have c_32 : (bt x (k / 3)) = false := zz_bI0 c_32
                refine lv_iinc (v := nI (k + 1)) (lv' := [(4, .int (nI (k + 1))), (0, .ref h), (1, .int x), (2, .int x2), (3, .int (nI r))]) hx hb dX1_keeps_70 hl (k := 4) rfl (zz_i1 _) (by decide) rfl (fun ls hl => ?_)
                refine lv_goto (tgt := 16) hx hb dX1_keeps_73 (by decide) ?_
                exact ih_16 (k + 1) x2 (by omega) (by omega) (by rw [lp_s, ← v_2, n_0 c_32]) _ _ hP hD hS ls (lv_sub hl [1, 2, 3, 4, 0] rfl)
              · have c_32 : (bt x (k / 3)) = true := zz_bI1 c_32
                refine lv_aload_n hx hb dX1_keeps_35 rfl (lv_at hl 0 rfl) ?_
                refine va_get (D := D) (ci := 1) (v := .ref o) (C := RX1) (T := TX1) (N := 3) hx hb hts in_X1 hown hK hP 0 rfl rfl 0 (by decide) (hts _ q158) (fun _ h9 => h9) rfl dX1_keeps_36 ?_
                refine lv_iload hx hb dX1_keeps_39 (lv_at hl 4 rfl) ?_
                refine zz_iald (k := k) hx hb hK hP 1 0 rfl rfl (by omega) (by decide) dX1_keeps_41 ?_
                refine lv_iload_n hx hb dX1_keeps_42 rfl (lv_at hl 1 rfl) ?_
                refine lv_iconst (v := (-1)) hx hb dX1_keeps_43 (by decide +kernel) ?_
                refine lv_ixor hx hb dX1_keeps_44 ?_
                refine lv_iand hx hb dX1_keeps_45 ?_
                refine lv_if_ne (tgt := 70) hx hb dX1_keeps_46 (by decide) (fun c_46 => ?_) (fun c_46 => ?_)
                · have c_46 := c_46
                  refine lv_iinc (v := nI (k + 1)) (lv' := [(4, .int (nI (k + 1))), (0, .ref h), (1, .int x), (2, .int x2), (3, .int (nI r))]) hx hb dX1_keeps_70 hl (k := 4) rfl (zz_i1 _) (by decide) rfl (fun ls hl => ?_)
                  refine lv_goto (tgt := 16) hx hb dX1_keeps_73 (by decide) ?_
                  exact ih_16 (k + 1) x2 (by omega) (by omega) (by rw [lp_s, ← v_2, n_1 c_46]) _ _ hP hD hS ls (lv_sub hl [1, 2, 3, 4, 0] rfl)
                · have c_46 := c_46
                  refine lv_aload_n hx hb dX1_keeps_49 rfl (lv_at hl 0 rfl) ?_
                  refine va_get (D := D) (ci := 1) (v := .ref o) (C := RX1) (T := TX1) (N := 3) hx hb hts in_X1 hown hK hP 0 rfl rfl 0 (by decide) (hts _ q158) (fun _ h9 => h9) rfl dX1_keeps_50 ?_
                  refine lv_iload hx hb dX1_keeps_53 (lv_at hl 4 rfl) ?_
                  refine zz_iald (k := k) hx hb hK hP 1 0 rfl rfl (by omega) (by decide) dX1_keeps_55 ?_
                  refine lv_iload_n hx hb dX1_keeps_56 rfl (lv_at hl 2 rfl) ?_
                  refine lv_iand hx hb dX1_keeps_57 ?_
                  refine lv_if_eq (tgt := 70) hx hb dX1_keeps_58 (by decide) (fun c_58 => ?_) (fun c_58 => ?_)
                  · have c_58 := c_58
                    refine lv_iinc (v := nI (k + 1)) (lv' := [(4, .int (nI (k + 1))), (0, .ref h), (1, .int x), (2, .int x2), (3, .int (nI r))]) hx hb dX1_keeps_70 hl (k := 4) rfl (zz_i1 _) (by decide) rfl (fun ls hl => ?_)
                    refine lv_goto (tgt := 16) hx hb dX1_keeps_73 (by decide) ?_
                    exact ih_16 (k + 1) x2 (by omega) (by omega) (by rw [lp_s, ← v_2, n_2 c_58]) _ _ hP hD hS ls (lv_sub hl [1, 2, 3, 4, 0] rfl)
                  · have c_58 := c_58
                    refine lv_iload_n hx hb dX1_keeps_61 rfl (lv_at hl 2 rfl) ?_
                    refine lv_iconst (v := 1) hx hb dX1_keeps_62 (by decide +kernel) ?_
                    refine lv_iload hx hb dX1_keeps_63 (lv_at hl 4 rfl) ?_
                    refine lv_iconst (v := nI 3) hx hb dX1_keeps_65 (by decide +kernel) ?_
                    refine lv_idiv hx hb dX1_keeps_66 zz_n3 ?_
                    refine zz_top (z := nI (k / 3)) (zz_div3 (by omega)) ?_
                    refine lv_ishl hx hb dX1_keeps_67 ?_
                    refine zz_top (z := one (k / 3)) (rfl) ?_
                    refine lv_ior hx hb dX1_keeps_68 ?_
                    refine lv_istore_n (lv' := [(2, .int (x2 ||| (one (k / 3)))), (0, .ref h), (1, .int x), (3, .int (nI r)), (4, .int (nI k))]) hx hb dX1_keeps_69 rfl hl (by decide) rfl (fun ls hl => ?_)
                    refine lv_iinc (v := nI (k + 1)) (lv' := [(4, .int (nI (k + 1))), (2, .int (x2 ||| (one (k / 3)))), (0, .ref h), (1, .int x), (3, .int (nI r))]) hx hb dX1_keeps_70 hl (k := 4) rfl (zz_i1 _) (by decide) rfl (fun ls hl => ?_)
                    refine lv_goto (tgt := 16) hx hb dX1_keeps_73 (by decide) ?_
                    exact ih_16 (k + 1) (x2 ||| (one (k / 3))) (by omega) (by omega) (by rw [lp_s, ← v_2, n_3 c_32 c_46 c_58]) _ _ hP hD hS ls (lv_sub hl [2, 3, 1, 4, 0] rfl)
        exact loop_16 (24 + 1) 0 x1 (by omega) (by omega) (rfl) _ _ hP hD hS ls (lv_sub hl [1, 2, 3, 4, 0] rfl)
  exact loop_7 (8 + 1) 0 g (by omega) (by omega) (rfl) _ _ hP hD hS ls (lv_sub hl [2, 3, 1, 0] rfl)
set_option maxHeartbeats 4000000 in
theorem tX1_safe (l : Launch) (D : va_G) (h o f : Nat) (d1 d2 : ClassId) (a fr : Nat → Int32) (g : Int32)  : zI l D yX1_safe cX1_safe 3 .int 2 [.ref h] (MT d1 d2) (MW h o f d1 d2 a g fr) (mSafe a g) (MW h o f d1 d2 a g fr) := by
  refine zz_I (by decide) (Nat.le_of_ble_eq_true rfl) (rfl) ?_
  intro p e s m args below meth c A Q hx hb hml hown hts hA hK hP hD hS hret ls hl
  have hown : s.vm.findClass RX1 = some m.cls := hown
  have hl : lv_has ls 3 [(0, .ref h)] := hl
  refine lv_aload_n hx hb dX1_safe_0 rfl (lv_at hl 0 rfl) ?_
  refine va_get (D := D) (ci := 1) (v := .int g) (C := RX1) (T := TX1) (N := 3) hx hb hts in_X1 hown hK hP 0 rfl rfl 1 (by decide) (hts _ q159) (fun _ h9 => h9) rfl dX1_safe_1 ?_
  refine lv_istore_n (lv' := [(1, .int g), (0, .ref h)]) hx hb dX1_safe_4 rfl hl (by decide) rfl (fun ls hl => ?_)
  refine lv_iconst (v := 0) hx hb dX1_safe_5 (by decide +kernel) ?_
  refine lv_istore_n (lv' := [(2, .int 0), (1, .int g), (0, .ref h)]) hx hb dX1_safe_6 rfl hl (by decide) rfl (fun ls hl => ?_)
  have loop_7 : ∀ (n k : Nat) (x1 : Int32), k ≤ 256 → 256 < k + n → (x1 = lp (msSt a g) g k) → ∀ (H : Heap) (locs : List Loc), va_P D vCl (MW h o f d1 d2 a g fr) H → va_D A (MW h o f d1 d2 a g fr) → va_S A s.heap H locs → ∀ (ls : Array Slot), lv_has ls 3 [(0, .ref h), (1, .int x1), (2, .int (nI k))] → W p l e (zR 2) s m args below meth c H locs 0 0 Q (F0 m 7 ls []) := by
    intro n
    induction n with
    | zero =>
      intro k x1 h1 h2
      exact absurd h2 (by omega)
    | succ n ih_7 =>
      intro k x1 hi_7 hn_7 v_1 H locs hP hD hS ls hl
      refine lv_iload_n hx hb dX1_safe_7 rfl (lv_at hl 2 rfl) ?_
      refine lv_sipush (v := nI 256) hx hb dX1_safe_8 (by decide +kernel) ?_
      refine lv_icmp_ge (tgt := 43) hx hb dX1_safe_11 (by decide) (fun c_11 => ?_) (fun c_11 => ?_)
      · have c_11 : 256 ≤ k := zz_cle (by omega) (by omega) c_11
        refine lv_iload_n hx hb dX1_safe_43 rfl (lv_at hl 1 rfl) ?_
        exact hret _ _ _ _ _ hP hD hS (by rw [v_1, show k = 256 by omega]; rfl) dX1_safe_44
      · have c_11 : k < 256 := zz_cnle (by omega) (by omega) c_11
        refine lv_aload_n hx hb dX1_safe_14 rfl (lv_at hl 0 rfl) ?_
        refine va_get (D := D) (ci := 1) (v := .int g) (C := RX1) (T := TX1) (N := 3) hx hb hts in_X1 hown hK hP 0 rfl rfl 1 (by decide) (hts _ q159) (fun _ h9 => h9) rfl dX1_safe_15 ?_
        refine lv_iload_n hx hb dX1_safe_18 rfl (lv_at hl 2 rfl) ?_
        refine lv_iconst (v := (-1)) hx hb dX1_safe_19 (by decide +kernel) ?_
        refine lv_ixor hx hb dX1_safe_20 ?_
        refine lv_iand hx hb dX1_safe_21 ?_
        refine lv_if_ne (tgt := 37) hx hb dX1_safe_22 (by decide) (fun c_22 => ?_) (fun c_22 => ?_)
        · have c_22 := c_22
          refine lv_iinc (v := nI (k + 1)) (lv' := [(2, .int (nI (k + 1))), (0, .ref h), (1, .int x1)]) hx hb dX1_safe_37 hl (k := 2) rfl (zz_i1 _) (by decide) rfl (fun ls hl => ?_)
          refine lv_goto (tgt := 7) hx hb dX1_safe_40 (by decide) ?_
          exact ih_7 (k + 1) x1 (by omega) (by omega) (by rw [lp_s, ← v_1, ms_0 c_22]) _ _ hP hD hS ls (lv_sub hl [1, 2, 0] rfl)
        · have c_22 := c_22
          refine lv_aload_n hx hb dX1_safe_25 rfl (lv_at hl 0 rfl) ?_
          refine lv_iload_n hx hb dX1_safe_26 rfl (lv_at hl 2 rfl) ?_
          refine zz_callW (As := [.int (nI k)]) (rest := []) (q0 := 0) (ci := 1) ⟨hx, hb, hml, hown, hts⟩ hA hK hP hD hS (tX1_keeps l D h o f d1 d2 a fr g (nI k)) (cwV 1 hts gX1_keeps rfl rfl rfl hX1_keeps ⟨by decide, by decide⟩) rfl rfl rfl hl.1 rfl (Nat.le_of_ble_eq_true rfl) dX1_safe_27 ⟨Nat.le_refl _, Nat.le_refl _⟩ (fun H locs hP hD hS => ?_)
          refine lv_if_eq (tgt := 37) hx hb dX1_safe_30 (by decide) (fun c_30 => ?_) (fun c_30 => ?_)
          · have c_30 : (kpB a g (nI k)) = false := zz_bI0 c_30
            refine lv_iinc (v := nI (k + 1)) (lv' := [(2, .int (nI (k + 1))), (0, .ref h), (1, .int x1)]) hx hb dX1_safe_37 hl (k := 2) rfl (zz_i1 _) (by decide) rfl (fun ls hl => ?_)
            refine lv_goto (tgt := 7) hx hb dX1_safe_40 (by decide) ?_
            exact ih_7 (k + 1) x1 (by omega) (by omega) (by rw [lp_s, ← v_1, ms_1 c_30]) _ _ hP hD hS ls (lv_sub hl [1, 2, 0] rfl)
          · have c_30 : (kpB a g (nI k)) = true := zz_bI1 c_30
            refine lv_iload_n hx hb dX1_safe_33 rfl (lv_at hl 1 rfl) ?_
            refine lv_iload_n hx hb dX1_safe_34 rfl (lv_at hl 2 rfl) ?_
            refine lv_ior hx hb dX1_safe_35 ?_
            refine lv_istore_n (lv' := [(1, .int (x1 ||| (nI k))), (0, .ref h), (2, .int (nI k))]) hx hb dX1_safe_36 rfl hl (by decide) rfl (fun ls hl => ?_)
            refine lv_iinc (v := nI (k + 1)) (lv' := [(2, .int (nI (k + 1))), (1, .int (x1 ||| (nI k))), (0, .ref h)]) hx hb dX1_safe_37 hl (k := 2) rfl (zz_i1 _) (by decide) rfl (fun ls hl => ?_)
            refine lv_goto (tgt := 7) hx hb dX1_safe_40 (by decide) ?_
            exact ih_7 (k + 1) (x1 ||| (nI k)) (by omega) (by omega) (by rw [lp_s, ← v_1, ms_2 c_22 c_30]) _ _ hP hD hS ls (lv_sub hl [2, 1, 0] rfl)
  exact loop_7 (256 + 1) 0 g (by omega) (by omega) (rfl) _ _ hP hD hS ls (lv_sub hl [2, 1, 0] rfl)
set_option maxHeartbeats 4000000 in
theorem tX1_weak (l : Launch) (D : va_G) (h o f : Nat) (d1 d2 : ClassId) (a fr : Nat → Int32) (g : Int32)  : zI l D yX1_weak cX1_weak 1 .int 3 [.ref h] (MT d1 d2) (MW h o f d1 d2 a g fr) (rF (cF a g false)) (MW h o f d1 d2 a g (cF a g false)) := by
  refine zz_I (by decide) (Nat.le_of_ble_eq_true rfl) (rfl) ?_
  intro p e s m args below meth c A Q hx hb hml hown hts hA hK hP hD hS hret ls hl
  have hown : s.vm.findClass RX1 = some m.cls := hown
  have hl : lv_has ls 1 [(0, .ref h)] := hl
  refine lv_aload_n hx hb dX1_weak_0 rfl (lv_at hl 0 rfl) ?_
  refine lv_iconst (v := 0) hx hb dX1_weak_1 (by decide +kernel) ?_
  refine zz_callVW (As := [.int 0]) (rest := []) (q0 := 0) (ci := 1) ⟨hx, hb, hml, hown, hts⟩ hA hK hP hD hS (tX1_count l D h o f d1 d2 a fr g false) (cwV 1 hts gX1_count rfl rfl rfl hX1_count ⟨by decide, by decide⟩) rfl rfl rfl hl.1 rfl (Nat.le_of_ble_eq_true rfl) dX1_weak_2 ⟨Nat.le_refl _, Nat.le_refl _⟩ (fun H locs hP hD hS => ?_)
  have hP : va_P D vCl (MW h o f d1 d2 a g (cF a g false)) H := hP
  have hD : va_D A (MW h o f d1 d2 a g (cF a g false)) := hD
  refine lv_aload_n hx hb dX1_weak_5 rfl (lv_at hl 0 rfl) ?_
  refine zz_callW (As := []) (rest := []) (q0 := 0) (ci := 1) ⟨hx, hb, hml, hown, hts⟩ hA hK hP hD hS (tX1_reached l D h o f d1 d2 a (cF a g false) g) (cwV 0 hts gX1_reached rfl rfl rfl hX1_reached ⟨by decide, by decide⟩) rfl rfl rfl hl.1 rfl (Nat.le_of_ble_eq_true rfl) dX1_weak_6 ⟨Nat.le_refl _, Nat.le_refl _⟩ (fun H locs hP hD hS => ?_)
  exact hret _ _ _ _ _ hP hD hS (rfl) dX1_weak_9
set_option maxHeartbeats 4000000 in
theorem tX1_sure (l : Launch) (D : va_G) (h o f : Nat) (d1 d2 : ClassId) (a fr : Nat → Int32) (g : Int32)  : zI l D yX1_sure cX1_sure 1 .int 3 [.ref h] (MT d1 d2) (MW h o f d1 d2 a g fr) (rF (cF a g true)) (MW h o f d1 d2 a g (cF a g true)) := by
  refine zz_I (by decide) (Nat.le_of_ble_eq_true rfl) (rfl) ?_
  intro p e s m args below meth c A Q hx hb hml hown hts hA hK hP hD hS hret ls hl
  have hown : s.vm.findClass RX1 = some m.cls := hown
  have hl : lv_has ls 1 [(0, .ref h)] := hl
  refine lv_aload_n hx hb dX1_sure_0 rfl (lv_at hl 0 rfl) ?_
  refine lv_iconst (v := 1) hx hb dX1_sure_1 (by decide +kernel) ?_
  refine zz_callVW (As := [.int 1]) (rest := []) (q0 := 0) (ci := 1) ⟨hx, hb, hml, hown, hts⟩ hA hK hP hD hS (tX1_count l D h o f d1 d2 a fr g true) (cwV 1 hts gX1_count rfl rfl rfl hX1_count ⟨by decide, by decide⟩) rfl rfl rfl hl.1 rfl (Nat.le_of_ble_eq_true rfl) dX1_sure_2 ⟨Nat.le_refl _, Nat.le_refl _⟩ (fun H locs hP hD hS => ?_)
  have hP : va_P D vCl (MW h o f d1 d2 a g (cF a g true)) H := hP
  have hD : va_D A (MW h o f d1 d2 a g (cF a g true)) := hD
  refine lv_aload_n hx hb dX1_sure_5 rfl (lv_at hl 0 rfl) ?_
  refine zz_callW (As := []) (rest := []) (q0 := 0) (ci := 1) ⟨hx, hb, hml, hown, hts⟩ hA hK hP hD hS (tX1_reached l D h o f d1 d2 a (cF a g true) g) (cwV 0 hts gX1_reached rfl rfl rfl hX1_reached ⟨by decide, by decide⟩) rfl rfl rfl hl.1 rfl (Nat.le_of_ble_eq_true rfl) dX1_sure_6 ⟨Nat.le_refl _, Nat.le_refl _⟩ (fun H locs hP hD hS => ?_)
  exact hret _ _ _ _ _ hP hD hS (rfl) dX1_sure_9
end
section
/-! ===== CyclicPlannerModel: the rest (printed by specM.py) ===== -/
set_option maxRecDepth 100000
set_option maxHeartbeats 4000000 in
theorem tX1_number (l : Launch) (D : va_G) (h o f : Nat) (d1 d2 : ClassId) (a fr : Nat → Int32) (g : Int32) (x : Int32) (wo : Bool) : zI l D yX1_number cX1_number 3 .int 3 [.ref h, .int x, .int (bI wo)] (MT d1 d2) (MW h o f d1 d2 a g fr) (numF (cF a g wo) x) (MW h o f d1 d2 a g (if isS x = true then cF a g wo else fr)) := by
  refine zz_I (by decide) (Nat.le_of_ble_eq_true rfl) (rfl) ?_
  intro p e s m args below meth c A Q hx hb hml hown hts hA hK hP hD hS hret ls hl
  have hown : s.vm.findClass RX1 = some m.cls := hown
  have hl : lv_has ls 3 [(0, .ref h), (1, .int x), (2, .int (bI wo))] := hl
  refine lv_aload_n hx hb dX1_number_0 rfl (lv_at hl 0 rfl) ?_
  refine lv_iload_n hx hb dX1_number_1 rfl (lv_at hl 1 rfl) ?_
  refine zz_call0 (As := [.int x]) (rest := []) (q0 := 0) (ci := 1) ⟨hx, hb, hml, hown, hts⟩ hA hK hP hD hS (tX1_isState l D h x) (cwV 1 hts gX1_isState rfl rfl rfl hX1_isState ⟨by decide, by decide⟩) rfl rfl rfl hl.1 rfl (Nat.le_of_ble_eq_true rfl) dX1_number_2 ⟨Nat.le_refl _, Nat.le_refl _⟩ (fun H locs hP hD hS => ?_)
  refine lv_if_ne (tgt := 10) hx hb dX1_number_5 (by decide) (fun c_5 => ?_) (fun c_5 => ?_)
  · have c_5 : (isS x) = true := zz_bI1 c_5
    obtain ⟨j, hj, ej⟩ := isS_of c_5
    subst ej
    refine lv_aload_n hx hb dX1_number_10 rfl (lv_at hl 0 rfl) ?_
    refine lv_iload_n hx hb dX1_number_11 rfl (lv_at hl 2 rfl) ?_
    refine zz_callVW (As := [.int (bI wo)]) (rest := []) (q0 := 0) (ci := 1) ⟨hx, hb, hml, hown, hts⟩ hA hK hP hD hS (tX1_count l D h o f d1 d2 a fr g wo) (cwV 1 hts gX1_count rfl rfl rfl hX1_count ⟨by decide, by decide⟩) rfl rfl rfl hl.1 rfl (Nat.le_of_ble_eq_true rfl) dX1_number_12 ⟨Nat.le_refl _, Nat.le_refl _⟩ (fun H locs hP hD hS => ?_)
    have hP : va_P D vCl (MW h o f d1 d2 a g (cF a g wo)) H := hP
    have hD : va_D A (MW h o f d1 d2 a g (cF a g wo)) := hD
    refine lv_aload_n hx hb dX1_number_15 rfl (lv_at hl 0 rfl) ?_
    refine va_get (D := D) (ci := 1) (v := .ref f) (C := RX1) (T := TX1) (N := 3) hx hb hts in_X1 hown hK hP 0 rfl rfl 2 (by decide) (hts _ q160) (fun _ h9 => h9) rfl dX1_number_16 ?_
    refine lv_iload_n hx hb dX1_number_19 rfl (lv_at hl 1 rfl) ?_
    refine zz_iald (k := j) hx hb hK hP 2 1 rfl rfl (by omega) (by decide) dX1_number_20 ?_
    refine lv_bipush (v := nI 99) hx hb dX1_number_21 (by decide +kernel) ?_
    refine lv_icmp_ge (tgt := 35) hx hb dX1_number_23 (by decide) (fun c_23 => ?_) (fun c_23 => ?_)
    · have c_23 := c_23
      refine lv_bipush (v := (-2)) hx hb dX1_number_35 (by decide +kernel) ?_
      exact hret _ _ _ _ _ (zz_eqP ((congrArg (fun z => MW h o f d1 d2 a g z) (if_pos c_5)).symm) hP) (zz_eqD ((congrArg (fun z => MW h o f d1 d2 a g z) (if_pos c_5)).symm) hD) hS (by unfold numF; rw [if_pos c_5, nI_clamp (by omega), if_pos c_23]) dX1_number_37
    · have c_23 := c_23
      refine lv_aload_n hx hb dX1_number_26 rfl (lv_at hl 0 rfl) ?_
      refine va_get (D := D) (ci := 1) (v := .ref f) (C := RX1) (T := TX1) (N := 3) hx hb hts in_X1 hown hK hP 0 rfl rfl 2 (by decide) (hts _ q160) (fun _ h9 => h9) rfl dX1_number_27 ?_
      refine lv_iload_n hx hb dX1_number_30 rfl (lv_at hl 1 rfl) ?_
      refine zz_iald (k := j) hx hb hK hP 2 1 rfl rfl (by omega) (by decide) dX1_number_31 ?_
      refine lv_goto (tgt := 37) hx hb dX1_number_32 (by decide) ?_
      exact hret _ _ _ _ _ (zz_eqP ((congrArg (fun z => MW h o f d1 d2 a g z) (if_pos c_5)).symm) hP) (zz_eqD ((congrArg (fun z => MW h o f d1 d2 a g z) (if_pos c_5)).symm) hD) hS (by unfold numF; rw [if_pos c_5, nI_clamp (by omega), if_neg c_23]) dX1_number_37
  · have c_5 : (isS x) = false := zz_bI0 c_5
    refine lv_iconst (v := (-1)) hx hb dX1_number_8 (by decide +kernel) ?_
    exact hret _ _ _ _ _ (zz_eqP ((congrArg (fun z => MW h o f d1 d2 a g z) (if_neg (by rw [c_5]; decide))).symm) hP) (zz_eqD ((congrArg (fun z => MW h o f d1 d2 a g z) (if_neg (by rw [c_5]; decide))).symm) hD) hS (by unfold numF; rw [if_neg (by rw [c_5]; decide)]) dX1_number_9
set_option maxHeartbeats 4000000 in
theorem tX1_steps (l : Launch) (D : va_G) (h o f : Nat) (d1 d2 : ClassId) (a fr : Nat → Int32) (g : Int32) (x : Int32) : zI l D yX1_steps cX1_steps 2 .int 4 [.ref h, .int x] (MT d1 d2) (MW h o f d1 d2 a g fr) (numF (cF a g true) x) (MW h o f d1 d2 a g (if isS x = true then cF a g true else fr)) := by
  refine zz_I (by decide) (Nat.le_of_ble_eq_true rfl) (rfl) ?_
  intro p e s m args below meth c A Q hx hb hml hown hts hA hK hP hD hS hret ls hl
  have hown : s.vm.findClass RX1 = some m.cls := hown
  have hl : lv_has ls 2 [(0, .ref h), (1, .int x)] := hl
  refine lv_aload_n hx hb dX1_steps_0 rfl (lv_at hl 0 rfl) ?_
  refine lv_iload_n hx hb dX1_steps_1 rfl (lv_at hl 1 rfl) ?_
  refine lv_iconst (v := 1) hx hb dX1_steps_2 (by decide +kernel) ?_
  refine zz_callW (As := [.int x, .int 1]) (rest := []) (q0 := 0) (ci := 1) ⟨hx, hb, hml, hown, hts⟩ hA hK hP hD hS (tX1_number l D h o f d1 d2 a fr g x true) (cwV 2 hts gX1_number rfl rfl rfl hX1_number ⟨by decide, by decide⟩) rfl rfl rfl hl.1 rfl (Nat.le_of_ble_eq_true rfl) dX1_steps_3 ⟨Nat.le_refl _, Nat.le_refl _⟩ (fun H locs hP hD hS => ?_)
  exact hret _ _ _ _ _ hP hD hS (rfl) dX1_steps_6
set_option maxHeartbeats 4000000 in
theorem tX1_luck (l : Launch) (D : va_G) (h o f : Nat) (d1 d2 : ClassId) (a fr : Nat → Int32) (g : Int32) (x : Int32) : zI l D yX1_luck cX1_luck 2 .int 4 [.ref h, .int x] (MT d1 d2) (MW h o f d1 d2 a g fr) (numF (cF a g false) x) (MW h o f d1 d2 a g (if isS x = true then cF a g false else fr)) := by
  refine zz_I (by decide) (Nat.le_of_ble_eq_true rfl) (rfl) ?_
  intro p e s m args below meth c A Q hx hb hml hown hts hA hK hP hD hS hret ls hl
  have hown : s.vm.findClass RX1 = some m.cls := hown
  have hl : lv_has ls 2 [(0, .ref h), (1, .int x)] := hl
  refine lv_aload_n hx hb dX1_luck_0 rfl (lv_at hl 0 rfl) ?_
  refine lv_iload_n hx hb dX1_luck_1 rfl (lv_at hl 1 rfl) ?_
  refine lv_iconst (v := 0) hx hb dX1_luck_2 (by decide +kernel) ?_
  refine zz_callW (As := [.int x, .int 0]) (rest := []) (q0 := 0) (ci := 1) ⟨hx, hb, hml, hown, hts⟩ hA hK hP hD hS (tX1_number l D h o f d1 d2 a fr g x false) (cwV 2 hts gX1_number rfl rfl rfl hX1_number ⟨by decide, by decide⟩) rfl rfl rfl hl.1 rfl (Nat.le_of_ble_eq_true rfl) dX1_luck_3 ⟨Nat.le_refl _, Nat.le_refl _⟩ (fun H locs hP hD hS => ?_)
  exact hret _ _ _ _ _ hP hD hS (rfl) dX1_luck_6
set_option maxHeartbeats 4000000 in
theorem tX1_safeActions (l : Launch) (D : va_G) (h o f : Nat) (d1 d2 : ClassId) (a fr : Nat → Int32) (g : Int32) (x : Int32) : zI l D yX1_safeActions cX1_safeActions 5 .int 3 [.ref h, .int x] (MT d1 d2) (MW h o f d1 d2 a g fr) (mSA a g x) (MW h o f d1 d2 a g fr) := by
  refine zz_I (by decide) (Nat.le_of_ble_eq_true rfl) (rfl) ?_
  intro p e s m args below meth c A Q hx hb hml hown hts hA hK hP hD hS hret ls hl
  have hown : s.vm.findClass RX1 = some m.cls := hown
  have hl : lv_has ls 5 [(0, .ref h), (1, .int x)] := hl
  refine lv_aload_n hx hb dX1_safeActions_0 rfl (lv_at hl 0 rfl) ?_
  refine zz_callW (As := []) (rest := []) (q0 := 0) (ci := 1) ⟨hx, hb, hml, hown, hts⟩ hA hK hP hD hS (tX1_safe l D h o f d1 d2 a fr g) (cwV 0 hts gX1_safe rfl rfl rfl hX1_safe ⟨by decide, by decide⟩) rfl rfl rfl hl.1 rfl (Nat.le_of_ble_eq_true rfl) dX1_safeActions_1 ⟨Nat.le_refl _, Nat.le_refl _⟩ (fun H locs hP hD hS => ?_)
  refine lv_istore_n (lv' := [(2, .int (mSafe a g)), (0, .ref h), (1, .int x)]) hx hb dX1_safeActions_4 rfl hl (by decide) rfl (fun ls hl => ?_)
  refine lv_aload_n hx hb dX1_safeActions_5 rfl (lv_at hl 1 rfl) ?_
  refine lv_iload_n hx hb dX1_safeActions_6 rfl (lv_at hl 2 rfl) ?_
  refine zz_call0 (As := [.int x]) (rest := []) (q0 := 0) (ci := 1) ⟨hx, hb, hml, hown, hts⟩ hA hK hP hD hS (tX1_isState l D h x) (cwV 1 hts gX1_isState rfl rfl rfl hX1_isState ⟨by decide, by decide⟩) rfl rfl rfl hl.1 rfl (Nat.le_of_ble_eq_true rfl) dX1_safeActions_7 ⟨Nat.le_refl _, Nat.le_refl _⟩ (fun H locs hP hD hS => ?_)
  refine lv_if_eq (tgt := 34) hx hb dX1_safeActions_10 (by decide) (fun c_10 => ?_) (fun c_10 => ?_)
  · have c_10 : (isS x) = false := zz_bI0 c_10
    refine lv_iconst (v := 0) hx hb dX1_safeActions_34 (by decide +kernel) ?_
    exact hret _ _ _ _ _ hP hD hS (by unfold mSA; rw [if_neg (by rw [c_10]; decide)]) dX1_safeActions_35
  · have c_10 : (isS x) = true := zz_bI1 c_10
    obtain ⟨j, hj, ej⟩ := isS_of c_10
    subst ej
    refine lv_aload_n hx hb dX1_safeActions_13 rfl (lv_at hl 1 rfl) ?_
    refine lv_aload_n hx hb dX1_safeActions_14 rfl (lv_at hl 1 rfl) ?_
    refine va_get (D := D) (ci := 1) (v := .int g) (C := RX1) (T := TX1) (N := 3) hx hb hts in_X1 hown hK hP 0 rfl rfl 1 (by decide) (hts _ q159) (fun _ h9 => h9) rfl dX1_safeActions_15 ?_
    refine lv_iload_n hx hb dX1_safeActions_18 rfl (lv_at hl 2 rfl) ?_
    refine zz_call0 (As := [.int g, .int (nI j)]) (rest := []) (q0 := 0) (ci := 1) ⟨hx, hb, hml, hown, hts⟩ hA hK hP hD hS (tX1_in l D h g j (by omega)) (cwV 2 hts gX1_in rfl rfl rfl hX1_in ⟨by decide, by decide⟩) rfl rfl rfl hl.1 rfl (Nat.le_of_ble_eq_true rfl) dX1_safeActions_19 ⟨Nat.le_refl _, Nat.le_refl _⟩ (fun H locs hP hD hS => ?_)
    refine lv_if_ne (tgt := 34) hx hb dX1_safeActions_22 (by decide) (fun c_22 => ?_) (fun c_22 => ?_)
    · have c_22 : (bt g j) = true := zz_bI1 c_22
      refine lv_iconst (v := 0) hx hb dX1_safeActions_34 (by decide +kernel) ?_
      exact hret _ _ _ _ _ hP hD hS (by unfold mSA; rw [if_pos c_10, nI_clamp (by omega), if_pos (by rw [c_22]; rfl)]) dX1_safeActions_35
    · have c_22 : (bt g j) = false := zz_bI0 c_22
      refine lv_aload_n hx hb dX1_safeActions_25 rfl (lv_at hl 1 rfl) ?_
      refine lv_iload_n hx hb dX1_safeActions_26 rfl (lv_at hl 0 rfl) ?_
      refine lv_iload_n hx hb dX1_safeActions_27 rfl (lv_at hl 2 rfl) ?_
      refine zz_call0 (As := [.int (mSafe a g), .int (nI j)]) (rest := []) (q0 := 0) (ci := 1) ⟨hx, hb, hml, hown, hts⟩ hA hK hP hD hS (tX1_in l D h (mSafe a g) j (by omega)) (cwV 2 hts gX1_in rfl rfl rfl hX1_in ⟨by decide, by decide⟩) rfl rfl rfl hl.1 rfl (Nat.le_of_ble_eq_true rfl) dX1_safeActions_28 ⟨Nat.le_refl _, Nat.le_refl _⟩ (fun H locs hP hD hS => ?_)
      refine lv_if_ne (tgt := 36) hx hb dX1_safeActions_31 (by decide) (fun c_31 => ?_) (fun c_31 => ?_)
      · have c_31 : (bt (mSafe a g) j) = true := zz_bI1 c_31
        refine lv_iconst (v := 0) hx hb dX1_safeActions_36 (by decide +kernel) ?_
        refine lv_istore_n (lv' := [(3, .int 0), (2, .int (mSafe a g)), (0, .ref h), (1, .int (nI j))]) hx hb dX1_safeActions_37 rfl hl (by decide) rfl (fun ls hl => ?_)
        refine lv_iconst (v := 0) hx hb dX1_safeActions_38 (by decide +kernel) ?_
        refine lv_istore (lv' := [(4, .int 0), (3, .int 0), (2, .int (mSafe a g)), (0, .ref h), (1, .int (nI j))]) hx hb dX1_safeActions_39 hl (by decide) rfl (fun ls hl => ?_)
        have loop_41 : ∀ (n q : Nat) (x1 : Int32), q ≤ 3 → 3 < q + n → (x1 = lp (saSt a (mSafe a g) j) 0 q) → ∀ (H : Heap) (locs : List Loc), va_P D vCl (MW h o f d1 d2 a g fr) H → va_D A (MW h o f d1 d2 a g fr) → va_S A s.heap H locs → ∀ (ls : Array Slot), lv_has ls 5 [(0, .ref h), (1, .int (nI j)), (2, .int (mSafe a g)), (3, .int x1), (4, .int (nI q))] → W p l e (zR 3) s m args below meth c H locs 0 0 Q (F0 m 41 ls []) := by
          intro n
          induction n with
          | zero =>
            intro q x1 h1 h2
            exact absurd h2 (by omega)
          | succ n ih_41 =>
            intro q x1 hi_41 hn_41 v_1 H locs hP hD hS ls hl
            refine lv_iload hx hb dX1_safeActions_41 (lv_at hl 4 rfl) ?_
            refine lv_iconst (v := nI 3) hx hb dX1_safeActions_43 (by decide +kernel) ?_
            refine lv_icmp_ge (tgt := 92) hx hb dX1_safeActions_44 (by decide) (fun c_44 => ?_) (fun c_44 => ?_)
            · have c_44 : 3 ≤ q := zz_cle (by omega) (by omega) c_44
              refine lv_iload_n hx hb dX1_safeActions_92 rfl (lv_at hl 3 rfl) ?_
              exact hret _ _ _ _ _ hP hD hS (by unfold mSA; rw [if_pos c_10, nI_clamp (by omega), if_neg (by rw [c_22, c_31]; decide), v_1, show q = 3 by omega]; rw [saF]) dX1_safeActions_93
            · have c_44 : q < 3 := zz_cnle (by omega) (by omega) c_44
              refine lv_aload_n hx hb dX1_safeActions_47 rfl (lv_at hl 0 rfl) ?_
              refine va_get (D := D) (ci := 1) (v := .ref o) (C := RX1) (T := TX1) (N := 3) hx hb hts in_X1 hown hK hP 0 rfl rfl 0 (by decide) (hts _ q158) (fun _ h9 => h9) rfl dX1_safeActions_48 ?_
              refine lv_iconst (v := nI 3) hx hb dX1_safeActions_51 (by decide +kernel) ?_
              refine lv_iload_n hx hb dX1_safeActions_52 rfl (lv_at hl 1 rfl) ?_
              refine lv_imul hx hb dX1_safeActions_53 ?_
              refine zz_top (z := nI (3 * j)) (pk_mul _ _) ?_
              refine lv_iload hx hb dX1_safeActions_54 (lv_at hl 4 rfl) ?_
              refine lv_iadd hx hb dX1_safeActions_56 ?_
              refine zz_top (z := nI (3 * j + q)) (nI_add _ _) ?_
              refine zz_iald (k := 3 * j + q) hx hb hK hP 1 0 rfl rfl (by omega) (by decide) dX1_safeActions_57 ?_
              refine lv_if_eq (tgt := 86) hx hb dX1_safeActions_58 (by decide) (fun c_58 => ?_) (fun c_58 => ?_)
              · have c_58 := c_58
                refine lv_iinc (v := nI (q + 1)) (lv' := [(4, .int (nI (q + 1))), (0, .ref h), (1, .int (nI j)), (2, .int (mSafe a g)), (3, .int x1)]) hx hb dX1_safeActions_86 hl (k := 4) rfl (zz_i1 _) (by decide) rfl (fun ls hl => ?_)
                refine lv_goto (tgt := 41) hx hb dX1_safeActions_89 (by decide) ?_
                exact ih_41 (q + 1) x1 (by omega) (by omega) (by rw [lp_s, ← v_1, sa_0 (ld_0 c_58)]) _ _ hP hD hS ls (lv_sub hl [1, 2, 3, 4, 0] rfl)
              · have c_58 := c_58
                refine lv_aload_n hx hb dX1_safeActions_61 rfl (lv_at hl 0 rfl) ?_
                refine va_get (D := D) (ci := 1) (v := .ref o) (C := RX1) (T := TX1) (N := 3) hx hb hts in_X1 hown hK hP 0 rfl rfl 0 (by decide) (hts _ q158) (fun _ h9 => h9) rfl dX1_safeActions_62 ?_
                refine lv_iconst (v := nI 3) hx hb dX1_safeActions_65 (by decide +kernel) ?_
                refine lv_iload_n hx hb dX1_safeActions_66 rfl (lv_at hl 1 rfl) ?_
                refine lv_imul hx hb dX1_safeActions_67 ?_
                refine zz_top (z := nI (3 * j)) (pk_mul _ _) ?_
                refine lv_iload hx hb dX1_safeActions_68 (lv_at hl 4 rfl) ?_
                refine lv_iadd hx hb dX1_safeActions_70 ?_
                refine zz_top (z := nI (3 * j + q)) (nI_add _ _) ?_
                refine zz_iald (k := 3 * j + q) hx hb hK hP 1 0 rfl rfl (by omega) (by decide) dX1_safeActions_71 ?_
                refine lv_iload_n hx hb dX1_safeActions_72 rfl (lv_at hl 2 rfl) ?_
                refine lv_iconst (v := (-1)) hx hb dX1_safeActions_73 (by decide +kernel) ?_
                refine lv_ixor hx hb dX1_safeActions_74 ?_
                refine lv_iand hx hb dX1_safeActions_75 ?_
                refine lv_if_ne (tgt := 86) hx hb dX1_safeActions_76 (by decide) (fun c_76 => ?_) (fun c_76 => ?_)
                · have c_76 := c_76
                  refine lv_iinc (v := nI (q + 1)) (lv' := [(4, .int (nI (q + 1))), (0, .ref h), (1, .int (nI j)), (2, .int (mSafe a g)), (3, .int x1)]) hx hb dX1_safeActions_86 hl (k := 4) rfl (zz_i1 _) (by decide) rfl (fun ls hl => ?_)
                  refine lv_goto (tgt := 41) hx hb dX1_safeActions_89 (by decide) ?_
                  exact ih_41 (q + 1) x1 (by omega) (by omega) (by rw [lp_s, ← v_1, sa_0 (ld_1 c_76)]) _ _ hP hD hS ls (lv_sub hl [1, 2, 3, 4, 0] rfl)
                · have c_76 := c_76
                  refine lv_iload_n hx hb dX1_safeActions_79 rfl (lv_at hl 3 rfl) ?_
                  refine lv_iconst (v := 1) hx hb dX1_safeActions_80 (by decide +kernel) ?_
                  refine lv_iload hx hb dX1_safeActions_81 (lv_at hl 4 rfl) ?_
                  refine lv_ishl hx hb dX1_safeActions_83 ?_
                  refine zz_top (z := one q) (rfl) ?_
                  refine lv_ior hx hb dX1_safeActions_84 ?_
                  refine lv_istore_n (lv' := [(3, .int (x1 ||| (one q))), (0, .ref h), (1, .int (nI j)), (2, .int (mSafe a g)), (4, .int (nI q))]) hx hb dX1_safeActions_85 rfl hl (by decide) rfl (fun ls hl => ?_)
                  refine lv_iinc (v := nI (q + 1)) (lv' := [(4, .int (nI (q + 1))), (3, .int (x1 ||| (one q))), (0, .ref h), (1, .int (nI j)), (2, .int (mSafe a g))]) hx hb dX1_safeActions_86 hl (k := 4) rfl (zz_i1 _) (by decide) rfl (fun ls hl => ?_)
                  refine lv_goto (tgt := 41) hx hb dX1_safeActions_89 (by decide) ?_
                  exact ih_41 (q + 1) (x1 ||| (one q)) (by omega) (by omega) (by rw [lp_s, ← v_1, sa_1 (ld_2 c_58 c_76)]) _ _ hP hD hS ls (lv_sub hl [2, 3, 4, 1, 0] rfl)
        exact loop_41 (3 + 1) 0 0 (by omega) (by omega) (rfl) _ _ hP hD hS ls (lv_sub hl [3, 4, 2, 1, 0] rfl)
      · have c_31 : (bt (mSafe a g) j) = false := zz_bI0 c_31
        refine lv_iconst (v := 0) hx hb dX1_safeActions_34 (by decide +kernel) ?_
        exact hret _ _ _ _ _ hP hD hS (by unfold mSA; rw [if_pos c_10, nI_clamp (by omega), if_pos (by rw [c_31]; simp)]) dX1_safeActions_35
set_option maxHeartbeats 4000000 in
theorem tX1_sureAction (l : Launch) (D : va_G) (h o f : Nat) (d1 d2 : ClassId) (a fr : Nat → Int32) (g : Int32) (x : Int32) : zI l D yX1_sureAction cX1_sureAction 4 .int 5 [.ref h, .int x] (MT d1 d2) (MW h o f d1 d2 a g fr) (mSu a g x) (MW h o f d1 d2 a g (if (isS x && !bt g x.toNatClampNeg) = true then cF a g true else fr)) := by
  refine zz_I (by decide) (Nat.le_of_ble_eq_true rfl) (rfl) ?_
  intro p e s m args below meth c A Q hx hb hml hown hts hA hK hP hD hS hret ls hl
  have hown : s.vm.findClass RX1 = some m.cls := hown
  have hl : lv_has ls 4 [(0, .ref h), (1, .int x)] := hl
  refine lv_aload_n hx hb dX1_sureAction_0 rfl (lv_at hl 0 rfl) ?_
  refine lv_iload_n hx hb dX1_sureAction_1 rfl (lv_at hl 1 rfl) ?_
  refine zz_call0 (As := [.int x]) (rest := []) (q0 := 0) (ci := 1) ⟨hx, hb, hml, hown, hts⟩ hA hK hP hD hS (tX1_isState l D h x) (cwV 1 hts gX1_isState rfl rfl rfl hX1_isState ⟨by decide, by decide⟩) rfl rfl rfl hl.1 rfl (Nat.le_of_ble_eq_true rfl) dX1_sureAction_2 ⟨Nat.le_refl _, Nat.le_refl _⟩ (fun H locs hP hD hS => ?_)
  refine lv_if_eq (tgt := 30) hx hb dX1_sureAction_5 (by decide) (fun c_5 => ?_) (fun c_5 => ?_)
  · have c_5 : (isS x) = false := zz_bI0 c_5
    refine lv_bipush (v := (-2)) hx hb dX1_sureAction_30 (by decide +kernel) ?_
    exact hret _ _ _ _ _ (zz_eqP ((congrArg (fun z => MW h o f d1 d2 a g z) (if_neg (by rw [c_5]; simp))).symm) hP) (zz_eqD ((congrArg (fun z => MW h o f d1 d2 a g z) (if_neg (by rw [c_5]; simp))).symm) hD) hS (by unfold mSu; rw [if_neg (by rw [c_5]; decide)]) dX1_sureAction_32
  · have c_5 : (isS x) = true := zz_bI1 c_5
    obtain ⟨j, hj, ej⟩ := isS_of c_5
    subst ej
    refine lv_aload_n hx hb dX1_sureAction_8 rfl (lv_at hl 0 rfl) ?_
    refine lv_aload_n hx hb dX1_sureAction_9 rfl (lv_at hl 0 rfl) ?_
    refine va_get (D := D) (ci := 1) (v := .int g) (C := RX1) (T := TX1) (N := 3) hx hb hts in_X1 hown hK hP 0 rfl rfl 1 (by decide) (hts _ q159) (fun _ h9 => h9) rfl dX1_sureAction_10 ?_
    refine lv_iload_n hx hb dX1_sureAction_13 rfl (lv_at hl 1 rfl) ?_
    refine zz_call0 (As := [.int g, .int (nI j)]) (rest := []) (q0 := 0) (ci := 1) ⟨hx, hb, hml, hown, hts⟩ hA hK hP hD hS (tX1_in l D h g j (by omega)) (cwV 2 hts gX1_in rfl rfl rfl hX1_in ⟨by decide, by decide⟩) rfl rfl rfl hl.1 rfl (Nat.le_of_ble_eq_true rfl) dX1_sureAction_14 ⟨Nat.le_refl _, Nat.le_refl _⟩ (fun H locs hP hD hS => ?_)
    refine lv_if_ne (tgt := 30) hx hb dX1_sureAction_17 (by decide) (fun c_17 => ?_) (fun c_17 => ?_)
    · have c_17 : (bt g j) = true := zz_bI1 c_17
      refine lv_bipush (v := (-2)) hx hb dX1_sureAction_30 (by decide +kernel) ?_
      exact hret _ _ _ _ _ (zz_eqP ((congrArg (fun z => MW h o f d1 d2 a g z) (if_neg (by rw [c_5, nI_clamp (by omega), c_17]; simp))).symm) hP) (zz_eqD ((congrArg (fun z => MW h o f d1 d2 a g z) (if_neg (by rw [c_5, nI_clamp (by omega), c_17]; simp))).symm) hD) hS (by unfold mSu; rw [if_pos c_5, nI_clamp (by omega), if_pos c_17]) dX1_sureAction_32
    · have c_17 : (bt g j) = false := zz_bI0 c_17
      refine lv_aload_n hx hb dX1_sureAction_20 rfl (lv_at hl 0 rfl) ?_
      refine lv_iload_n hx hb dX1_sureAction_21 rfl (lv_at hl 1 rfl) ?_
      refine zz_callW (As := [.int (nI j)]) (rest := []) (q0 := 0) (ci := 1) ⟨hx, hb, hml, hown, hts⟩ hA hK hP hD hS (tX1_steps l D h o f d1 d2 a fr g (nI j)) (cwV 1 hts gX1_steps rfl rfl rfl hX1_steps ⟨by decide, by decide⟩) rfl rfl rfl hl.1 rfl (Nat.le_of_ble_eq_true rfl) dX1_sureAction_22 ⟨Nat.le_refl _, Nat.le_refl _⟩ (fun H locs hP hD hS => ?_)
      refine lv_bipush (v := (-2)) hx hb dX1_sureAction_25 (by decide +kernel) ?_
      refine lv_icmp_ne (tgt := 33) hx hb dX1_sureAction_27 (by decide) (fun c_27 => ?_) (fun c_27 => ?_)
      · have c_27 := c_27
        have hP := zz_eqP (congrArg (fun z => MW h o f d1 d2 a g z) (if_pos (isS_nI hj))) hP
        have hD := zz_eqD (congrArg (fun z => MW h o f d1 d2 a g z) (if_pos (isS_nI hj))) hD
        have hP : va_P D vCl (MW h o f d1 d2 a g (cF a g true)) H := hP
        have hD : va_D A (MW h o f d1 d2 a g (cF a g true)) := hD
        refine lv_iconst (v := 0) hx hb dX1_sureAction_33 (by decide +kernel) ?_
        refine lv_istore_n (lv' := [(2, .int 0), (0, .ref h), (1, .int (nI j))]) hx hb dX1_sureAction_34 rfl hl (by decide) rfl (fun ls hl => ?_)
        have loop_35 : ∀ (n q : Nat), q ≤ 3 → 3 < q + n → (∀ t, t < q → (outF (cF a g true) (a (3 * j + t)) true + 1 == cF a g true j) = false) → ∀ (H : Heap) (locs : List Loc), va_P D vCl (MW h o f d1 d2 a g (cF a g true)) H → va_D A (MW h o f d1 d2 a g (cF a g true)) → va_S A s.heap H locs → ∀ (ls : Array Slot), lv_has ls 4 [(0, .ref h), (1, .int (nI j)), (2, .int (nI q))] → W p l e (zR 5) s m args below meth c H locs 0 0 Q (F0 m 35 ls []) := by
          intro n
          induction n with
          | zero =>
            intro q h1 h2
            exact absurd h2 (by omega)
          | succ n ih_35 =>
            intro q hi_35 hn_35 v_1 H locs hP hD hS ls hl
            refine lv_iload_n hx hb dX1_sureAction_35 rfl (lv_at hl 2 rfl) ?_
            refine lv_iconst (v := nI 3) hx hb dX1_sureAction_36 (by decide +kernel) ?_
            refine lv_icmp_ge (tgt := 76) hx hb dX1_sureAction_37 (by decide) (fun c_37 => ?_) (fun c_37 => ?_)
            · have c_37 : 3 ≤ q := zz_cle (by omega) (by omega) c_37
              refine lv_bipush (v := (-2)) hx hb dX1_sureAction_76 (by decide +kernel) ?_
              exact hret _ _ _ _ _ (zz_eqP ((congrArg (fun z => MW h o f d1 d2 a g z) (if_pos (by rw [c_5, nI_clamp (by omega), c_17]; rfl))).symm) hP) (zz_eqD ((congrArg (fun z => MW h o f d1 d2 a g z) (if_pos (by rw [c_5, nI_clamp (by omega), c_17]; rfl))).symm) hD) hS (by unfold mSu; rw [if_pos c_5, nI_clamp (by omega), if_neg (by rw [c_17]; decide), if_neg c_27]; exact fst3_0 (fun t ht => v_1 t (by omega)); rw []) dX1_sureAction_78
            · have c_37 : q < 3 := zz_cnle (by omega) (by omega) c_37
              refine lv_aload_n hx hb dX1_sureAction_40 rfl (lv_at hl 0 rfl) ?_
              refine lv_aload_n hx hb dX1_sureAction_41 rfl (lv_at hl 0 rfl) ?_
              refine va_get (D := D) (ci := 1) (v := .ref o) (C := RX1) (T := TX1) (N := 3) hx hb hts in_X1 hown hK hP 0 rfl rfl 0 (by decide) (hts _ q158) (fun _ h9 => h9) rfl dX1_sureAction_42 ?_
              refine lv_iconst (v := nI 3) hx hb dX1_sureAction_45 (by decide +kernel) ?_
              refine lv_iload_n hx hb dX1_sureAction_46 rfl (lv_at hl 1 rfl) ?_
              refine lv_imul hx hb dX1_sureAction_47 ?_
              refine zz_top (z := nI (3 * j)) (pk_mul _ _) ?_
              refine lv_iload_n hx hb dX1_sureAction_48 rfl (lv_at hl 2 rfl) ?_
              refine lv_iadd hx hb dX1_sureAction_49 ?_
              refine zz_top (z := nI (3 * j + q)) (nI_add _ _) ?_
              refine zz_iald (k := 3 * j + q) hx hb hK hP 1 0 rfl rfl (by omega) (by decide) dX1_sureAction_50 ?_
              refine lv_iconst (v := 1) hx hb dX1_sureAction_51 (by decide +kernel) ?_
              refine zz_callW (As := [.int (a (3 * j + q)), .int 1]) (rest := []) (q0 := 0) (ci := 1) ⟨hx, hb, hml, hown, hts⟩ hA hK hP hD hS (tX1_outcome l D h o f d1 d2 a (cF a g true) g (a (3 * j + q)) true) (cwV 2 hts gX1_outcome rfl rfl rfl hX1_outcome ⟨by decide, by decide⟩) rfl rfl rfl hl.1 rfl (Nat.le_of_ble_eq_true rfl) dX1_sureAction_52 ⟨Nat.le_refl _, Nat.le_refl _⟩ (fun H locs hP hD hS => ?_)
              refine lv_istore_n (lv' := [(3, .int (outF (cF a g true) (a (3 * j + q)) true)), (0, .ref h), (1, .int (nI j)), (2, .int (nI q))]) hx hb dX1_sureAction_55 rfl hl (by decide) rfl (fun ls hl => ?_)
              refine lv_iload_n hx hb dX1_sureAction_56 rfl (lv_at hl 0 rfl) ?_
              refine lv_iconst (v := 1) hx hb dX1_sureAction_57 (by decide +kernel) ?_
              refine lv_iadd hx hb dX1_sureAction_58 ?_
              refine lv_aload_n hx hb dX1_sureAction_59 rfl (lv_at hl 1 rfl) ?_
              refine va_get (D := D) (ci := 1) (v := .ref f) (C := RX1) (T := TX1) (N := 3) hx hb hts in_X1 hown hK hP 0 rfl rfl 2 (by decide) (hts _ q160) (fun _ h9 => h9) rfl dX1_sureAction_60 ?_
              refine lv_iload_n hx hb dX1_sureAction_63 rfl (lv_at hl 2 rfl) ?_
              refine zz_iald (k := j) hx hb hK hP 2 1 rfl rfl (by omega) (by decide) dX1_sureAction_64 ?_
              refine lv_icmp_ne (tgt := 70) hx hb dX1_sureAction_65 (by decide) (fun c_65 => ?_) (fun c_65 => ?_)
              · have c_65 := c_65
                refine lv_iinc (v := nI (q + 1)) (lv' := [(2, .int (nI (q + 1))), (3, .int (outF (cF a g true) (a (3 * j + q)) true)), (0, .ref h), (1, .int (nI j))]) hx hb dX1_sureAction_70 hl (k := 3) rfl (zz_i1 _) (by decide) rfl (fun ls hl => ?_)
                refine lv_goto (tgt := 35) hx hb dX1_sureAction_73 (by decide) ?_
                exact ih_35 (q + 1) (by omega) (by omega) (lt_s v_1 (beq_false_of_ne c_65)) _ _ hP hD hS ls (lv_sub hl [2, 3, 0] rfl)
              · have c_65 := c_65
                refine lv_iload_n hx hb dX1_sureAction_68 rfl (lv_at hl 3 rfl) ?_
                exact hret _ _ _ _ _ (zz_eqP ((congrArg (fun z => MW h o f d1 d2 a g z) (if_pos (by rw [c_5, nI_clamp (by omega), c_17]; rfl))).symm) hP) (zz_eqD ((congrArg (fun z => MW h o f d1 d2 a g z) (if_pos (by rw [c_5, nI_clamp (by omega), c_17]; rfl))).symm) hD) hS (by unfold mSu; rw [if_pos c_5, nI_clamp (by omega), if_neg (by rw [c_17]; decide), if_neg c_27]; exact fst3_1 (by omega) (by rw [c_65]; simp) v_1; rw []) dX1_sureAction_69
        exact loop_35 (3 + 1) 0 (by omega) (by omega) (lt_0) _ _ hP hD hS ls (lv_sub hl [1, 2, 0] rfl)
      · have c_27 := c_27
        have hP := zz_eqP (congrArg (fun z => MW h o f d1 d2 a g z) (if_pos (isS_nI hj))) hP
        have hD := zz_eqD (congrArg (fun z => MW h o f d1 d2 a g z) (if_pos (isS_nI hj))) hD
        have hP : va_P D vCl (MW h o f d1 d2 a g (cF a g true)) H := hP
        have hD : va_D A (MW h o f d1 d2 a g (cF a g true)) := hD
        refine lv_bipush (v := (-2)) hx hb dX1_sureAction_30 (by decide +kernel) ?_
        exact hret _ _ _ _ _ (zz_eqP ((congrArg (fun z => MW h o f d1 d2 a g z) (if_pos (by rw [c_5, nI_clamp (by omega), c_17]; rfl))).symm) hP) (zz_eqD ((congrArg (fun z => MW h o f d1 d2 a g z) (if_pos (by rw [c_5, nI_clamp (by omega), c_17]; rfl))).symm) hD) hS (by unfold mSu; rw [if_pos c_5, nI_clamp (by omega), if_neg (by rw [c_17]; decide), if_pos c_27]) dX1_sureAction_32
set_option maxHeartbeats 4000000 in
theorem tX1_prune (l : Launch) (D : va_G) (h o f : Nat) (d1 d2 : ClassId) (a fr : Nat → Int32) (g : Int32)  : zI l D yX1_prune cX1_prune 4 .int 3 [.ref h] (MT d1 d2) (MW h o f d1 d2 a g fr) ((pF a (mSafe a g)).2) (MW h o f d1 d2 (pF a (mSafe a g)).1 g fr) := by
  refine zz_I (by decide) (Nat.le_of_ble_eq_true rfl) (rfl) ?_
  intro p e s m args below meth c A Q hx hb hml hown hts hA hK hP hD hS hret ls hl
  have hown : s.vm.findClass RX1 = some m.cls := hown
  have hl : lv_has ls 4 [(0, .ref h)] := hl
  refine lv_aload_n hx hb dX1_prune_0 rfl (lv_at hl 0 rfl) ?_
  refine zz_callW (As := []) (rest := []) (q0 := 0) (ci := 1) ⟨hx, hb, hml, hown, hts⟩ hA hK hP hD hS (tX1_safe l D h o f d1 d2 a fr g) (cwV 0 hts gX1_safe rfl rfl rfl hX1_safe ⟨by decide, by decide⟩) rfl rfl rfl hl.1 rfl (Nat.le_of_ble_eq_true rfl) dX1_prune_1 ⟨Nat.le_refl _, Nat.le_refl _⟩ (fun H locs hP hD hS => ?_)
  refine lv_istore_n (lv' := [(1, .int (mSafe a g)), (0, .ref h)]) hx hb dX1_prune_4 rfl hl (by decide) rfl (fun ls hl => ?_)
  refine lv_iconst (v := 0) hx hb dX1_prune_5 (by decide +kernel) ?_
  refine lv_istore_n (lv' := [(2, .int 0), (1, .int (mSafe a g)), (0, .ref h)]) hx hb dX1_prune_6 rfl hl (by decide) rfl (fun ls hl => ?_)
  refine lv_iconst (v := 0) hx hb dX1_prune_7 (by decide +kernel) ?_
  refine lv_istore_n (lv' := [(3, .int 0), (2, .int 0), (1, .int (mSafe a g)), (0, .ref h)]) hx hb dX1_prune_8 rfl hl (by decide) rfl (fun ls hl => ?_)
  have loop_9 : ∀ (n k : Nat) (n1 : Int32) (a1 : Nat → Int32), k ≤ 24 → 24 < k + n → ((a1, n1) = lp (pSt (mSafe a g)) (a, 0) k) → ∀ (H : Heap) (locs : List Loc), va_P D vCl (MW h o f d1 d2 a1 g fr) H → va_D A (MW h o f d1 d2 a1 g fr) → va_S A s.heap H locs → ∀ (ls : Array Slot), lv_has ls 4 [(0, .ref h), (1, .int (mSafe a g)), (2, .int n1), (3, .int (nI k))] → W p l e (zR 3) s m args below meth c H locs 0 0 Q (F0 m 9 ls []) := by
    intro n
    induction n with
    | zero =>
      intro k n1 a1 h1 h2
      exact absurd h2 (by omega)
    | succ n ih_9 =>
      intro k n1 a1 hi_9 hn_9 v_1 H locs hP hD hS ls hl
      refine lv_iload_n hx hb dX1_prune_9 rfl (lv_at hl 3 rfl) ?_
      refine lv_bipush (v := nI 24) hx hb dX1_prune_10 (by decide +kernel) ?_
      refine lv_icmp_ge (tgt := 44) hx hb dX1_prune_12 (by decide) (fun c_12 => ?_) (fun c_12 => ?_)
      · have c_12 : 24 ≤ k := zz_cle (by omega) (by omega) c_12
        have u_1 : (a1, n1) = pF a (mSafe a g) := by rw [show k = 24 by omega] at v_1; exact v_1
        refine lv_iload_n hx hb dX1_prune_44 rfl (lv_at hl 2 rfl) ?_
        exact hret _ _ _ _ _ (zz_eqP (by rw [← u_1]) hP) (zz_eqD (by rw [← u_1]) hD) hS (by rw [← u_1]) dX1_prune_45
      · have c_12 : k < 24 := zz_cnle (by omega) (by omega) c_12
        refine lv_aload_n hx hb dX1_prune_15 rfl (lv_at hl 0 rfl) ?_
        refine va_get (D := D) (ci := 1) (v := .ref o) (C := RX1) (T := TX1) (N := 3) hx hb hts in_X1 hown hK hP 0 rfl rfl 0 (by decide) (hts _ q158) (fun _ h9 => h9) rfl dX1_prune_16 ?_
        refine lv_iload_n hx hb dX1_prune_19 rfl (lv_at hl 3 rfl) ?_
        refine zz_iald (k := k) hx hb hK hP 1 0 rfl rfl (by omega) (by decide) dX1_prune_20 ?_
        refine lv_iload_n hx hb dX1_prune_21 rfl (lv_at hl 1 rfl) ?_
        refine lv_iconst (v := (-1)) hx hb dX1_prune_22 (by decide +kernel) ?_
        refine lv_ixor hx hb dX1_prune_23 ?_
        refine lv_iand hx hb dX1_prune_24 ?_
        refine lv_if_eq (tgt := 38) hx hb dX1_prune_25 (by decide) (fun c_25 => ?_) (fun c_25 => ?_)
        · have c_25 := c_25
          refine lv_iinc (v := nI (k + 1)) (lv' := [(3, .int (nI (k + 1))), (0, .ref h), (1, .int (mSafe a g)), (2, .int n1)]) hx hb dX1_prune_38 hl (k := 3) rfl (zz_i1 _) (by decide) rfl (fun ls hl => ?_)
          refine lv_goto (tgt := 9) hx hb dX1_prune_41 (by decide) ?_
          exact ih_9 (k + 1) n1 a1 (by omega) (by omega) (by rw [lp_s, ← v_1, p_0 c_25]) _ _ hP hD hS ls (lv_sub hl [1, 2, 3, 0] rfl)
        · have c_25 := c_25
          refine lv_aload_n hx hb dX1_prune_28 rfl (lv_at hl 0 rfl) ?_
          refine va_get (D := D) (ci := 1) (v := .ref o) (C := RX1) (T := TX1) (N := 3) hx hb hts in_X1 hown hK hP 0 rfl rfl 0 (by decide) (hts _ q158) (fun _ h9 => h9) rfl dX1_prune_29 ?_
          refine lv_iload_n hx hb dX1_prune_32 rfl (lv_at hl 3 rfl) ?_
          refine lv_iconst (v := 0) hx hb dX1_prune_33 (by decide +kernel) ?_
          refine zz_iast (k := k) (x := 0) hx hb hK hP hD hS 1 0 rfl rfl (by omega) (by decide) dX1_prune_34 (fun H locs hP hD hS => ?_)
          have hP : va_P D vCl (MW h o f d1 d2 (upd a1 k 0) g fr) H := hP
          have hD : va_D A (MW h o f d1 d2 (upd a1 k 0) g fr) := hD
          refine lv_iinc (v := (n1 + 1)) (lv' := [(2, .int (n1 + 1)), (0, .ref h), (1, .int (mSafe a g)), (3, .int (nI k))]) hx hb dX1_prune_35 hl (k := 2) rfl (rfl) (by decide) rfl (fun ls hl => ?_)
          refine lv_iinc (v := nI (k + 1)) (lv' := [(3, .int (nI (k + 1))), (2, .int (n1 + 1)), (0, .ref h), (1, .int (mSafe a g))]) hx hb dX1_prune_38 hl (k := 3) rfl (zz_i1 _) (by decide) rfl (fun ls hl => ?_)
          refine lv_goto (tgt := 9) hx hb dX1_prune_41 (by decide) ?_
          exact ih_9 (k + 1) (n1 + 1) (upd a1 k 0) (by omega) (by omega) (by rw [lp_s, ← v_1, p_1 c_25]) _ _ hP hD hS ls (lv_sub hl [2, 3, 1, 0] rfl)
  exact loop_9 (24 + 1) 0 0 a (by omega) (by omega) (rfl) _ _ hP hD hS ls (lv_sub hl [3, 2, 1, 0] rfl)
set_option maxHeartbeats 4000000 in
theorem tX1_hopeful (l : Launch) (D : va_G) (h o f : Nat) (d1 d2 : ClassId) (a fr : Nat → Int32) (g : Int32)  : zI l D yX1_hopeful cX1_hopeful 5 .int 4 [.ref h] (MT d1 d2) (MW h o f d1 d2 a g fr) (hF (mSafe a g) (rF (cF a g true))) (MW h o f d1 d2 a g (cF a g true)) := by
  refine zz_I (by decide) (Nat.le_of_ble_eq_true rfl) (rfl) ?_
  intro p e s m args below meth c A Q hx hb hml hown hts hA hK hP hD hS hret ls hl
  have hown : s.vm.findClass RX1 = some m.cls := hown
  have hl : lv_has ls 5 [(0, .ref h)] := hl
  refine lv_aload_n hx hb dX1_hopeful_0 rfl (lv_at hl 0 rfl) ?_
  refine zz_callW (As := []) (rest := []) (q0 := 0) (ci := 1) ⟨hx, hb, hml, hown, hts⟩ hA hK hP hD hS (tX1_safe l D h o f d1 d2 a fr g) (cwV 0 hts gX1_safe rfl rfl rfl hX1_safe ⟨by decide, by decide⟩) rfl rfl rfl hl.1 rfl (Nat.le_of_ble_eq_true rfl) dX1_hopeful_1 ⟨Nat.le_refl _, Nat.le_refl _⟩ (fun H locs hP hD hS => ?_)
  refine lv_istore_n (lv' := [(1, .int (mSafe a g)), (0, .ref h)]) hx hb dX1_hopeful_4 rfl hl (by decide) rfl (fun ls hl => ?_)
  refine lv_aload_n hx hb dX1_hopeful_5 rfl (lv_at hl 1 rfl) ?_
  refine zz_callW (As := []) (rest := []) (q0 := 0) (ci := 1) ⟨hx, hb, hml, hown, hts⟩ hA hK hP hD hS (tX1_sure l D h o f d1 d2 a fr g) (cwV 0 hts gX1_sure rfl rfl rfl hX1_sure ⟨by decide, by decide⟩) rfl rfl rfl hl.1 rfl (Nat.le_of_ble_eq_true rfl) dX1_hopeful_6 ⟨Nat.le_refl _, Nat.le_refl _⟩ (fun H locs hP hD hS => ?_)
  refine lv_istore_n (lv' := [(2, .int (rF (cF a g true))), (1, .int (mSafe a g)), (0, .ref h)]) hx hb dX1_hopeful_9 rfl hl (by decide) rfl (fun ls hl => ?_)
  refine lv_iconst (v := 0) hx hb dX1_hopeful_10 (by decide +kernel) ?_
  refine lv_istore_n (lv' := [(3, .int 0), (2, .int (rF (cF a g true))), (1, .int (mSafe a g)), (0, .ref h)]) hx hb dX1_hopeful_11 rfl hl (by decide) rfl (fun ls hl => ?_)
  refine lv_iconst (v := 0) hx hb dX1_hopeful_12 (by decide +kernel) ?_
  refine lv_istore (lv' := [(4, .int 0), (3, .int 0), (2, .int (rF (cF a g true))), (1, .int (mSafe a g)), (0, .ref h)]) hx hb dX1_hopeful_13 hl (by decide) rfl (fun ls hl => ?_)
  have loop_15 : ∀ (n i : Nat) (n1 : Int32), i ≤ 8 → 8 < i + n → (n1 = lp (hSt (mSafe a g) (rF (cF a g true))) 0 i) → ∀ (H : Heap) (locs : List Loc), va_P D vCl (MW h o f d1 d2 a g (cF a g true)) H → va_D A (MW h o f d1 d2 a g (cF a g true)) → va_S A s.heap H locs → ∀ (ls : Array Slot), lv_has ls 5 [(0, .ref h), (1, .int (mSafe a g)), (2, .int (rF (cF a g true))), (3, .int n1), (4, .int (nI i))] → W p l e (zR 4) s m args below meth c H locs 0 0 Q (F0 m 15 ls []) := by
    intro n
    induction n with
    | zero =>
      intro i n1 h1 h2
      exact absurd h2 (by omega)
    | succ n ih_15 =>
      intro i n1 hi_15 hn_15 v_1 H locs hP hD hS ls hl
      refine lv_iload hx hb dX1_hopeful_15 (lv_at hl 4 rfl) ?_
      refine lv_bipush (v := nI 8) hx hb dX1_hopeful_17 (by decide +kernel) ?_
      refine lv_icmp_ge (tgt := 51) hx hb dX1_hopeful_19 (by decide) (fun c_19 => ?_) (fun c_19 => ?_)
      · have c_19 : 8 ≤ i := zz_cle (by omega) (by omega) c_19
        refine lv_iload_n hx hb dX1_hopeful_51 rfl (lv_at hl 3 rfl) ?_
        exact hret _ _ _ _ _ hP hD hS (by rw [v_1, show i = 8 by omega]; rfl) dX1_hopeful_52
      · have c_19 : i < 8 := zz_cnle (by omega) (by omega) c_19
        refine lv_aload_n hx hb dX1_hopeful_22 rfl (lv_at hl 0 rfl) ?_
        refine lv_iload_n hx hb dX1_hopeful_23 rfl (lv_at hl 1 rfl) ?_
        refine lv_iload hx hb dX1_hopeful_24 (lv_at hl 4 rfl) ?_
        refine zz_call0 (As := [.int (mSafe a g), .int (nI i)]) (rest := []) (q0 := 0) (ci := 1) ⟨hx, hb, hml, hown, hts⟩ hA hK hP hD hS (tX1_in l D h (mSafe a g) i (by omega)) (cwV 2 hts gX1_in rfl rfl rfl hX1_in ⟨by decide, by decide⟩) rfl rfl rfl hl.1 rfl (Nat.le_of_ble_eq_true rfl) dX1_hopeful_26 ⟨Nat.le_refl _, Nat.le_refl _⟩ (fun H locs hP hD hS => ?_)
        refine lv_if_eq (tgt := 45) hx hb dX1_hopeful_29 (by decide) (fun c_29 => ?_) (fun c_29 => ?_)
        · have c_29 : (bt (mSafe a g) i) = false := zz_bI0 c_29
          refine lv_iinc (v := nI (i + 1)) (lv' := [(4, .int (nI (i + 1))), (0, .ref h), (1, .int (mSafe a g)), (2, .int (rF (cF a g true))), (3, .int n1)]) hx hb dX1_hopeful_45 hl (k := 4) rfl (zz_i1 _) (by decide) rfl (fun ls hl => ?_)
          refine lv_goto (tgt := 15) hx hb dX1_hopeful_48 (by decide) ?_
          exact ih_15 (i + 1) n1 (by omega) (by omega) (by rw [lp_s, ← v_1, h_00 c_29]) _ _ hP hD hS ls (lv_sub hl [1, 2, 3, 4, 0] rfl)
        · have c_29 : (bt (mSafe a g) i) = true := zz_bI1 c_29
          refine lv_aload_n hx hb dX1_hopeful_32 rfl (lv_at hl 0 rfl) ?_
          refine lv_iload_n hx hb dX1_hopeful_33 rfl (lv_at hl 2 rfl) ?_
          refine lv_iload hx hb dX1_hopeful_34 (lv_at hl 4 rfl) ?_
          refine zz_call0 (As := [.int (rF (cF a g true)), .int (nI i)]) (rest := []) (q0 := 0) (ci := 1) ⟨hx, hb, hml, hown, hts⟩ hA hK hP hD hS (tX1_in l D h (rF (cF a g true)) i (by omega)) (cwV 2 hts gX1_in rfl rfl rfl hX1_in ⟨by decide, by decide⟩) rfl rfl rfl hl.1 rfl (Nat.le_of_ble_eq_true rfl) dX1_hopeful_36 ⟨Nat.le_refl _, Nat.le_refl _⟩ (fun H locs hP hD hS => ?_)
          refine lv_if_ne (tgt := 45) hx hb dX1_hopeful_39 (by decide) (fun c_39 => ?_) (fun c_39 => ?_)
          · have c_39 : (bt (rF (cF a g true)) i) = true := zz_bI1 c_39
            refine lv_iinc (v := nI (i + 1)) (lv' := [(4, .int (nI (i + 1))), (0, .ref h), (1, .int (mSafe a g)), (2, .int (rF (cF a g true))), (3, .int n1)]) hx hb dX1_hopeful_45 hl (k := 4) rfl (zz_i1 _) (by decide) rfl (fun ls hl => ?_)
            refine lv_goto (tgt := 15) hx hb dX1_hopeful_48 (by decide) ?_
            exact ih_15 (i + 1) n1 (by omega) (by omega) (by rw [lp_s, ← v_1, h_01 c_39]) _ _ hP hD hS ls (lv_sub hl [1, 2, 3, 4, 0] rfl)
          · have c_39 : (bt (rF (cF a g true)) i) = false := zz_bI0 c_39
            refine lv_iinc (v := (n1 + 1)) (lv' := [(3, .int (n1 + 1)), (0, .ref h), (1, .int (mSafe a g)), (2, .int (rF (cF a g true))), (4, .int (nI i))]) hx hb dX1_hopeful_42 hl (k := 3) rfl (rfl) (by decide) rfl (fun ls hl => ?_)
            refine lv_iinc (v := nI (i + 1)) (lv' := [(4, .int (nI (i + 1))), (3, .int (n1 + 1)), (0, .ref h), (1, .int (mSafe a g)), (2, .int (rF (cF a g true)))]) hx hb dX1_hopeful_45 hl (k := 4) rfl (zz_i1 _) (by decide) rfl (fun ls hl => ?_)
            refine lv_goto (tgt := 15) hx hb dX1_hopeful_48 (by decide) ?_
            exact ih_15 (i + 1) (n1 + 1) (by omega) (by omega) (by rw [lp_s, ← v_1, h_02 c_29 c_39]) _ _ hP hD hS ls (lv_sub hl [2, 3, 4, 1, 0] rfl)
  exact loop_15 (8 + 1) 0 0 (by omega) (by omega) (rfl) _ _ hP hD hS ls (lv_sub hl [4, 3, 2, 1, 0] rfl)
set_option maxHeartbeats 4000000 in
theorem tX1_action (l : Launch) (D : va_G) (h o f : Nat) (d1 d2 : ClassId) (a fr : Nat → Int32) (g : Int32) (x y z : Int32) : zI l D yX1_action cX1_action 4 .boolean 1 [.ref h, .int x, .int y, .int z] (MT d1 d2) (MW h o f d1 d2 a g fr) (bI (acB x y z)) (MW h o f d1 d2 (if acB x y z = true then upd a (3 * x.toNatClampNeg + y.toNatClampNeg) z else a) g fr) := by
  refine zz_I (by decide) (Nat.le_of_ble_eq_true rfl) (zz_bIn _) ?_
  intro p e s m args below meth c A Q hx hb hml hown hts hA hK hP hD hS hret ls hl
  have hown : s.vm.findClass RX1 = some m.cls := hown
  have hl : lv_has ls 4 [(0, .ref h), (1, .int x), (2, .int y), (3, .int z)] := hl
  refine lv_aload_n hx hb dX1_action_0 rfl (lv_at hl 0 rfl) ?_
  refine lv_iload_n hx hb dX1_action_1 rfl (lv_at hl 1 rfl) ?_
  refine zz_call0 (As := [.int x]) (rest := []) (q0 := 0) (ci := 1) ⟨hx, hb, hml, hown, hts⟩ hA hK hP hD hS (tX1_isState l D h x) (cwV 1 hts gX1_isState rfl rfl rfl hX1_isState ⟨by decide, by decide⟩) rfl rfl rfl hl.1 rfl (Nat.le_of_ble_eq_true rfl) dX1_action_2 ⟨Nat.le_refl _, Nat.le_refl _⟩ (fun H locs hP hD hS => ?_)
  refine lv_if_eq (tgt := 28) hx hb dX1_action_5 (by decide) (fun c_5 => ?_) (fun c_5 => ?_)
  · have c_5 : (isS x) = false := zz_bI0 c_5
    have nk : acB x y z = false := by unfold acB; rw [c_5]; simp
    refine lv_iconst (v := 0) hx hb dX1_action_28 (by decide +kernel) ?_
    exact hret _ _ _ _ _ (zz_eqP (by rw [nk]; rfl) hP) (zz_eqD (by rw [nk]; rfl) hD) hS (by rw [nk]; rfl) dX1_action_29
  · have c_5 : (isS x) = true := zz_bI1 c_5
    refine lv_iload_n hx hb dX1_action_8 rfl (lv_at hl 2 rfl) ?_
    refine lv_if_lt (tgt := 28) hx hb dX1_action_9 (by decide) (fun c_9 => ?_) (fun c_9 => ?_)
    · have c_9 := c_9
      have nk : acB x y z = false := by unfold acB; rw [show decide (¬ y < 0 ∧ ¬ nI 2 < y) = false from decide_eq_false (fun u => u.1 c_9)]; simp
      refine lv_iconst (v := 0) hx hb dX1_action_28 (by decide +kernel) ?_
      exact hret _ _ _ _ _ (zz_eqP (by rw [nk]; rfl) hP) (zz_eqD (by rw [nk]; rfl) hD) hS (by rw [nk]; rfl) dX1_action_29
    · have c_9 := c_9
      refine lv_iload_n hx hb dX1_action_12 rfl (lv_at hl 2 rfl) ?_
      refine lv_iconst (v := nI 2) hx hb dX1_action_13 (by decide +kernel) ?_
      refine lv_icmp_gt (tgt := 28) hx hb dX1_action_14 (by decide) (fun c_14 => ?_) (fun c_14 => ?_)
      · have c_14 := c_14
        have nk : acB x y z = false := by unfold acB; rw [show decide (¬ y < 0 ∧ ¬ nI 2 < y) = false from decide_eq_false (fun u => u.2 c_14)]; simp
        refine lv_iconst (v := 0) hx hb dX1_action_28 (by decide +kernel) ?_
        exact hret _ _ _ _ _ (zz_eqP (by rw [nk]; rfl) hP) (zz_eqD (by rw [nk]; rfl) hD) hS (by rw [nk]; rfl) dX1_action_29
      · have c_14 := c_14
        refine lv_iload_n hx hb dX1_action_17 rfl (lv_at hl 3 rfl) ?_
        refine lv_if_lt (tgt := 28) hx hb dX1_action_18 (by decide) (fun c_18 => ?_) (fun c_18 => ?_)
        · have c_18 := c_18
          have nk : acB x y z = false := by unfold acB; rw [show decide (¬ z < 0 ∧ z ≤ nI 255) = false from decide_eq_false (fun u => u.1 c_18)]; simp
          refine lv_iconst (v := 0) hx hb dX1_action_28 (by decide +kernel) ?_
          exact hret _ _ _ _ _ (zz_eqP (by rw [nk]; rfl) hP) (zz_eqD (by rw [nk]; rfl) hD) hS (by rw [nk]; rfl) dX1_action_29
        · have c_18 := c_18
          refine lv_iload_n hx hb dX1_action_21 rfl (lv_at hl 3 rfl) ?_
          refine lv_sipush (v := nI 255) hx hb dX1_action_22 (by decide +kernel) ?_
          refine lv_icmp_le (tgt := 30) hx hb dX1_action_25 (by decide) (fun c_25 => ?_) (fun c_25 => ?_)
          · have c_25 := c_25
            obtain ⟨j, hj, ej⟩ := isS_of c_5
            obtain ⟨q, hq, eq⟩ := nI_of2 (n := 2) (M := nI 2) (nI_toInt (by decide)) c_9 (Int32.not_lt.mp c_14)
            obtain ⟨t, ht, et⟩ := nI_of2 (n := 255) (M := nI 255) (nI_toInt (by decide)) c_18 c_25
            have ok : acB x y z = true := by unfold acB; rw [c_5, decide_eq_true ⟨c_9, c_14⟩, decide_eq_true ⟨c_18, c_25⟩]; rfl
            subst ej; subst eq; subst et
            refine lv_aload_n hx hb dX1_action_30 rfl (lv_at hl 0 rfl) ?_
            refine va_get (D := D) (ci := 1) (v := .ref o) (C := RX1) (T := TX1) (N := 3) hx hb hts in_X1 hown hK hP 0 rfl rfl 0 (by decide) (hts _ q158) (fun _ h9 => h9) rfl dX1_action_31 ?_
            refine lv_iconst (v := nI 3) hx hb dX1_action_34 (by decide +kernel) ?_
            refine lv_iload_n hx hb dX1_action_35 rfl (lv_at hl 1 rfl) ?_
            refine lv_imul hx hb dX1_action_36 ?_
            refine zz_top (z := nI (3 * j)) (pk_mul _ _) ?_
            refine lv_iload_n hx hb dX1_action_37 rfl (lv_at hl 2 rfl) ?_
            refine lv_iadd hx hb dX1_action_38 ?_
            refine zz_top (z := nI (3 * j + q)) (nI_add _ _) ?_
            refine lv_iload_n hx hb dX1_action_39 rfl (lv_at hl 3 rfl) ?_
            refine zz_iast (k := 3 * j + q) (x := nI t) hx hb hK hP hD hS 1 0 rfl rfl (by omega) (by decide) dX1_action_40 (fun H locs hP hD hS => ?_)
            have hP : va_P D vCl (MW h o f d1 d2 (upd a (3 * j + q) (nI t)) g fr) H := hP
            have hD : va_D A (MW h o f d1 d2 (upd a (3 * j + q) (nI t)) g fr) := hD
            refine lv_iconst (v := 1) hx hb dX1_action_41 (by decide +kernel) ?_
            exact hret _ _ _ _ _ (zz_eqP (by rw [if_pos ok, nI_clamp (by omega), nI_clamp (by omega)]) hP) (zz_eqD (by rw [if_pos ok, nI_clamp (by omega), nI_clamp (by omega)]) hD) hS (by rw [ok]; rfl) dX1_action_42
          · have c_25 := c_25
            have nk : acB x y z = false := by unfold acB; rw [show decide (¬ z < 0 ∧ z ≤ nI 255) = false from decide_eq_false (fun u => c_25 u.2)]; simp
            refine lv_iconst (v := 0) hx hb dX1_action_28 (by decide +kernel) ?_
            exact hret _ _ _ _ _ (zz_eqP (by rw [nk]; rfl) hP) (zz_eqD (by rw [nk]; rfl) hD) hS (by rw [nk]; rfl) dX1_action_29
set_option maxHeartbeats 4000000 in
theorem tX1_goals (l : Launch) (D : va_G) (h o f : Nat) (d1 d2 : ClassId) (a fr : Nat → Int32) (g : Int32) (x : Int32) : zI l D yX1_goals cX1_goals 2 .boolean 0 [.ref h, .int x] (MT d1 d2) (MW h o f d1 d2 a g fr) (bI (glB x)) (MW h o f d1 d2 a (if glB x = true then x else g) fr) := by
  refine zz_I (by decide) (Nat.le_of_ble_eq_true rfl) (zz_bIn _) ?_
  intro p e s m args below meth c A Q hx hb hml hown hts hA hK hP hD hS hret ls hl
  have hown : s.vm.findClass RX1 = some m.cls := hown
  have hl : lv_has ls 2 [(0, .ref h), (1, .int x)] := hl
  refine lv_iload_n hx hb dX1_goals_0 rfl (lv_at hl 1 rfl) ?_
  refine lv_if_lt (tgt := 11) hx hb dX1_goals_1 (by decide) (fun c_1 => ?_) (fun c_1 => ?_)
  · have c_1 := c_1
    have nk : glB x = false := decide_eq_false (fun u => u.1 c_1)
    refine lv_iconst (v := 0) hx hb dX1_goals_11 (by decide +kernel) ?_
    exact hret _ _ _ _ _ (zz_eqP (by rw [nk]; rfl) hP) (zz_eqD (by rw [nk]; rfl) hD) hS (by rw [nk]; rfl) dX1_goals_12
  · have c_1 := c_1
    refine lv_iload_n hx hb dX1_goals_4 rfl (lv_at hl 1 rfl) ?_
    refine lv_sipush (v := nI 255) hx hb dX1_goals_5 (by decide +kernel) ?_
    refine lv_icmp_le (tgt := 13) hx hb dX1_goals_8 (by decide) (fun c_8 => ?_) (fun c_8 => ?_)
    · have c_8 := c_8
      have ok : glB x = true := decide_eq_true ⟨c_1, c_8⟩
      refine lv_aload_n hx hb dX1_goals_13 rfl (lv_at hl 0 rfl) ?_
      refine lv_iload_n hx hb dX1_goals_14 rfl (lv_at hl 1 rfl) ?_
      refine va_put (D := D) (ci := 1) (v := .int x) (ty := .int) (C := RX1) (T := TX1) (N := 3) hx hb hts in_X1 tyX1 tyX1_ok nmX1 hown hK hP hD hS 0 rfl rfl 1 (by decide) (hts _ q159) (fun _ h9 => h9) rfl (by decide +kernel) rfl rfl (Nat.le_of_ble_eq_true rfl) dX1_goals_15 (fun H locs hP hD hS => ?_)
      have hP : va_P D vCl (MW h o f d1 d2 a x fr) H := hP
      have hD : va_D A (MW h o f d1 d2 a x fr) := hD
      refine lv_iconst (v := 1) hx hb dX1_goals_18 (by decide +kernel) ?_
      exact hret _ _ _ _ _ (zz_eqP (by rw [if_pos ok]) hP) (zz_eqD (by rw [if_pos ok]) hD) hS (by rw [ok]; rfl) dX1_goals_19
    · have c_8 := c_8
      have nk : glB x = false := decide_eq_false (fun u => c_8 u.2)
      refine lv_iconst (v := 0) hx hb dX1_goals_11 (by decide +kernel) ?_
      exact hret _ _ _ _ _ (zz_eqP (by rw [nk]; rfl) hP) (zz_eqD (by rw [nk]; rfl) hD) hS (by rw [nk]; rfl) dX1_goals_12
end
section
/-! ===== the plain law, 1: the greatest safe set is the union of the kept sets ===== -/
set_option maxRecDepth 100000
theorem eq0 {x : Int32} (h : ∀ i, bt x i = false) : x = 0 := b_ext (fun i _ => by rw [h i, b_0])
theorem ne0 {x : Int32} (h : ¬ x = 0) : ∃ i, bt x i = true := by
  apply Classical.byContradiction
  intro q
  exact h (eq0 (fun i => by
    cases e : bt x i
    · rfl
    · exact absurd ⟨i, e⟩ q))
theorem sub0 {x s : Int32} (h : x &&& (s ^^^ (-1)) = 0) : sb x s := by
  intro i hi
  have h1 : bt (x &&& (s ^^^ (-1))) i = false := by rw [h, b_0]
  rcases Nat.lt_or_ge i 32 with q | q
  · rw [bt_diff q, hi] at h1
    cases e : bt s i
    · rw [e] at h1; cases h1
    · rfl
  · rw [b_big q] at hi; cases hi
theorem sub1 {x s : Int32} (h : sb x s) : x &&& (s ^^^ (-1)) = 0 := b_ext (fun i hi => by
  rw [bt_diff hi, b_0]
  cases e : bt x i
  · rfl
  · rw [h i e]; rfl)
theorem ld_iff {x s : Int32} : ldB x s = true ↔ (∃ i, bt x i = true) ∧ sb x s := by
  constructor
  · intro h
    refine ⟨ne0 (fun q => by rw [ld_0 q] at h; cases h), sub0 (ld_z h)⟩
  · rintro ⟨⟨i, hi⟩, h⟩
    exact ld_2 (fun q => by rw [q, b_0] at hi; cases hi) (sub1 h)
theorem my_iff {x s : Int32} : myB x s = true ↔ ∃ i, bt x i = true ∧ bt s i = true := by
  constructor
  · intro h
    obtain ⟨i, hi⟩ := ne0 (x := x &&& s) (fun q => by rw [my_0 q] at h; cases h)
    rw [b_and] at hi
    cases e : bt x i
    · rw [e] at hi; cases hi
    · rw [e] at hi; exact ⟨i, e, hi⟩
  · rintro ⟨i, h1, h2⟩
    exact my_1 (fun q => by
      have : bt (x &&& s) i = false := by rw [q, b_0]
      rw [b_and, h1, h2] at this; cases this)
theorem left_bt {a : Nat → Int32} {S : Int32} {k : Nat} (hk : k < 24) : bt (fLeft a S) k = ldB (a k) S := by
  have h : ∀ n, n ≤ 24 → bt (lp (kSt a S) 0 n) k = (decide (k < n) && ldB (a k) S) := by
    intro n
    induction n with
    | zero => intro _; rw [lp_0, b_0]; simp
    | succ n ih =>
      intro hn
      rw [lp_s]
      have ih := ih (by omega)
      cases e : ldB (a n) S
      · rw [k_0 e, ih]
        by_cases q : k = n
        · subst q; rw [e]; simp
        · by_cases u : k < n
          · rw [decide_eq_true u, decide_eq_true (show k < n + 1 by omega)]
          · rw [decide_eq_false u, decide_eq_false (show ¬ k < n + 1 by omega)]
      · rw [k_1 e, b_or, ih, b_one (by omega)]
        by_cases q : k = n
        · subst q; rw [e]; simp
        · by_cases u : k < n
          · rw [decide_eq_true u, decide_eq_true (show k < n + 1 by omega), decide_eq_false q]; simp
          · rw [decide_eq_false u, decide_eq_false (show ¬ k < n + 1 by omega), decide_eq_false q]; simp
  have := h 24 (by omega)
  rw [decide_eq_true hk] at this
  exact this
theorem ab_8 {a : Nat → Int32} {la : Int32} {z : Int32} (h : s8 z) : s8 (lp (abSt a la) z 24) := lp_ind (P := s8) h 24 (fun k z hk q => by
  unfold abSt; split
  · exact s8_or q (one_8 hk)
  · exact q)
/-- what the able states are closed under -/
theorem able_cl {a : Nat → Int32} {g S : Int32} (hg : s8 g) {k : Nat} (hk : k < 24) (h1 : ldB (a k) S = true) (h2 : myB (a k) (ableF a g (fLeft a S)) = true) : bt (ableF a g (fLeft a S)) (k / 3) = true := by
  have e : lp (abSt a (fLeft a S)) (ableF a g (fLeft a S)) 24 = ableF a g (fLeft a S) := rest8 (R := fun z => lp (abSt a (fLeft a S)) z 24) (fun z => lp_inf (fun k z _ => ab_inf k z)) (fun z h => ab_8 h) hg
  have e2 := lp_fixed ab_inf e k hk
  rw [ab_2 (by rw [left_bt hk]; exact h1) h2] at e2
  rw [← e2, b_or, b_one (by omega)]
  simp
theorem able_in {a : Nat → Int32} {g S : Int32} {P : Nat → Prop} (h0 : ∀ i, bt g i = true → P i) (hs : ∀ k, k < 24 → ldB (a k) S = true → (∃ i, bt (a k) i = true ∧ P i) → P (k / 3)) : ∀ i, bt (ableF a g (fLeft a S)) i = true → P i := by
  refine lp_ind (P := fun z => ∀ i, bt z i = true → P i) h0 8 (fun _ z _ hz => ?_)
  refine lp_ind (P := fun z => ∀ i, bt z i = true → P i) hz 24 (fun k z hk hz => ?_)
  intro i hi
  cases e1 : bt (fLeft a S) k
  · rw [ab_0 e1] at hi; exact hz i hi
  · cases e2 : myB (a k) z
    · rw [ab_1 e2] at hi; exact hz i hi
    · rw [ab_2 e1 e2, b_or, b_one (by omega)] at hi
      rw [left_bt hk] at e1
      obtain ⟨t, h1, h2⟩ := my_iff.mp e2
      by_cases q : i = k / 3
      · rw [q]; exact hs k hk e1 ⟨t, h1, hz t h2⟩
      · rw [decide_eq_false q, Bool.or_false] at hi; exact hz i hi
theorem n_inf {a : Nat → Int32} {x : Int32} (k : Nat) (z : Int32) : sb z (nSt a x k z) := by
  unfold nSt; split
  · exact sb_orl _ _
  · exact sb_r _
theorem nR_8 {a : Nat → Int32} {x z : Int32} (h : s8 z) : s8 (lp (nSt a x) z 24) := lp_ind (P := s8) h 24 (fun k z hk q => by
  unfold nSt; split
  · exact s8_or q (one_8 hk)
  · exact q)
theorem near_g {a : Nat → Int32} {g x : Int32} : sb g (nF a g x) := lp_inf (fun _ z _ => lp_inf (fun k z _ => n_inf k z))
theorem near_cl {a : Nat → Int32} {g x : Int32} (hg : s8 g) {k : Nat} (hk : k < 24) (h1 : bt x (k / 3) = true) (h2 : sb (a k) x) (h3 : ∃ i, bt (a k) i = true ∧ bt (nF a g x) i = true) : bt (nF a g x) (k / 3) = true := by
  have e : lp (nSt a x) (nF a g x) 24 = nF a g x := rest8 (R := fun z => lp (nSt a x) z 24) (fun z => lp_inf (fun k z _ => n_inf k z)) (fun z h => nR_8 h) hg
  have e2 := lp_fixed n_inf e k hk
  rw [n_3 h1 (sub1 h2) (fun q => by
    obtain ⟨i, u, v⟩ := h3
    have : bt (a k &&& nF a g x) i = false := by rw [q, b_0]
    rw [b_and, u, v] at this; cases this)] at e2
  rw [← e2, b_or, b_one (by omega)]
  simp
theorem near_in {a : Nat → Int32} {g x : Int32} {P : Nat → Prop} (h0 : ∀ i, bt g i = true → P i) (hs : ∀ k, k < 24 → bt x (k / 3) = true → sb (a k) x → (∃ i, bt (a k) i = true ∧ P i) → P (k / 3)) : ∀ i, bt (nF a g x) i = true → P i := by
  refine lp_ind (P := fun z => ∀ i, bt z i = true → P i) h0 8 (fun _ z _ hz => ?_)
  refine lp_ind (P := fun z => ∀ i, bt z i = true → P i) hz 24 (fun k z hk hz => ?_)
  intro i hi
  cases e1 : bt x (k / 3)
  · rw [n_0 e1] at hi; exact hz i hi
  · by_cases e2 : a k &&& (x ^^^ (-1)) = 0
    · by_cases e3 : a k &&& z = 0
      · rw [n_2 e3] at hi; exact hz i hi
      · rw [n_3 e1 e2 e3, b_or, b_one (by omega)] at hi
        obtain ⟨t, ht⟩ := ne0 e3
        rw [b_and] at ht
        by_cases q : i = k / 3
        · rw [q]
          refine hs k hk e1 (sub0 e2) ⟨t, ?_, hz t ?_⟩
          · cases u : bt (a k) t
            · rw [u] at ht; cases ht
            · rfl
          · cases u : bt z t
            · rw [u, Bool.and_false] at ht; cases ht
            · rfl
        · rw [decide_eq_false q, Bool.or_false] at hi; exact hz i hi
    · rw [n_1 e2] at hi; exact hz i hi
theorem safe_fix {a : Nat → Int32} {g : Int32} (hg : s8 g) : sF a g (xSafe a g) = xSafe a g ∧ xSafe a g = sIt a g 8 := by
  have h : sF a g (sIt a g 8) = sIt a g 8 := by
    apply Classical.byContradiction
    intro q
    have := s_chain hg q
    omega
  have e := s_fix (by omega) h
  rw [← e]
  exact ⟨h, rfl⟩
/-- the safe set is kept -/
theorem safe_kept {a : Nat → Int32} {g : Int32} (hg : s8 g) : kpB a g (xSafe a g) = true := by
  obtain ⟨hf, he⟩ := safe_fix (a := a) hg
  apply kp_1
  apply sub1
  intro i hi
  have hgS : sb g (xSafe a g) := by rw [he]; exact sIt_g hg 8
  have hY : bt (ableF a g (fLeft a (xSafe a g))) i = true := by
    have h2 := hi
    rw [← hf] at h2
    unfold sF at h2
    rw [b_and] at h2
    cases e : bt (ableF a g (fLeft a (xSafe a g))) i
    · rw [e] at h2; cases h2
    · rfl
  refine able_in (a := a) (g := g) (S := xSafe a g) (P := fun i => bt (xSafe a g) i = true → bt (nF a g (xSafe a g)) i = true) (fun i h _ => near_g i h) ?_ i hY hi
  intro k hk h1 h2 h3
  obtain ⟨t, u, v⟩ := h2
  have hs := (ld_iff.mp h1).2
  exact near_cl hg hk h3 hs ⟨t, u, v (hs t u)⟩
/-- a kept set is in the safe set -/
theorem kept_safe {a : Nat → Int32} {g x : Int32} (hg : s8 g) (hx : s8 x) (h1 : sb g x) (h2 : kpB a g x = true) : sb x (xSafe a g) := by
  have hN : sb x (nF a g x) := sub0 (by
    apply Classical.byContradiction
    intro q
    rw [kp_0 q] at h2; cases h2)
  have h : ∀ k, sb x (sIt a g k) := by
    intro k
    induction k with
    | zero => exact g_255 hx
    | succ k ih =>
      intro i hi
      show bt (ableF a g (fLeft a (sIt a g k)) &&& (sIt a g k ||| g)) i = true
      rw [b_and, b_or, ih i hi]
      have : bt (ableF a g (fLeft a (sIt a g k))) i = true := by
        refine near_in (a := a) (g := g) (x := x) (P := fun i => bt (ableF a g (fLeft a (sIt a g k))) i = true) (fun i h => able_inf i h) ?_ i (hN i hi)
        intro t ht _ h4 h5
        obtain ⟨u, v, w⟩ := h5
        exact able_cl hg ht (ld_iff.mpr ⟨⟨u, v⟩, sb_t h4 ih⟩) (my_iff.mpr ⟨u, v, w⟩)
      rw [this]; rfl
  exact h 9
theorem nI_s8 {k : Nat} (h : k < 256) : s8 (nI k) := by
  intro i hi
  show (BitVec.ofNat 32 k).getLsbD i = false
  rw [BitVec.getLsbD_ofNat]
  rcases Nat.lt_or_ge i 32 with q | q
  · rw [Nat.testBit_lt_two_pow (Nat.lt_of_lt_of_le h (show 2 ^ 8 ≤ 2 ^ i from Nat.pow_le_pow_right (by omega) hi))]; simp
  · simp [Nat.not_lt.mpr q]
theorem s8_nI {x : Int32} (h : s8 x) : ∃ k, k < 256 ∧ x = nI k := by
  refine ⟨x.toBitVec.toNat, ?_, ?_⟩
  · apply Classical.byContradiction
    intro q
    have hq : 2 ^ 8 ≤ x.toBitVec.toNat := by omega
    obtain ⟨i, hi, hb⟩ := Nat.exists_ge_and_testBit_of_ge_two_pow hq
    have := h i hi
    unfold bt at this
    rw [← BitVec.testBit_toNat, hb] at this
    cases this
  · apply Int32.toBitVec_inj.1
    show x.toBitVec = BitVec.ofNat 32 x.toBitVec.toNat
    simp
theorem safe_eq {a : Nat → Int32} {g : Int32} (hg : s8 g) : mSafe a g = xSafe a g := by
  have hgS : sb g (xSafe a g) := by rw [(safe_fix hg).2]; exact sIt_g hg 8
  apply sb_a
  · refine lp_ind (P := fun z => sb z (xSafe a g)) hgS 256 (fun k z hk hz => ?_)
    unfold msSt; split
    next h =>
      rw [Bool.and_eq_true] at h
      exact sb_or hz (kept_safe hg (nI_s8 hk) (sub0 (eq_of_beq h.1)) h.2)
    · exact hz
  · obtain ⟨m, hm, e⟩ := s8_nI (x := xSafe a g) (by rw [(safe_fix hg).2]; exact sIt_8 hg 8)
    have h1 : sb (xSafe a g) (lp (msSt a g) g (m + 1)) := by
      rw [lp_s, ms_2 (by rw [← e]; exact sub1 hgS) (by rw [← e]; exact safe_kept hg), ← e]
      exact sb_orr _ _
    have h2 := lp_mono (f := msSt a g) (s := g) (fun k z => by
      unfold msSt; split
      · exact sb_orl _ _
      · exact sb_r _) 256 (m + 1) (by omega)
    exact sb_t h1 h2
end
section
/-! ===== the plain law, 2: layers and the counted numbers ===== -/
set_option maxRecDepth 100000
theorem fW_s {mu : Bool} {a : Nat → Int32} {g : Int32} {k j : Nat} (hj : j < 8) : bt (fW mu a g (k + 1)) j = (bt (fW mu a g k) j || smB mu a j (fW mu a g k)) := by
  show bt (lp (wSt mu a (fW mu a g k)) (fW mu a g k) 8) j = _
  rw [w_lp j 8 (by omega), if_pos hj]
theorem wR_inf {mu : Bool} {a : Nat → Int32} (z : Int32) : sb z (lp (wSt mu a z) z 8) := by
  intro i h
  rw [w_lp i 8 (by omega)]
  split
  · rw [h]; rfl
  · exact h
theorem wR_8 {mu : Bool} {a : Nat → Int32} {z : Int32} (h : s8 z) : s8 (lp (wSt mu a z) z 8) := by
  intro i hi
  rw [w_lp i 8 (by omega), if_neg (by omega)]
  exact h i hi
theorem fW_lp {mu : Bool} {a : Nat → Int32} {g : Int32} (k : Nat) : fW mu a g k = lp (fun _ z => lp (wSt mu a z) z 8) g k := by
  induction k with
  | zero => rfl
  | succ k ih =>
    show lp (wSt mu a (fW mu a g k)) (fW mu a g k) 8 = _
    rw [ih]; rfl
theorem fW_m {mu : Bool} {a : Nat → Int32} {g : Int32} {m n : Nat} (h : m ≤ n) : sb (fW mu a g m) (fW mu a g n) := by
  rw [fW_lp, fW_lp]
  exact lp_mono (fun _ z => wR_inf z) n m h
theorem fW_8 {mu : Bool} {a : Nat → Int32} {g : Int32} (hg : s8 g) (k : Nat) : s8 (fW mu a g k) := by
  rw [fW_lp]
  exact lp_ind (P := s8) hg k (fun _ z _ h => wR_8 h)
theorem fW_r {mu : Bool} {a : Nat → Int32} {g : Int32} (hg : s8 g) (m : Nat) : sb (fW mu a g m) (fW mu a g 8) := by
  have h8 : lp (wSt mu a (fW mu a g 8)) (fW mu a g 8) 8 = fW mu a g 8 := by
    rw [fW_lp]
    exact rest8 (R := fun z => lp (wSt mu a z) z 8) (fun z => wR_inf z) (fun z h => wR_8 h) hg
  have h : ∀ n, fW mu a g (8 + n) = fW mu a g 8 := by
    intro n
    induction n with
    | zero => rfl
    | succ n ih =>
      show lp (wSt mu a (fW mu a g (8 + n))) (fW mu a g (8 + n)) 8 = _
      rw [ih, h8]
  rcases Nat.lt_or_ge m 8 with q | q
  · exact fW_m (by omega)
  · rw [show m = 8 + (m - 8) by omega, h]; exact sb_r _
/-- the layer number is the first layer that holds the state -/
theorem lay_sp {mu : Bool} {a : Nat → Int32} {g : Int32} {j : Nat} (hj : j < 8) : ∀ k, bt (fW mu a g k) j = true → ∃ d, d ≤ k ∧ lay mu a g k j = nI d ∧ bt (fW mu a g d) j = true ∧ ∀ m, m < d → bt (fW mu a g m) j = false := by
  intro k
  induction k with
  | zero => intro h; exact ⟨0, Nat.le_refl _, rfl, h, fun m hm => absurd hm (Nat.not_lt_zero m)⟩
  | succ k ih =>
    intro h
    show ∃ d, d ≤ k + 1 ∧ (if (!bt (fW mu a g k) j && smB mu a j (fW mu a g k)) = true then nI (k + 1) else lay mu a g k j) = nI d ∧ _
    cases e : bt (fW mu a g k) j
    · rw [fW_s hj, e, Bool.false_or] at h
      refine ⟨k + 1, Nat.le_refl _, ?_, ?_, fun m hm => ?_⟩
      · rw [h]; rfl
      · rw [fW_s hj, e, h]; rfl
      · cases q : bt (fW mu a g m) j
        · rfl
        · rw [fW_m (show m ≤ k by omega) j q] at e; cases e
    · obtain ⟨d, h1, h2, h3, h4⟩ := ih e
      exact ⟨d, by omega, by rw [if_neg (by simp), h2], h3, h4⟩
theorem nI_ite {a b : Nat} (ha : a < 2 ^ 31) (hb : b < 2 ^ 31) (x y : Int32) : (if nI a ≤ nI b then x else y) = if a ≤ b then x else y := by
  by_cases h : a ≤ b
  · rw [if_pos h, if_pos ((nI_leI ha hb).mpr h)]
  · rw [if_neg h, if_neg (fun q => h ((nI_leI ha hb).mp q))]
theorem nI_m1 {a : Nat} (ha : a < 2 ^ 31) : ¬ nI a ≤ (-1 : Int32) := by
  rw [Int32.le_iff_toInt_le, nI_toInt ha]
  have : (-1 : Int32).toInt = -1 := by decide
  omega
/-- the loop of outcome: the greatest and the smallest number of the outcomes among the first i states -/
theorem o_sp {fr : Nat → Int32} {dn : Nat → Nat} {x : Int32} (hd : ∀ j, j < 8 → fr j = nI (dn j) ∧ dn j ≤ 99) : ∀ i, i ≤ 8 → ∃ (mo : Int32) (le : Nat), lp (oSt fr x) (-1, nI 99) i = (mo, nI le) ∧ le ≤ 99 ∧ (∀ t, t < i → bt x t = true → le ≤ dn t) ∧ (le < 99 → ∃ t, t < i ∧ bt x t = true ∧ dn t = le) ∧ ((mo = -1 ∧ ∀ t, t < i → bt x t = false) ∨ ∃ m, mo = nI m ∧ m ≤ 99 ∧ (∀ t, t < i → bt x t = true → dn t ≤ m) ∧ ∃ t, t < i ∧ bt x t = true ∧ dn t = m) := by
  intro i
  induction i with
  | zero => intro _; exact ⟨-1, 99, rfl, Nat.le_refl _, fun t h => absurd h (Nat.not_lt_zero t), fun h => by omega, Or.inl ⟨rfl, fun t h => absurd h (Nat.not_lt_zero t)⟩⟩
  | succ i ih =>
    intro hi
    obtain ⟨mo, le, e, h1, h2, h3, h4⟩ := ih (by omega)
    obtain ⟨f1, f2⟩ := hd i (by omega)
    rw [lp_s, e]
    cases b : bt x i
    · rw [o_0 b]
      refine ⟨mo, le, rfl, h1, ?_, ?_, ?_⟩
      · intro t ht hb
        rcases Nat.lt_or_ge t i with q | q
        · exact h2 t q hb
        · rw [show t = i by omega, b] at hb; cases hb
      · intro h
        obtain ⟨t, u, v⟩ := h3 h
        exact ⟨t, by omega, v⟩
      · rcases h4 with ⟨u, v⟩ | ⟨m, u, v, w, t, p, q⟩
        · refine Or.inl ⟨u, fun t ht => ?_⟩
          rcases Nat.lt_or_ge t i with q | q
          · exact v t q
          · rw [show t = i by omega]; exact b
        · refine Or.inr ⟨m, u, v, fun t ht hb => ?_, t, by omega, q⟩
          rcases Nat.lt_or_ge t i with q | q
          · exact w t q hb
          · rw [show t = i by omega, b] at hb; cases hb
    · rw [o_1 b, f1, nI_ite (by omega) (by omega)]
      have hle : ∃ le', (if le ≤ dn i then nI le else nI (dn i)) = nI le' ∧ le' ≤ le ∧ le' ≤ dn i ∧ (le' = le ∨ le' = dn i) := by
        by_cases q : le ≤ dn i
        · exact ⟨le, if_pos q, Nat.le_refl _, q, Or.inl rfl⟩
        · exact ⟨dn i, if_neg q, by omega, Nat.le_refl _, Or.inr rfl⟩
      obtain ⟨le', e1, e2, e3, e4⟩ := hle
      have hmo : ∃ m, (if nI (dn i) ≤ mo then mo else nI (dn i)) = nI m ∧ m ≤ 99 ∧ (∀ t, t < i + 1 → bt x t = true → dn t ≤ m) ∧ ∃ t, t < i + 1 ∧ bt x t = true ∧ dn t = m := by
        rcases h4 with ⟨u, v⟩ | ⟨m, u, v, w, t, p, q⟩
        · refine ⟨dn i, ?_, f2, ?_, i, by omega, b, rfl⟩
          · rw [u, if_neg (nI_m1 (by omega))]
          · intro t ht hb
            rcases Nat.lt_or_ge t i with q | q
            · rw [v t q] at hb; cases hb
            · rw [show t = i by omega]; exact Nat.le_refl _
        · rw [u, nI_ite (by omega) (by omega)]
          by_cases z : dn i ≤ m
          · refine ⟨m, if_pos z, v, ?_, t, by omega, q⟩
            intro t ht hb
            rcases Nat.lt_or_ge t i with q | q
            · exact w t q hb
            · rw [show t = i by omega]; exact z
          · refine ⟨dn i, if_neg z, f2, ?_, i, by omega, b, rfl⟩
            intro t ht hb
            rcases Nat.lt_or_ge t i with q | q
            · have := w t q hb; omega
            · rw [show t = i by omega]; exact Nat.le_refl _
      obtain ⟨m, g1, g2, g3, g4⟩ := hmo
      refine ⟨nI m, le', by rw [g1, e1], by omega, ?_, ?_, Or.inr ⟨m, rfl, g2, g3, g4⟩⟩
      · intro t ht hb
        rcases Nat.lt_or_ge t i with q | q
        · have := h2 t q hb; omega
        · rw [show t = i by omega]; exact e3
      · intro h
        rcases e4 with q | q
        · obtain ⟨t, u, v, w⟩ := h3 (by omega)
          exact ⟨t, by omega, v, by omega⟩
        · exact ⟨i, by omega, b, q.symm⟩
/-- outcome: of an action x whose states' numbers are dn -/
theorem out_sp {fr : Nat → Int32} {dn : Nat → Nat} {x : Int32} (wo : Bool) (hx : s8 x) (hd : ∀ j, j < 8 → fr j = nI (dn j) ∧ dn j ≤ 99) : ∃ m, m ≤ 99 ∧ outF fr x wo = nI m ∧ (∀ V : Int32, (∀ t, t < 8 → bt x t = true → dn t ≤ m → bt V t = true) → m < 99 → tB wo x V = true) ∧ (∀ (V : Int32) (d : Nat), (∀ t, t < 8 → bt V t = true → dn t ≤ d) → tB wo x V = true → m ≤ d) := by
  obtain ⟨mo, le, e, h1, h2, h3, h4⟩ := o_sp (x := x) hd 8 (Nat.le_refl _)
  have e : (mo, nI le) = oL fr x := e.symm
  have lt8 : ∀ t, bt x t = true → t < 8 := fun t h => by
    rcases Nat.lt_or_ge t 8 with q | q
    · exact q
    · rw [hx t q] at h; cases h
  cases wo
  · refine ⟨le, h1, (out_2 e rfl).symm, ?_, ?_⟩
    · intro V hV h
      obtain ⟨t, u, v, w⟩ := h3 h
      exact my_iff.mpr ⟨t, v, hV t u v (by omega)⟩
    · intro V d hV h
      obtain ⟨t, u, v⟩ := my_iff.mp h
      have := h2 t (lt8 t u) u
      have := hV t (lt8 t u) v
      omega
  · rcases h4 with ⟨u, v⟩ | ⟨m, u, v, w, t, p, q, z⟩
    · have x0 : ∀ t, bt x t = false := fun t => by
        cases b : bt x t
        · rfl
        · rw [v t (lt8 t b)] at b; cases b
      refine ⟨le, h1, (out_3 e (by rw [u]; decide)).symm, ?_, ?_⟩
      · intro V hV h
        obtain ⟨t, u, v, w⟩ := h3 h
        rw [x0 t] at v; cases v
      · intro V d hV h
        obtain ⟨⟨t, ht⟩, -⟩ := ld_iff.mp h
        rw [x0 t] at ht; cases ht
    · refine ⟨m, v, by rw [← out_1 (wo := true) e rfl (by rw [u]; exact nI_pos (by omega)), u], ?_, ?_⟩
      · intro V hV _
        exact ld_iff.mpr ⟨⟨t, q⟩, fun r hr => hV r (lt8 r hr) hr (w r (lt8 r hr) hr)⟩
      · intro V d hV h
        have := hV t p ((ld_iff.mp h).2 t q)
        omega
/-- the numbers are right from below -/
def FI (mu : Bool) (a : Nat → Int32) (g : Int32) (fr : Nat → Int32) (dn : Nat → Nat) : Prop := ∀ j, j < 8 → fr j = nI (dn j) ∧ dn j ≤ 99 ∧ (dn j < 99 → bt (fW mu a g (dn j)) j = true)
theorem sm_of {mu : Bool} {a : Nat → Int32} {V : Int32} {k : Nat} (h : tB mu (a k) V = true) : smB mu a (k / 3) V = true := any_1 (k := k % 3) (by
  show tB mu (a (3 * (k / 3) + k % 3)) V = true
  rw [Nat.div_add_mod]; exact h) (Nat.mod_lt _ (by omega))
theorem any_ex {f : Nat → Bool} {n : Nat} (h : anyB f n = true) : ∃ k, k < n ∧ f k = true := by
  induction n with
  | zero => cases h
  | succ n ih =>
    have h : (anyB f n || f n) = true := h
    cases e : f n
    · rw [e, Bool.or_false] at h
      obtain ⟨k, h1, h2⟩ := ih h
      exact ⟨k, by omega, h2⟩
    · exact ⟨n, by omega, e⟩
/-- one action of a round -/
theorem c_step {mu : Bool} {a : Nat → Int32} {g : Int32} (ha : ∀ k, s8 (a k)) {fr : Nat → Int32} {dn : Nat → Nat} (hF : FI mu a g fr dn) {k : Nat} (hk : k < 24) :
    ∃ dn', FI mu a g (cSt a mu k fr) dn' ∧ (∀ j, j < 8 → dn' j ≤ dn j) ∧ ∀ m, (∀ t, t < 8 → bt (fW mu a g m) t = true → dn t ≤ m) → tB mu (a k) (fW mu a g m) = true → dn' (k / 3) ≤ m + 1 := by
  have hk3 : k / 3 < 8 := by omega
  obtain ⟨m, h1, h2, h3, h4⟩ := out_sp (dn := dn) mu (ha k) (fun j hj => ⟨(hF j hj).1, (hF j hj).2.1⟩)
  have e1 : outF fr (a k) mu + 1 = nI (m + 1) := by rw [h2, nI_1]
  by_cases q : dn (k / 3) ≤ m + 1
  · refine ⟨dn, ?_, fun j _ => Nat.le_refl _, fun d u v => ?_⟩
    · rw [ct_1 (by rw [e1, (hF _ hk3).1]; exact nI_le q (by omega))]; exact hF
    · have := h4 _ d u v; omega
  · refine ⟨fun j => if j = k / 3 then m + 1 else dn j, ?_, ?_, ?_⟩
    · rw [ct_0 (by rw [e1, (hF _ hk3).1]; exact nI_ge (by omega) (by have := (hF _ hk3).2.1; omega)), e1]
      intro j hj
      by_cases z : j = k / 3
      · have h9 := (hF _ hk3).2.1
        rw [z, pk_us]
        show nI (m + 1) = nI (if k / 3 = k / 3 then m + 1 else dn (k / 3)) ∧ (if k / 3 = k / 3 then m + 1 else dn (k / 3)) ≤ 99 ∧ ((if k / 3 = k / 3 then m + 1 else dn (k / 3)) < 99 → bt (fW mu a g (if k / 3 = k / 3 then m + 1 else dn (k / 3))) (k / 3) = true)
        rw [if_pos (Eq.refl (k / 3))]
        refine ⟨rfl, by omega, fun _ => ?_⟩
        rw [fW_s hk3]
        have := h3 (fW mu a g m) (fun t ht _ hd => fW_m hd t ((hF t ht).2.2 (by omega))) (by omega)
        rw [sm_of this, Bool.or_true]
      · rw [pk_un z]
        simp only [if_neg z]
        exact hF j hj
    · intro j hj
      by_cases z : j = k / 3
      · simp only [if_pos z]; rw [z]; omega
      · simp only [if_neg z]; exact Nat.le_refl _
    · intro d u v
      have := h4 _ d u v
      simp only [if_true]
      omega
theorem c_round {mu : Bool} {a : Nat → Int32} {g : Int32} (ha : ∀ k, s8 (a k)) {fr : Nat → Int32} {dn : Nat → Nat} (hF : FI mu a g fr dn) {r : Nat} (hU : ∀ j, j < 8 → ∀ m, m ≤ r → bt (fW mu a g m) j = true → dn j ≤ m) :
    ∀ n, n ≤ 24 → ∃ dn', FI mu a g (lp (cSt a mu) fr n) dn' ∧ (∀ j, j < 8 → dn' j ≤ dn j) ∧ ∀ k, k < n → ∀ m, m ≤ r → tB mu (a k) (fW mu a g m) = true → dn' (k / 3) ≤ m + 1 := by
  intro n
  induction n with
  | zero => intro _; exact ⟨dn, hF, fun _ _ => Nat.le_refl _, fun k hk => absurd hk (Nat.not_lt_zero k)⟩
  | succ n ih =>
    intro hn
    obtain ⟨d1, h1, h2, h3⟩ := ih (by omega)
    obtain ⟨d2, g1, g2, g3⟩ := c_step ha h1 (k := n) (by omega)
    refine ⟨d2, g1, fun j hj => Nat.le_trans (g2 j hj) (h2 j hj), ?_⟩
    intro k hk m hm ht
    rcases Nat.lt_or_ge k n with q | q
    · exact Nat.le_trans (g2 _ (by omega)) (h3 k q m hm ht)
    · rw [show k = n by omega] at ht ⊢
      exact g3 m (fun t h8 hb => Nat.le_trans (h2 t h8) (hU t h8 m hm hb)) ht
theorem c_all {mu : Bool} {a : Nat → Int32} {g : Int32} (ha : ∀ k, s8 (a k)) : ∀ r, ∃ dn, FI mu a g (lp (cR a mu) (far0 g) r) dn ∧ ∀ j, j < 8 → ∀ m, m ≤ r → bt (fW mu a g m) j = true → dn j ≤ m := by
  intro r
  induction r with
  | zero =>
    refine ⟨fun j => if bt g j = true then 0 else 99, ?_, ?_⟩
    · intro j hj
      rw [lp_0]
      unfold far0
      by_cases h : bt g j = true
      · simp only [if_pos h]
        exact ⟨rfl, by omega, fun _ => h⟩
      · simp only [if_neg h]
        exact ⟨trivial, by omega, fun q => by omega⟩
    · intro j hj m hm hb
      rw [show m = 0 by omega] at hb
      simp only [if_pos (show bt g j = true from hb)]
      omega
  | succ r ih =>
    obtain ⟨dn, hF, hU⟩ := ih
    obtain ⟨d2, g1, g2, g3⟩ := c_round ha hF hU 24 (Nat.le_refl _)
    refine ⟨d2, g1, ?_⟩
    intro j hj m hm hb
    cases m with
    | zero => exact Nat.le_trans (g2 j hj) (hU j hj 0 (by omega) hb)
    | succ m =>
      rw [fW_s hj] at hb
      cases e : bt (fW mu a g m) j
      · rw [e, Bool.false_or] at hb
        obtain ⟨t, ht, h⟩ := any_ex hb
        have := g3 (3 * j + t) (by omega) m (by omega) h
        rw [show (3 * j + t) / 3 = j by omega] at this
        exact this
      · have := hU j hj m (by omega) e
        have := g2 j hj
        omega
/-- what is counted: the layer's number, or 99 -/
theorem c_fin {mu : Bool} {a : Nat → Int32} {g : Int32} (hg : s8 g) (ha : ∀ k, s8 (a k)) : ∃ dn : Nat → Nat, (∀ j, j < 8 → cF a g mu j = nI (dn j) ∧ dn j ≤ 99) ∧ (∀ j, j < 8 → bt (fW mu a g 8) j = true → dn j ≤ 8 ∧ lay mu a g 8 j = nI (dn j)) ∧ (∀ j, j < 8 → bt (fW mu a g 8) j = false → dn j = 99) ∧ (∀ j, j < 8 → ∀ m, m < 99 → (bt (fW mu a g m) j = true ↔ dn j ≤ m)) := by
  obtain ⟨dn, hF, hU⟩ := c_all (mu := mu) (g := g) ha 8
  have h8 : ∀ j, j < 8 → bt (fW mu a g 8) j = true → dn j ≤ 8 ∧ lay mu a g 8 j = nI (dn j) := by
    intro j hj hb
    obtain ⟨d, h1, h2, h3, h4⟩ := lay_sp hj 8 hb
    have u := hU j hj d h1 h3
    have v : d ≤ dn j := by
      rcases Nat.lt_or_ge (dn j) d with q | q
      · have := h4 _ q
        rw [(hF j hj).2.2 (by omega)] at this; cases this
      · exact q
    exact ⟨by omega, by rw [h2, show d = dn j by omega]⟩
  refine ⟨dn, fun j hj => ⟨(hF j hj).1, (hF j hj).2.1⟩, h8, ?_, ?_⟩
  · intro j hj hb
    rcases Nat.lt_or_ge (dn j) 99 with q | q
    · have := fW_r hg _ j ((hF j hj).2.2 q)
      rw [hb] at this; cases this
    · have := (hF j hj).2.1; omega
  · intro j hj m hm
    constructor
    · intro hb
      rcases Nat.lt_or_ge 8 m with q | q
      · have := (h8 j hj (fW_r hg m j hb)).1; omega
      · exact hU j hj m q hb
    · intro h
      exact fW_m h j ((hF j hj).2.2 (by omega))
end
section
/-! ===== the plain law, 3: the answers are the same ===== -/
set_option maxRecDepth 100000
theorem r_sp {fr : Nat → Int32} {j : Nat} : ∀ n, n ≤ 8 → bt (lp (rSt fr) 0 n) j = (decide (j < n) && !decide (nI 99 ≤ fr j)) := by
  intro n
  induction n with
  | zero => intro _; rw [lp_0, b_0]; simp
  | succ n ih =>
    intro hn
    rw [lp_s]
    have ih := ih (by omega)
    by_cases e : nI 99 ≤ fr n
    · rw [r_1 e, ih]
      by_cases q : j = n
      · subst q; rw [decide_eq_true e]; simp
      · by_cases u : j < n
        · rw [decide_eq_true u, decide_eq_true (show j < n + 1 by omega)]
        · rw [decide_eq_false u, decide_eq_false (show ¬ j < n + 1 by omega)]
    · rw [r_0 e, b_or, ih, b_one (by omega)]
      by_cases q : j = n
      · subst q; rw [decide_eq_false e]; simp
      · by_cases u : j < n
        · rw [decide_eq_true u, decide_eq_true (show j < n + 1 by omega), decide_eq_false q]; simp
        · rw [decide_eq_false u, decide_eq_false (show ¬ j < n + 1 by omega), decide_eq_false q]; simp
theorem e_reach {mu : Bool} {a : Nat → Int32} {g : Int32} (hg : s8 g) (ha : ∀ k, s8 (a k)) : rF (cF a g mu) = fW mu a g 8 := by
  obtain ⟨dn, h1, h2, h3, -⟩ := c_fin (mu := mu) hg ha
  apply b_ext
  intro j _
  show bt (lp (rSt (cF a g mu)) 0 8) j = _
  rw [r_sp 8 (Nat.le_refl _)]
  rcases Nat.lt_or_ge j 8 with q | q
  · rw [decide_eq_true q, (h1 j q).1, Bool.true_and]
    cases e : bt (fW mu a g 8) j
    · rw [h3 j q e, decide_eq_true (nI_le (Nat.le_refl _) (by omega))]; rfl
    · have := (h2 j q e).1
      rw [decide_eq_false (nI_ge (by omega) (by omega))]; rfl
  · rw [decide_eq_false (by omega), fW_8 hg 8 j q]; rfl
theorem e_num {mu : Bool} {a : Nat → Int32} {g : Int32} (hg : s8 g) (ha : ∀ k, s8 (a k)) (x : Int32) : numF (cF a g mu) x = xNum mu a g x := by
  unfold numF xNum
  by_cases h : isS x = true
  · rw [if_pos h, if_pos h]
    obtain ⟨j, hj, rfl⟩ := isS_of h
    rw [nI_clamp (by omega)]
    obtain ⟨dn, h1, h2, h3, -⟩ := c_fin (mu := mu) hg ha
    rw [(h1 j hj).1]
    cases e : bt (fW mu a g 8) j
    · rw [h3 j hj e, if_pos (nI_le (Nat.le_refl _) (by omega))]; rfl
    · have := h2 j hj e
      rw [if_neg (nI_ge (by omega) (by omega)), if_pos rfl, this.2]
  · rw [if_neg h, if_neg h]
theorem e_sa {a : Nat → Int32} {g : Int32} (hg : s8 g) (x : Int32) : mSA a g x = xSA a g x := by
  unfold mSA xSA
  rw [safe_eq hg]
theorem all_iff {f : Nat → Bool} {n : Nat} : allB f n = true ↔ ∀ k, k < n → f k = true := by
  induction n with
  | zero => exact ⟨fun _ k hk => absurd hk (Nat.not_lt_zero k), fun _ => rfl⟩
  | succ n ih =>
    constructor
    · intro h k hk
      have h : (allB f n && f n) = true := h
      rw [Bool.and_eq_true] at h
      rcases Nat.lt_or_ge k n with q | q
      · exact ih.mp h.1 k q
      · rw [show k = n by omega]; exact h.2
    · intro h
      exact all_s (ih.mpr (fun k hk => h k (by omega))) (h n (by omega))
theorem bool_eq {x y : Bool} (h : x = true ↔ y = true) : x = y := by
  cases x <;> cases y <;> simp_all
theorem e_kt {a : Nat → Int32} {g : Int32} (hg : s8 g) (ha : ∀ k, s8 (a k)) {j k : Nat} (hj : j < 8) (hk : k / 3 = j) (hb : bt g j = false) (h8 : bt (fW true a g 8) j = true) :
    (outF (cF a g true) (a k) true + 1 == cF a g true j) = ktB (a k) (fW true a g 8) (lay true a g 8) (lay true a g 8 j) := by
  obtain ⟨dn, h1, h2, h3, h4⟩ := c_fin (mu := true) hg ha
  obtain ⟨m, g1, g2, g3, g4⟩ := out_sp (dn := dn) true (ha k) h1
  obtain ⟨u1, u2⟩ := h2 j hj h8
  have d0 : 0 < dn j := by
    rcases Nat.lt_or_ge 0 (dn j) with q | q
    · exact q
    · have : bt (fW true a g 0) j = true := (h4 j hj 0 (by omega)).mpr q
      rw [show fW true a g 0 = g from rfl, hb] at this; cases this
  have lt8 : ∀ t, bt (a k) t = true → t < 8 := fun t h => by
    rcases Nat.lt_or_ge t 8 with q | q
    · exact q
    · rw [ha k t q] at h; cases h
  have hm : m < 99 → ldB (a k) (fW true a g m) = true := fun h => g3 (fW true a g m) (fun t ht _ hd => (h4 t ht m h).mpr hd) h
  rw [g2, nI_1, (h1 j hj).1, u2]
  apply bool_eq
  rw [beq_iff_eq, nI_eq (by omega) (by omega)]
  unfold ktB
  rw [Bool.and_eq_true, all_iff]
  constructor
  · intro e
    have l := ld_iff.mp (hm (by omega))
    refine ⟨ld_iff.mpr ⟨l.1, sb_t l.2 (fW_r hg m)⟩, fun t ht => ?_⟩
    cases b : bt (a k) t
    · rfl
    · have q := (h4 t ht m (by omega)).mp (l.2 t b)
      rw [(h2 t ht (fW_r hg m t (l.2 t b))).2, decide_eq_true (nI_lt (by omega) (by omega))]; rfl
  · rintro ⟨l1, l2⟩
    have l := ld_iff.mp l1
    have low : ldB (a k) (fW true a g (dn j - 1)) = true := ld_iff.mpr ⟨l.1, fun t b => by
      have ht := lt8 t b
      have q := l2 t ht
      rw [b, (h2 t ht (l.2 t b)).2] at q
      have q : nI (dn t) < nI (dn j) := of_decide_eq_true q
      have h9 := (h2 t ht (l.2 t b)).1
      have q := zz_clt (by omega) (by omega) q
      exact (h4 t ht (dn j - 1) (by omega)).mpr (by omega)⟩
    have c := g4 (fW true a g (dn j - 1)) (dn j - 1) (fun t ht hb => (h4 t ht (dn j - 1) (by omega)).mp hb) low
    have s : smB true a (k / 3) (fW true a g m) = true := sm_of (show tB true (a k) (fW true a g m) = true from hm (by omega))
    rw [hk] at s
    have w : bt (fW true a g (m + 1)) j = true := by rw [fW_s hj, s, Bool.or_true]
    have := (h4 j hj (m + 1) (by omega)).mp w
    omega
theorem fst3_c {f f' : Nat → Bool} (h : ∀ t, t < 3 → f t = f' t) : fst3 f = fst3 f' := by
  unfold fst3
  rw [h 0 (by omega), h 1 (by omega), h 2 (by omega)]
theorem e_su {a : Nat → Int32} {g : Int32} (hg : s8 g) (ha : ∀ k, s8 (a k)) (x : Int32) : mSu a g x = xSu a g x := by
  unfold mSu xSu
  by_cases h : isS x = true
  · rw [if_pos h, if_pos h, e_num hg ha]
    unfold xNum
    rw [if_pos h]
    obtain ⟨j, hj, rfl⟩ := isS_of h
    rw [nI_clamp (by omega)]
    cases b : bt g j
    · cases e : bt (fW true a g 8) j
      · rfl
      · obtain ⟨dn, h1, h2, h3, -⟩ := c_fin (mu := true) hg ha
        obtain ⟨u1, u2⟩ := h2 j hj e
        rw [if_pos rfl, if_neg (by decide), if_neg (by
          rw [u2]
          intro q
          have := congrArg Int32.toInt q
          rw [nI_toInt (by omega), show (-2 : Int32).toInt = -2 by decide] at this
          omega), if_neg (by decide)]
        exact fst3_c (fun t ht => e_kt hg ha hj (by omega) b e)
    · rfl
  · rw [if_neg h, if_neg h]
theorem p_8 {a : Nat → Int32} (ha : ∀ k, s8 (a k)) (S : Int32) : ∀ k, s8 ((pF a S).1 k) := by
  refine lp_ind (P := fun q : (Nat → Int32) × Int32 => ∀ k, s8 (q.1 k)) ha 24 (fun n z _ hz => ?_)
  unfold pSt; split
  · exact hz
  · intro k
    show s8 (upd z.1 n 0 k)
    by_cases e : k = n
    · rw [e, pk_us]; exact fun i _ => b_0 i
    · rw [pk_un e]; exact hz k
theorem s8_up {a : Nat → Int32} (ha : ∀ k, s8 (a k)) {x : Int32} (hx : s8 x) (n : Nat) : ∀ k, s8 (upd a n x k) := by
  intro k
  by_cases e : k = n
  · rw [e, pk_us]; exact hx
  · rw [pk_un e]; exact ha k
theorem s8_rng {x : Int32} (h : decide (¬ x < 0 ∧ x ≤ nI 255) = true) : s8 x := by
  have h := of_decide_eq_true h
  obtain ⟨t, ht, rfl⟩ := nI_of2 (n := 255) (M := nI 255) (nI_toInt (by decide)) h.1 h.2
  exact nI_s8 (by omega)
theorem ac_8 {x y z : Int32} (h : acB x y z = true) : s8 z := by
  unfold acB at h
  rw [Bool.and_eq_true] at h
  exact s8_rng h.2
/-- the law's invariant: the two hold one task -/
def LI (a : Nat → Int32) (g : Int32) (z : XS) : Prop := (∀ k, s8 (a k)) ∧ s8 g ∧ XI a g z
theorem LI_l {a : Nat → Int32} {g : Int32} {z : XS} (h : LI a g z) : LI a g (xLrn a g) := ⟨h.1, h.2.1, Or.inr rfl⟩
theorem LI_if {a : Nat → Int32} {g : Int32} {z : XS} (h : LI a g z) (b : Bool) : LI a g (if b = true then xLrn a g else z) := by
  cases b
  · exact h
  · exact LI_l h
theorem LI_ac {a : Nat → Int32} {g kn w sf su la : Int32} {b1 b2 : Nat → Int32} (h : LI a g (kn, w, sf, su, b1, b2, la)) (x y z : Int32) : LI (if acB x y z = true then upd a (3 * x.toNatClampNeg + y.toNatClampNeg) z else a) g (if acB x y z = true then 0 else kn, w, sf, su, b1, b2, la) := by
  by_cases e : acB x y z = true
  · rw [if_pos e, if_pos e]; exact ⟨s8_up h.1 (ac_8 e) _, h.2.1, Or.inl rfl⟩
  · rw [if_neg e, if_neg e]; exact h
theorem LI_gl {a : Nat → Int32} {g kn w sf su la : Int32} {b1 b2 : Nat → Int32} (h : LI a g (kn, w, sf, su, b1, b2, la)) (x : Int32) : LI a (if glB x = true then x else g) (if glB x = true then 0 else kn, w, sf, su, b1, b2, la) := by
  by_cases e : glB x = true
  · rw [if_pos e, if_pos e]; exact ⟨h.1, s8_rng e, Or.inl rfl⟩
  · rw [if_neg e, if_neg e]; exact h
theorem LI_pr {a : Nat → Int32} {g : Int32} {z : XS} (h : LI a g z) : LI (pF a (xSafe a g)).1 g (0, (xLrn a g).2) := ⟨p_8 h.1 _, h.2.1, Or.inl rfl⟩
theorem LI_0 (w sf su la : Int32) (b1 b2 : Nat → Int32) : LI (fun _ => 0) 0 (0, w, sf, su, b1, b2, la) := ⟨fun _ i _ => b_0 i, fun i _ => b_0 i, Or.inl rfl⟩
end
section
/-! ===== the constructors ===== -/
set_option maxRecDepth 100000
abbrev X0w (h : Nat) : va_W := [(h, .inr (0, [.null, .int 0, .int 0, .int 0, .int 0, .int 0, .null, .null, .int 0]))]
abbrev M0w (h : Nat) : va_W := [(h, .inr (1, [.null, .int 0, .null]))]
def X0b (D : va_G) (h : Nat) (A : Nat → Prop) : Unit → State → Prop := fun _ t => ∃ (o sl wl : Nat) (dS d1 d2 : ClassId), va_P D vCl (XW h o sl wl dS d1 d2 (fun _ => 0) 0 0 0 0 0 (fun _ => 0) (fun _ => 0) 0) t.heap ∧ va_K D vCl (XT dS d1 d2) t ∧ va_D A (XW h o sl wl dS d1 d2 (fun _ => 0) 0 0 0 0 0 (fun _ => 0) (fun _ => 0) 0)
def M0b (D : va_G) (h : Nat) (A : Nat → Prop) : Unit → State → Prop := fun _ t => ∃ (o f : Nat) (d1 d2 : ClassId), va_P D vCl (MW h o f d1 d2 (fun _ => 0) 0 (fun _ => 0)) t.heap ∧ va_K D vCl (MT d1 d2) t ∧ va_D A (MW h o f d1 d2 (fun _ => 0) 0 (fun _ => 0))
set_option maxHeartbeats 4000000 in
theorem tX0_init (l : Launch) (D : va_G) (h sz : Nat) : Met l yX0_init (ws_ yX0_init cX0_init 1 none) ({ frames := 1, cells := 3, slots := 40, locals := 25 }) (va_Pc [.ref h] (zz_Pre D [] sz (X0w h))) (va_Qv (fun _ : Unit => True) (X0b D h (va_A (X0w h) sz)) (va_A (X0w h) sz)) 3 40 (va_A (X0w h) sz) := by
  refine Met.ofW (cc := cX0_init) (maxL := 1) (ret := none) (by decide) rfl ?_
  intro p e s m args below meth c s₁ B hml hv
  obtain ⟨rfl, hsz, hP, hK, hD0⟩ := hv
  have hx := B.exec
  have hb := B.bytes
  have hr := B.returns
  have hts := atoms_spec (ws := ws_ yX0_init cX0_init 1 none) B.pre
  have hts : ∀ w ∈ lw_all, w.before _ s = true := fun w h => hts w (List.mem_cons_of_mem _ h)
  have hown : s.vm.findClass RX0 = some m.cls := findClass_of_methodNamed B.named
  have hlocks := B.notSynchronized
  have hin : meth.name = "<init>" := (name_of_methodNamed B.named B.method).1
  subst hsz
  have hD := hD0.self (sz := s.heap.size)
  generalize hAe : va_A (X0w h) s.heap.size = A at hD ⊢
  have hA : ∀ q : Nat, s.heap.size ≤ q → A q := fun q h => by rw [← hAe]; exact Or.inr h
  have hS : va_S A s.heap s.heap [] := va_S.rf
  have hl := lv_entry ([.ref h]) (n := 1) (Nat.le_of_ble_eq_true rfl)
  rw [lg_entry_eq]
  generalize (lg_sl ([.ref h]) ++ List.replicate (1 - (lg_sl ([.ref h])).length) Slot.unset).toArray = ls at hl ⊢
  have hl : lv_has ls 1 [(0, .ref h)] := hl
  refine lv_aload_n hx hb dX0_init_0 rfl (lv_at hl 0 rfl) ?_
  refine W.objInit hx hb hown (hts _ q27) (hts _ q28) (hts _ q29) rfl (by rw [hml]; exact hl.1) rfl dX0_init_1 (Nat.le_of_ble_eq_true rfl) (Nat.le_of_ble_eq_true rfl) ?_
  refine W.eq (g2 := F0 m 4 ls []) rfl ?_
  refine lv_aload_n hx hb dX0_init_4 rfl (lv_at hl 0 rfl) ?_
  refine lv_bipush (v := nI 24) hx hb dX0_init_5 (by decide +kernel) ?_
  refine va_newa (atype := .short) (ty := .short) (N' := 24) (a0 := (24, .inl (fun _ => 0))) hx hb (hts _ q58) rfl hK hP hD hS hA (fun _ => rfl) (nI_pos (by decide)) (nI_clamp (by decide)) (by decide) (Nat.le_of_ble_eq_true rfl) (Nat.le_of_ble_eq_true rfl) dX0_init_7 (fun o dS H hK hP hD hS => ?_)
  refine W.widen (k := 1) (n := 24) (by decide) (by decide) ?_
  have hP : va_P D vCl [(h, .inr (0, [.null, .int 0, .int 0, .int 0, .int 0, .int 0, .null, .null, .int 0])), (o, .inl (dS, 24, .inl (fun _ => 0)))] H := hP
  have hD : va_D A [(h, .inr (0, [.null, .int 0, .int 0, .int 0, .int 0, .int 0, .null, .null, .int 0])), (o, .inl (dS, 24, .inl (fun _ => 0)))] := hD
  have hK : va_K D vCl [(dS, .short)] s := hK
  refine va_putF (D := D) (ci := 0) (v := .ref o) (ty := .array .short) (C := RX0) (T := TX0) (N := 9) hx hb hts in_X0 tyX0 tyX0_ok nmX0 hown hK hP hD hS 0 rfl rfl 0 (by decide) (hts _ q30) (fun _ h9 => h9) rfl hin rfl (by decide +kernel) rfl rfl (Nat.le_of_ble_eq_true rfl) dX0_init_9 (fun H locs hP hD hS => ?_)
  have hP : va_P D vCl [(h, .inr (0, [.ref o, .int 0, .int 0, .int 0, .int 0, .int 0, .null, .null, .int 0])), (o, .inl (dS, 24, .inl (fun _ => 0)))] H := hP
  have hD : va_D A [(h, .inr (0, [.ref o, .int 0, .int 0, .int 0, .int 0, .int 0, .null, .null, .int 0])), (o, .inl (dS, 24, .inl (fun _ => 0)))] := hD
  refine lv_aload_n hx hb dX0_init_12 rfl (lv_at hl 0 rfl) ?_
  refine lv_bipush (v := nI 8) hx hb dX0_init_13 (by decide +kernel) ?_
  refine va_newa (atype := .byte) (ty := .byte) (N' := 8) (a0 := (8, .inl (fun _ => 0))) hx hb (hts _ q59) rfl hK hP hD hS hA (fun _ => rfl) (nI_pos (by decide)) (nI_clamp (by decide)) (by decide) (Nat.le_of_ble_eq_true rfl) (Nat.le_of_ble_eq_true rfl) dX0_init_15 (fun sl d1 H hK hP hD hS => ?_)
  refine W.widen (k := 2) (n := 32) (by decide) (by decide) ?_
  have hP : va_P D vCl [(h, .inr (0, [.ref o, .int 0, .int 0, .int 0, .int 0, .int 0, .null, .null, .int 0])), (o, .inl (dS, 24, .inl (fun _ => 0))), (sl, .inl (d1, 8, .inl (fun _ => 0)))] H := hP
  have hD : va_D A [(h, .inr (0, [.ref o, .int 0, .int 0, .int 0, .int 0, .int 0, .null, .null, .int 0])), (o, .inl (dS, 24, .inl (fun _ => 0))), (sl, .inl (d1, 8, .inl (fun _ => 0)))] := hD
  have hK : va_K D vCl [(dS, .short), (d1, .byte)] s := hK
  refine va_putF (D := D) (ci := 0) (v := .ref sl) (ty := .array .byte) (C := RX0) (T := TX0) (N := 9) hx hb hts in_X0 tyX0 tyX0_ok nmX0 hown hK hP hD hS 0 rfl rfl 6 (by decide) (hts _ q36) (fun _ h9 => h9) rfl hin rfl (by decide +kernel) rfl rfl (Nat.le_of_ble_eq_true rfl) dX0_init_17 (fun H locs hP hD hS => ?_)
  have hP : va_P D vCl [(h, .inr (0, [.ref o, .int 0, .int 0, .int 0, .int 0, .int 0, .ref sl, .null, .int 0])), (o, .inl (dS, 24, .inl (fun _ => 0))), (sl, .inl (d1, 8, .inl (fun _ => 0)))] H := hP
  have hD : va_D A [(h, .inr (0, [.ref o, .int 0, .int 0, .int 0, .int 0, .int 0, .ref sl, .null, .int 0])), (o, .inl (dS, 24, .inl (fun _ => 0))), (sl, .inl (d1, 8, .inl (fun _ => 0)))] := hD
  refine lv_aload_n hx hb dX0_init_20 rfl (lv_at hl 0 rfl) ?_
  refine lv_bipush (v := nI 8) hx hb dX0_init_21 (by decide +kernel) ?_
  refine va_newa (atype := .byte) (ty := .byte) (N' := 8) (a0 := (8, .inl (fun _ => 0))) hx hb (hts _ q59) rfl hK hP hD hS hA (fun _ => rfl) (nI_pos (by decide)) (nI_clamp (by decide)) (by decide) (Nat.le_of_ble_eq_true rfl) (Nat.le_of_ble_eq_true rfl) dX0_init_23 (fun wl d2 H hK hP hD hS => ?_)
  refine W.widen (k := 3) (n := 40) (by decide) (by decide) ?_
  have hP : va_P D vCl [(h, .inr (0, [.ref o, .int 0, .int 0, .int 0, .int 0, .int 0, .ref sl, .null, .int 0])), (o, .inl (dS, 24, .inl (fun _ => 0))), (sl, .inl (d1, 8, .inl (fun _ => 0))), (wl, .inl (d2, 8, .inl (fun _ => 0)))] H := hP
  have hD : va_D A [(h, .inr (0, [.ref o, .int 0, .int 0, .int 0, .int 0, .int 0, .ref sl, .null, .int 0])), (o, .inl (dS, 24, .inl (fun _ => 0))), (sl, .inl (d1, 8, .inl (fun _ => 0))), (wl, .inl (d2, 8, .inl (fun _ => 0)))] := hD
  have hK : va_K D vCl (XT dS d1 d2) s := hK
  refine va_putF (D := D) (ci := 0) (v := .ref wl) (ty := .array .byte) (C := RX0) (T := TX0) (N := 9) hx hb hts in_X0 tyX0 tyX0_ok nmX0 hown hK hP hD hS 0 rfl rfl 7 (by decide) (hts _ q37) (fun _ h9 => h9) rfl hin rfl (by decide +kernel) rfl rfl (Nat.le_of_ble_eq_true rfl) dX0_init_25 (fun H locs hP hD hS => ?_)
  have hP : va_P D vCl (XW h o sl wl dS d1 d2 (fun _ => 0) 0 0 0 0 0 (fun _ => 0) (fun _ => 0) 0) H := hP
  have hD : va_D A (XW h o sl wl dS d1 d2 (fun _ => 0) 0 0 0 0 0 (fun _ => 0) (fun _ => 0) 0) := hD
  exact W.vret hx hb hr (fun t ht hW => ⟨⟨(), rfl, trivial, o, sl, wl, dS, d1, d2, by rw [ht]; exact hP, va_K.moved hW.alike hK, hD⟩, hS.F ht⟩) hS.2.2 dX0_init_28
set_option maxHeartbeats 4000000 in
theorem tX1_init (l : Launch) (D : va_G) (h sz : Nat) : Met l yX1_init (ws_ yX1_init cX1_init 1 none) ({ frames := 1, cells := 2, slots := 32, locals := 25 }) (va_Pc [.ref h] (zz_Pre D [] sz (M0w h))) (va_Qv (fun _ : Unit => True) (M0b D h (va_A (M0w h) sz)) (va_A (M0w h) sz)) 2 32 (va_A (M0w h) sz) := by
  refine Met.ofW (cc := cX1_init) (maxL := 1) (ret := none) (by decide) rfl ?_
  intro p e s m args below meth c s₁ B hml hv
  obtain ⟨rfl, hsz, hP, hK, hD0⟩ := hv
  have hx := B.exec
  have hb := B.bytes
  have hr := B.returns
  have hts := atoms_spec (ws := ws_ yX1_init cX1_init 1 none) B.pre
  have hts : ∀ w ∈ lw_all, w.before _ s = true := fun w h => hts w (List.mem_cons_of_mem _ h)
  have hown : s.vm.findClass RX1 = some m.cls := findClass_of_methodNamed B.named
  have hlocks := B.notSynchronized
  subst hsz
  have hD := hD0.self (sz := s.heap.size)
  generalize hAe : va_A (M0w h) s.heap.size = A at hD ⊢
  have hA : ∀ q : Nat, s.heap.size ≤ q → A q := fun q h => by rw [← hAe]; exact Or.inr h
  have hS : va_S A s.heap s.heap [] := va_S.rf
  have hl := lv_entry ([.ref h]) (n := 1) (Nat.le_of_ble_eq_true rfl)
  rw [lg_entry_eq]
  generalize (lg_sl ([.ref h]) ++ List.replicate (1 - (lg_sl ([.ref h])).length) Slot.unset).toArray = ls at hl ⊢
  have hl : lv_has ls 1 [(0, .ref h)] := hl
  refine lv_aload_n hx hb dX1_init_0 rfl (lv_at hl 0 rfl) ?_
  refine W.objInit hx hb hown (hts _ q157) (hts _ q28) (hts _ q29) rfl (by rw [hml]; exact hl.1) rfl dX1_init_1 (Nat.le_of_ble_eq_true rfl) (Nat.le_of_ble_eq_true rfl) ?_
  refine W.eq (g2 := F0 m 4 ls []) rfl ?_
  refine lv_aload_n hx hb dX1_init_4 rfl (lv_at hl 0 rfl) ?_
  refine lv_bipush (v := nI 24) hx hb dX1_init_5 (by decide +kernel) ?_
  refine va_newa (atype := .int) (ty := .int) (N' := 24) (a0 := (24, .inl (fun _ => 0))) hx hb (hts _ q168) rfl hK hP hD hS hA (fun _ => rfl) (nI_pos (by decide)) (nI_clamp (by decide)) (by decide) (Nat.le_of_ble_eq_true rfl) (Nat.le_of_ble_eq_true rfl) dX1_init_7 (fun o d1 H hK hP hD hS => ?_)
  refine W.widen (k := 1) (n := 24) (by decide) (by decide) ?_
  have hP : va_P D vCl [(h, .inr (1, [.null, .int 0, .null])), (o, .inl (d1, 24, .inl (fun _ => 0)))] H := hP
  have hD : va_D A [(h, .inr (1, [.null, .int 0, .null])), (o, .inl (d1, 24, .inl (fun _ => 0)))] := hD
  have hK : va_K D vCl [(d1, .int)] s := hK
  refine va_put (D := D) (ci := 1) (v := .ref o) (ty := .array .int) (C := RX1) (T := TX1) (N := 3) hx hb hts in_X1 tyX1 tyX1_ok nmX1 hown hK hP hD hS 0 rfl rfl 0 (by decide) (hts _ q158) (fun _ h9 => h9) rfl (by decide +kernel) rfl rfl (Nat.le_of_ble_eq_true rfl) dX1_init_9 (fun H locs hP hD hS => ?_)
  have hP : va_P D vCl [(h, .inr (1, [.ref o, .int 0, .null])), (o, .inl (d1, 24, .inl (fun _ => 0)))] H := hP
  have hD : va_D A [(h, .inr (1, [.ref o, .int 0, .null])), (o, .inl (d1, 24, .inl (fun _ => 0)))] := hD
  refine lv_aload_n hx hb dX1_init_12 rfl (lv_at hl 0 rfl) ?_
  refine lv_iconst (v := 0) hx hb dX1_init_13 (by decide +kernel) ?_
  refine va_put (D := D) (ci := 1) (v := .int 0) (ty := .int) (C := RX1) (T := TX1) (N := 3) hx hb hts in_X1 tyX1 tyX1_ok nmX1 hown hK hP hD hS 0 rfl rfl 1 (by decide) (hts _ q159) (fun _ h9 => h9) rfl (by decide +kernel) rfl rfl (Nat.le_of_ble_eq_true rfl) dX1_init_14 (fun H locs hP hD hS => ?_)
  have hP : va_P D vCl [(h, .inr (1, [.ref o, .int 0, .null])), (o, .inl (d1, 24, .inl (fun _ => 0)))] H := hP
  have hD : va_D A [(h, .inr (1, [.ref o, .int 0, .null])), (o, .inl (d1, 24, .inl (fun _ => 0)))] := hD
  refine lv_aload_n hx hb dX1_init_17 rfl (lv_at hl 0 rfl) ?_
  refine lv_bipush (v := nI 8) hx hb dX1_init_18 (by decide +kernel) ?_
  refine va_newa (atype := .int) (ty := .int) (N' := 8) (a0 := (8, .inl (fun _ => 0))) hx hb (hts _ q168) rfl hK hP hD hS hA (fun _ => rfl) (nI_pos (by decide)) (nI_clamp (by decide)) (by decide) (Nat.le_of_ble_eq_true rfl) (Nat.le_of_ble_eq_true rfl) dX1_init_20 (fun f d2 H hK hP hD hS => ?_)
  refine W.widen (k := 2) (n := 32) (by decide) (by decide) ?_
  have hP : va_P D vCl [(h, .inr (1, [.ref o, .int 0, .null])), (o, .inl (d1, 24, .inl (fun _ => 0))), (f, .inl (d2, 8, .inl (fun _ => 0)))] H := hP
  have hD : va_D A [(h, .inr (1, [.ref o, .int 0, .null])), (o, .inl (d1, 24, .inl (fun _ => 0))), (f, .inl (d2, 8, .inl (fun _ => 0)))] := hD
  have hK : va_K D vCl (MT d1 d2) s := hK
  refine va_put (D := D) (ci := 1) (v := .ref f) (ty := .array .int) (C := RX1) (T := TX1) (N := 3) hx hb hts in_X1 tyX1 tyX1_ok nmX1 hown hK hP hD hS 0 rfl rfl 2 (by decide) (hts _ q160) (fun _ h9 => h9) rfl (by decide +kernel) rfl rfl (Nat.le_of_ble_eq_true rfl) dX1_init_22 (fun H locs hP hD hS => ?_)
  have hP : va_P D vCl (MW h o f d1 d2 (fun _ => 0) 0 (fun _ => 0)) H := hP
  have hD : va_D A (MW h o f d1 d2 (fun _ => 0) 0 (fun _ => 0)) := hD
  exact W.vret hx hb hr (fun t ht hW => ⟨⟨(), rfl, trivial, o, f, d1, d2, by rw [ht]; exact hP, va_K.moved hW.alike hK, hD⟩, hS.F ht⟩) hS.2.2 dX1_init_25
end
section
/-! ===== the law: its loop (printed by specL.py; ahead of it rows of SKELETON.whole) ===== -/
set_option maxRecDepth 100000
/-! THE CLAIM OUT OF ONE WALK OF THE LAW'S BODY. Your part is whole_start (and what it stands on); all else here is the same for every law, but numbers. -/
def R_law : String := "CyclicPlannerLaw"
def lw_P (b : Addr) (xs : List Int32) (args : Array Value) (s : State) : Prop := args = #[.ref b] ∧ s.IntsAt b xs ∧ xs.length ≤ 256 ∧ (Jvm.Cond.and given_1 narrow_1).before args s = true
def lw_Q (_ : Array Value) (s : State) (o : Outcome) (t : State) : Prop := o = .returned (some (.int 1)) ∧ Framed s o t [] 600000 7290000
def lw_Z (below : List Frame) (a : Array Value) (s : State) : State → Prop := fun t => ∃ o, t.status = .running ∧ Ended t below o ∧ lw_Q a s o t
/-- the law's own end, with 1 on the stack, nothing written that was there before, its room as the claim has it -/
theorem lw_ret {p : Program} {l : Launch} {e : Env} {s : State} {m : MethodId} {below : List Frame} {meth : Method} {c : Code} {b : Nat} (hx : p.tables.exec = Jvm.exec) (hb : c.code = code) (hr : meth.sig.returnType = ret) (hlocks : meth.locks = false) {pc : Nat} {H : Heap} {ls : Array Slot} (hdg : decode code pc = .ok (.ireturn, 1)) : W p l e room_1 s m #[Value.ref b] below meth c H [] 600000 7290000 (lw_Z below #[Value.ref b] s) (F0 m pc ls [.int 1]) := by
  intro T hT X
  obtain ⟨fs, hret, hrun, hended, hW, hframe⟩ := X.leave (v := some (.int 1)) (hlocks := hlocks) (fun h => by rw [hr] at h; cases h)
  have hmeth' : T.vm.method? m = some meth := X.method'
  refine ⟨T.setFrames fs, ?_, .returned (some (.int 1)), hrun, hended, rfl, ⟨_, rfl⟩, hW, hframe⟩
  jvm_step X.here [X.here.top, hx, hb, hdg, hmeth', hr, ret, narrow_b1]
  (try refine ⟨rfl, ?_⟩); (try refine ⟨rfl, ?_⟩)
  first | (intro acts; rw [hret _ acts rfl rfl rfl]) | rw [hret _ _ rfl rfl rfl]
  exact Steps.refl _
/-- what holds at the law's entry: the machine, the code, the tables' words (any of lw_tbl by 'hts w (by decide +kernel)'), the script of L ints xs at the cell b, what the Statement gives of the start (any of its parts by flat_of_before) -/
def lw_At (p : Program) (s : State) (m : MethodId) (meth : Method) (c : Code) (b L : Nat) (xs : Nat → Int32) : Prop :=
  p.tables.exec = Jvm.exec ∧ c.code = code ∧ meth.sig.returnType = ret ∧ c.maxLocals = 4 ∧ s.vm.findClass R_law = some m.cls ∧ (∀ w ∈ lw_tbl, w.before #[Value.ref b] s = true) ∧ va_X b L xs s s.heap ∧ b < s.heap.size ∧ meth.locks = false ∧ (Jvm.Cond.and given_1 narrow_1).before #[Value.ref b] s = true
theorem gLX0_action : GoodIn lw_all (wsV R_law 13 RX0 yX0_action (ws_ yX0_action cX0_action 4 (some .boolean))) := lw_V q60 q61 q62 q20 q63
theorem hLX0_action : yX0_action.cls = RX0 ∧ yX0_action.cls ≠ "java/lang/invoke/MethodHandle" ∧ yX0_action.cls ≠ "java/lang/invoke/VarHandle" ∧ (parseMethodDescriptor yX0_action.desc).map (fun d => d.parameters.length) = some 3 := by decide +kernel
theorem gLX1_action : GoodIn lw_all (wsV R_law 17 RX1 yX1_action (ws_ yX1_action cX1_action 4 (some .boolean))) := lw_V q169 q170 q171 q21 q172
theorem hLX1_action : yX1_action.cls = RX1 ∧ yX1_action.cls ≠ "java/lang/invoke/MethodHandle" ∧ yX1_action.cls ≠ "java/lang/invoke/VarHandle" ∧ (parseMethodDescriptor yX1_action.desc).map (fun d => d.parameters.length) = some 3 := by decide +kernel
theorem gLX0_goals : GoodIn lw_all (wsV R_law 18 RX0 yX0_goals (ws_ yX0_goals cX0_goals 2 (some .boolean))) := lw_V q68 q69 q70 q20 q71
theorem hLX0_goals : yX0_goals.cls = RX0 ∧ yX0_goals.cls ≠ "java/lang/invoke/MethodHandle" ∧ yX0_goals.cls ≠ "java/lang/invoke/VarHandle" ∧ (parseMethodDescriptor yX0_goals.desc).map (fun d => d.parameters.length) = some 1 := by decide +kernel
theorem gLX1_goals : GoodIn lw_all (wsV R_law 22 RX1 yX1_goals (ws_ yX1_goals cX1_goals 2 (some .boolean))) := lw_V q177 q178 q179 q21 q180
theorem hLX1_goals : yX1_goals.cls = RX1 ∧ yX1_goals.cls ≠ "java/lang/invoke/MethodHandle" ∧ yX1_goals.cls ≠ "java/lang/invoke/VarHandle" ∧ (parseMethodDescriptor yX1_goals.desc).map (fun d => d.parameters.length) = some 1 := by decide +kernel
theorem gLX0_weak : GoodIn lw_all (wsV R_law 23 RX0 yX0_weak (ws_ yX0_weak cX0_weak 1 (some .int))) := lw_V q72 q73 q74 q20 q75
theorem hLX0_weak : yX0_weak.cls = RX0 ∧ yX0_weak.cls ≠ "java/lang/invoke/MethodHandle" ∧ yX0_weak.cls ≠ "java/lang/invoke/VarHandle" ∧ (parseMethodDescriptor yX0_weak.desc).map (fun d => d.parameters.length) = some 0 := by decide +kernel
theorem gLX1_weak : GoodIn lw_all (wsV R_law 27 RX1 yX1_weak (ws_ yX1_weak cX1_weak 1 (some .int))) := lw_V q181 q182 q183 q21 q184
theorem hLX1_weak : yX1_weak.cls = RX1 ∧ yX1_weak.cls ≠ "java/lang/invoke/MethodHandle" ∧ yX1_weak.cls ≠ "java/lang/invoke/VarHandle" ∧ (parseMethodDescriptor yX1_weak.desc).map (fun d => d.parameters.length) = some 0 := by decide +kernel
theorem gLX0_safe : GoodIn lw_all (wsV R_law 28 RX0 yX0_safe (ws_ yX0_safe cX0_safe 1 (some .int))) := lw_V q116 q117 q118 q20 q119
theorem hLX0_safe : yX0_safe.cls = RX0 ∧ yX0_safe.cls ≠ "java/lang/invoke/MethodHandle" ∧ yX0_safe.cls ≠ "java/lang/invoke/VarHandle" ∧ (parseMethodDescriptor yX0_safe.desc).map (fun d => d.parameters.length) = some 0 := by decide +kernel
theorem gLX1_safe : GoodIn lw_all (wsV R_law 31 RX1 yX1_safe (ws_ yX1_safe cX1_safe 3 (some .int))) := lw_V q201 q202 q203 q21 q204
theorem hLX1_safe : yX1_safe.cls = RX1 ∧ yX1_safe.cls ≠ "java/lang/invoke/MethodHandle" ∧ yX1_safe.cls ≠ "java/lang/invoke/VarHandle" ∧ (parseMethodDescriptor yX1_safe.desc).map (fun d => d.parameters.length) = some 0 := by decide +kernel
theorem gLX0_sure : GoodIn lw_all (wsV R_law 32 RX0 yX0_sure (ws_ yX0_sure cX0_sure 1 (some .int))) := lw_V q120 q121 q122 q20 q123
theorem hLX0_sure : yX0_sure.cls = RX0 ∧ yX0_sure.cls ≠ "java/lang/invoke/MethodHandle" ∧ yX0_sure.cls ≠ "java/lang/invoke/VarHandle" ∧ (parseMethodDescriptor yX0_sure.desc).map (fun d => d.parameters.length) = some 0 := by decide +kernel
theorem gLX1_sure : GoodIn lw_all (wsV R_law 35 RX1 yX1_sure (ws_ yX1_sure cX1_sure 1 (some .int))) := lw_V q209 q210 q211 q21 q212
theorem hLX1_sure : yX1_sure.cls = RX1 ∧ yX1_sure.cls ≠ "java/lang/invoke/MethodHandle" ∧ yX1_sure.cls ≠ "java/lang/invoke/VarHandle" ∧ (parseMethodDescriptor yX1_sure.desc).map (fun d => d.parameters.length) = some 0 := by decide +kernel
theorem gLX0_steps : GoodIn lw_all (wsV R_law 36 RX0 yX0_steps (ws_ yX0_steps cX0_steps 2 (some .int))) := lw_V q124 q125 q126 q20 q127
theorem hLX0_steps : yX0_steps.cls = RX0 ∧ yX0_steps.cls ≠ "java/lang/invoke/MethodHandle" ∧ yX0_steps.cls ≠ "java/lang/invoke/VarHandle" ∧ (parseMethodDescriptor yX0_steps.desc).map (fun d => d.parameters.length) = some 1 := by decide +kernel
theorem gLX1_steps : GoodIn lw_all (wsV R_law 40 RX1 yX1_steps (ws_ yX1_steps cX1_steps 2 (some .int))) := lw_V q213 q214 q215 q21 q216
theorem hLX1_steps : yX1_steps.cls = RX1 ∧ yX1_steps.cls ≠ "java/lang/invoke/MethodHandle" ∧ yX1_steps.cls ≠ "java/lang/invoke/VarHandle" ∧ (parseMethodDescriptor yX1_steps.desc).map (fun d => d.parameters.length) = some 1 := by decide +kernel
theorem gLX0_luck : GoodIn lw_all (wsV R_law 41 RX0 yX0_luck (ws_ yX0_luck cX0_luck 2 (some .int))) := lw_V q128 q129 q130 q20 q131
theorem hLX0_luck : yX0_luck.cls = RX0 ∧ yX0_luck.cls ≠ "java/lang/invoke/MethodHandle" ∧ yX0_luck.cls ≠ "java/lang/invoke/VarHandle" ∧ (parseMethodDescriptor yX0_luck.desc).map (fun d => d.parameters.length) = some 1 := by decide +kernel
theorem gLX1_luck : GoodIn lw_all (wsV R_law 44 RX1 yX1_luck (ws_ yX1_luck cX1_luck 2 (some .int))) := lw_V q221 q222 q223 q21 q224
theorem hLX1_luck : yX1_luck.cls = RX1 ∧ yX1_luck.cls ≠ "java/lang/invoke/MethodHandle" ∧ yX1_luck.cls ≠ "java/lang/invoke/VarHandle" ∧ (parseMethodDescriptor yX1_luck.desc).map (fun d => d.parameters.length) = some 1 := by decide +kernel
theorem gLX0_safeActions : GoodIn lw_all (wsV R_law 45 RX0 yX0_safeActions (ws_ yX0_safeActions cX0_safeActions 4 (some .int))) := lw_V q132 q133 q134 q20 q135
theorem hLX0_safeActions : yX0_safeActions.cls = RX0 ∧ yX0_safeActions.cls ≠ "java/lang/invoke/MethodHandle" ∧ yX0_safeActions.cls ≠ "java/lang/invoke/VarHandle" ∧ (parseMethodDescriptor yX0_safeActions.desc).map (fun d => d.parameters.length) = some 1 := by decide +kernel
theorem gLX1_safeActions : GoodIn lw_all (wsV R_law 48 RX1 yX1_safeActions (ws_ yX1_safeActions cX1_safeActions 5 (some .int))) := lw_V q225 q226 q227 q21 q228
theorem hLX1_safeActions : yX1_safeActions.cls = RX1 ∧ yX1_safeActions.cls ≠ "java/lang/invoke/MethodHandle" ∧ yX1_safeActions.cls ≠ "java/lang/invoke/VarHandle" ∧ (parseMethodDescriptor yX1_safeActions.desc).map (fun d => d.parameters.length) = some 1 := by decide +kernel
theorem gLX0_sureAction : GoodIn lw_all (wsV R_law 49 RX0 yX0_sureAction (ws_ yX0_sureAction cX0_sureAction 3 (some .int))) := lw_V q136 q137 q138 q20 q139
theorem hLX0_sureAction : yX0_sureAction.cls = RX0 ∧ yX0_sureAction.cls ≠ "java/lang/invoke/MethodHandle" ∧ yX0_sureAction.cls ≠ "java/lang/invoke/VarHandle" ∧ (parseMethodDescriptor yX0_sureAction.desc).map (fun d => d.parameters.length) = some 1 := by decide +kernel
theorem gLX1_sureAction : GoodIn lw_all (wsV R_law 52 RX1 yX1_sureAction (ws_ yX1_sureAction cX1_sureAction 4 (some .int))) := lw_V q230 q231 q232 q21 q233
theorem hLX1_sureAction : yX1_sureAction.cls = RX1 ∧ yX1_sureAction.cls ≠ "java/lang/invoke/MethodHandle" ∧ yX1_sureAction.cls ≠ "java/lang/invoke/VarHandle" ∧ (parseMethodDescriptor yX1_sureAction.desc).map (fun d => d.parameters.length) = some 1 := by decide +kernel
theorem gLX0_prune : GoodIn lw_all (wsV R_law 53 RX0 yX0_prune (ws_ yX0_prune cX0_prune 3 (some .int))) := lw_V q144 q145 q146 q20 q147
theorem hLX0_prune : yX0_prune.cls = RX0 ∧ yX0_prune.cls ≠ "java/lang/invoke/MethodHandle" ∧ yX0_prune.cls ≠ "java/lang/invoke/VarHandle" ∧ (parseMethodDescriptor yX0_prune.desc).map (fun d => d.parameters.length) = some 0 := by decide +kernel
theorem gLX1_prune : GoodIn lw_all (wsV R_law 56 RX1 yX1_prune (ws_ yX1_prune cX1_prune 4 (some .int))) := lw_V q235 q236 q237 q21 q238
theorem hLX1_prune : yX1_prune.cls = RX1 ∧ yX1_prune.cls ≠ "java/lang/invoke/MethodHandle" ∧ yX1_prune.cls ≠ "java/lang/invoke/VarHandle" ∧ (parseMethodDescriptor yX1_prune.desc).map (fun d => d.parameters.length) = some 0 := by decide +kernel
theorem gLX0_hopeful : GoodIn lw_all (wsV R_law 57 RX0 yX0_hopeful (ws_ yX0_hopeful cX0_hopeful 4 (some .int))) := lw_V q148 q149 q150 q20 q151
theorem hLX0_hopeful : yX0_hopeful.cls = RX0 ∧ yX0_hopeful.cls ≠ "java/lang/invoke/MethodHandle" ∧ yX0_hopeful.cls ≠ "java/lang/invoke/VarHandle" ∧ (parseMethodDescriptor yX0_hopeful.desc).map (fun d => d.parameters.length) = some 0 := by decide +kernel
theorem gLX1_hopeful : GoodIn lw_all (wsV R_law 60 RX1 yX1_hopeful (ws_ yX1_hopeful cX1_hopeful 5 (some .int))) := lw_V q239 q240 q241 q21 q242
theorem hLX1_hopeful : yX1_hopeful.cls = RX1 ∧ yX1_hopeful.cls ≠ "java/lang/invoke/MethodHandle" ∧ yX1_hopeful.cls ≠ "java/lang/invoke/VarHandle" ∧ (parseMethodDescriptor yX1_hopeful.desc).map (fun d => d.parameters.length) = some 0 := by decide +kernel
theorem zz_len {L i : Nat} (hL : L ≤ 256) (hi : i ≤ 256) (h : ¬ nI L - nI 4 < nI i) : i + 4 ≤ L := by
  rw [Int32.lt_iff_toInt_lt, pk_sub_toInt (by omega) (by omega), nI_toInt (by omega)] at h
  omega
theorem zz_i4 (i : Nat) : nI (4 * i) + Int32.ofInt 4 = nI (4 * (i + 1)) := by
  rw [show Int32.ofInt 4 = nI 4 from by decide +kernel, nI_add]; rfl
section ZL
variable {p : Program} {l : Launch} {e : Env} {R : Room} {s : State} {m : MethodId} {args : Array Value} {below : List Frame} {meth : Method} {c : Code} {H : Heap} {locs : List Loc} {cells slots : Nat} {Q : State → Prop} {cc : ByteArray} {pc : Nat} {ls : Array Slot} {rest : List Value} {A : Nat → Prop}
theorem zz_sld (hexec : p.tables.exec = Jvm.exec) (hb : c.code = cc) {b L k : Nat} {xs : Nat → Int32} (hX : va_X b L xs s s.heap) (hbl : b < s.heap.size) (hbA : ¬ A b) (hS : va_S A s.heap H locs) (hk : k < L) (hL : L < 2 ^ 31) (hdg : decode cc pc = .ok (.iaload, 1))
    (kk : W p l e R s m args below meth c H locs cells slots Q (F0 m (pc + 1) ls (.int (xs k) :: rest))) : W p l e R s m args below meth c H locs cells slots Q (F0 m pc ls (.int (nI k) :: .ref b :: rest)) :=
  va_sld hexec hb hX hbl hbA hS (vp_in_nI hk hL) hdg (by rw [nI_clamp (Nat.lt_trans hk hL)]; exact kk)
end ZL
set_option maxHeartbeats 8000000 in
theorem law_loop {p : Program} {l : Launch} {e : Env} {s : State} {m : MethodId} {below : List Frame} {meth : Method} {c : Code} {D : va_G} {b L : Nat} {xs : Nat → Int32} (hL : L ≤ 256) (C0 : lw_At p s m meth c b L xs) {h o sl wl hm om f : Nat} {dS d1 d2 e1 e2 : ClassId} (hK : va_K D vCl (XT dS d1 d2 ++ MT e1 e2) s) :
    ∀ (n k : Nat) (a : Nat → Int32) (g : Int32) (z : XS) (fr : Nat → Int32), k ≤ 64 → 64 < k + n → LI a g z → ∀ (H : Heap) (locs : List Loc), va_P D vCl (XZ h o sl wl dS d1 d2 a g z ++ MW hm om f e1 e2 a g fr) H → va_D (fun q : Nat => s.heap.size ≤ q) (XZ h o sl wl dS d1 d2 a g z ++ MW hm om f e1 e2 a g fr) → va_S (fun q : Nat => s.heap.size ≤ q) s.heap H locs → ∀ (ls : Array Slot), lv_has ls 4 [(0, .ref b), (1, .ref h), (2, .ref hm), (3, .int (nI (4 * k)))] → W p l e room_1 s m #[Value.ref b] below meth c H locs 7 84 (lw_Z below #[Value.ref b] s) (F0 m 18 ls []) := by
  obtain ⟨hx, hb, hr, hml, hown, hts0, hX, hbl, hlocks, hgv⟩ := C0
  have hts : ∀ w ∈ lw_all, w.before #[Value.ref b] s = true := fun w h => hts0 w (lw_all_tbl h)
  have hA : ∀ q : Nat, s.heap.size ≤ q → (fun q : Nat => s.heap.size ≤ q) q := fun _ h => h
  have hbA : ¬ (fun q : Nat => s.heap.size ≤ q) b := Nat.not_le.mpr hbl
  intro n
  induction n with
  | zero =>
    intro k a g z fr h1 h2
    exact absurd h2 (by omega)
  | succ n ih =>
    intro k a g z fr hk hn hI H locs hP hD hS ls hl
    obtain ⟨kn, w, sf, su, b1, b2, la⟩ := z
    refine lv_iload_n hx hb dL_law_18 rfl (lv_at hl 3 rfl) ?_
    refine lv_aload_n hx hb dL_law_19 rfl (lv_at hl 0 rfl) ?_
    refine va_slen hx hb hX hbl hbA hS dL_law_20 ?_
    refine lv_iconst (v := nI 4) hx hb dL_law_21 (by decide +kernel) ?_
    refine lv_isub hx hb dL_law_22 ?_
    refine lv_icmp_gt (tgt := 321) hx hb dL_law_23 (by decide) (fun c_23 => ?_) (fun c_23 => ?_)
    · refine lv_iconst (v := 1) hx hb dL_law_321 (by decide +kernel) ?_
      refine va_forget (fun q hq => hS.2.2 q hq) ?_
      refine W.widen (k := 600000) (n := 7290000) (by decide) (by decide) ?_
      exact lw_ret hx hb hr hlocks dL_law_322
    have h4 : 4 * k + 4 ≤ L := zz_len hL (by omega) c_23
    refine lv_aload_n hx hb dL_law_26 rfl (lv_at hl 0 rfl) ?_
    refine lv_iload_n hx hb dL_law_27 rfl (lv_at hl 3 rfl) ?_
    refine zz_sld hx hb hX hbl hbA hS (by omega) (by omega) dL_law_28 ?_
    refine lv_bipush (v := nI 15) hx hb dL_law_29 (by decide +kernel) ?_
    refine lv_iand hx hb dL_law_31 ?_
    obtain ⟨v, hv, ev⟩ := pk_andE (xs (4 * k)) (m := nI 15) 4 (by decide +kernel)
    refine zz_top ev ?_
    have hend : ∀ (a : Nat → Int32) (g : Int32) (z : XS) (fr : Nat → Int32), LI a g z → ∀ (H : Heap) (locs : List Loc), va_P D vCl (XZ h o sl wl dS d1 d2 a g z ++ MW hm om f e1 e2 a g fr) H → va_D (fun q : Nat => s.heap.size ≤ q) (XZ h o sl wl dS d1 d2 a g z ++ MW hm om f e1 e2 a g fr) → va_S (fun q : Nat => s.heap.size ≤ q) s.heap H locs → W p l e room_1 s m #[Value.ref b] below meth c H locs 7 84 (lw_Z below #[Value.ref b] s) (F0 m 315 ls []) := by
      intro a g z fr hI H locs hP hD hS
      refine lv_iinc (v := nI (4 * (k + 1))) (lv' := [(3, .int (nI (4 * (k + 1)))), (0, .ref b), (1, .ref h), (2, .ref hm)]) hx hb dL_law_315 hl (k := 3) rfl (zz_i4 k) (by decide) rfl (fun ls hl => ?_)
      refine lv_goto (tgt := 18) hx hb dL_law_318 (by decide) ?_
      exact ih (k + 1) a g z fr (by omega) (by omega) hI _ _ hP hD hS ls (lv_sub hl [1, 2, 3, 0] rfl)
    rcases Nat.lt_or_ge 10 v with hv2 | hv2
    · exact lv_tableOut (tgt := 315) hx hb dL_law_32 (Or.inr (by rw [nI_toInt (by omega)]; omega)) (by decide) (hend a g _ fr hI _ _ hP hD hS)
    rcases (show v = 0 ∨ v = 1 ∨ v = 2 ∨ v = 3 ∨ v = 4 ∨ v = 5 ∨ v = 6 ∨ v = 7 ∨ v = 8 ∨ v = 9 ∨ v = 10 by omega) with rfl | rfl | rfl | rfl | rfl | rfl | rfl | rfl | rfl | rfl | rfl
    · refine lv_tableIn (off := 60) (tgt := 92) hx hb dL_law_32 (by decide +kernel) (by decide +kernel) (by decide +kernel) (by decide) ?_
      refine lv_aload_n hx hb dL_law_92 rfl (lv_at hl 1 rfl) ?_
      refine lv_aload_n hx hb dL_law_93 rfl (lv_at hl 0 rfl) ?_
      refine lv_iload_n hx hb dL_law_94 rfl (lv_at hl 3 rfl) ?_
      refine lv_iconst (v := nI 1) hx hb dL_law_95 (by decide +kernel) ?_
      refine lv_iadd hx hb dL_law_96 ?_
      refine zz_top (z := nI (4 * k + 1)) (nI_add _ _) ?_
      refine zz_sld hx hb hX hbl hbA hS (by omega) (by omega) dL_law_97 ?_
      refine lv_aload_n hx hb dL_law_98 rfl (lv_at hl 0 rfl) ?_
      refine lv_iload_n hx hb dL_law_99 rfl (lv_at hl 3 rfl) ?_
      refine lv_iconst (v := nI 2) hx hb dL_law_100 (by decide +kernel) ?_
      refine lv_iadd hx hb dL_law_101 ?_
      refine zz_top (z := nI (4 * k + 2)) (nI_add _ _) ?_
      refine zz_sld hx hb hX hbl hbA hS (by omega) (by omega) dL_law_102 ?_
      refine lv_aload_n hx hb dL_law_103 rfl (lv_at hl 0 rfl) ?_
      refine lv_iload_n hx hb dL_law_104 rfl (lv_at hl 3 rfl) ?_
      refine lv_iconst (v := nI 3) hx hb dL_law_105 (by decide +kernel) ?_
      refine lv_iadd hx hb dL_law_106 ?_
      refine zz_top (z := nI (4 * k + 3)) (nI_add _ _) ?_
      refine zz_sld hx hb hX hbl hbA hS (by omega) (by omega) dL_law_107 ?_
      refine zz_callI (As := [.int (xs (4 * k + 1)), .int (xs (4 * k + 2)), .int (xs (4 * k + 3))]) (rest := []) (q0 := 0) (ci := 0) (wr := MW hm om f e1 e2 a g fr) ⟨hx, hb, hml, hown, hts⟩ hA hK hP hD hS (tX0_action l D h o sl wl dS d1 d2 a b1 b2 g kn w sf su la (xs (4 * k + 1)) (xs (4 * k + 2)) (xs (4 * k + 3))) (cwV 3 hts gLX0_action rfl rfl rfl hLX0_action ⟨by decide, by decide⟩) rfl rfl [0, 1, 2, 3] [4, 5, 6] [0, 1, 2] rfl rfl (by decide) (by decide) (by decide) rfl rfl hl.1 rfl (Nat.le_of_ble_eq_true rfl) dL_law_108 ⟨by decide, by decide⟩ (fun H locs hP hD hS => ?_)
      have hP := hP.sub (ws' := XZ h o sl wl dS d1 d2 (if acB (xs (4 * k + 1)) (xs (4 * k + 2)) (xs (4 * k + 3)) = true then upd a (3 * ((xs (4 * k + 1))).toNatClampNeg + ((xs (4 * k + 2))).toNatClampNeg) (xs (4 * k + 3)) else a) g (if acB (xs (4 * k + 1)) (xs (4 * k + 2)) (xs (4 * k + 3)) = true then 0 else kn, w, sf, su, b1, b2, la) ++ MW hm om f e1 e2 a g fr) [3, 4, 5, 6, 0, 1, 2] rfl
      have hD := hD.sub (ws' := XZ h o sl wl dS d1 d2 (if acB (xs (4 * k + 1)) (xs (4 * k + 2)) (xs (4 * k + 3)) = true then upd a (3 * ((xs (4 * k + 1))).toNatClampNeg + ((xs (4 * k + 2))).toNatClampNeg) (xs (4 * k + 3)) else a) g (if acB (xs (4 * k + 1)) (xs (4 * k + 2)) (xs (4 * k + 3)) = true then 0 else kn, w, sf, su, b1, b2, la) ++ MW hm om f e1 e2 a g fr) [3, 4, 5, 6, 0, 1, 2] (by decide) rfl
      refine lv_aload_n hx hb dL_law_111 rfl (lv_at hl 2 rfl) ?_
      refine lv_aload_n hx hb dL_law_112 rfl (lv_at hl 0 rfl) ?_
      refine lv_iload_n hx hb dL_law_113 rfl (lv_at hl 3 rfl) ?_
      refine lv_iconst (v := nI 1) hx hb dL_law_114 (by decide +kernel) ?_
      refine lv_iadd hx hb dL_law_115 ?_
      refine zz_top (z := nI (4 * k + 1)) (nI_add _ _) ?_
      refine zz_sld hx hb hX hbl hbA hS (by omega) (by omega) dL_law_116 ?_
      refine lv_aload_n hx hb dL_law_117 rfl (lv_at hl 0 rfl) ?_
      refine lv_iload_n hx hb dL_law_118 rfl (lv_at hl 3 rfl) ?_
      refine lv_iconst (v := nI 2) hx hb dL_law_119 (by decide +kernel) ?_
      refine lv_iadd hx hb dL_law_120 ?_
      refine zz_top (z := nI (4 * k + 2)) (nI_add _ _) ?_
      refine zz_sld hx hb hX hbl hbA hS (by omega) (by omega) dL_law_121 ?_
      refine lv_aload_n hx hb dL_law_122 rfl (lv_at hl 0 rfl) ?_
      refine lv_iload_n hx hb dL_law_123 rfl (lv_at hl 3 rfl) ?_
      refine lv_iconst (v := nI 3) hx hb dL_law_124 (by decide +kernel) ?_
      refine lv_iadd hx hb dL_law_125 ?_
      refine zz_top (z := nI (4 * k + 3)) (nI_add _ _) ?_
      refine zz_sld hx hb hX hbl hbA hS (by omega) (by omega) dL_law_126 ?_
      refine zz_callI (As := [.int (xs (4 * k + 1)), .int (xs (4 * k + 2)), .int (xs (4 * k + 3))]) (rest := [.int _]) (q0 := 4) (ci := 1) (wr := XZ h o sl wl dS d1 d2 (if acB (xs (4 * k + 1)) (xs (4 * k + 2)) (xs (4 * k + 3)) = true then upd a (3 * ((xs (4 * k + 1))).toNatClampNeg + ((xs (4 * k + 2))).toNatClampNeg) (xs (4 * k + 3)) else a) g (if acB (xs (4 * k + 1)) (xs (4 * k + 2)) (xs (4 * k + 3)) = true then 0 else kn, w, sf, su, b1, b2, la)) ⟨hx, hb, hml, hown, hts⟩ hA hK hP hD hS (tX1_action l D hm om f e1 e2 a fr g (xs (4 * k + 1)) (xs (4 * k + 2)) (xs (4 * k + 3))) (cwV 3 hts gLX1_action rfl rfl rfl hLX1_action ⟨by decide, by decide⟩) rfl rfl [4, 5, 6] [0, 1, 2, 3] [3, 4] rfl rfl (by decide) (by decide) (by decide) rfl rfl hl.1 rfl (Nat.le_of_ble_eq_true rfl) dL_law_127 ⟨by decide, by decide⟩ (fun H locs hP hD hS => ?_)
      refine lv_icmp_eq (tgt := 315) hx hb dL_law_130 (by decide) (fun _ => ?_) (fun c_1 => ?_)
      · exact hend (if acB (xs (4 * k + 1)) (xs (4 * k + 2)) (xs (4 * k + 3)) = true then upd a (3 * ((xs (4 * k + 1))).toNatClampNeg + ((xs (4 * k + 2))).toNatClampNeg) (xs (4 * k + 3)) else a) g (if acB (xs (4 * k + 1)) (xs (4 * k + 2)) (xs (4 * k + 3)) = true then 0 else kn, w, sf, su, b1, b2, la) fr (LI_ac hI _ _ _) _ _ hP hD hS
      · exact absurd (rfl) c_1
    · refine lv_tableIn (off := 103) (tgt := 135) hx hb dL_law_32 (by decide +kernel) (by decide +kernel) (by decide +kernel) (by decide) ?_
      refine lv_aload_n hx hb dL_law_135 rfl (lv_at hl 1 rfl) ?_
      refine lv_aload_n hx hb dL_law_136 rfl (lv_at hl 0 rfl) ?_
      refine lv_iload_n hx hb dL_law_137 rfl (lv_at hl 3 rfl) ?_
      refine lv_iconst (v := nI 1) hx hb dL_law_138 (by decide +kernel) ?_
      refine lv_iadd hx hb dL_law_139 ?_
      refine zz_top (z := nI (4 * k + 1)) (nI_add _ _) ?_
      refine zz_sld hx hb hX hbl hbA hS (by omega) (by omega) dL_law_140 ?_
      refine zz_callI (As := [.int (xs (4 * k + 1))]) (rest := []) (q0 := 0) (ci := 0) (wr := MW hm om f e1 e2 a g fr) ⟨hx, hb, hml, hown, hts⟩ hA hK hP hD hS (tX0_goals l D h o sl wl dS d1 d2 a b1 b2 g kn w sf su la (xs (4 * k + 1))) (cwV 1 hts gLX0_goals rfl rfl rfl hLX0_goals ⟨by decide, by decide⟩) rfl rfl [0, 1, 2, 3] [4, 5, 6] [0, 1, 2] rfl rfl (by decide) (by decide) (by decide) rfl rfl hl.1 rfl (Nat.le_of_ble_eq_true rfl) dL_law_141 ⟨by decide, by decide⟩ (fun H locs hP hD hS => ?_)
      have hP := hP.sub (ws' := XZ h o sl wl dS d1 d2 a (if glB (xs (4 * k + 1)) = true then (xs (4 * k + 1)) else g) (if glB (xs (4 * k + 1)) = true then 0 else kn, w, sf, su, b1, b2, la) ++ MW hm om f e1 e2 a g fr) [3, 4, 5, 6, 0, 1, 2] rfl
      have hD := hD.sub (ws' := XZ h o sl wl dS d1 d2 a (if glB (xs (4 * k + 1)) = true then (xs (4 * k + 1)) else g) (if glB (xs (4 * k + 1)) = true then 0 else kn, w, sf, su, b1, b2, la) ++ MW hm om f e1 e2 a g fr) [3, 4, 5, 6, 0, 1, 2] (by decide) rfl
      refine lv_aload_n hx hb dL_law_144 rfl (lv_at hl 2 rfl) ?_
      refine lv_aload_n hx hb dL_law_145 rfl (lv_at hl 0 rfl) ?_
      refine lv_iload_n hx hb dL_law_146 rfl (lv_at hl 3 rfl) ?_
      refine lv_iconst (v := nI 1) hx hb dL_law_147 (by decide +kernel) ?_
      refine lv_iadd hx hb dL_law_148 ?_
      refine zz_top (z := nI (4 * k + 1)) (nI_add _ _) ?_
      refine zz_sld hx hb hX hbl hbA hS (by omega) (by omega) dL_law_149 ?_
      refine zz_callI (As := [.int (xs (4 * k + 1))]) (rest := [.int _]) (q0 := 4) (ci := 1) (wr := XZ h o sl wl dS d1 d2 a (if glB (xs (4 * k + 1)) = true then (xs (4 * k + 1)) else g) (if glB (xs (4 * k + 1)) = true then 0 else kn, w, sf, su, b1, b2, la)) ⟨hx, hb, hml, hown, hts⟩ hA hK hP hD hS (tX1_goals l D hm om f e1 e2 a fr g (xs (4 * k + 1))) (cwV 1 hts gLX1_goals rfl rfl rfl hLX1_goals ⟨by decide, by decide⟩) rfl rfl [4, 5, 6] [0, 1, 2, 3] [3, 4] rfl rfl (by decide) (by decide) (by decide) rfl rfl hl.1 rfl (Nat.le_of_ble_eq_true rfl) dL_law_150 ⟨by decide, by decide⟩ (fun H locs hP hD hS => ?_)
      refine lv_icmp_eq (tgt := 315) hx hb dL_law_153 (by decide) (fun _ => ?_) (fun c_1 => ?_)
      · exact hend a (if glB (xs (4 * k + 1)) = true then (xs (4 * k + 1)) else g) (if glB (xs (4 * k + 1)) = true then 0 else kn, w, sf, su, b1, b2, la) fr (LI_gl hI _) _ _ hP hD hS
      · exact absurd (rfl) c_1
    · refine lv_tableIn (off := 126) (tgt := 158) hx hb dL_law_32 (by decide +kernel) (by decide +kernel) (by decide +kernel) (by decide) ?_
      refine lv_aload_n hx hb dL_law_158 rfl (lv_at hl 1 rfl) ?_
      refine zz_callI (As := []) (rest := []) (q0 := 0) (ci := 0) (wr := MW hm om f e1 e2 a g fr) ⟨hx, hb, hml, hown, hts⟩ hA hK hP hD hS (tX0_weak l D h o sl wl dS d1 d2 a b1 b2 g kn w sf su la hI.2.1 hI.2.2) (cwV 0 hts gLX0_weak rfl rfl rfl hLX0_weak ⟨by decide, by decide⟩) rfl rfl [0, 1, 2, 3] [4, 5, 6] [0, 1, 2] rfl rfl (by decide) (by decide) (by decide) rfl rfl hl.1 rfl (Nat.le_of_ble_eq_true rfl) dL_law_159 ⟨by decide, by decide⟩ (fun H locs hP hD hS => ?_)
      have hP := hP.sub (ws' := XZ h o sl wl dS d1 d2 a g (xLrn a g) ++ MW hm om f e1 e2 a g fr) [3, 4, 5, 6, 0, 1, 2] rfl
      have hD := hD.sub (ws' := XZ h o sl wl dS d1 d2 a g (xLrn a g) ++ MW hm om f e1 e2 a g fr) [3, 4, 5, 6, 0, 1, 2] (by decide) rfl
      refine lv_aload_n hx hb dL_law_162 rfl (lv_at hl 2 rfl) ?_
      refine zz_callI (As := []) (rest := [.int _]) (q0 := 4) (ci := 1) (wr := XZ h o sl wl dS d1 d2 a g (xLrn a g)) ⟨hx, hb, hml, hown, hts⟩ hA hK hP hD hS (tX1_weak l D hm om f e1 e2 a fr g) (cwV 0 hts gLX1_weak rfl rfl rfl hLX1_weak ⟨by decide, by decide⟩) rfl rfl [4, 5, 6] [0, 1, 2, 3] [3, 4] rfl rfl (by decide) (by decide) (by decide) rfl rfl hl.1 rfl (Nat.le_of_ble_eq_true rfl) dL_law_163 ⟨by decide, by decide⟩ (fun H locs hP hD hS => ?_)
      refine lv_icmp_eq (tgt := 315) hx hb dL_law_166 (by decide) (fun _ => ?_) (fun c_1 => ?_)
      · exact hend a g (xLrn a g) (cF a g false) (LI_l hI) _ _ hP hD hS
      · exact absurd ((e_reach hI.2.1 hI.1).symm) c_1
    · refine lv_tableIn (off := 139) (tgt := 171) hx hb dL_law_32 (by decide +kernel) (by decide +kernel) (by decide +kernel) (by decide) ?_
      refine lv_aload_n hx hb dL_law_171 rfl (lv_at hl 1 rfl) ?_
      refine zz_callI (As := []) (rest := []) (q0 := 0) (ci := 0) (wr := MW hm om f e1 e2 a g fr) ⟨hx, hb, hml, hown, hts⟩ hA hK hP hD hS (tX0_safe l D h o sl wl dS d1 d2 a b1 b2 g kn w sf su la hI.2.1 hI.2.2) (cwV 0 hts gLX0_safe rfl rfl rfl hLX0_safe ⟨by decide, by decide⟩) rfl rfl [0, 1, 2, 3] [4, 5, 6] [0, 1, 2] rfl rfl (by decide) (by decide) (by decide) rfl rfl hl.1 rfl (Nat.le_of_ble_eq_true rfl) dL_law_172 ⟨by decide, by decide⟩ (fun H locs hP hD hS => ?_)
      have hP := hP.sub (ws' := XZ h o sl wl dS d1 d2 a g (xLrn a g) ++ MW hm om f e1 e2 a g fr) [3, 4, 5, 6, 0, 1, 2] rfl
      have hD := hD.sub (ws' := XZ h o sl wl dS d1 d2 a g (xLrn a g) ++ MW hm om f e1 e2 a g fr) [3, 4, 5, 6, 0, 1, 2] (by decide) rfl
      refine lv_aload_n hx hb dL_law_175 rfl (lv_at hl 2 rfl) ?_
      refine zz_callI (As := []) (rest := [.int _]) (q0 := 4) (ci := 1) (wr := XZ h o sl wl dS d1 d2 a g (xLrn a g)) ⟨hx, hb, hml, hown, hts⟩ hA hK hP hD hS (tX1_safe l D hm om f e1 e2 a fr g) (cwV 0 hts gLX1_safe rfl rfl rfl hLX1_safe ⟨by decide, by decide⟩) rfl rfl [4, 5, 6] [0, 1, 2, 3] [3, 4] rfl rfl (by decide) (by decide) (by decide) rfl rfl hl.1 rfl (Nat.le_of_ble_eq_true rfl) dL_law_176 ⟨by decide, by decide⟩ (fun H locs hP hD hS => ?_)
      refine lv_icmp_eq (tgt := 315) hx hb dL_law_179 (by decide) (fun _ => ?_) (fun c_1 => ?_)
      · exact hend a g (xLrn a g) fr (LI_l hI) _ _ hP hD hS
      · exact absurd ((safe_eq hI.2.1).symm) c_1
    · refine lv_tableIn (off := 152) (tgt := 184) hx hb dL_law_32 (by decide +kernel) (by decide +kernel) (by decide +kernel) (by decide) ?_
      refine lv_aload_n hx hb dL_law_184 rfl (lv_at hl 1 rfl) ?_
      refine zz_callI (As := []) (rest := []) (q0 := 0) (ci := 0) (wr := MW hm om f e1 e2 a g fr) ⟨hx, hb, hml, hown, hts⟩ hA hK hP hD hS (tX0_sure l D h o sl wl dS d1 d2 a b1 b2 g kn w sf su la hI.2.1 hI.2.2) (cwV 0 hts gLX0_sure rfl rfl rfl hLX0_sure ⟨by decide, by decide⟩) rfl rfl [0, 1, 2, 3] [4, 5, 6] [0, 1, 2] rfl rfl (by decide) (by decide) (by decide) rfl rfl hl.1 rfl (Nat.le_of_ble_eq_true rfl) dL_law_185 ⟨by decide, by decide⟩ (fun H locs hP hD hS => ?_)
      have hP := hP.sub (ws' := XZ h o sl wl dS d1 d2 a g (xLrn a g) ++ MW hm om f e1 e2 a g fr) [3, 4, 5, 6, 0, 1, 2] rfl
      have hD := hD.sub (ws' := XZ h o sl wl dS d1 d2 a g (xLrn a g) ++ MW hm om f e1 e2 a g fr) [3, 4, 5, 6, 0, 1, 2] (by decide) rfl
      refine lv_aload_n hx hb dL_law_188 rfl (lv_at hl 2 rfl) ?_
      refine zz_callI (As := []) (rest := [.int _]) (q0 := 4) (ci := 1) (wr := XZ h o sl wl dS d1 d2 a g (xLrn a g)) ⟨hx, hb, hml, hown, hts⟩ hA hK hP hD hS (tX1_sure l D hm om f e1 e2 a fr g) (cwV 0 hts gLX1_sure rfl rfl rfl hLX1_sure ⟨by decide, by decide⟩) rfl rfl [4, 5, 6] [0, 1, 2, 3] [3, 4] rfl rfl (by decide) (by decide) (by decide) rfl rfl hl.1 rfl (Nat.le_of_ble_eq_true rfl) dL_law_189 ⟨by decide, by decide⟩ (fun H locs hP hD hS => ?_)
      refine lv_icmp_eq (tgt := 315) hx hb dL_law_192 (by decide) (fun _ => ?_) (fun c_1 => ?_)
      · exact hend a g (xLrn a g) (cF a g true) (LI_l hI) _ _ hP hD hS
      · exact absurd ((e_reach hI.2.1 hI.1).symm) c_1
    · refine lv_tableIn (off := 165) (tgt := 197) hx hb dL_law_32 (by decide +kernel) (by decide +kernel) (by decide +kernel) (by decide) ?_
      refine lv_aload_n hx hb dL_law_197 rfl (lv_at hl 1 rfl) ?_
      refine lv_aload_n hx hb dL_law_198 rfl (lv_at hl 0 rfl) ?_
      refine lv_iload_n hx hb dL_law_199 rfl (lv_at hl 3 rfl) ?_
      refine lv_iconst (v := nI 1) hx hb dL_law_200 (by decide +kernel) ?_
      refine lv_iadd hx hb dL_law_201 ?_
      refine zz_top (z := nI (4 * k + 1)) (nI_add _ _) ?_
      refine zz_sld hx hb hX hbl hbA hS (by omega) (by omega) dL_law_202 ?_
      refine zz_callI (As := [.int (xs (4 * k + 1))]) (rest := []) (q0 := 0) (ci := 0) (wr := MW hm om f e1 e2 a g fr) ⟨hx, hb, hml, hown, hts⟩ hA hK hP hD hS (tX0_steps l D h o sl wl dS d1 d2 a b1 b2 g kn w sf su la hI.2.1 hI.2.2 (xs (4 * k + 1))) (cwV 1 hts gLX0_steps rfl rfl rfl hLX0_steps ⟨by decide, by decide⟩) rfl rfl [0, 1, 2, 3] [4, 5, 6] [0, 1, 2] rfl rfl (by decide) (by decide) (by decide) rfl rfl hl.1 rfl (Nat.le_of_ble_eq_true rfl) dL_law_203 ⟨by decide, by decide⟩ (fun H locs hP hD hS => ?_)
      have hP := hP.sub (ws' := XZ h o sl wl dS d1 d2 a g (if isS (xs (4 * k + 1)) = true then xLrn a g else (kn, w, sf, su, b1, b2, la)) ++ MW hm om f e1 e2 a g fr) [3, 4, 5, 6, 0, 1, 2] rfl
      have hD := hD.sub (ws' := XZ h o sl wl dS d1 d2 a g (if isS (xs (4 * k + 1)) = true then xLrn a g else (kn, w, sf, su, b1, b2, la)) ++ MW hm om f e1 e2 a g fr) [3, 4, 5, 6, 0, 1, 2] (by decide) rfl
      refine lv_aload_n hx hb dL_law_206 rfl (lv_at hl 2 rfl) ?_
      refine lv_aload_n hx hb dL_law_207 rfl (lv_at hl 0 rfl) ?_
      refine lv_iload_n hx hb dL_law_208 rfl (lv_at hl 3 rfl) ?_
      refine lv_iconst (v := nI 1) hx hb dL_law_209 (by decide +kernel) ?_
      refine lv_iadd hx hb dL_law_210 ?_
      refine zz_top (z := nI (4 * k + 1)) (nI_add _ _) ?_
      refine zz_sld hx hb hX hbl hbA hS (by omega) (by omega) dL_law_211 ?_
      refine zz_callI (As := [.int (xs (4 * k + 1))]) (rest := [.int _]) (q0 := 4) (ci := 1) (wr := XZ h o sl wl dS d1 d2 a g (if isS (xs (4 * k + 1)) = true then xLrn a g else (kn, w, sf, su, b1, b2, la))) ⟨hx, hb, hml, hown, hts⟩ hA hK hP hD hS (tX1_steps l D hm om f e1 e2 a fr g (xs (4 * k + 1))) (cwV 1 hts gLX1_steps rfl rfl rfl hLX1_steps ⟨by decide, by decide⟩) rfl rfl [4, 5, 6] [0, 1, 2, 3] [3, 4] rfl rfl (by decide) (by decide) (by decide) rfl rfl hl.1 rfl (Nat.le_of_ble_eq_true rfl) dL_law_212 ⟨by decide, by decide⟩ (fun H locs hP hD hS => ?_)
      refine lv_icmp_eq (tgt := 315) hx hb dL_law_215 (by decide) (fun _ => ?_) (fun c_1 => ?_)
      · exact hend a g (if isS (xs (4 * k + 1)) = true then xLrn a g else (kn, w, sf, su, b1, b2, la)) (if isS (xs (4 * k + 1)) = true then cF a g true else fr) (LI_if hI _) _ _ hP hD hS
      · exact absurd ((e_num hI.2.1 hI.1 _).symm) c_1
    · refine lv_tableIn (off := 188) (tgt := 220) hx hb dL_law_32 (by decide +kernel) (by decide +kernel) (by decide +kernel) (by decide) ?_
      refine lv_aload_n hx hb dL_law_220 rfl (lv_at hl 1 rfl) ?_
      refine lv_aload_n hx hb dL_law_221 rfl (lv_at hl 0 rfl) ?_
      refine lv_iload_n hx hb dL_law_222 rfl (lv_at hl 3 rfl) ?_
      refine lv_iconst (v := nI 1) hx hb dL_law_223 (by decide +kernel) ?_
      refine lv_iadd hx hb dL_law_224 ?_
      refine zz_top (z := nI (4 * k + 1)) (nI_add _ _) ?_
      refine zz_sld hx hb hX hbl hbA hS (by omega) (by omega) dL_law_225 ?_
      refine zz_callI (As := [.int (xs (4 * k + 1))]) (rest := []) (q0 := 0) (ci := 0) (wr := MW hm om f e1 e2 a g fr) ⟨hx, hb, hml, hown, hts⟩ hA hK hP hD hS (tX0_luck l D h o sl wl dS d1 d2 a b1 b2 g kn w sf su la hI.2.1 hI.2.2 (xs (4 * k + 1))) (cwV 1 hts gLX0_luck rfl rfl rfl hLX0_luck ⟨by decide, by decide⟩) rfl rfl [0, 1, 2, 3] [4, 5, 6] [0, 1, 2] rfl rfl (by decide) (by decide) (by decide) rfl rfl hl.1 rfl (Nat.le_of_ble_eq_true rfl) dL_law_226 ⟨by decide, by decide⟩ (fun H locs hP hD hS => ?_)
      have hP := hP.sub (ws' := XZ h o sl wl dS d1 d2 a g (if isS (xs (4 * k + 1)) = true then xLrn a g else (kn, w, sf, su, b1, b2, la)) ++ MW hm om f e1 e2 a g fr) [3, 4, 5, 6, 0, 1, 2] rfl
      have hD := hD.sub (ws' := XZ h o sl wl dS d1 d2 a g (if isS (xs (4 * k + 1)) = true then xLrn a g else (kn, w, sf, su, b1, b2, la)) ++ MW hm om f e1 e2 a g fr) [3, 4, 5, 6, 0, 1, 2] (by decide) rfl
      refine lv_aload_n hx hb dL_law_229 rfl (lv_at hl 2 rfl) ?_
      refine lv_aload_n hx hb dL_law_230 rfl (lv_at hl 0 rfl) ?_
      refine lv_iload_n hx hb dL_law_231 rfl (lv_at hl 3 rfl) ?_
      refine lv_iconst (v := nI 1) hx hb dL_law_232 (by decide +kernel) ?_
      refine lv_iadd hx hb dL_law_233 ?_
      refine zz_top (z := nI (4 * k + 1)) (nI_add _ _) ?_
      refine zz_sld hx hb hX hbl hbA hS (by omega) (by omega) dL_law_234 ?_
      refine zz_callI (As := [.int (xs (4 * k + 1))]) (rest := [.int _]) (q0 := 4) (ci := 1) (wr := XZ h o sl wl dS d1 d2 a g (if isS (xs (4 * k + 1)) = true then xLrn a g else (kn, w, sf, su, b1, b2, la))) ⟨hx, hb, hml, hown, hts⟩ hA hK hP hD hS (tX1_luck l D hm om f e1 e2 a fr g (xs (4 * k + 1))) (cwV 1 hts gLX1_luck rfl rfl rfl hLX1_luck ⟨by decide, by decide⟩) rfl rfl [4, 5, 6] [0, 1, 2, 3] [3, 4] rfl rfl (by decide) (by decide) (by decide) rfl rfl hl.1 rfl (Nat.le_of_ble_eq_true rfl) dL_law_235 ⟨by decide, by decide⟩ (fun H locs hP hD hS => ?_)
      refine lv_icmp_eq (tgt := 315) hx hb dL_law_238 (by decide) (fun _ => ?_) (fun c_1 => ?_)
      · exact hend a g (if isS (xs (4 * k + 1)) = true then xLrn a g else (kn, w, sf, su, b1, b2, la)) (if isS (xs (4 * k + 1)) = true then cF a g false else fr) (LI_if hI _) _ _ hP hD hS
      · exact absurd ((e_num hI.2.1 hI.1 _).symm) c_1
    · refine lv_tableIn (off := 211) (tgt := 243) hx hb dL_law_32 (by decide +kernel) (by decide +kernel) (by decide +kernel) (by decide) ?_
      refine lv_aload_n hx hb dL_law_243 rfl (lv_at hl 1 rfl) ?_
      refine lv_aload_n hx hb dL_law_244 rfl (lv_at hl 0 rfl) ?_
      refine lv_iload_n hx hb dL_law_245 rfl (lv_at hl 3 rfl) ?_
      refine lv_iconst (v := nI 1) hx hb dL_law_246 (by decide +kernel) ?_
      refine lv_iadd hx hb dL_law_247 ?_
      refine zz_top (z := nI (4 * k + 1)) (nI_add _ _) ?_
      refine zz_sld hx hb hX hbl hbA hS (by omega) (by omega) dL_law_248 ?_
      refine zz_callI (As := [.int (xs (4 * k + 1))]) (rest := []) (q0 := 0) (ci := 0) (wr := MW hm om f e1 e2 a g fr) ⟨hx, hb, hml, hown, hts⟩ hA hK hP hD hS (tX0_safeActions l D h o sl wl dS d1 d2 a b1 b2 g kn w sf su la hI.2.1 hI.2.2 (xs (4 * k + 1))) (cwV 1 hts gLX0_safeActions rfl rfl rfl hLX0_safeActions ⟨by decide, by decide⟩) rfl rfl [0, 1, 2, 3] [4, 5, 6] [0, 1, 2] rfl rfl (by decide) (by decide) (by decide) rfl rfl hl.1 rfl (Nat.le_of_ble_eq_true rfl) dL_law_249 ⟨by decide, by decide⟩ (fun H locs hP hD hS => ?_)
      have hP := hP.sub (ws' := XZ h o sl wl dS d1 d2 a g (if isS (xs (4 * k + 1)) = true then xLrn a g else (kn, w, sf, su, b1, b2, la)) ++ MW hm om f e1 e2 a g fr) [3, 4, 5, 6, 0, 1, 2] rfl
      have hD := hD.sub (ws' := XZ h o sl wl dS d1 d2 a g (if isS (xs (4 * k + 1)) = true then xLrn a g else (kn, w, sf, su, b1, b2, la)) ++ MW hm om f e1 e2 a g fr) [3, 4, 5, 6, 0, 1, 2] (by decide) rfl
      refine lv_aload_n hx hb dL_law_252 rfl (lv_at hl 2 rfl) ?_
      refine lv_aload_n hx hb dL_law_253 rfl (lv_at hl 0 rfl) ?_
      refine lv_iload_n hx hb dL_law_254 rfl (lv_at hl 3 rfl) ?_
      refine lv_iconst (v := nI 1) hx hb dL_law_255 (by decide +kernel) ?_
      refine lv_iadd hx hb dL_law_256 ?_
      refine zz_top (z := nI (4 * k + 1)) (nI_add _ _) ?_
      refine zz_sld hx hb hX hbl hbA hS (by omega) (by omega) dL_law_257 ?_
      refine zz_callI (As := [.int (xs (4 * k + 1))]) (rest := [.int _]) (q0 := 4) (ci := 1) (wr := XZ h o sl wl dS d1 d2 a g (if isS (xs (4 * k + 1)) = true then xLrn a g else (kn, w, sf, su, b1, b2, la))) ⟨hx, hb, hml, hown, hts⟩ hA hK hP hD hS (tX1_safeActions l D hm om f e1 e2 a fr g (xs (4 * k + 1))) (cwV 1 hts gLX1_safeActions rfl rfl rfl hLX1_safeActions ⟨by decide, by decide⟩) rfl rfl [4, 5, 6] [0, 1, 2, 3] [3, 4] rfl rfl (by decide) (by decide) (by decide) rfl rfl hl.1 rfl (Nat.le_of_ble_eq_true rfl) dL_law_258 ⟨by decide, by decide⟩ (fun H locs hP hD hS => ?_)
      refine lv_icmp_eq (tgt := 315) hx hb dL_law_261 (by decide) (fun _ => ?_) (fun c_1 => ?_)
      · exact hend a g (if isS (xs (4 * k + 1)) = true then xLrn a g else (kn, w, sf, su, b1, b2, la)) fr (LI_if hI _) _ _ hP hD hS
      · exact absurd ((e_sa hI.2.1 _).symm) c_1
    · refine lv_tableIn (off := 234) (tgt := 266) hx hb dL_law_32 (by decide +kernel) (by decide +kernel) (by decide +kernel) (by decide) ?_
      refine lv_aload_n hx hb dL_law_266 rfl (lv_at hl 1 rfl) ?_
      refine lv_aload_n hx hb dL_law_267 rfl (lv_at hl 0 rfl) ?_
      refine lv_iload_n hx hb dL_law_268 rfl (lv_at hl 3 rfl) ?_
      refine lv_iconst (v := nI 1) hx hb dL_law_269 (by decide +kernel) ?_
      refine lv_iadd hx hb dL_law_270 ?_
      refine zz_top (z := nI (4 * k + 1)) (nI_add _ _) ?_
      refine zz_sld hx hb hX hbl hbA hS (by omega) (by omega) dL_law_271 ?_
      refine zz_callI (As := [.int (xs (4 * k + 1))]) (rest := []) (q0 := 0) (ci := 0) (wr := MW hm om f e1 e2 a g fr) ⟨hx, hb, hml, hown, hts⟩ hA hK hP hD hS (tX0_sureAction l D h o sl wl dS d1 d2 a b1 b2 g kn w sf su la hI.2.1 hI.2.2 (xs (4 * k + 1))) (cwV 1 hts gLX0_sureAction rfl rfl rfl hLX0_sureAction ⟨by decide, by decide⟩) rfl rfl [0, 1, 2, 3] [4, 5, 6] [0, 1, 2] rfl rfl (by decide) (by decide) (by decide) rfl rfl hl.1 rfl (Nat.le_of_ble_eq_true rfl) dL_law_272 ⟨by decide, by decide⟩ (fun H locs hP hD hS => ?_)
      have hP := hP.sub (ws' := XZ h o sl wl dS d1 d2 a g (if isS (xs (4 * k + 1)) = true then xLrn a g else (kn, w, sf, su, b1, b2, la)) ++ MW hm om f e1 e2 a g fr) [3, 4, 5, 6, 0, 1, 2] rfl
      have hD := hD.sub (ws' := XZ h o sl wl dS d1 d2 a g (if isS (xs (4 * k + 1)) = true then xLrn a g else (kn, w, sf, su, b1, b2, la)) ++ MW hm om f e1 e2 a g fr) [3, 4, 5, 6, 0, 1, 2] (by decide) rfl
      refine lv_aload_n hx hb dL_law_275 rfl (lv_at hl 2 rfl) ?_
      refine lv_aload_n hx hb dL_law_276 rfl (lv_at hl 0 rfl) ?_
      refine lv_iload_n hx hb dL_law_277 rfl (lv_at hl 3 rfl) ?_
      refine lv_iconst (v := nI 1) hx hb dL_law_278 (by decide +kernel) ?_
      refine lv_iadd hx hb dL_law_279 ?_
      refine zz_top (z := nI (4 * k + 1)) (nI_add _ _) ?_
      refine zz_sld hx hb hX hbl hbA hS (by omega) (by omega) dL_law_280 ?_
      refine zz_callI (As := [.int (xs (4 * k + 1))]) (rest := [.int _]) (q0 := 4) (ci := 1) (wr := XZ h o sl wl dS d1 d2 a g (if isS (xs (4 * k + 1)) = true then xLrn a g else (kn, w, sf, su, b1, b2, la))) ⟨hx, hb, hml, hown, hts⟩ hA hK hP hD hS (tX1_sureAction l D hm om f e1 e2 a fr g (xs (4 * k + 1))) (cwV 1 hts gLX1_sureAction rfl rfl rfl hLX1_sureAction ⟨by decide, by decide⟩) rfl rfl [4, 5, 6] [0, 1, 2, 3] [3, 4] rfl rfl (by decide) (by decide) (by decide) rfl rfl hl.1 rfl (Nat.le_of_ble_eq_true rfl) dL_law_281 ⟨by decide, by decide⟩ (fun H locs hP hD hS => ?_)
      refine lv_icmp_eq (tgt := 315) hx hb dL_law_284 (by decide) (fun _ => ?_) (fun c_1 => ?_)
      · exact hend a g (if isS (xs (4 * k + 1)) = true then xLrn a g else (kn, w, sf, su, b1, b2, la)) (if (isS (xs (4 * k + 1)) && !bt g ((xs (4 * k + 1))).toNatClampNeg) = true then cF a g true else fr) (LI_if hI _) _ _ hP hD hS
      · exact absurd ((e_su hI.2.1 hI.1 _).symm) c_1
    · refine lv_tableIn (off := 257) (tgt := 289) hx hb dL_law_32 (by decide +kernel) (by decide +kernel) (by decide +kernel) (by decide) ?_
      have tm := tX1_prune l D hm om f e1 e2 a fr g
      rw [safe_eq hI.2.1] at tm
      refine lv_aload_n hx hb dL_law_289 rfl (lv_at hl 1 rfl) ?_
      refine zz_callI (As := []) (rest := []) (q0 := 0) (ci := 0) (wr := MW hm om f e1 e2 a g fr) ⟨hx, hb, hml, hown, hts⟩ hA hK hP hD hS (tX0_prune l D h o sl wl dS d1 d2 a b1 b2 g kn w sf su la hI.2.1 hI.2.2) (cwV 0 hts gLX0_prune rfl rfl rfl hLX0_prune ⟨by decide, by decide⟩) rfl rfl [0, 1, 2, 3] [4, 5, 6] [0, 1, 2] rfl rfl (by decide) (by decide) (by decide) rfl rfl hl.1 rfl (Nat.le_of_ble_eq_true rfl) dL_law_290 ⟨by decide, by decide⟩ (fun H locs hP hD hS => ?_)
      have hP := hP.sub (ws' := XZ h o sl wl dS d1 d2 (pF a (xSafe a g)).1 g (0, (xLrn a g).2) ++ MW hm om f e1 e2 a g fr) [3, 4, 5, 6, 0, 1, 2] rfl
      have hD := hD.sub (ws' := XZ h o sl wl dS d1 d2 (pF a (xSafe a g)).1 g (0, (xLrn a g).2) ++ MW hm om f e1 e2 a g fr) [3, 4, 5, 6, 0, 1, 2] (by decide) rfl
      refine lv_aload_n hx hb dL_law_293 rfl (lv_at hl 2 rfl) ?_
      refine zz_callI (As := []) (rest := [.int _]) (q0 := 4) (ci := 1) (wr := XZ h o sl wl dS d1 d2 (pF a (xSafe a g)).1 g (0, (xLrn a g).2)) ⟨hx, hb, hml, hown, hts⟩ hA hK hP hD hS (tm) (cwV 0 hts gLX1_prune rfl rfl rfl hLX1_prune ⟨by decide, by decide⟩) rfl rfl [4, 5, 6] [0, 1, 2, 3] [3, 4] rfl rfl (by decide) (by decide) (by decide) rfl rfl hl.1 rfl (Nat.le_of_ble_eq_true rfl) dL_law_294 ⟨by decide, by decide⟩ (fun H locs hP hD hS => ?_)
      refine lv_icmp_eq (tgt := 315) hx hb dL_law_297 (by decide) (fun _ => ?_) (fun c_1 => ?_)
      · exact hend ((pF a (xSafe a g)).1) g (0, (xLrn a g).2) fr (LI_pr hI) _ _ hP hD hS
      · exact absurd (rfl) c_1
    · refine lv_tableIn (off := 270) (tgt := 302) hx hb dL_law_32 (by decide +kernel) (by decide +kernel) (by decide +kernel) (by decide) ?_
      refine lv_aload_n hx hb dL_law_302 rfl (lv_at hl 1 rfl) ?_
      refine zz_callI (As := []) (rest := []) (q0 := 0) (ci := 0) (wr := MW hm om f e1 e2 a g fr) ⟨hx, hb, hml, hown, hts⟩ hA hK hP hD hS (tX0_hopeful l D h o sl wl dS d1 d2 a b1 b2 g kn w sf su la hI.2.1 hI.2.2) (cwV 0 hts gLX0_hopeful rfl rfl rfl hLX0_hopeful ⟨by decide, by decide⟩) rfl rfl [0, 1, 2, 3] [4, 5, 6] [0, 1, 2] rfl rfl (by decide) (by decide) (by decide) rfl rfl hl.1 rfl (Nat.le_of_ble_eq_true rfl) dL_law_303 ⟨by decide, by decide⟩ (fun H locs hP hD hS => ?_)
      have hP := hP.sub (ws' := XZ h o sl wl dS d1 d2 a g (xLrn a g) ++ MW hm om f e1 e2 a g fr) [3, 4, 5, 6, 0, 1, 2] rfl
      have hD := hD.sub (ws' := XZ h o sl wl dS d1 d2 a g (xLrn a g) ++ MW hm om f e1 e2 a g fr) [3, 4, 5, 6, 0, 1, 2] (by decide) rfl
      refine lv_aload_n hx hb dL_law_306 rfl (lv_at hl 2 rfl) ?_
      refine zz_callI (As := []) (rest := [.int _]) (q0 := 4) (ci := 1) (wr := XZ h o sl wl dS d1 d2 a g (xLrn a g)) ⟨hx, hb, hml, hown, hts⟩ hA hK hP hD hS (tX1_hopeful l D hm om f e1 e2 a fr g) (cwV 0 hts gLX1_hopeful rfl rfl rfl hLX1_hopeful ⟨by decide, by decide⟩) rfl rfl [4, 5, 6] [0, 1, 2, 3] [3, 4] rfl rfl (by decide) (by decide) (by decide) rfl rfl hl.1 rfl (Nat.le_of_ble_eq_true rfl) dL_law_307 ⟨by decide, by decide⟩ (fun H locs hP hD hS => ?_)
      refine lv_icmp_eq (tgt := 315) hx hb dL_law_310 (by decide) (fun _ => ?_) (fun c_1 => ?_)
      · exact hend a g (xLrn a g) (cF a g true) (LI_l hI) _ _ hP hD hS
      · exact absurd (by rw [safe_eq hI.2.1, e_reach hI.2.1 hI.1]) c_1
end
section
/-! ===== the law from its entry; behind it rows of SKELETON.whole ===== -/
set_option maxRecDepth 100000
set_option maxHeartbeats 4000000 in
theorem whole_start {p : Program} {e : Env} {s : State} {m : MethodId} {below : List Frame} {meth : Method} {c : Code} (l : Launch) {b L : Nat} {xs : Nat → Int32} (hL : L ≤ 256) (C0 : lw_At p s m meth c b L xs) : W p l e room_1 s m #[Value.ref b] below meth c s.heap [] 0 0 (lw_Z below #[Value.ref b] s) (entryFrame m ([Value.ref b] : List Value).toArray 4) := by
  obtain ⟨hx, hb, hr, hml, hown, hts0, hX, hbl, hlocks, hgv⟩ := id C0
  have hts : ∀ w ∈ lw_all, w.before #[Value.ref b] s = true := fun w h => hts0 w (lw_all_tbl h)
  have hA : ∀ q : Nat, s.heap.size ≤ q → (fun q : Nat => s.heap.size ≤ q) q := fun _ h => h
  obtain ⟨c0, iS0, hKn0⟩ := u_known (C := RX0) (T := TX0) (N := 9) (n := 9) hts in_X0 (hts _ q23)
  obtain ⟨c1, iS1, hKn1⟩ := u_known (C := RX1) (T := TX1) (N := 3) (n := 3) hts in_X1 (hts _ q153)
  obtain ⟨dC, dI, hKc⟩ : ∃ (dC : Nat → ClassId) (dI : Nat → Nat → Nat), ∀ (k : Nat) (q : vw_C), vCl[k]? = some q → u_Kn s q.1 q.2.1 q.2.2 (dC k) (dI k) := by
    refine ⟨fun k => if k = 0 then c0 else c1, fun k => if k = 0 then iS0 else iS1, ?_⟩
    intro k q hq
    match k, hq with
    | 0, hq => cases hq; exact hKn0
    | 1, hq => cases hq; exact hKn1
    | k + 2, hq => simp [vCl] at hq
  have hS : va_S (fun q : Nat => s.heap.size ≤ q) s.heap s.heap [] := va_S.rf
  have hK : va_K (dC, dI) vCl [] s := ⟨hKc, fun k q h => by simp at h⟩
  have hP : va_P (dC, dI) vCl [] s.heap := fun k q h => by simp at h
  have hD : va_D (fun q : Nat => s.heap.size ≤ q) [] := ⟨fun i j p q h => by simp at h, fun k q h => by simp at h⟩
  have hl := lv_entry ([.ref b]) (n := 4) (Nat.le_of_ble_eq_true rfl)
  rw [lg_entry_eq]
  generalize (lg_sl ([.ref b]) ++ List.replicate (4 - (lg_sl ([.ref b])).length) Slot.unset).toArray = ls at hl ⊢
  have hl : lv_has ls 4 [(0, .ref b)] := hl
  refine va_new (ci := 0) (fs := [.null, .int 0, .int 0, .int 0, .int 0, .int 0, .null, .null, .int 0]) (C := RX0) (T := TX0) (N := 9) hx hb hts in_X0 tyX0 tyX0_ok hown (hts _ q22) (hts _ q23) (hts _ q20) hK hP hD hS hA rfl (fun j hj => by rcases (show j = 0 ∨ j = 1 ∨ j = 2 ∨ j = 3 ∨ j = 4 ∨ j = 5 ∨ j = 6 ∨ j = 7 ∨ j = 8 by omega) with rfl | rfl | rfl | rfl | rfl | rfl | rfl | rfl | rfl <;> rfl) (Nat.le_of_ble_eq_true rfl) (Nat.le_of_ble_eq_true rfl) dL_law_0 (fun h H hP hD hS => ?_)
  have hP : va_P (dC, dI) vCl (X0w h) H := hP
  have hD : va_D (fun q : Nat => s.heap.size ≤ q) (X0w h) := hD
  refine W.widen (k := 1) (n := 9) (by decide) (by decide) ?_
  refine lv_dup hx hb dL_law_3 rfl ?_
  have hFc := zz_inA hA hD hS
  refine va_callv (va_runI (As := []) (rest := [.ref h]) ⟨hx, hb, hml, hown, hts⟩ (tX0_init l (dC, dI) h H.size) (cwI 0 hts (lw_meth q26) rfl rfl rfl (hts _ q20) (hts _ q24) (hts _ q25) rfl (by decide +kernel) ⟨by decide, by decide⟩) ⟨zz_blind, fun U hU hW => ⟨rfl, by rw [hU], by rw [hU]; exact hP, va_K.moved hW.alike hK, hD.weaken (fun _ _ _ _ => trivial)⟩⟩ rfl rfl hl.1 rfl (lv_room (Nat.le_of_ble_eq_true rfl)) dL_law_4 ⟨by decide, by decide⟩) hS (fun q _ h => hFc q h) hFc (fun u t H1 locs ht hvm hw hB hz1 hk1 hS => ?_)
  obtain ⟨o, sl, wl, dS, d1, d2, hP1, hK1, hD1⟩ := hB
  rw [ht] at hP1
  have hK1 := va_K.moved hvm.symm hK1
  have hD1 := hD1.weaken (fun k q _ h => hFc q.1 h)
  clear hP hD hK
  have hP := hP1
  have hD := hD1
  have hK := hK1
  generalize H1 = H at hP hS ⊢
  refine W.widen (k := 4) (n := 49) (by decide) (by decide) ?_
  refine lv_astore_n (lv' := [(1, .ref h), (0, .ref b)]) hx hb dL_law_7 rfl hl (by decide) rfl (fun ls hl => ?_)
  refine va_new (ci := 1) (fs := [.null, .int 0, .null]) (C := RX1) (T := TX1) (N := 3) hx hb hts in_X1 tyX1 tyX1_ok hown (hts _ q152) (hts _ q153) (hts _ q21) hK hP hD hS hA rfl (fun j hj => by rcases (show j = 0 ∨ j = 1 ∨ j = 2 by omega) with rfl | rfl | rfl <;> rfl) (Nat.le_of_ble_eq_true rfl) (Nat.le_of_ble_eq_true rfl) dL_law_8 (fun hm H hP hD hS => ?_)
  refine W.widen (k := 5) (n := 52) (by decide) (by decide) ?_
  refine lv_dup hx hb dL_law_11 rfl ?_
  have hPc := hP.sub (ws' := M0w hm) [4] rfl
  have hDc := hD.sub (ws' := M0w hm) [4] (by decide) rfl
  have hKc := hK.sub (tys' := []) [] rfl
  have hFc := va_free (wc := M0w hm) hD hS hA [4] rfl
  refine va_callv (va_runI (As := []) (rest := [.ref hm]) ⟨hx, hb, hml, hown, hts⟩ (tX1_init l (dC, dI) hm H.size) (cwI 0 hts (lw_meth q156) rfl rfl rfl (hts _ q21) (hts _ q154) (hts _ q155) rfl (by decide +kernel) ⟨by decide, by decide⟩) ⟨zz_blind, fun U hU hW => ⟨rfl, by rw [hU], by rw [hU]; exact hPc, va_K.moved hW.alike hKc, hDc.weaken (fun _ _ _ _ => trivial)⟩⟩ rfl rfl hl.1 rfl (lv_room (Nat.le_of_ble_eq_true rfl)) dL_law_12 ⟨by decide, by decide⟩) hS (fun q _ h => hFc q h) hFc (fun u t H1 locs ht hvm hw hB hz1 hk1 hS => ?_)
  obtain ⟨om, f, e1, e2, hP1, hK1, hD1⟩ := hB
  rw [ht] at hP1
  have hK1 := va_K.moved hvm.symm hK1
  obtain ⟨hP, hD⟩ := va_join (wr := XW h o sl wl dS d1 d2 (fun _ => 0) 0 0 0 0 0 (fun _ => 0) (fun _ => 0) 0) hP hD [4] [0, 1, 2, 3] rfl rfl (by decide) (by decide) hk1 hFc hP1 hD1
  have hK := hK.app hK1
  generalize H1 = H at hP hS ⊢
  refine W.widen (k := 7) (n := 84) (by decide) (by decide) ?_
  refine lv_astore_n (lv' := [(2, .ref hm), (1, .ref h), (0, .ref b)]) hx hb dL_law_15 rfl hl (by decide) rfl (fun ls hl => ?_)
  refine lv_iconst (v := 0) hx hb dL_law_16 (by decide +kernel) ?_
  refine lv_istore_n (lv' := [(3, .int 0), (2, .ref hm), (1, .ref h), (0, .ref b)]) hx hb dL_law_17 rfl hl (by decide) rfl (fun ls hl => ?_)
  exact law_loop hL C0 hK 65 0 (fun _ => 0) 0 (0, 0, 0, 0, fun _ => 0, fun _ => 0, 0) (fun _ => 0) (by omega) (by omega) (LI_0 _ _ _ _ _ _) _ _ hP hD hS ls (lv_sub hl [3, 2, 1, 0] rfl)
set_option maxHeartbeats 4000000 in
theorem lw_walk (l : Launch) (b : Addr) (xs : List Int32) : MetFree l x (headSpec (Jvm.Cond.code x code maxLocals ret :: tables_1) room_1) (lw_P b xs) (fun _ _ _ _ _ => True) lw_Q := by
  refine MetFree.of_bodyS (code := code) (maxLocals := maxLocals) (ret := ret) (by decide) ?_ ?_
  · intro args s m h hn
    obtain ⟨meth, c, h1, h2, h3, h4, h5, h6, -, -⟩ := Cond.code_spec hn (atoms_spec (ws := Jvm.Cond.code x code maxLocals ret :: tables_1) h _ List.mem_cons_self)
    exact ⟨meth, c, h1, h2, h3, h4, h5, h6⟩
  · intro p e s m args below meth c s₁ B hml0 hP _
    obtain ⟨rfl, hx, hbd, hgv⟩ := hP
    obtain ⟨scr, harrAt, hlist, hof, hsmall⟩ := hx
    obtain ⟨hcb, hkn, -, -⟩ := State.arrayAt?_spec harrAt
    have hown : s.vm.findClass R_law = some m.cls := findClass_of_methodNamed B.named
    have hts0 : ∀ c ∈ (Jvm.Cond.code x code maxLocals ret :: tables_1), c.before #[Value.ref b] s = true := atoms_spec (ws := Jvm.Cond.code x code maxLocals ret :: tables_1) B.pre
    have hts : ∀ w ∈ lw_tbl, w.before #[Value.ref b] s = true := k2_hts_sels lw_privs (fun w hw => hts0 w (List.mem_cons_of_mem _ hw)) lw_privs_ok
    have hml : c.maxLocals = 4 := B.maxLocals_eq (hts0 _ List.mem_cons_self)
    have X₀ : Stand p l e room_1 s m #[Value.ref b] below meth c s₁ [] 0 0 := Stand.of_body B
    have hh0 : s₁.heap = s.heap := by rw [B.state]; rfl
    have hsz : scr.slots.size = xs.length := by rw [← Array.length_toList, hlist, List.length_map]
    have hval : ∀ j : Nat, j < xs.length → scr.slots[j]? = some (.int (xs.getD j 0)) := fun j hj => by
      rw [← Array.getElem?_toList, hlist]
      simp [hj]
    have hbl : b < s.heap.size := (Array.getElem?_eq_some_iff.mp hcb).1
    have hX : va_X b xs.length (fun j => xs.getD j 0) s s.heap := ⟨scr, hcb, hof, hkn, hsz, hval⟩
    have K : W p l e room_1 s m #[Value.ref b] below meth c s₁.heap [] 0 0 (lw_Z below #[Value.ref b] s) (entryFrame m ([Value.ref b] : List Value).toArray 4) := by
      rw [hh0]
      exact whole_start l hbd ⟨B.exec, B.bytes, B.returns, hml, hown, hts, hX, hbl, B.notSynchronized, hgv⟩
    obtain ⟨t, a1, o, b1, b2, b3⟩ := K s₁ rfl X₀
    exact ⟨t, o, a1, b1, b2, b3⟩
theorem lw_pre_spec {args : Array Value} {s : State} (h : (Jvm.Cond.and given_1 narrow_1).before args s = true) (hr : rest_1_c.before args s = true) : ∃ (b : Addr) (xs : List Int32), lw_P b xs args s := by
  have hs := flat_of_before _ h
  have hq := flat_of_before _ hr
  have hc : (Cond.count 1).before args s = true := hs _ (by decide +kernel)
  have harr : (Cond.arrayOf (.arg 0) .int).before args s = true := hs _ (by decide +kernel)
  have hle : (Cond.le (.length (.arg 0)) (.int 256)).before args s = true := hs _ (by decide +kernel)
  have hlen : (Cond.isInt (.length (.arg 0))).before args s = true := hq _ (by decide +kernel)
  have hall : (Cond.all (.arg 0) (.isInt (.elem (.arg 0) (.index 0)))).before args s = true := hq _ (by decide +kernel)
  obtain ⟨b, xs, hb, hx⟩ := State.ints_of_pre rfl harr hlen hall
  have hsm : xs.length < 2 ^ 31 := hx.choose_spec.2.2.2
  have hev : (Term.length (.arg 0)).eval args s none [] s = some (.int xs.length.toInt32) := hx.length_eval hb
  have hv := Cond.le_ints hev (show (Term.int 256).eval args s none [] s = some (.int 256) from rfl)
  have hd : xs.length.toInt32 ≤ 256 := by
    simpa [Cond.before, Cond.holds, hv] using hle
  have hN : xs.length ≤ 256 := (Int32.ofNat_le_ofNat hsm (by decide)).mp (show Int32.ofNat xs.length ≤ Int32.ofNat 256 from hd)
  exact ⟨b, xs, Cond.one_arg hc (show args[0]? = some (.ref b) from hb), hx, hN, h⟩
theorem lw_comes (l : Launch) : Comes l x (Jvm.Cond.code x code maxLocals ret :: tables_1) room_1 (fun tb e args s => Calls_1 tb e args s ∧ rest_1 tb e args s ∧ Pre_1 tb e args s)
    (fun _ _ args s o t => lw_Q args s o t) := by
  intro p e ha hc hk s m args below hf hfit hheap happ hpre
  obtain ⟨b, xs, hP⟩ := lw_pre_spec hpre.2.2 hpre.2.1
  obtain ⟨k, o, h1, h2, h3, hQ⟩ := lw_walk l b xs p e ha hc hk s m args below hf ((Spec.applies_iff_loose hf).mp happ).1 hP trivial
  exact ⟨k, o, h1, h2, h3, hQ⟩
theorem lw_frame {s t : State} {o : Outcome} {args : Array Value} (h : Framed s o t [] 600000 7290000) :
    Framed s o t (fieldLocs frame_1_writes args s ++ arrayLocs frame_1_arrays args s ++ staticLocs frame_1_statics s) 600000 7290000 := h
theorem lw_limb (L : Cond) (hL : ∀ (args : Array Value) (s t : State), L.after args s (.returned (some (.int 1))) t = true) :
    ArmFor flags0 classFile x code maxLocals ret World_1 tables_1 room_1 Calls_1 rest_1 Pre_1
      (fun tb e a s o t => postC L tb e a s o t ∧ Framed s o t (fieldLocs frame_1_writes a s ++ arrayLocs frame_1_arrays a s ++ staticLocs frame_1_statics s) 600000 7290000) := by
  intro l _ _ _ p e ha hc hk s m args below hf hfit hheap happ hpre
  obtain ⟨k, o, h1, h2, h3, rfl, hF⟩ := lw_comes l p e ha hc hk s m args below hf hfit hheap happ hpre
  exact ⟨k, _, h1, h2, h3, hL args s _, lw_frame hF⟩
theorem i_vc : Claimed_1_1 ∧ Claimed_1_2 := ⟨lw_limb limb_1_1 (fun args s t => by simp [limb_1_1, Cond.after, Cond.holds, Cond.value]), lw_limb limb_1_2 (fun args s t => Cond.after_iff.mpr (by
  first | (rw [show limb_1_2 = Cond.eq .result (.int 1) from rfl, Cond.eq_ints (x := 1) (y := 1) rfl rfl]; simp; done) | (simp [limb_1_2, Cond.value, Term.eval]; done)))⟩
end
