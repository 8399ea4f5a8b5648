section
-- ===== PART A: goes FIRST, ahead of the names: the tables' words, and 'selects' of the private methods out of them =====
/-- a private method of a class that the tables say can be made, by its rows of tables_1 -/
def lw_okq (q : MethodName × Nat) : Prop := (q.1.cls ≠ "java/lang/invoke/MethodHandle" ∧ q.1.cls ≠ "java/lang/invoke/VarHandle") ∧ Cond.instantiable q.1.cls q.2 ∈ tables_1 ∧ Cond.privateMethod q.1 ∈ tables_1 ∧ Cond.instanceMethod q.1 ∈ tables_1
set_option maxRecDepth 100000
theorem lw_t1 {w : Cond} (h : w ∈ tables_1_1) : w ∈ tables_1 := List.mem_append_left _ h
theorem lw_t2 {w : Cond} (h : w ∈ tables_1_2) : w ∈ tables_1 := List.mem_append_right _ h
theorem lw_p0 : lw_okq (⟨"LineageWorlds", "noFact", "(I)Z"⟩, 16) := ⟨⟨by decide +kernel, by decide +kernel⟩, lw_t1 (List.mem_of_getElem? (i := 4) rfl), lw_t1 (List.mem_of_getElem? (i := 71) rfl), lw_t1 (List.mem_of_getElem? (i := 72) rfl)⟩
theorem lw_p1 : lw_okq (⟨"LineageWorlds", "prepare", "()V"⟩, 16) := ⟨⟨by decide +kernel, by decide +kernel⟩, lw_t1 (List.mem_of_getElem? (i := 4) rfl), lw_t1 (List.mem_of_getElem? (i := 94) rfl), lw_t1 (List.mem_of_getElem? (i := 95) rfl)⟩
theorem lw_p2 : lw_okq (⟨"LineageWorlds", "findMatches", "()V"⟩, 16) := ⟨⟨by decide +kernel, by decide +kernel⟩, lw_t1 (List.mem_of_getElem? (i := 4) rfl), lw_t1 (List.mem_of_getElem? (i := 98) rfl), lw_t1 (List.mem_of_getElem? (i := 99) rfl)⟩
theorem lw_p3 : lw_okq (⟨"LineageWorlds", "advance", "(I)Z"⟩, 16) := ⟨⟨by decide +kernel, by decide +kernel⟩, lw_t1 (List.mem_of_getElem? (i := 4) rfl), lw_t1 (List.mem_of_getElem? (i := 103) rfl), lw_t1 (List.mem_of_getElem? (i := 104) rfl)⟩
theorem lw_p4 : lw_okq (⟨"LineageWorlds", "release", "(I)V"⟩, 16) := ⟨⟨by decide +kernel, by decide +kernel⟩, lw_t1 (List.mem_of_getElem? (i := 4) rfl), lw_t1 (List.mem_of_getElem? (i := 107) rfl), lw_t1 (List.mem_of_getElem? (i := 108) rfl)⟩
theorem lw_p5 : lw_okq (⟨"LineageWorlds", "fits", "(III)Z"⟩, 16) := ⟨⟨by decide +kernel, by decide +kernel⟩, lw_t1 (List.mem_of_getElem? (i := 4) rfl), lw_t1 (List.mem_of_getElem? (i := 111) rfl), lw_t1 (List.mem_of_getElem? (i := 112) rfl)⟩
theorem lw_p6 : lw_okq (⟨"LineageWorlds", "factsOfMatch", "()I"⟩, 16) := ⟨⟨by decide +kernel, by decide +kernel⟩, lw_t1 (List.mem_of_getElem? (i := 4) rfl), lw_t1 (List.mem_of_getElem? (i := 115) rfl), lw_t1 (List.mem_of_getElem? (i := 116) rfl)⟩
theorem lw_p7 : lw_okq (⟨"LineageWorlds", "yesBelow", "(I)Z"⟩, 16) := ⟨⟨by decide +kernel, by decide +kernel⟩, lw_t1 (List.mem_of_getElem? (i := 4) rfl), lw_t1 (List.mem_of_getElem? (i := 119) rfl), lw_t1 (List.mem_of_getElem? (i := 120) rfl)⟩
theorem lw_p8 : lw_okq (⟨"LineageWorlds", "fold", "(I)I"⟩, 16) := ⟨⟨by decide +kernel, by decide +kernel⟩, lw_t1 (List.mem_of_getElem? (i := 4) rfl), lw_t1 (List.mem_of_getElem? (i := 123) rfl), lw_t1 (List.mem_of_getElem? (i := 124) rfl)⟩
theorem lw_p9 : lw_okq (⟨"LineageWorldsModel", "isFact", "(I)Z"⟩, 12) := ⟨⟨by decide +kernel, by decide +kernel⟩, lw_t1 (List.mem_of_getElem? (i := 150) rfl), lw_t1 (List.mem_of_getElem? (i := 201) rfl), lw_t1 (List.mem_of_getElem? (i := 202) rfl)⟩
theorem lw_p10 : lw_okq (⟨"LineageWorldsModel", "isEnd", "(I)Z"⟩, 12) := ⟨⟨by decide +kernel, by decide +kernel⟩, lw_t1 (List.mem_of_getElem? (i := 150) rfl), lw_t1 (List.mem_of_getElem? (i := 209) rfl), lw_t1 (List.mem_of_getElem? (i := 210) rfl)⟩
theorem lw_p11 : lw_okq (⟨"LineageWorldsModel", "sum", "(I)I"⟩, 12) := ⟨⟨by decide +kernel, by decide +kernel⟩, lw_t1 (List.mem_of_getElem? (i := 150) rfl), lw_t1 (List.mem_of_getElem? (i := 225) rfl), lw_t1 (List.mem_of_getElem? (i := 226) rfl)⟩
theorem lw_p12 : lw_okq (⟨"LineageWorldsModel", "work", "()V"⟩, 12) := ⟨⟨by decide +kernel, by decide +kernel⟩, lw_t1 (List.mem_of_getElem? (i := 150) rfl), lw_t1 (List.mem_of_getElem? (i := 229) rfl), lw_t1 (List.mem_of_getElem? (i := 230) rfl)⟩
theorem lw_p13 : lw_okq (⟨"LineageWorldsModel", "possible", "(I)Z"⟩, 12) := ⟨⟨by decide +kernel, by decide +kernel⟩, lw_t1 (List.mem_of_getElem? (i := 150) rfl), lw_t1 (List.mem_of_getElem? (i := 233) rfl), lw_t1 (List.mem_of_getElem? (i := 234) rfl)⟩
theorem lw_p14 : lw_okq (⟨"LineageWorldsModel", "node", "(II)I"⟩, 12) := ⟨⟨by decide +kernel, by decide +kernel⟩, lw_t1 (List.mem_of_getElem? (i := 150) rfl), lw_t1 (List.mem_of_getElem? (i := 237) rfl), lw_t1 (List.mem_of_getElem? (i := 238) rfl)⟩
theorem lw_p15 : lw_okq (⟨"LineageWorldsModel", "holdsIn", "(I)Z"⟩, 12) := ⟨⟨by decide +kernel, by decide +kernel⟩, lw_t1 (List.mem_of_getElem? (i := 150) rfl), lw_t2 (List.mem_of_getElem? (i := 1) rfl), lw_t2 (List.mem_of_getElem? (i := 2) rfl)⟩
def lw_privs_1 : List (MethodName × Nat) := [(⟨"LineageWorlds", "noFact", "(I)Z"⟩, 16), (⟨"LineageWorlds", "prepare", "()V"⟩, 16), (⟨"LineageWorlds", "findMatches", "()V"⟩, 16), (⟨"LineageWorlds", "advance", "(I)Z"⟩, 16), (⟨"LineageWorlds", "release", "(I)V"⟩, 16), (⟨"LineageWorlds", "fits", "(III)Z"⟩, 16), (⟨"LineageWorlds", "factsOfMatch", "()I"⟩, 16), (⟨"LineageWorlds", "yesBelow", "(I)Z"⟩, 16), (⟨"LineageWorlds", "fold", "(I)I"⟩, 16), (⟨"LineageWorldsModel", "isFact", "(I)Z"⟩, 12), (⟨"LineageWorldsModel", "isEnd", "(I)Z"⟩, 12), (⟨"LineageWorldsModel", "sum", "(I)I"⟩, 12), (⟨"LineageWorldsModel", "work", "()V"⟩, 12), (⟨"LineageWorldsModel", "possible", "(I)Z"⟩, 12), (⟨"LineageWorldsModel", "node", "(II)I"⟩, 12), (⟨"LineageWorldsModel", "holdsIn", "(I)Z"⟩, 12)]
theorem lw_r1 : ∀ q ∈ lw_privs_1, lw_okq q := List.forall_mem_cons.mpr ⟨lw_p0, List.forall_mem_cons.mpr ⟨lw_p1, List.forall_mem_cons.mpr ⟨lw_p2, List.forall_mem_cons.mpr ⟨lw_p3, List.forall_mem_cons.mpr ⟨lw_p4, List.forall_mem_cons.mpr ⟨lw_p5, List.forall_mem_cons.mpr ⟨lw_p6, List.forall_mem_cons.mpr ⟨lw_p7, List.forall_mem_cons.mpr ⟨lw_p8, List.forall_mem_cons.mpr ⟨lw_p9, List.forall_mem_cons.mpr ⟨lw_p10, List.forall_mem_cons.mpr ⟨lw_p11, List.forall_mem_cons.mpr ⟨lw_p12, List.forall_mem_cons.mpr ⟨lw_p13, List.forall_mem_cons.mpr ⟨lw_p14, List.forall_mem_cons.mpr ⟨lw_p15, fun _ h => absurd h List.not_mem_nil⟩⟩⟩⟩⟩⟩⟩⟩⟩⟩⟩⟩⟩⟩⟩⟩
theorem lw_p16 : lw_okq (⟨"LineageWorldsModel", "weight", "(I)I"⟩, 12) := ⟨⟨by decide +kernel, by decide +kernel⟩, lw_t1 (List.mem_of_getElem? (i := 150) rfl), lw_t2 (List.mem_of_getElem? (i := 5) rfl), lw_t2 (List.mem_of_getElem? (i := 6) rfl)⟩
theorem lw_p17 : lw_okq (⟨"LineageWorldsModel", "size", "(I)I"⟩, 12) := ⟨⟨by decide +kernel, by decide +kernel⟩, lw_t1 (List.mem_of_getElem? (i := 150) rfl), lw_t2 (List.mem_of_getElem? (i := 25) rfl), lw_t2 (List.mem_of_getElem? (i := 26) rfl)⟩
theorem lw_p18 : lw_okq (⟨"LineageWorldsModel", "spare", "(I)Z"⟩, 12) := ⟨⟨by decide +kernel, by decide +kernel⟩, lw_t1 (List.mem_of_getElem? (i := 150) rfl), lw_t2 (List.mem_of_getElem? (i := 33) rfl), lw_t2 (List.mem_of_getElem? (i := 34) rfl)⟩
def lw_privs_2 : List (MethodName × Nat) := [(⟨"LineageWorldsModel", "weight", "(I)I"⟩, 12), (⟨"LineageWorldsModel", "size", "(I)I"⟩, 12), (⟨"LineageWorldsModel", "spare", "(I)Z"⟩, 12)]
theorem lw_r2 : ∀ q ∈ lw_privs_2, lw_okq q := List.forall_mem_cons.mpr ⟨lw_p16, List.forall_mem_cons.mpr ⟨lw_p17, List.forall_mem_cons.mpr ⟨lw_p18, fun _ h => absurd h List.not_mem_nil⟩⟩⟩
def lw_privs : List (MethodName × Nat) := lw_privs_1 ++ (lw_privs_2)
def lw_tbl : List Cond := k2_sels lw_privs ++ tables_1
theorem lw_privs_ok : ∀ q ∈ lw_privs, lw_okq q := by
  show ∀ q ∈ lw_privs_1 ++ (lw_privs_2), lw_okq q
  exact List.forall_mem_append.mpr ⟨lw_r1, lw_r2⟩
-- ===== ONE list of words for every method: the tables' words that hold all through a run =====
def lw_all : List Cond := lw_tbl.filter goodWord
/-- a word of the tables by its place: claim/WORDS.tsv -/
theorem lw_w {w : Cond} (i : Nat) (h : lw_tbl[i]? = some w) (g : goodWord w = true) : w ∈ lw_all := List.mem_filter.mpr ⟨List.mem_of_getElem? h, g⟩
theorem lw_all_tbl {w : Cond} (h : w ∈ lw_all) : w ∈ lw_tbl := (List.mem_filter.mp h).1
theorem lw_self : GoodIn lw_all lw_all := fun w h => ⟨h, good_of_word (List.mem_filter.mp h).2⟩
/-- a class's field words, by their places -/
theorem lw_in (ws : List Cond) (ps : List Nat) (hp : ws = ps.filterMap (fun i => lw_tbl[i]?)) (hg : ws.all goodWord = true) : ∀ w ∈ ws, w ∈ lw_all := by
  intro w h
  have h1 := List.all_eq_true.mp hg w h
  rw [hp] at h
  obtain ⟨i, -, hi⟩ := List.mem_filterMap.mp h
  exact lw_w i hi h1
/-- the words of a contract for the method y with code b, L locals, answer r -/
abbrev ws_ (y : MethodName) (b : ByteArray) (L : Nat) (r : Option FieldType) : List Cond := Cond.code y b L r :: lw_all
theorem lw_meth {y : MethodName} {b : ByteArray} {L : Nat} {r : Option FieldType} (h : Cond.code y b L r ∈ lw_all) : GoodIn lw_all (ws_ y b L r) := by
  intro w hw
  rcases List.mem_cons.mp hw with e | e
  · rw [e]
    exact lw_self _ h
  · exact lw_self _ e
theorem lw_app {a c : List Cond} (ha : ∀ w ∈ a, w ∈ lw_all) (hc : GoodIn lw_all c) : GoodIn lw_all (a ++ c) := by
  intro w hw
  rcases List.mem_append.mp hw with e | e
  · exact lw_self w (ha w e)
  · exact hc w e
/-- what a call through an object asks: cwV n hts (lw_V ..) -/
theorem lw_V {own : String} {idx : Nat} {C : String} {y : MethodName} {b : ByteArray} {L : Nat} {r : Option FieldType} (h1 : Cond.methodLink own idx y ∈ lw_all) (h2 : Cond.instanceMethod y ∈ lw_all) (h3 : Cond.selects C y y ∈ lw_all) (h4 : Cond.initialized C ∈ lw_all) (h5 : Cond.code y b L r ∈ lw_all) : GoodIn lw_all (wsV own idx C y (ws_ y b L r)) := by
  refine lw_app ?_ (lw_meth h5)
  intro w hw
  simp only [List.mem_cons, List.not_mem_nil, or_false] at hw
  rcases hw with e | e | e | e
  · rw [e]; exact h1
  · rw [e]; exact h2
  · rw [e]; exact h3
  · rw [e]; exact h4
/-- what a static call asks: va_cwS n hts (lw_S ..) -/
theorem lw_S {own : String} {idx : Nat} {y : MethodName} {b : ByteArray} {L : Nat} {r : Option FieldType} (h1 : Cond.methodLink own idx y ∈ lw_all) (h2 : Cond.static y ∈ lw_all) (h3 : Cond.initialized y.cls ∈ lw_all) (h4 : Cond.code y b L r ∈ lw_all) : GoodIn lw_all (va_wsS own idx y (ws_ y b L r)) := by
  refine lw_app ?_ (lw_meth h4)
  intro w hw
  simp only [List.mem_cons, List.not_mem_nil, or_false] at hw
  rcases hw with e | e | e
  · rw [e]; exact h1
  · rw [e]; exact h2
  · rw [e]; exact h3
/-- the words of a contract for a method WITH HANDLERS (hh: its table) -/
abbrev wsW_ (y : MethodName) (b : ByteArray) (L : Nat) (r : Option FieldType) (hh : List (Nat × Nat × Nat × Nat)) : List Cond := Cond.codeWith y b L r hh :: lw_all
theorem lw_methW {y : MethodName} {b : ByteArray} {L : Nat} {r : Option FieldType} {hh : List (Nat × Nat × Nat × Nat)} (h : Cond.codeWith y b L r hh ∈ lw_all) : GoodIn lw_all (wsW_ y b L r hh) := by
  intro w hw
  rcases List.mem_cons.mp hw with e | e
  · rw [e]
    exact lw_self _ h
  · exact lw_self _ e
/-- any list of words by their places (lw_in), good -/
theorem lw_good {ws : List Cond} (h : ∀ w ∈ ws, w ∈ lw_all) : GoodIn lw_all ws := fun w hw => lw_self w (h w hw)
/-- what a call of a method with handlers asks: vx_cwVW n hts (lw_VW ..), vx_cwSW n hts (lw_SW ..) -/
theorem lw_VW {own : String} {idx : Nat} {C : String} {y : MethodName} {b : ByteArray} {L : Nat} {r : Option FieldType} {hh : List (Nat × Nat × Nat × Nat)} (h1 : Cond.methodLink own idx y ∈ lw_all) (h2 : Cond.instanceMethod y ∈ lw_all) (h3 : Cond.selects C y y ∈ lw_all) (h4 : Cond.initialized C ∈ lw_all) (h5 : Cond.codeWith y b L r hh ∈ lw_all) : GoodIn lw_all (wsV own idx C y (wsW_ y b L r hh)) := by
  refine lw_app ?_ (lw_methW h5)
  intro w hw
  simp only [List.mem_cons, List.not_mem_nil, or_false] at hw
  rcases hw with e | e | e | e
  · rw [e]; exact h1
  · rw [e]; exact h2
  · rw [e]; exact h3
  · rw [e]; exact h4
theorem lw_SW {own : String} {idx : Nat} {y : MethodName} {b : ByteArray} {L : Nat} {r : Option FieldType} {hh : List (Nat × Nat × Nat × Nat)} (h1 : Cond.methodLink own idx y ∈ lw_all) (h2 : Cond.static y ∈ lw_all) (h3 : Cond.initialized y.cls ∈ lw_all) (h4 : Cond.codeWith y b L r hh ∈ lw_all) : GoodIn lw_all (va_wsS own idx y (wsW_ y b L r hh)) := by
  refine lw_app ?_ (lw_methW h4)
  intro w hw
  simp only [List.mem_cons, List.not_mem_nil, or_false] at hw
  rcases hw with e | e | e
  · rw [e]; exact h1
  · rw [e]; exact h2
  · rw [e]; exact h3
/-- a word by its place in its run of the tables -/
theorem lw_at {r : List Cond} (hr : ∀ w ∈ r, w ∈ lw_tbl) {w : Cond} (i : Nat) (h : r[i]? = some w) : w ∈ lw_tbl := hr w (List.mem_of_getElem? h)
theorem lw_g {w : Cond} (h : w ∈ lw_tbl) (g : goodWord w = true) : w ∈ lw_all := List.mem_filter.mpr ⟨h, g⟩
theorem lw_ms : ∀ w ∈ k2_sels lw_privs, w ∈ lw_tbl := fun w h => show w ∈ k2_sels lw_privs ++ tables_1 from List.mem_append_left _ h
theorem lw_m1 : ∀ w ∈ tables_1_1, w ∈ lw_tbl := fun w h => show w ∈ k2_sels lw_privs ++ tables_1 from List.mem_append_right (k2_sels lw_privs) (show w ∈ tables_1 from List.mem_append_left _ h)
theorem lw_m2 : ∀ w ∈ tables_1_2, w ∈ lw_tbl := fun w h => show w ∈ k2_sels lw_privs ++ tables_1 from List.mem_append_right (k2_sels lw_privs) (show w ∈ tables_1 from List.mem_append_right _ h)
theorem qs0 : (Cond.selects "LineageWorlds" ⟨"LineageWorlds", "noFact", "(I)Z"⟩ ⟨"LineageWorlds", "noFact", "(I)Z"⟩) ∈ lw_all := lw_g (lw_at lw_ms 0 rfl) rfl
theorem qs1 : (Cond.selects "LineageWorlds" ⟨"LineageWorlds", "prepare", "()V"⟩ ⟨"LineageWorlds", "prepare", "()V"⟩) ∈ lw_all := lw_g (lw_at lw_ms 1 rfl) rfl
theorem qs2 : (Cond.selects "LineageWorlds" ⟨"LineageWorlds", "findMatches", "()V"⟩ ⟨"LineageWorlds", "findMatches", "()V"⟩) ∈ lw_all := lw_g (lw_at lw_ms 2 rfl) rfl
theorem qs3 : (Cond.selects "LineageWorlds" ⟨"LineageWorlds", "advance", "(I)Z"⟩ ⟨"LineageWorlds", "advance", "(I)Z"⟩) ∈ lw_all := lw_g (lw_at lw_ms 3 rfl) rfl
theorem qs4 : (Cond.selects "LineageWorlds" ⟨"LineageWorlds", "release", "(I)V"⟩ ⟨"LineageWorlds", "release", "(I)V"⟩) ∈ lw_all := lw_g (lw_at lw_ms 4 rfl) rfl
theorem qs5 : (Cond.selects "LineageWorlds" ⟨"LineageWorlds", "fits", "(III)Z"⟩ ⟨"LineageWorlds", "fits", "(III)Z"⟩) ∈ lw_all := lw_g (lw_at lw_ms 5 rfl) rfl
theorem qs6 : (Cond.selects "LineageWorlds" ⟨"LineageWorlds", "factsOfMatch", "()I"⟩ ⟨"LineageWorlds", "factsOfMatch", "()I"⟩) ∈ lw_all := lw_g (lw_at lw_ms 6 rfl) rfl
theorem qs7 : (Cond.selects "LineageWorlds" ⟨"LineageWorlds", "yesBelow", "(I)Z"⟩ ⟨"LineageWorlds", "yesBelow", "(I)Z"⟩) ∈ lw_all := lw_g (lw_at lw_ms 7 rfl) rfl
theorem qs8 : (Cond.selects "LineageWorlds" ⟨"LineageWorlds", "fold", "(I)I"⟩ ⟨"LineageWorlds", "fold", "(I)I"⟩) ∈ lw_all := lw_g (lw_at lw_ms 8 rfl) rfl
theorem qs9 : (Cond.selects "LineageWorldsModel" ⟨"LineageWorldsModel", "isFact", "(I)Z"⟩ ⟨"LineageWorldsModel", "isFact", "(I)Z"⟩) ∈ lw_all := lw_g (lw_at lw_ms 9 rfl) rfl
theorem qs10 : (Cond.selects "LineageWorldsModel" ⟨"LineageWorldsModel", "isEnd", "(I)Z"⟩ ⟨"LineageWorldsModel", "isEnd", "(I)Z"⟩) ∈ lw_all := lw_g (lw_at lw_ms 10 rfl) rfl
theorem qs11 : (Cond.selects "LineageWorldsModel" ⟨"LineageWorldsModel", "sum", "(I)I"⟩ ⟨"LineageWorldsModel", "sum", "(I)I"⟩) ∈ lw_all := lw_g (lw_at lw_ms 11 rfl) rfl
theorem qs12 : (Cond.selects "LineageWorldsModel" ⟨"LineageWorldsModel", "work", "()V"⟩ ⟨"LineageWorldsModel", "work", "()V"⟩) ∈ lw_all := lw_g (lw_at lw_ms 12 rfl) rfl
theorem qs13 : (Cond.selects "LineageWorldsModel" ⟨"LineageWorldsModel", "possible", "(I)Z"⟩ ⟨"LineageWorldsModel", "possible", "(I)Z"⟩) ∈ lw_all := lw_g (lw_at lw_ms 13 rfl) rfl
theorem qs14 : (Cond.selects "LineageWorldsModel" ⟨"LineageWorldsModel", "node", "(II)I"⟩ ⟨"LineageWorldsModel", "node", "(II)I"⟩) ∈ lw_all := lw_g (lw_at lw_ms 14 rfl) rfl
theorem qs15 : (Cond.selects "LineageWorldsModel" ⟨"LineageWorldsModel", "holdsIn", "(I)Z"⟩ ⟨"LineageWorldsModel", "holdsIn", "(I)Z"⟩) ∈ lw_all := lw_g (lw_at lw_ms 15 rfl) rfl
theorem qs16 : (Cond.selects "LineageWorldsModel" ⟨"LineageWorldsModel", "weight", "(I)I"⟩ ⟨"LineageWorldsModel", "weight", "(I)I"⟩) ∈ lw_all := lw_g (lw_at lw_ms 16 rfl) rfl
theorem qs17 : (Cond.selects "LineageWorldsModel" ⟨"LineageWorldsModel", "size", "(I)I"⟩ ⟨"LineageWorldsModel", "size", "(I)I"⟩) ∈ lw_all := lw_g (lw_at lw_ms 17 rfl) rfl
theorem qs18 : (Cond.selects "LineageWorldsModel" ⟨"LineageWorldsModel", "spare", "(I)Z"⟩ ⟨"LineageWorldsModel", "spare", "(I)Z"⟩) ∈ lw_all := lw_g (lw_at lw_ms 18 rfl) rfl
end
section
/-! LineageWorlds -/
set_option maxRecDepth 100000
def RX0 : String := "LineageWorlds"
def TX0 : u_T := fun k => match k with
  | 0 => ("LineageWorlds", "facts", "I", false)
  | 1 => ("LineageWorlds", "from", "[I", true)
  | 2 => ("LineageWorlds", "to", "[I", true)
  | 3 => ("LineageWorlds", "label", "[I", true)
  | 4 => ("LineageWorlds", "chance", "[I", true)
  | 5 => ("LineageWorlds", "conditions", "I", false)
  | 6 => ("LineageWorlds", "wantLabel", "[I", true)
  | 7 => ("LineageWorlds", "wantFrom", "[I", true)
  | 8 => ("LineageWorlds", "wantTo", "[I", true)
  | 9 => ("LineageWorlds", "tried", "[I", true)
  | 10 => ("LineageWorlds", "bound", "[I", true)
  | 11 => ("LineageWorlds", "value", "[I", true)
  | 12 => ("LineageWorlds", "ready", "Z", false)
  | 13 => ("LineageWorlds", "match", "[Z", true)
  | 14 => ("LineageWorlds", "yes", "[Z", true)
  | _ => ("LineageWorlds", "folded", "[I", true)
def tyX0 : Nat → FieldType := fun k => match k with
  | 0 => .int
  | 1 => .array .int
  | 2 => .array .int
  | 3 => .array .int
  | 4 => .array .int
  | 5 => .int
  | 6 => .array .int
  | 7 => .array .int
  | 8 => .array .int
  | 9 => .array .int
  | 10 => .array .int
  | 11 => .array .int
  | 12 => .boolean
  | 13 => .array .boolean
  | 14 => .array .boolean
  | _ => .array .int
abbrev wsX00 : List Cond := u_ws RX0 TX0 16
set_option maxRecDepth 100000 in
theorem nmX0 : ∀ a, a < 16 → ∀ b, b < 16 → a ≠ b → (TX0 a).2.1 ≠ (TX0 b).2.1 := by decide +kernel
set_option maxRecDepth 100000 in
theorem tyX0_ok : ∀ k, k < 16 → parseFieldDescriptor (TX0 k).2.2.1 = some (tyX0 k) := by decide +kernel
abbrev cX0_init : ByteArray := prog_1_method_1_code
def yX0_init : MethodName := ⟨RX0, "<init>", "()V"⟩
theorem dX0_init_0 : decode cX0_init 0 = .ok (.aload_n 0, 1) := by decide +kernel
theorem dX0_init_1 : decode cX0_init 1 = .ok (.invokespecial 1, 3) := by decide +kernel
theorem dX0_init_4 : decode cX0_init 4 = .ok (.aload_n 0, 1) := by decide +kernel
theorem dX0_init_5 : decode cX0_init 5 = .ok (.bipush 9, 2) := by decide +kernel
theorem dX0_init_7 : decode cX0_init 7 = .ok (.newarray .int, 2) := by decide +kernel
theorem dX0_init_9 : decode cX0_init 9 = .ok (.putfield 7, 3) := by decide +kernel
theorem dX0_init_12 : decode cX0_init 12 = .ok (.aload_n 0, 1) := by decide +kernel
theorem dX0_init_13 : decode cX0_init 13 = .ok (.bipush 9, 2) := by decide +kernel
theorem dX0_init_15 : decode cX0_init 15 = .ok (.newarray .int, 2) := by decide +kernel
theorem dX0_init_17 : decode cX0_init 17 = .ok (.putfield 13, 3) := by decide +kernel
theorem dX0_init_20 : decode cX0_init 20 = .ok (.aload_n 0, 1) := by decide +kernel
theorem dX0_init_21 : decode cX0_init 21 = .ok (.bipush 9, 2) := by decide +kernel
theorem dX0_init_23 : decode cX0_init 23 = .ok (.newarray .int, 2) := by decide +kernel
theorem dX0_init_25 : decode cX0_init 25 = .ok (.putfield 16, 3) := by decide +kernel
theorem dX0_init_28 : decode cX0_init 28 = .ok (.aload_n 0, 1) := by decide +kernel
theorem dX0_init_29 : decode cX0_init 29 = .ok (.bipush 9, 2) := by decide +kernel
theorem dX0_init_31 : decode cX0_init 31 = .ok (.newarray .int, 2) := by decide +kernel
theorem dX0_init_33 : decode cX0_init 33 = .ok (.putfield 19, 3) := by decide +kernel
theorem dX0_init_36 : decode cX0_init 36 = .ok (.aload_n 0, 1) := by decide +kernel
theorem dX0_init_37 : decode cX0_init 37 = .ok (.iconst 4, 1) := by decide +kernel
theorem dX0_init_38 : decode cX0_init 38 = .ok (.newarray .int, 2) := by decide +kernel
theorem dX0_init_40 : decode cX0_init 40 = .ok (.putfield 22, 3) := by decide +kernel
theorem dX0_init_43 : decode cX0_init 43 = .ok (.aload_n 0, 1) := by decide +kernel
theorem dX0_init_44 : decode cX0_init 44 = .ok (.iconst 4, 1) := by decide +kernel
theorem dX0_init_45 : decode cX0_init 45 = .ok (.newarray .int, 2) := by decide +kernel
theorem dX0_init_47 : decode cX0_init 47 = .ok (.putfield 25, 3) := by decide +kernel
theorem dX0_init_50 : decode cX0_init 50 = .ok (.aload_n 0, 1) := by decide +kernel
theorem dX0_init_51 : decode cX0_init 51 = .ok (.iconst 4, 1) := by decide +kernel
theorem dX0_init_52 : decode cX0_init 52 = .ok (.newarray .int, 2) := by decide +kernel
theorem dX0_init_54 : decode cX0_init 54 = .ok (.putfield 28, 3) := by decide +kernel
theorem dX0_init_57 : decode cX0_init 57 = .ok (.aload_n 0, 1) := by decide +kernel
theorem dX0_init_58 : decode cX0_init 58 = .ok (.iconst 5, 1) := by decide +kernel
theorem dX0_init_59 : decode cX0_init 59 = .ok (.newarray .int, 2) := by decide +kernel
theorem dX0_init_61 : decode cX0_init 61 = .ok (.putfield 31, 3) := by decide +kernel
theorem dX0_init_64 : decode cX0_init 64 = .ok (.aload_n 0, 1) := by decide +kernel
theorem dX0_init_65 : decode cX0_init 65 = .ok (.iconst 5, 1) := by decide +kernel
theorem dX0_init_66 : decode cX0_init 66 = .ok (.newarray .int, 2) := by decide +kernel
theorem dX0_init_68 : decode cX0_init 68 = .ok (.putfield 34, 3) := by decide +kernel
theorem dX0_init_71 : decode cX0_init 71 = .ok (.aload_n 0, 1) := by decide +kernel
theorem dX0_init_72 : decode cX0_init 72 = .ok (.iconst 3, 1) := by decide +kernel
theorem dX0_init_73 : decode cX0_init 73 = .ok (.newarray .int, 2) := by decide +kernel
theorem dX0_init_75 : decode cX0_init 75 = .ok (.putfield 37, 3) := by decide +kernel
theorem dX0_init_78 : decode cX0_init 78 = .ok (.aload_n 0, 1) := by decide +kernel
theorem dX0_init_79 : decode cX0_init 79 = .ok (.sipush 512, 3) := by decide +kernel
theorem dX0_init_82 : decode cX0_init 82 = .ok (.newarray .boolean, 2) := by decide +kernel
theorem dX0_init_84 : decode cX0_init 84 = .ok (.putfield 40, 3) := by decide +kernel
theorem dX0_init_87 : decode cX0_init 87 = .ok (.aload_n 0, 1) := by decide +kernel
theorem dX0_init_88 : decode cX0_init 88 = .ok (.sipush 512, 3) := by decide +kernel
theorem dX0_init_91 : decode cX0_init 91 = .ok (.newarray .boolean, 2) := by decide +kernel
theorem dX0_init_93 : decode cX0_init 93 = .ok (.putfield 44, 3) := by decide +kernel
theorem dX0_init_96 : decode cX0_init 96 = .ok (.aload_n 0, 1) := by decide +kernel
theorem dX0_init_97 : decode cX0_init 97 = .ok (.sipush 512, 3) := by decide +kernel
theorem dX0_init_100 : decode cX0_init 100 = .ok (.newarray .int, 2) := by decide +kernel
theorem dX0_init_102 : decode cX0_init 102 = .ok (.putfield 47, 3) := by decide +kernel
theorem dX0_init_105 : decode cX0_init 105 = .ok (.aload_n 0, 1) := by decide +kernel
theorem dX0_init_106 : decode cX0_init 106 = .ok (.iconst 0, 1) := by decide +kernel
theorem dX0_init_107 : decode cX0_init 107 = .ok (.putfield 50, 3) := by decide +kernel
theorem dX0_init_110 : decode cX0_init 110 = .ok (.return_, 1) := by decide +kernel
abbrev cX0_fact : ByteArray := prog_1_method_3_code
def yX0_fact : MethodName := ⟨RX0, "fact", "(II)I"⟩
theorem dX0_fact_0 : decode cX0_fact 0 = .ok (.iload_n 1, 1) := by decide +kernel
theorem dX0_fact_1 : decode cX0_fact 1 = .ok (.bipush 7, 2) := by decide +kernel
theorem dX0_fact_3 : decode cX0_fact 3 = .ok (.iand, 1) := by decide +kernel
theorem dX0_fact_4 : decode cX0_fact 4 = .ok (.istore_n 3, 1) := by decide +kernel
theorem dX0_fact_5 : decode cX0_fact 5 = .ok (.iload_n 1, 1) := by decide +kernel
theorem dX0_fact_6 : decode cX0_fact 6 = .ok (.iconst 3, 1) := by decide +kernel
theorem dX0_fact_7 : decode cX0_fact 7 = .ok (.ishr, 1) := by decide +kernel
theorem dX0_fact_8 : decode cX0_fact 8 = .ok (.bipush 7, 2) := by decide +kernel
theorem dX0_fact_10 : decode cX0_fact 10 = .ok (.iand, 1) := by decide +kernel
theorem dX0_fact_11 : decode cX0_fact 11 = .ok (.istore 4, 2) := by decide +kernel
theorem dX0_fact_13 : decode cX0_fact 13 = .ok (.iload_n 3, 1) := by decide +kernel
theorem dX0_fact_14 : decode cX0_fact 14 = .ok (.bipush 6, 2) := by decide +kernel
theorem dX0_fact_16 : decode cX0_fact 16 = .ok (.if_icmp .ge 10, 3) := by decide +kernel
theorem dX0_fact_19 : decode cX0_fact 19 = .ok (.iload 4, 2) := by decide +kernel
theorem dX0_fact_21 : decode cX0_fact 21 = .ok (.bipush 6, 2) := by decide +kernel
theorem dX0_fact_23 : decode cX0_fact 23 = .ok (.if_icmp .lt 5, 3) := by decide +kernel
theorem dX0_fact_26 : decode cX0_fact 26 = .ok (.iconst (-1), 1) := by decide +kernel
theorem dX0_fact_27 : decode cX0_fact 27 = .ok (.ireturn, 1) := by decide +kernel
theorem dX0_fact_28 : decode cX0_fact 28 = .ok (.iload_n 2, 1) := by decide +kernel
theorem dX0_fact_29 : decode cX0_fact 29 = .ok (.iconst 1, 1) := by decide +kernel
theorem dX0_fact_30 : decode cX0_fact 30 = .ok (.if_icmp .lt 8, 3) := by decide +kernel
theorem dX0_fact_33 : decode cX0_fact 33 = .ok (.iload_n 2, 1) := by decide +kernel
theorem dX0_fact_34 : decode cX0_fact 34 = .ok (.iconst 4, 1) := by decide +kernel
theorem dX0_fact_35 : decode cX0_fact 35 = .ok (.if_icmp .le 6, 3) := by decide +kernel
theorem dX0_fact_38 : decode cX0_fact 38 = .ok (.bipush (-2), 2) := by decide +kernel
theorem dX0_fact_40 : decode cX0_fact 40 = .ok (.ireturn, 1) := by decide +kernel
theorem dX0_fact_41 : decode cX0_fact 41 = .ok (.aload_n 0, 1) := by decide +kernel
theorem dX0_fact_42 : decode cX0_fact 42 = .ok (.getfield 54, 3) := by decide +kernel
theorem dX0_fact_45 : decode cX0_fact 45 = .ok (.bipush 9, 2) := by decide +kernel
theorem dX0_fact_47 : decode cX0_fact 47 = .ok (.if_icmp .lt 6, 3) := by decide +kernel
theorem dX0_fact_50 : decode cX0_fact 50 = .ok (.bipush (-3), 2) := by decide +kernel
theorem dX0_fact_52 : decode cX0_fact 52 = .ok (.ireturn, 1) := by decide +kernel
theorem dX0_fact_53 : decode cX0_fact 53 = .ok (.aload_n 0, 1) := by decide +kernel
theorem dX0_fact_54 : decode cX0_fact 54 = .ok (.getfield 7, 3) := by decide +kernel
theorem dX0_fact_57 : decode cX0_fact 57 = .ok (.aload_n 0, 1) := by decide +kernel
theorem dX0_fact_58 : decode cX0_fact 58 = .ok (.getfield 54, 3) := by decide +kernel
theorem dX0_fact_61 : decode cX0_fact 61 = .ok (.iload_n 3, 1) := by decide +kernel
theorem dX0_fact_62 : decode cX0_fact 62 = .ok (.iastore, 1) := by decide +kernel
theorem dX0_fact_63 : decode cX0_fact 63 = .ok (.aload_n 0, 1) := by decide +kernel
theorem dX0_fact_64 : decode cX0_fact 64 = .ok (.getfield 13, 3) := by decide +kernel
theorem dX0_fact_67 : decode cX0_fact 67 = .ok (.aload_n 0, 1) := by decide +kernel
theorem dX0_fact_68 : decode cX0_fact 68 = .ok (.getfield 54, 3) := by decide +kernel
theorem dX0_fact_71 : decode cX0_fact 71 = .ok (.iload 4, 2) := by decide +kernel
theorem dX0_fact_73 : decode cX0_fact 73 = .ok (.iastore, 1) := by decide +kernel
theorem dX0_fact_74 : decode cX0_fact 74 = .ok (.aload_n 0, 1) := by decide +kernel
theorem dX0_fact_75 : decode cX0_fact 75 = .ok (.getfield 16, 3) := by decide +kernel
theorem dX0_fact_78 : decode cX0_fact 78 = .ok (.aload_n 0, 1) := by decide +kernel
theorem dX0_fact_79 : decode cX0_fact 79 = .ok (.getfield 54, 3) := by decide +kernel
theorem dX0_fact_82 : decode cX0_fact 82 = .ok (.iload_n 1, 1) := by decide +kernel
theorem dX0_fact_83 : decode cX0_fact 83 = .ok (.bipush 6, 2) := by decide +kernel
theorem dX0_fact_85 : decode cX0_fact 85 = .ok (.ishr, 1) := by decide +kernel
theorem dX0_fact_86 : decode cX0_fact 86 = .ok (.iconst 1, 1) := by decide +kernel
theorem dX0_fact_87 : decode cX0_fact 87 = .ok (.iand, 1) := by decide +kernel
theorem dX0_fact_88 : decode cX0_fact 88 = .ok (.iastore, 1) := by decide +kernel
theorem dX0_fact_89 : decode cX0_fact 89 = .ok (.aload_n 0, 1) := by decide +kernel
theorem dX0_fact_90 : decode cX0_fact 90 = .ok (.getfield 19, 3) := by decide +kernel
theorem dX0_fact_93 : decode cX0_fact 93 = .ok (.aload_n 0, 1) := by decide +kernel
theorem dX0_fact_94 : decode cX0_fact 94 = .ok (.getfield 54, 3) := by decide +kernel
theorem dX0_fact_97 : decode cX0_fact 97 = .ok (.iload_n 2, 1) := by decide +kernel
theorem dX0_fact_98 : decode cX0_fact 98 = .ok (.iastore, 1) := by decide +kernel
theorem dX0_fact_99 : decode cX0_fact 99 = .ok (.aload_n 0, 1) := by decide +kernel
theorem dX0_fact_100 : decode cX0_fact 100 = .ok (.dup, 1) := by decide +kernel
theorem dX0_fact_101 : decode cX0_fact 101 = .ok (.getfield 54, 3) := by decide +kernel
theorem dX0_fact_104 : decode cX0_fact 104 = .ok (.iconst 1, 1) := by decide +kernel
theorem dX0_fact_105 : decode cX0_fact 105 = .ok (.iadd, 1) := by decide +kernel
theorem dX0_fact_106 : decode cX0_fact 106 = .ok (.putfield 54, 3) := by decide +kernel
theorem dX0_fact_109 : decode cX0_fact 109 = .ok (.aload_n 0, 1) := by decide +kernel
theorem dX0_fact_110 : decode cX0_fact 110 = .ok (.iconst 0, 1) := by decide +kernel
theorem dX0_fact_111 : decode cX0_fact 111 = .ok (.putfield 50, 3) := by decide +kernel
theorem dX0_fact_114 : decode cX0_fact 114 = .ok (.aload_n 0, 1) := by decide +kernel
theorem dX0_fact_115 : decode cX0_fact 115 = .ok (.getfield 54, 3) := by decide +kernel
theorem dX0_fact_118 : decode cX0_fact 118 = .ok (.iconst 1, 1) := by decide +kernel
theorem dX0_fact_119 : decode cX0_fact 119 = .ok (.isub, 1) := by decide +kernel
theorem dX0_fact_120 : decode cX0_fact 120 = .ok (.ireturn, 1) := by decide +kernel
abbrev cX0_likely : ByteArray := prog_1_method_4_code
def yX0_likely : MethodName := ⟨RX0, "likely", "(II)I"⟩
theorem dX0_likely_0 : decode cX0_likely 0 = .ok (.aload_n 0, 1) := by decide +kernel
theorem dX0_likely_1 : decode cX0_likely 1 = .ok (.iload_n 1, 1) := by decide +kernel
theorem dX0_likely_2 : decode cX0_likely 2 = .ok (.invokevirtual 58, 3) := by decide +kernel
theorem dX0_likely_5 : decode cX0_likely 5 = .ok (.ifCond .eq 6, 3) := by decide +kernel
theorem dX0_likely_8 : decode cX0_likely 8 = .ok (.bipush (-4), 2) := by decide +kernel
theorem dX0_likely_10 : decode cX0_likely 10 = .ok (.ireturn, 1) := by decide +kernel
theorem dX0_likely_11 : decode cX0_likely 11 = .ok (.iload_n 2, 1) := by decide +kernel
theorem dX0_likely_12 : decode cX0_likely 12 = .ok (.iconst 1, 1) := by decide +kernel
theorem dX0_likely_13 : decode cX0_likely 13 = .ok (.if_icmp .lt 8, 3) := by decide +kernel
theorem dX0_likely_16 : decode cX0_likely 16 = .ok (.iload_n 2, 1) := by decide +kernel
theorem dX0_likely_17 : decode cX0_likely 17 = .ok (.iconst 4, 1) := by decide +kernel
theorem dX0_likely_18 : decode cX0_likely 18 = .ok (.if_icmp .le 6, 3) := by decide +kernel
theorem dX0_likely_21 : decode cX0_likely 21 = .ok (.bipush (-2), 2) := by decide +kernel
theorem dX0_likely_23 : decode cX0_likely 23 = .ok (.ireturn, 1) := by decide +kernel
theorem dX0_likely_24 : decode cX0_likely 24 = .ok (.aload_n 0, 1) := by decide +kernel
theorem dX0_likely_25 : decode cX0_likely 25 = .ok (.getfield 19, 3) := by decide +kernel
theorem dX0_likely_28 : decode cX0_likely 28 = .ok (.iload_n 1, 1) := by decide +kernel
theorem dX0_likely_29 : decode cX0_likely 29 = .ok (.iaload, 1) := by decide +kernel
theorem dX0_likely_30 : decode cX0_likely 30 = .ok (.istore_n 3, 1) := by decide +kernel
theorem dX0_likely_31 : decode cX0_likely 31 = .ok (.aload_n 0, 1) := by decide +kernel
theorem dX0_likely_32 : decode cX0_likely 32 = .ok (.getfield 19, 3) := by decide +kernel
theorem dX0_likely_35 : decode cX0_likely 35 = .ok (.iload_n 1, 1) := by decide +kernel
theorem dX0_likely_36 : decode cX0_likely 36 = .ok (.iload_n 2, 1) := by decide +kernel
theorem dX0_likely_37 : decode cX0_likely 37 = .ok (.iastore, 1) := by decide +kernel
theorem dX0_likely_38 : decode cX0_likely 38 = .ok (.iload_n 3, 1) := by decide +kernel
theorem dX0_likely_39 : decode cX0_likely 39 = .ok (.ireturn, 1) := by decide +kernel
abbrev cX0_noFact : ByteArray := prog_1_method_2_code
def yX0_noFact : MethodName := ⟨RX0, "noFact", "(I)Z"⟩
theorem dX0_noFact_0 : decode cX0_noFact 0 = .ok (.iload_n 1, 1) := by decide +kernel
theorem dX0_noFact_1 : decode cX0_noFact 1 = .ok (.ifCond .lt 11, 3) := by decide +kernel
theorem dX0_noFact_4 : decode cX0_noFact 4 = .ok (.iload_n 1, 1) := by decide +kernel
theorem dX0_noFact_5 : decode cX0_noFact 5 = .ok (.aload_n 0, 1) := by decide +kernel
theorem dX0_noFact_6 : decode cX0_noFact 6 = .ok (.getfield 54, 3) := by decide +kernel
theorem dX0_noFact_9 : decode cX0_noFact 9 = .ok (.if_icmp .lt 7, 3) := by decide +kernel
theorem dX0_noFact_12 : decode cX0_noFact 12 = .ok (.iconst 1, 1) := by decide +kernel
theorem dX0_noFact_13 : decode cX0_noFact 13 = .ok (.goto 4, 3) := by decide +kernel
theorem dX0_noFact_16 : decode cX0_noFact 16 = .ok (.iconst 0, 1) := by decide +kernel
theorem dX0_noFact_17 : decode cX0_noFact 17 = .ok (.ireturn, 1) := by decide +kernel
abbrev cX0_condition : ByteArray := prog_1_method_6_code
def yX0_condition : MethodName := ⟨RX0, "condition", "(III)I"⟩
theorem dX0_condition_0 : decode cX0_condition 0 = .ok (.iload_n 2, 1) := by decide +kernel
theorem dX0_condition_1 : decode cX0_condition 1 = .ok (.invokestatic 62, 3) := by decide +kernel
theorem dX0_condition_4 : decode cX0_condition 4 = .ok (.ifCond .ne 10, 3) := by decide +kernel
theorem dX0_condition_7 : decode cX0_condition 7 = .ok (.iload_n 3, 1) := by decide +kernel
theorem dX0_condition_8 : decode cX0_condition 8 = .ok (.invokestatic 62, 3) := by decide +kernel
theorem dX0_condition_11 : decode cX0_condition 11 = .ok (.ifCond .eq 5, 3) := by decide +kernel
theorem dX0_condition_14 : decode cX0_condition 14 = .ok (.iconst (-1), 1) := by decide +kernel
theorem dX0_condition_15 : decode cX0_condition 15 = .ok (.ireturn, 1) := by decide +kernel
theorem dX0_condition_16 : decode cX0_condition 16 = .ok (.aload_n 0, 1) := by decide +kernel
theorem dX0_condition_17 : decode cX0_condition 17 = .ok (.getfield 65, 3) := by decide +kernel
theorem dX0_condition_20 : decode cX0_condition 20 = .ok (.iconst 4, 1) := by decide +kernel
theorem dX0_condition_21 : decode cX0_condition 21 = .ok (.if_icmp .lt 6, 3) := by decide +kernel
theorem dX0_condition_24 : decode cX0_condition 24 = .ok (.bipush (-3), 2) := by decide +kernel
theorem dX0_condition_26 : decode cX0_condition 26 = .ok (.ireturn, 1) := by decide +kernel
theorem dX0_condition_27 : decode cX0_condition 27 = .ok (.aload_n 0, 1) := by decide +kernel
theorem dX0_condition_28 : decode cX0_condition 28 = .ok (.getfield 22, 3) := by decide +kernel
theorem dX0_condition_31 : decode cX0_condition 31 = .ok (.aload_n 0, 1) := by decide +kernel
theorem dX0_condition_32 : decode cX0_condition 32 = .ok (.getfield 65, 3) := by decide +kernel
theorem dX0_condition_35 : decode cX0_condition 35 = .ok (.iload_n 1, 1) := by decide +kernel
theorem dX0_condition_36 : decode cX0_condition 36 = .ok (.iconst 1, 1) := by decide +kernel
theorem dX0_condition_37 : decode cX0_condition 37 = .ok (.iand, 1) := by decide +kernel
theorem dX0_condition_38 : decode cX0_condition 38 = .ok (.iastore, 1) := by decide +kernel
theorem dX0_condition_39 : decode cX0_condition 39 = .ok (.aload_n 0, 1) := by decide +kernel
theorem dX0_condition_40 : decode cX0_condition 40 = .ok (.getfield 25, 3) := by decide +kernel
theorem dX0_condition_43 : decode cX0_condition 43 = .ok (.aload_n 0, 1) := by decide +kernel
theorem dX0_condition_44 : decode cX0_condition 44 = .ok (.getfield 65, 3) := by decide +kernel
theorem dX0_condition_47 : decode cX0_condition 47 = .ok (.iload_n 2, 1) := by decide +kernel
theorem dX0_condition_48 : decode cX0_condition 48 = .ok (.iastore, 1) := by decide +kernel
theorem dX0_condition_49 : decode cX0_condition 49 = .ok (.aload_n 0, 1) := by decide +kernel
theorem dX0_condition_50 : decode cX0_condition 50 = .ok (.getfield 28, 3) := by decide +kernel
theorem dX0_condition_53 : decode cX0_condition 53 = .ok (.aload_n 0, 1) := by decide +kernel
theorem dX0_condition_54 : decode cX0_condition 54 = .ok (.getfield 65, 3) := by decide +kernel
theorem dX0_condition_57 : decode cX0_condition 57 = .ok (.iload_n 3, 1) := by decide +kernel
theorem dX0_condition_58 : decode cX0_condition 58 = .ok (.iastore, 1) := by decide +kernel
theorem dX0_condition_59 : decode cX0_condition 59 = .ok (.aload_n 0, 1) := by decide +kernel
theorem dX0_condition_60 : decode cX0_condition 60 = .ok (.dup, 1) := by decide +kernel
theorem dX0_condition_61 : decode cX0_condition 61 = .ok (.getfield 65, 3) := by decide +kernel
theorem dX0_condition_64 : decode cX0_condition 64 = .ok (.iconst 1, 1) := by decide +kernel
theorem dX0_condition_65 : decode cX0_condition 65 = .ok (.iadd, 1) := by decide +kernel
theorem dX0_condition_66 : decode cX0_condition 66 = .ok (.putfield 65, 3) := by decide +kernel
theorem dX0_condition_69 : decode cX0_condition 69 = .ok (.aload_n 0, 1) := by decide +kernel
theorem dX0_condition_70 : decode cX0_condition 70 = .ok (.iconst 0, 1) := by decide +kernel
theorem dX0_condition_71 : decode cX0_condition 71 = .ok (.putfield 50, 3) := by decide +kernel
theorem dX0_condition_74 : decode cX0_condition 74 = .ok (.aload_n 0, 1) := by decide +kernel
theorem dX0_condition_75 : decode cX0_condition 75 = .ok (.getfield 65, 3) := by decide +kernel
theorem dX0_condition_78 : decode cX0_condition 78 = .ok (.ireturn, 1) := by decide +kernel
abbrev cX0_badPlace : ByteArray := prog_1_method_5_code
def yX0_badPlace : MethodName := ⟨RX0, "badPlace", "(I)Z"⟩
theorem dX0_badPlace_0 : decode cX0_badPlace 0 = .ok (.iload_n 0, 1) := by decide +kernel
theorem dX0_badPlace_1 : decode cX0_badPlace 1 = .ok (.ifCond .lt 20, 3) := by decide +kernel
theorem dX0_badPlace_4 : decode cX0_badPlace 4 = .ok (.iload_n 0, 1) := by decide +kernel
theorem dX0_badPlace_5 : decode cX0_badPlace 5 = .ok (.iconst 2, 1) := by decide +kernel
theorem dX0_badPlace_6 : decode cX0_badPlace 6 = .ok (.if_icmp .le 9, 3) := by decide +kernel
theorem dX0_badPlace_9 : decode cX0_badPlace 9 = .ok (.iload_n 0, 1) := by decide +kernel
theorem dX0_badPlace_10 : decode cX0_badPlace 10 = .ok (.bipush 8, 2) := by decide +kernel
theorem dX0_badPlace_12 : decode cX0_badPlace 12 = .ok (.if_icmp .lt 9, 3) := by decide +kernel
theorem dX0_badPlace_15 : decode cX0_badPlace 15 = .ok (.iload_n 0, 1) := by decide +kernel
theorem dX0_badPlace_16 : decode cX0_badPlace 16 = .ok (.bipush 14, 2) := by decide +kernel
theorem dX0_badPlace_18 : decode cX0_badPlace 18 = .ok (.if_icmp .lt 7, 3) := by decide +kernel
theorem dX0_badPlace_21 : decode cX0_badPlace 21 = .ok (.iconst 1, 1) := by decide +kernel
theorem dX0_badPlace_22 : decode cX0_badPlace 22 = .ok (.goto 4, 3) := by decide +kernel
theorem dX0_badPlace_25 : decode cX0_badPlace 25 = .ok (.iconst 0, 1) := by decide +kernel
theorem dX0_badPlace_26 : decode cX0_badPlace 26 = .ok (.ireturn, 1) := by decide +kernel
abbrev cX0_ask : ByteArray := prog_1_method_7_code
def yX0_ask : MethodName := ⟨RX0, "ask", "()V"⟩
theorem dX0_ask_0 : decode cX0_ask 0 = .ok (.aload_n 0, 1) := by decide +kernel
theorem dX0_ask_1 : decode cX0_ask 1 = .ok (.iconst 0, 1) := by decide +kernel
theorem dX0_ask_2 : decode cX0_ask 2 = .ok (.putfield 65, 3) := by decide +kernel
theorem dX0_ask_5 : decode cX0_ask 5 = .ok (.aload_n 0, 1) := by decide +kernel
theorem dX0_ask_6 : decode cX0_ask 6 = .ok (.iconst 0, 1) := by decide +kernel
theorem dX0_ask_7 : decode cX0_ask 7 = .ok (.putfield 50, 3) := by decide +kernel
theorem dX0_ask_10 : decode cX0_ask 10 = .ok (.return_, 1) := by decide +kernel
abbrev cX0_drop : ByteArray := prog_1_method_8_code
def yX0_drop : MethodName := ⟨RX0, "drop", "()I"⟩
theorem dX0_drop_0 : decode cX0_drop 0 = .ok (.aload_n 0, 1) := by decide +kernel
theorem dX0_drop_1 : decode cX0_drop 1 = .ok (.getfield 54, 3) := by decide +kernel
theorem dX0_drop_4 : decode cX0_drop 4 = .ok (.ifCond .ne 6, 3) := by decide +kernel
theorem dX0_drop_7 : decode cX0_drop 7 = .ok (.bipush (-4), 2) := by decide +kernel
theorem dX0_drop_9 : decode cX0_drop 9 = .ok (.ireturn, 1) := by decide +kernel
theorem dX0_drop_10 : decode cX0_drop 10 = .ok (.aload_n 0, 1) := by decide +kernel
theorem dX0_drop_11 : decode cX0_drop 11 = .ok (.dup, 1) := by decide +kernel
theorem dX0_drop_12 : decode cX0_drop 12 = .ok (.getfield 54, 3) := by decide +kernel
theorem dX0_drop_15 : decode cX0_drop 15 = .ok (.iconst 1, 1) := by decide +kernel
theorem dX0_drop_16 : decode cX0_drop 16 = .ok (.isub, 1) := by decide +kernel
theorem dX0_drop_17 : decode cX0_drop 17 = .ok (.putfield 54, 3) := by decide +kernel
theorem dX0_drop_20 : decode cX0_drop 20 = .ok (.aload_n 0, 1) := by decide +kernel
theorem dX0_drop_21 : decode cX0_drop 21 = .ok (.iconst 0, 1) := by decide +kernel
theorem dX0_drop_22 : decode cX0_drop 22 = .ok (.putfield 50, 3) := by decide +kernel
theorem dX0_drop_25 : decode cX0_drop 25 = .ok (.aload_n 0, 1) := by decide +kernel
theorem dX0_drop_26 : decode cX0_drop 26 = .ok (.getfield 54, 3) := by decide +kernel
theorem dX0_drop_29 : decode cX0_drop 29 = .ok (.ireturn, 1) := by decide +kernel
abbrev cX0_share : ByteArray := prog_1_method_17_code
def yX0_share : MethodName := ⟨RX0, "share", "()I"⟩
theorem dX0_share_0 : decode cX0_share 0 = .ok (.aload_n 0, 1) := by decide +kernel
theorem dX0_share_1 : decode cX0_share 1 = .ok (.invokevirtual 90, 3) := by decide +kernel
theorem dX0_share_4 : decode cX0_share 4 = .ok (.aload_n 0, 1) := by decide +kernel
theorem dX0_share_5 : decode cX0_share 5 = .ok (.iconst 0, 1) := by decide +kernel
theorem dX0_share_6 : decode cX0_share 6 = .ok (.invokevirtual 93, 3) := by decide +kernel
theorem dX0_share_9 : decode cX0_share 9 = .ok (.ireturn, 1) := by decide +kernel
abbrev cX0_prepare : ByteArray := prog_1_method_15_code
def yX0_prepare : MethodName := ⟨RX0, "prepare", "()V"⟩
theorem dX0_prepare_0 : decode cX0_prepare 0 = .ok (.aload_n 0, 1) := by decide +kernel
theorem dX0_prepare_1 : decode cX0_prepare 1 = .ok (.getfield 50, 3) := by decide +kernel
theorem dX0_prepare_4 : decode cX0_prepare 4 = .ok (.ifCond .eq 4, 3) := by decide +kernel
theorem dX0_prepare_7 : decode cX0_prepare 7 = .ok (.return_, 1) := by decide +kernel
theorem dX0_prepare_8 : decode cX0_prepare 8 = .ok (.aload_n 0, 1) := by decide +kernel
theorem dX0_prepare_9 : decode cX0_prepare 9 = .ok (.iconst 1, 1) := by decide +kernel
theorem dX0_prepare_10 : decode cX0_prepare 10 = .ok (.putfield 50, 3) := by decide +kernel
theorem dX0_prepare_13 : decode cX0_prepare 13 = .ok (.aload_n 0, 1) := by decide +kernel
theorem dX0_prepare_14 : decode cX0_prepare 14 = .ok (.invokevirtual 84, 3) := by decide +kernel
theorem dX0_prepare_17 : decode cX0_prepare 17 = .ok (.iconst 0, 1) := by decide +kernel
theorem dX0_prepare_18 : decode cX0_prepare 18 = .ok (.istore_n 1, 1) := by decide +kernel
theorem dX0_prepare_19 : decode cX0_prepare 19 = .ok (.iload_n 1, 1) := by decide +kernel
theorem dX0_prepare_20 : decode cX0_prepare 20 = .ok (.iconst 1, 1) := by decide +kernel
theorem dX0_prepare_21 : decode cX0_prepare 21 = .ok (.aload_n 0, 1) := by decide +kernel
theorem dX0_prepare_22 : decode cX0_prepare 22 = .ok (.getfield 54, 3) := by decide +kernel
theorem dX0_prepare_25 : decode cX0_prepare 25 = .ok (.ishl, 1) := by decide +kernel
theorem dX0_prepare_26 : decode cX0_prepare 26 = .ok (.if_icmp .ge 39, 3) := by decide +kernel
theorem dX0_prepare_29 : decode cX0_prepare 29 = .ok (.aload_n 0, 1) := by decide +kernel
theorem dX0_prepare_30 : decode cX0_prepare 30 = .ok (.iload_n 1, 1) := by decide +kernel
theorem dX0_prepare_31 : decode cX0_prepare 31 = .ok (.invokevirtual 87, 3) := by decide +kernel
theorem dX0_prepare_34 : decode cX0_prepare 34 = .ok (.istore_n 2, 1) := by decide +kernel
theorem dX0_prepare_35 : decode cX0_prepare 35 = .ok (.aload_n 0, 1) := by decide +kernel
theorem dX0_prepare_36 : decode cX0_prepare 36 = .ok (.getfield 44, 3) := by decide +kernel
theorem dX0_prepare_39 : decode cX0_prepare 39 = .ok (.iload_n 1, 1) := by decide +kernel
theorem dX0_prepare_40 : decode cX0_prepare 40 = .ok (.aload_n 0, 1) := by decide +kernel
theorem dX0_prepare_41 : decode cX0_prepare 41 = .ok (.getfield 40, 3) := by decide +kernel
theorem dX0_prepare_44 : decode cX0_prepare 44 = .ok (.iload_n 1, 1) := by decide +kernel
theorem dX0_prepare_45 : decode cX0_prepare 45 = .ok (.baload, 1) := by decide +kernel
theorem dX0_prepare_46 : decode cX0_prepare 46 = .ok (.ifCond .ne 7, 3) := by decide +kernel
theorem dX0_prepare_49 : decode cX0_prepare 49 = .ok (.iload_n 2, 1) := by decide +kernel
theorem dX0_prepare_50 : decode cX0_prepare 50 = .ok (.ifCond .eq 7, 3) := by decide +kernel
theorem dX0_prepare_53 : decode cX0_prepare 53 = .ok (.iconst 1, 1) := by decide +kernel
theorem dX0_prepare_54 : decode cX0_prepare 54 = .ok (.goto 4, 3) := by decide +kernel
theorem dX0_prepare_57 : decode cX0_prepare 57 = .ok (.iconst 0, 1) := by decide +kernel
theorem dX0_prepare_58 : decode cX0_prepare 58 = .ok (.bastore, 1) := by decide +kernel
theorem dX0_prepare_59 : decode cX0_prepare 59 = .ok (.iinc 1 1, 3) := by decide +kernel
theorem dX0_prepare_62 : decode cX0_prepare 62 = .ok (.goto (-43), 3) := by decide +kernel
theorem dX0_prepare_65 : decode cX0_prepare 65 = .ok (.return_, 1) := by decide +kernel
abbrev cX0_findMatches : ByteArray := prog_1_method_13_code
def yX0_findMatches : MethodName := ⟨RX0, "findMatches", "()V"⟩
theorem dX0_findMatches_0 : decode cX0_findMatches 0 = .ok (.iconst 0, 1) := by decide +kernel
theorem dX0_findMatches_1 : decode cX0_findMatches 1 = .ok (.istore_n 1, 1) := by decide +kernel
theorem dX0_findMatches_2 : decode cX0_findMatches 2 = .ok (.iload_n 1, 1) := by decide +kernel
theorem dX0_findMatches_3 : decode cX0_findMatches 3 = .ok (.sipush 512, 3) := by decide +kernel
theorem dX0_findMatches_6 : decode cX0_findMatches 6 = .ok (.if_icmp .ge 16, 3) := by decide +kernel
theorem dX0_findMatches_9 : decode cX0_findMatches 9 = .ok (.aload_n 0, 1) := by decide +kernel
theorem dX0_findMatches_10 : decode cX0_findMatches 10 = .ok (.getfield 40, 3) := by decide +kernel
theorem dX0_findMatches_13 : decode cX0_findMatches 13 = .ok (.iload_n 1, 1) := by decide +kernel
theorem dX0_findMatches_14 : decode cX0_findMatches 14 = .ok (.iconst 0, 1) := by decide +kernel
theorem dX0_findMatches_15 : decode cX0_findMatches 15 = .ok (.bastore, 1) := by decide +kernel
theorem dX0_findMatches_16 : decode cX0_findMatches 16 = .ok (.iinc 1 1, 3) := by decide +kernel
theorem dX0_findMatches_19 : decode cX0_findMatches 19 = .ok (.goto (-17), 3) := by decide +kernel
theorem dX0_findMatches_22 : decode cX0_findMatches 22 = .ok (.iconst 0, 1) := by decide +kernel
theorem dX0_findMatches_23 : decode cX0_findMatches 23 = .ok (.istore_n 1, 1) := by decide +kernel
theorem dX0_findMatches_24 : decode cX0_findMatches 24 = .ok (.iload_n 1, 1) := by decide +kernel
theorem dX0_findMatches_25 : decode cX0_findMatches 25 = .ok (.iconst 3, 1) := by decide +kernel
theorem dX0_findMatches_26 : decode cX0_findMatches 26 = .ok (.if_icmp .ge 16, 3) := by decide +kernel
theorem dX0_findMatches_29 : decode cX0_findMatches 29 = .ok (.aload_n 0, 1) := by decide +kernel
theorem dX0_findMatches_30 : decode cX0_findMatches 30 = .ok (.getfield 37, 3) := by decide +kernel
theorem dX0_findMatches_33 : decode cX0_findMatches 33 = .ok (.iload_n 1, 1) := by decide +kernel
theorem dX0_findMatches_34 : decode cX0_findMatches 34 = .ok (.iconst (-1), 1) := by decide +kernel
theorem dX0_findMatches_35 : decode cX0_findMatches 35 = .ok (.iastore, 1) := by decide +kernel
theorem dX0_findMatches_36 : decode cX0_findMatches 36 = .ok (.iinc 1 1, 3) := by decide +kernel
theorem dX0_findMatches_39 : decode cX0_findMatches 39 = .ok (.goto (-15), 3) := by decide +kernel
theorem dX0_findMatches_42 : decode cX0_findMatches 42 = .ok (.aload_n 0, 1) := by decide +kernel
theorem dX0_findMatches_43 : decode cX0_findMatches 43 = .ok (.getfield 65, 3) := by decide +kernel
theorem dX0_findMatches_46 : decode cX0_findMatches 46 = .ok (.ifCond .ne 11, 3) := by decide +kernel
theorem dX0_findMatches_49 : decode cX0_findMatches 49 = .ok (.aload_n 0, 1) := by decide +kernel
theorem dX0_findMatches_50 : decode cX0_findMatches 50 = .ok (.getfield 40, 3) := by decide +kernel
theorem dX0_findMatches_53 : decode cX0_findMatches 53 = .ok (.iconst 0, 1) := by decide +kernel
theorem dX0_findMatches_54 : decode cX0_findMatches 54 = .ok (.iconst 1, 1) := by decide +kernel
theorem dX0_findMatches_55 : decode cX0_findMatches 55 = .ok (.bastore, 1) := by decide +kernel
theorem dX0_findMatches_56 : decode cX0_findMatches 56 = .ok (.return_, 1) := by decide +kernel
theorem dX0_findMatches_57 : decode cX0_findMatches 57 = .ok (.iconst 0, 1) := by decide +kernel
theorem dX0_findMatches_58 : decode cX0_findMatches 58 = .ok (.istore_n 1, 1) := by decide +kernel
theorem dX0_findMatches_59 : decode cX0_findMatches 59 = .ok (.aload_n 0, 1) := by decide +kernel
theorem dX0_findMatches_60 : decode cX0_findMatches 60 = .ok (.getfield 31, 3) := by decide +kernel
theorem dX0_findMatches_63 : decode cX0_findMatches 63 = .ok (.iconst 0, 1) := by decide +kernel
theorem dX0_findMatches_64 : decode cX0_findMatches 64 = .ok (.iconst (-1), 1) := by decide +kernel
theorem dX0_findMatches_65 : decode cX0_findMatches 65 = .ok (.iastore, 1) := by decide +kernel
theorem dX0_findMatches_66 : decode cX0_findMatches 66 = .ok (.aload_n 0, 1) := by decide +kernel
theorem dX0_findMatches_67 : decode cX0_findMatches 67 = .ok (.getfield 34, 3) := by decide +kernel
theorem dX0_findMatches_70 : decode cX0_findMatches 70 = .ok (.iconst 0, 1) := by decide +kernel
theorem dX0_findMatches_71 : decode cX0_findMatches 71 = .ok (.iconst 0, 1) := by decide +kernel
theorem dX0_findMatches_72 : decode cX0_findMatches 72 = .ok (.iastore, 1) := by decide +kernel
theorem dX0_findMatches_73 : decode cX0_findMatches 73 = .ok (.iconst 0, 1) := by decide +kernel
theorem dX0_findMatches_74 : decode cX0_findMatches 74 = .ok (.istore_n 2, 1) := by decide +kernel
theorem dX0_findMatches_75 : decode cX0_findMatches 75 = .ok (.iload_n 2, 1) := by decide +kernel
theorem dX0_findMatches_76 : decode cX0_findMatches 76 = .ok (.ldc 76, 2) := by decide +kernel
theorem dX0_findMatches_78 : decode cX0_findMatches 78 = .ok (.if_icmp .ge 69, 3) := by decide +kernel
theorem dX0_findMatches_81 : decode cX0_findMatches 81 = .ok (.iload_n 1, 1) := by decide +kernel
theorem dX0_findMatches_82 : decode cX0_findMatches 82 = .ok (.ifCond .lt 65, 3) := by decide +kernel
theorem dX0_findMatches_85 : decode cX0_findMatches 85 = .ok (.aload_n 0, 1) := by decide +kernel
theorem dX0_findMatches_86 : decode cX0_findMatches 86 = .ok (.iload_n 1, 1) := by decide +kernel
theorem dX0_findMatches_87 : decode cX0_findMatches 87 = .ok (.invokevirtual 77, 3) := by decide +kernel
theorem dX0_findMatches_90 : decode cX0_findMatches 90 = .ok (.istore_n 3, 1) := by decide +kernel
theorem dX0_findMatches_91 : decode cX0_findMatches 91 = .ok (.iload_n 3, 1) := by decide +kernel
theorem dX0_findMatches_92 : decode cX0_findMatches 92 = .ok (.ifCond .ne 9, 3) := by decide +kernel
theorem dX0_findMatches_95 : decode cX0_findMatches 95 = .ok (.iinc 1 (-1), 3) := by decide +kernel
theorem dX0_findMatches_98 : decode cX0_findMatches 98 = .ok (.goto 43, 3) := by decide +kernel
theorem dX0_findMatches_101 : decode cX0_findMatches 101 = .ok (.iload_n 1, 1) := by decide +kernel
theorem dX0_findMatches_102 : decode cX0_findMatches 102 = .ok (.iconst 1, 1) := by decide +kernel
theorem dX0_findMatches_103 : decode cX0_findMatches 103 = .ok (.iadd, 1) := by decide +kernel
theorem dX0_findMatches_104 : decode cX0_findMatches 104 = .ok (.aload_n 0, 1) := by decide +kernel
theorem dX0_findMatches_105 : decode cX0_findMatches 105 = .ok (.getfield 65, 3) := by decide +kernel
theorem dX0_findMatches_108 : decode cX0_findMatches 108 = .ok (.if_icmp .ne 16, 3) := by decide +kernel
theorem dX0_findMatches_111 : decode cX0_findMatches 111 = .ok (.aload_n 0, 1) := by decide +kernel
theorem dX0_findMatches_112 : decode cX0_findMatches 112 = .ok (.getfield 40, 3) := by decide +kernel
theorem dX0_findMatches_115 : decode cX0_findMatches 115 = .ok (.aload_n 0, 1) := by decide +kernel
theorem dX0_findMatches_116 : decode cX0_findMatches 116 = .ok (.invokevirtual 80, 3) := by decide +kernel
theorem dX0_findMatches_119 : decode cX0_findMatches 119 = .ok (.iconst 1, 1) := by decide +kernel
theorem dX0_findMatches_120 : decode cX0_findMatches 120 = .ok (.bastore, 1) := by decide +kernel
theorem dX0_findMatches_121 : decode cX0_findMatches 121 = .ok (.goto 20, 3) := by decide +kernel
theorem dX0_findMatches_124 : decode cX0_findMatches 124 = .ok (.iinc 1 1, 3) := by decide +kernel
theorem dX0_findMatches_127 : decode cX0_findMatches 127 = .ok (.aload_n 0, 1) := by decide +kernel
theorem dX0_findMatches_128 : decode cX0_findMatches 128 = .ok (.getfield 31, 3) := by decide +kernel
theorem dX0_findMatches_131 : decode cX0_findMatches 131 = .ok (.iload_n 1, 1) := by decide +kernel
theorem dX0_findMatches_132 : decode cX0_findMatches 132 = .ok (.iconst (-1), 1) := by decide +kernel
theorem dX0_findMatches_133 : decode cX0_findMatches 133 = .ok (.iastore, 1) := by decide +kernel
theorem dX0_findMatches_134 : decode cX0_findMatches 134 = .ok (.aload_n 0, 1) := by decide +kernel
theorem dX0_findMatches_135 : decode cX0_findMatches 135 = .ok (.getfield 34, 3) := by decide +kernel
theorem dX0_findMatches_138 : decode cX0_findMatches 138 = .ok (.iload_n 1, 1) := by decide +kernel
theorem dX0_findMatches_139 : decode cX0_findMatches 139 = .ok (.iconst 0, 1) := by decide +kernel
theorem dX0_findMatches_140 : decode cX0_findMatches 140 = .ok (.iastore, 1) := by decide +kernel
theorem dX0_findMatches_141 : decode cX0_findMatches 141 = .ok (.iinc 2 1, 3) := by decide +kernel
theorem dX0_findMatches_144 : decode cX0_findMatches 144 = .ok (.goto (-69), 3) := by decide +kernel
theorem dX0_findMatches_147 : decode cX0_findMatches 147 = .ok (.return_, 1) := by decide +kernel
end
section
set_option maxRecDepth 100000
abbrev cX0_advance : ByteArray := prog_1_method_11_code
def yX0_advance : MethodName := ⟨RX0, "advance", "(I)Z"⟩
theorem dX0_advance_0 : decode cX0_advance 0 = .ok (.aload_n 0, 1) := by decide +kernel
theorem dX0_advance_1 : decode cX0_advance 1 = .ok (.iload_n 1, 1) := by decide +kernel
theorem dX0_advance_2 : decode cX0_advance 2 = .ok (.invokevirtual 68, 3) := by decide +kernel
theorem dX0_advance_5 : decode cX0_advance 5 = .ok (.aload_n 0, 1) := by decide +kernel
theorem dX0_advance_6 : decode cX0_advance 6 = .ok (.getfield 31, 3) := by decide +kernel
theorem dX0_advance_9 : decode cX0_advance 9 = .ok (.iload_n 1, 1) := by decide +kernel
theorem dX0_advance_10 : decode cX0_advance 10 = .ok (.iaload, 1) := by decide +kernel
theorem dX0_advance_11 : decode cX0_advance 11 = .ok (.iconst 1, 1) := by decide +kernel
theorem dX0_advance_12 : decode cX0_advance 12 = .ok (.iadd, 1) := by decide +kernel
theorem dX0_advance_13 : decode cX0_advance 13 = .ok (.istore_n 2, 1) := by decide +kernel
theorem dX0_advance_14 : decode cX0_advance 14 = .ok (.iload_n 2, 1) := by decide +kernel
theorem dX0_advance_15 : decode cX0_advance 15 = .ok (.aload_n 0, 1) := by decide +kernel
theorem dX0_advance_16 : decode cX0_advance 16 = .ok (.getfield 54, 3) := by decide +kernel
theorem dX0_advance_19 : decode cX0_advance 19 = .ok (.if_icmp .ge 82, 3) := by decide +kernel
theorem dX0_advance_22 : decode cX0_advance 22 = .ok (.aload_n 0, 1) := by decide +kernel
theorem dX0_advance_23 : decode cX0_advance 23 = .ok (.getfield 31, 3) := by decide +kernel
theorem dX0_advance_26 : decode cX0_advance 26 = .ok (.iload_n 1, 1) := by decide +kernel
theorem dX0_advance_27 : decode cX0_advance 27 = .ok (.iload_n 2, 1) := by decide +kernel
theorem dX0_advance_28 : decode cX0_advance 28 = .ok (.iastore, 1) := by decide +kernel
theorem dX0_advance_29 : decode cX0_advance 29 = .ok (.aload_n 0, 1) := by decide +kernel
theorem dX0_advance_30 : decode cX0_advance 30 = .ok (.getfield 16, 3) := by decide +kernel
theorem dX0_advance_33 : decode cX0_advance 33 = .ok (.iload_n 2, 1) := by decide +kernel
theorem dX0_advance_34 : decode cX0_advance 34 = .ok (.iaload, 1) := by decide +kernel
theorem dX0_advance_35 : decode cX0_advance 35 = .ok (.aload_n 0, 1) := by decide +kernel
theorem dX0_advance_36 : decode cX0_advance 36 = .ok (.getfield 22, 3) := by decide +kernel
theorem dX0_advance_39 : decode cX0_advance 39 = .ok (.iload_n 1, 1) := by decide +kernel
theorem dX0_advance_40 : decode cX0_advance 40 = .ok (.iaload, 1) := by decide +kernel
theorem dX0_advance_41 : decode cX0_advance 41 = .ok (.if_icmp .ne 54, 3) := by decide +kernel
theorem dX0_advance_44 : decode cX0_advance 44 = .ok (.aload_n 0, 1) := by decide +kernel
theorem dX0_advance_45 : decode cX0_advance 45 = .ok (.iload_n 1, 1) := by decide +kernel
theorem dX0_advance_46 : decode cX0_advance 46 = .ok (.aload_n 0, 1) := by decide +kernel
theorem dX0_advance_47 : decode cX0_advance 47 = .ok (.getfield 25, 3) := by decide +kernel
theorem dX0_advance_50 : decode cX0_advance 50 = .ok (.iload_n 1, 1) := by decide +kernel
theorem dX0_advance_51 : decode cX0_advance 51 = .ok (.iaload, 1) := by decide +kernel
theorem dX0_advance_52 : decode cX0_advance 52 = .ok (.aload_n 0, 1) := by decide +kernel
theorem dX0_advance_53 : decode cX0_advance 53 = .ok (.getfield 7, 3) := by decide +kernel
theorem dX0_advance_56 : decode cX0_advance 56 = .ok (.iload_n 2, 1) := by decide +kernel
theorem dX0_advance_57 : decode cX0_advance 57 = .ok (.iaload, 1) := by decide +kernel
theorem dX0_advance_58 : decode cX0_advance 58 = .ok (.invokevirtual 72, 3) := by decide +kernel
theorem dX0_advance_61 : decode cX0_advance 61 = .ok (.istore_n 3, 1) := by decide +kernel
theorem dX0_advance_62 : decode cX0_advance 62 = .ok (.iload_n 3, 1) := by decide +kernel
theorem dX0_advance_63 : decode cX0_advance 63 = .ok (.ifCond .eq 21, 3) := by decide +kernel
theorem dX0_advance_66 : decode cX0_advance 66 = .ok (.aload_n 0, 1) := by decide +kernel
theorem dX0_advance_67 : decode cX0_advance 67 = .ok (.iload_n 1, 1) := by decide +kernel
theorem dX0_advance_68 : decode cX0_advance 68 = .ok (.aload_n 0, 1) := by decide +kernel
theorem dX0_advance_69 : decode cX0_advance 69 = .ok (.getfield 28, 3) := by decide +kernel
theorem dX0_advance_72 : decode cX0_advance 72 = .ok (.iload_n 1, 1) := by decide +kernel
theorem dX0_advance_73 : decode cX0_advance 73 = .ok (.iaload, 1) := by decide +kernel
theorem dX0_advance_74 : decode cX0_advance 74 = .ok (.aload_n 0, 1) := by decide +kernel
theorem dX0_advance_75 : decode cX0_advance 75 = .ok (.getfield 13, 3) := by decide +kernel
theorem dX0_advance_78 : decode cX0_advance 78 = .ok (.iload_n 2, 1) := by decide +kernel
theorem dX0_advance_79 : decode cX0_advance 79 = .ok (.iaload, 1) := by decide +kernel
theorem dX0_advance_80 : decode cX0_advance 80 = .ok (.invokevirtual 72, 3) := by decide +kernel
theorem dX0_advance_83 : decode cX0_advance 83 = .ok (.istore_n 3, 1) := by decide +kernel
theorem dX0_advance_84 : decode cX0_advance 84 = .ok (.iload_n 3, 1) := by decide +kernel
theorem dX0_advance_85 : decode cX0_advance 85 = .ok (.ifCond .eq 5, 3) := by decide +kernel
theorem dX0_advance_88 : decode cX0_advance 88 = .ok (.iconst 1, 1) := by decide +kernel
theorem dX0_advance_89 : decode cX0_advance 89 = .ok (.ireturn, 1) := by decide +kernel
theorem dX0_advance_90 : decode cX0_advance 90 = .ok (.aload_n 0, 1) := by decide +kernel
theorem dX0_advance_91 : decode cX0_advance 91 = .ok (.iload_n 1, 1) := by decide +kernel
theorem dX0_advance_92 : decode cX0_advance 92 = .ok (.invokevirtual 68, 3) := by decide +kernel
theorem dX0_advance_95 : decode cX0_advance 95 = .ok (.iinc 2 1, 3) := by decide +kernel
theorem dX0_advance_98 : decode cX0_advance 98 = .ok (.goto (-84), 3) := by decide +kernel
theorem dX0_advance_101 : decode cX0_advance 101 = .ok (.iconst 0, 1) := by decide +kernel
theorem dX0_advance_102 : decode cX0_advance 102 = .ok (.ireturn, 1) := by decide +kernel
abbrev cX0_release : ByteArray := prog_1_method_10_code
def yX0_release : MethodName := ⟨RX0, "release", "(I)V"⟩
theorem dX0_release_0 : decode cX0_release 0 = .ok (.iconst 0, 1) := by decide +kernel
theorem dX0_release_1 : decode cX0_release 1 = .ok (.istore_n 2, 1) := by decide +kernel
theorem dX0_release_2 : decode cX0_release 2 = .ok (.iload_n 2, 1) := by decide +kernel
theorem dX0_release_3 : decode cX0_release 3 = .ok (.iconst 3, 1) := by decide +kernel
theorem dX0_release_4 : decode cX0_release 4 = .ok (.if_icmp .ge 30, 3) := by decide +kernel
theorem dX0_release_7 : decode cX0_release 7 = .ok (.aload_n 0, 1) := by decide +kernel
theorem dX0_release_8 : decode cX0_release 8 = .ok (.getfield 34, 3) := by decide +kernel
theorem dX0_release_11 : decode cX0_release 11 = .ok (.iload_n 1, 1) := by decide +kernel
theorem dX0_release_12 : decode cX0_release 12 = .ok (.iaload, 1) := by decide +kernel
theorem dX0_release_13 : decode cX0_release 13 = .ok (.iload_n 2, 1) := by decide +kernel
theorem dX0_release_14 : decode cX0_release 14 = .ok (.ishr, 1) := by decide +kernel
theorem dX0_release_15 : decode cX0_release 15 = .ok (.iconst 1, 1) := by decide +kernel
theorem dX0_release_16 : decode cX0_release 16 = .ok (.iand, 1) := by decide +kernel
theorem dX0_release_17 : decode cX0_release 17 = .ok (.iconst 1, 1) := by decide +kernel
theorem dX0_release_18 : decode cX0_release 18 = .ok (.if_icmp .ne 10, 3) := by decide +kernel
theorem dX0_release_21 : decode cX0_release 21 = .ok (.aload_n 0, 1) := by decide +kernel
theorem dX0_release_22 : decode cX0_release 22 = .ok (.getfield 37, 3) := by decide +kernel
theorem dX0_release_25 : decode cX0_release 25 = .ok (.iload_n 2, 1) := by decide +kernel
theorem dX0_release_26 : decode cX0_release 26 = .ok (.iconst (-1), 1) := by decide +kernel
theorem dX0_release_27 : decode cX0_release 27 = .ok (.iastore, 1) := by decide +kernel
theorem dX0_release_28 : decode cX0_release 28 = .ok (.iinc 2 1, 3) := by decide +kernel
theorem dX0_release_31 : decode cX0_release 31 = .ok (.goto (-29), 3) := by decide +kernel
theorem dX0_release_34 : decode cX0_release 34 = .ok (.aload_n 0, 1) := by decide +kernel
theorem dX0_release_35 : decode cX0_release 35 = .ok (.getfield 34, 3) := by decide +kernel
theorem dX0_release_38 : decode cX0_release 38 = .ok (.iload_n 1, 1) := by decide +kernel
theorem dX0_release_39 : decode cX0_release 39 = .ok (.iconst 0, 1) := by decide +kernel
theorem dX0_release_40 : decode cX0_release 40 = .ok (.iastore, 1) := by decide +kernel
theorem dX0_release_41 : decode cX0_release 41 = .ok (.return_, 1) := by decide +kernel
abbrev cX0_fits : ByteArray := prog_1_method_9_code
def yX0_fits : MethodName := ⟨RX0, "fits", "(III)Z"⟩
theorem dX0_fits_0 : decode cX0_fits 0 = .ok (.iload_n 2, 1) := by decide +kernel
theorem dX0_fits_1 : decode cX0_fits 1 = .ok (.bipush 8, 2) := by decide +kernel
theorem dX0_fits_3 : decode cX0_fits 3 = .ok (.if_icmp .lt 17, 3) := by decide +kernel
theorem dX0_fits_6 : decode cX0_fits 6 = .ok (.iload_n 2, 1) := by decide +kernel
theorem dX0_fits_7 : decode cX0_fits 7 = .ok (.bipush 8, 2) := by decide +kernel
theorem dX0_fits_9 : decode cX0_fits 9 = .ok (.isub, 1) := by decide +kernel
theorem dX0_fits_10 : decode cX0_fits 10 = .ok (.iload_n 3, 1) := by decide +kernel
theorem dX0_fits_11 : decode cX0_fits 11 = .ok (.if_icmp .ne 7, 3) := by decide +kernel
theorem dX0_fits_14 : decode cX0_fits 14 = .ok (.iconst 1, 1) := by decide +kernel
theorem dX0_fits_15 : decode cX0_fits 15 = .ok (.goto 4, 3) := by decide +kernel
theorem dX0_fits_18 : decode cX0_fits 18 = .ok (.iconst 0, 1) := by decide +kernel
theorem dX0_fits_19 : decode cX0_fits 19 = .ok (.ireturn, 1) := by decide +kernel
theorem dX0_fits_20 : decode cX0_fits 20 = .ok (.aload_n 0, 1) := by decide +kernel
theorem dX0_fits_21 : decode cX0_fits 21 = .ok (.getfield 37, 3) := by decide +kernel
theorem dX0_fits_24 : decode cX0_fits 24 = .ok (.iload_n 2, 1) := by decide +kernel
theorem dX0_fits_25 : decode cX0_fits 25 = .ok (.iaload, 1) := by decide +kernel
theorem dX0_fits_26 : decode cX0_fits 26 = .ok (.iconst (-1), 1) := by decide +kernel
theorem dX0_fits_27 : decode cX0_fits 27 = .ok (.if_icmp .eq 19, 3) := by decide +kernel
theorem dX0_fits_30 : decode cX0_fits 30 = .ok (.aload_n 0, 1) := by decide +kernel
theorem dX0_fits_31 : decode cX0_fits 31 = .ok (.getfield 37, 3) := by decide +kernel
theorem dX0_fits_34 : decode cX0_fits 34 = .ok (.iload_n 2, 1) := by decide +kernel
theorem dX0_fits_35 : decode cX0_fits 35 = .ok (.iaload, 1) := by decide +kernel
theorem dX0_fits_36 : decode cX0_fits 36 = .ok (.iload_n 3, 1) := by decide +kernel
theorem dX0_fits_37 : decode cX0_fits 37 = .ok (.if_icmp .ne 7, 3) := by decide +kernel
theorem dX0_fits_40 : decode cX0_fits 40 = .ok (.iconst 1, 1) := by decide +kernel
theorem dX0_fits_41 : decode cX0_fits 41 = .ok (.goto 4, 3) := by decide +kernel
theorem dX0_fits_44 : decode cX0_fits 44 = .ok (.iconst 0, 1) := by decide +kernel
theorem dX0_fits_45 : decode cX0_fits 45 = .ok (.ireturn, 1) := by decide +kernel
theorem dX0_fits_46 : decode cX0_fits 46 = .ok (.aload_n 0, 1) := by decide +kernel
theorem dX0_fits_47 : decode cX0_fits 47 = .ok (.getfield 37, 3) := by decide +kernel
theorem dX0_fits_50 : decode cX0_fits 50 = .ok (.iload_n 2, 1) := by decide +kernel
theorem dX0_fits_51 : decode cX0_fits 51 = .ok (.iload_n 3, 1) := by decide +kernel
theorem dX0_fits_52 : decode cX0_fits 52 = .ok (.iastore, 1) := by decide +kernel
theorem dX0_fits_53 : decode cX0_fits 53 = .ok (.aload_n 0, 1) := by decide +kernel
theorem dX0_fits_54 : decode cX0_fits 54 = .ok (.getfield 34, 3) := by decide +kernel
theorem dX0_fits_57 : decode cX0_fits 57 = .ok (.iload_n 1, 1) := by decide +kernel
theorem dX0_fits_58 : decode cX0_fits 58 = .ok (.dup2, 1) := by decide +kernel
theorem dX0_fits_59 : decode cX0_fits 59 = .ok (.iaload, 1) := by decide +kernel
theorem dX0_fits_60 : decode cX0_fits 60 = .ok (.iconst 1, 1) := by decide +kernel
theorem dX0_fits_61 : decode cX0_fits 61 = .ok (.iload_n 2, 1) := by decide +kernel
theorem dX0_fits_62 : decode cX0_fits 62 = .ok (.ishl, 1) := by decide +kernel
theorem dX0_fits_63 : decode cX0_fits 63 = .ok (.ior, 1) := by decide +kernel
theorem dX0_fits_64 : decode cX0_fits 64 = .ok (.iastore, 1) := by decide +kernel
theorem dX0_fits_65 : decode cX0_fits 65 = .ok (.iconst 1, 1) := by decide +kernel
theorem dX0_fits_66 : decode cX0_fits 66 = .ok (.ireturn, 1) := by decide +kernel
abbrev cX0_factsOfMatch : ByteArray := prog_1_method_12_code
def yX0_factsOfMatch : MethodName := ⟨RX0, "factsOfMatch", "()I"⟩
theorem dX0_factsOfMatch_0 : decode cX0_factsOfMatch 0 = .ok (.iconst 0, 1) := by decide +kernel
theorem dX0_factsOfMatch_1 : decode cX0_factsOfMatch 1 = .ok (.istore_n 1, 1) := by decide +kernel
theorem dX0_factsOfMatch_2 : decode cX0_factsOfMatch 2 = .ok (.iconst 0, 1) := by decide +kernel
theorem dX0_factsOfMatch_3 : decode cX0_factsOfMatch 3 = .ok (.istore_n 2, 1) := by decide +kernel
theorem dX0_factsOfMatch_4 : decode cX0_factsOfMatch 4 = .ok (.iload_n 2, 1) := by decide +kernel
theorem dX0_factsOfMatch_5 : decode cX0_factsOfMatch 5 = .ok (.aload_n 0, 1) := by decide +kernel
theorem dX0_factsOfMatch_6 : decode cX0_factsOfMatch 6 = .ok (.getfield 65, 3) := by decide +kernel
theorem dX0_factsOfMatch_9 : decode cX0_factsOfMatch 9 = .ok (.if_icmp .ge 20, 3) := by decide +kernel
theorem dX0_factsOfMatch_12 : decode cX0_factsOfMatch 12 = .ok (.iload_n 1, 1) := by decide +kernel
theorem dX0_factsOfMatch_13 : decode cX0_factsOfMatch 13 = .ok (.iconst 1, 1) := by decide +kernel
theorem dX0_factsOfMatch_14 : decode cX0_factsOfMatch 14 = .ok (.aload_n 0, 1) := by decide +kernel
theorem dX0_factsOfMatch_15 : decode cX0_factsOfMatch 15 = .ok (.getfield 31, 3) := by decide +kernel
theorem dX0_factsOfMatch_18 : decode cX0_factsOfMatch 18 = .ok (.iload_n 2, 1) := by decide +kernel
theorem dX0_factsOfMatch_19 : decode cX0_factsOfMatch 19 = .ok (.iaload, 1) := by decide +kernel
theorem dX0_factsOfMatch_20 : decode cX0_factsOfMatch 20 = .ok (.ishl, 1) := by decide +kernel
theorem dX0_factsOfMatch_21 : decode cX0_factsOfMatch 21 = .ok (.ior, 1) := by decide +kernel
theorem dX0_factsOfMatch_22 : decode cX0_factsOfMatch 22 = .ok (.istore_n 1, 1) := by decide +kernel
theorem dX0_factsOfMatch_23 : decode cX0_factsOfMatch 23 = .ok (.iinc 2 1, 3) := by decide +kernel
theorem dX0_factsOfMatch_26 : decode cX0_factsOfMatch 26 = .ok (.goto (-22), 3) := by decide +kernel
theorem dX0_factsOfMatch_29 : decode cX0_factsOfMatch 29 = .ok (.iload_n 1, 1) := by decide +kernel
theorem dX0_factsOfMatch_30 : decode cX0_factsOfMatch 30 = .ok (.ireturn, 1) := by decide +kernel
abbrev cX0_yesBelow : ByteArray := prog_1_method_14_code
def yX0_yesBelow : MethodName := ⟨RX0, "yesBelow", "(I)Z"⟩
theorem dX0_yesBelow_0 : decode cX0_yesBelow 0 = .ok (.iconst 0, 1) := by decide +kernel
theorem dX0_yesBelow_1 : decode cX0_yesBelow 1 = .ok (.istore_n 2, 1) := by decide +kernel
theorem dX0_yesBelow_2 : decode cX0_yesBelow 2 = .ok (.iload_n 2, 1) := by decide +kernel
theorem dX0_yesBelow_3 : decode cX0_yesBelow 3 = .ok (.aload_n 0, 1) := by decide +kernel
theorem dX0_yesBelow_4 : decode cX0_yesBelow 4 = .ok (.getfield 54, 3) := by decide +kernel
theorem dX0_yesBelow_7 : decode cX0_yesBelow 7 = .ok (.if_icmp .ge 35, 3) := by decide +kernel
theorem dX0_yesBelow_10 : decode cX0_yesBelow 10 = .ok (.iload_n 1, 1) := by decide +kernel
theorem dX0_yesBelow_11 : decode cX0_yesBelow 11 = .ok (.iload_n 2, 1) := by decide +kernel
theorem dX0_yesBelow_12 : decode cX0_yesBelow 12 = .ok (.ishr, 1) := by decide +kernel
theorem dX0_yesBelow_13 : decode cX0_yesBelow 13 = .ok (.iconst 1, 1) := by decide +kernel
theorem dX0_yesBelow_14 : decode cX0_yesBelow 14 = .ok (.iand, 1) := by decide +kernel
theorem dX0_yesBelow_15 : decode cX0_yesBelow 15 = .ok (.iconst 1, 1) := by decide +kernel
theorem dX0_yesBelow_16 : decode cX0_yesBelow 16 = .ok (.if_icmp .ne 20, 3) := by decide +kernel
theorem dX0_yesBelow_19 : decode cX0_yesBelow 19 = .ok (.aload_n 0, 1) := by decide +kernel
theorem dX0_yesBelow_20 : decode cX0_yesBelow 20 = .ok (.getfield 44, 3) := by decide +kernel
theorem dX0_yesBelow_23 : decode cX0_yesBelow 23 = .ok (.iload_n 1, 1) := by decide +kernel
theorem dX0_yesBelow_24 : decode cX0_yesBelow 24 = .ok (.iconst 1, 1) := by decide +kernel
theorem dX0_yesBelow_25 : decode cX0_yesBelow 25 = .ok (.iload_n 2, 1) := by decide +kernel
theorem dX0_yesBelow_26 : decode cX0_yesBelow 26 = .ok (.ishl, 1) := by decide +kernel
theorem dX0_yesBelow_27 : decode cX0_yesBelow 27 = .ok (.iconst (-1), 1) := by decide +kernel
theorem dX0_yesBelow_28 : decode cX0_yesBelow 28 = .ok (.ixor, 1) := by decide +kernel
theorem dX0_yesBelow_29 : decode cX0_yesBelow 29 = .ok (.iand, 1) := by decide +kernel
theorem dX0_yesBelow_30 : decode cX0_yesBelow 30 = .ok (.baload, 1) := by decide +kernel
theorem dX0_yesBelow_31 : decode cX0_yesBelow 31 = .ok (.ifCond .eq 5, 3) := by decide +kernel
theorem dX0_yesBelow_34 : decode cX0_yesBelow 34 = .ok (.iconst 1, 1) := by decide +kernel
theorem dX0_yesBelow_35 : decode cX0_yesBelow 35 = .ok (.ireturn, 1) := by decide +kernel
theorem dX0_yesBelow_36 : decode cX0_yesBelow 36 = .ok (.iinc 2 1, 3) := by decide +kernel
theorem dX0_yesBelow_39 : decode cX0_yesBelow 39 = .ok (.goto (-37), 3) := by decide +kernel
theorem dX0_yesBelow_42 : decode cX0_yesBelow 42 = .ok (.iconst 0, 1) := by decide +kernel
theorem dX0_yesBelow_43 : decode cX0_yesBelow 43 = .ok (.ireturn, 1) := by decide +kernel
abbrev cX0_fold : ByteArray := prog_1_method_16_code
def yX0_fold : MethodName := ⟨RX0, "fold", "(I)I"⟩
theorem dX0_fold_0 : decode cX0_fold 0 = .ok (.iconst 0, 1) := by decide +kernel
theorem dX0_fold_1 : decode cX0_fold 1 = .ok (.istore_n 2, 1) := by decide +kernel
theorem dX0_fold_2 : decode cX0_fold 2 = .ok (.iload_n 2, 1) := by decide +kernel
theorem dX0_fold_3 : decode cX0_fold 3 = .ok (.iconst 1, 1) := by decide +kernel
theorem dX0_fold_4 : decode cX0_fold 4 = .ok (.aload_n 0, 1) := by decide +kernel
theorem dX0_fold_5 : decode cX0_fold 5 = .ok (.getfield 54, 3) := by decide +kernel
theorem dX0_fold_8 : decode cX0_fold 8 = .ok (.ishl, 1) := by decide +kernel
theorem dX0_fold_9 : decode cX0_fold 9 = .ok (.if_icmp .ge 36, 3) := by decide +kernel
theorem dX0_fold_12 : decode cX0_fold 12 = .ok (.aload_n 0, 1) := by decide +kernel
theorem dX0_fold_13 : decode cX0_fold 13 = .ok (.getfield 47, 3) := by decide +kernel
theorem dX0_fold_16 : decode cX0_fold 16 = .ok (.iload_n 2, 1) := by decide +kernel
theorem dX0_fold_17 : decode cX0_fold 17 = .ok (.aload_n 0, 1) := by decide +kernel
theorem dX0_fold_18 : decode cX0_fold 18 = .ok (.getfield 44, 3) := by decide +kernel
theorem dX0_fold_21 : decode cX0_fold 21 = .ok (.iload_n 2, 1) := by decide +kernel
theorem dX0_fold_22 : decode cX0_fold 22 = .ok (.baload, 1) := by decide +kernel
theorem dX0_fold_23 : decode cX0_fold 23 = .ok (.ifCond .eq 14, 3) := by decide +kernel
theorem dX0_fold_26 : decode cX0_fold 26 = .ok (.iload_n 2, 1) := by decide +kernel
theorem dX0_fold_27 : decode cX0_fold 27 = .ok (.iload_n 1, 1) := by decide +kernel
theorem dX0_fold_28 : decode cX0_fold 28 = .ok (.iand, 1) := by decide +kernel
theorem dX0_fold_29 : decode cX0_fold 29 = .ok (.iload_n 1, 1) := by decide +kernel
theorem dX0_fold_30 : decode cX0_fold 30 = .ok (.if_icmp .ne 7, 3) := by decide +kernel
theorem dX0_fold_33 : decode cX0_fold 33 = .ok (.iconst 1, 1) := by decide +kernel
theorem dX0_fold_34 : decode cX0_fold 34 = .ok (.goto 4, 3) := by decide +kernel
theorem dX0_fold_37 : decode cX0_fold 37 = .ok (.iconst 0, 1) := by decide +kernel
theorem dX0_fold_38 : decode cX0_fold 38 = .ok (.iastore, 1) := by decide +kernel
theorem dX0_fold_39 : decode cX0_fold 39 = .ok (.iinc 2 1, 3) := by decide +kernel
theorem dX0_fold_42 : decode cX0_fold 42 = .ok (.goto (-40), 3) := by decide +kernel
theorem dX0_fold_45 : decode cX0_fold 45 = .ok (.aload_n 0, 1) := by decide +kernel
theorem dX0_fold_46 : decode cX0_fold 46 = .ok (.getfield 54, 3) := by decide +kernel
theorem dX0_fold_49 : decode cX0_fold 49 = .ok (.iconst 1, 1) := by decide +kernel
theorem dX0_fold_50 : decode cX0_fold 50 = .ok (.isub, 1) := by decide +kernel
theorem dX0_fold_51 : decode cX0_fold 51 = .ok (.istore_n 2, 1) := by decide +kernel
theorem dX0_fold_52 : decode cX0_fold 52 = .ok (.iload_n 2, 1) := by decide +kernel
theorem dX0_fold_53 : decode cX0_fold 53 = .ok (.ifCond .lt 68, 3) := by decide +kernel
theorem dX0_fold_56 : decode cX0_fold 56 = .ok (.iconst 1, 1) := by decide +kernel
theorem dX0_fold_57 : decode cX0_fold 57 = .ok (.iload_n 2, 1) := by decide +kernel
theorem dX0_fold_58 : decode cX0_fold 58 = .ok (.ishl, 1) := by decide +kernel
theorem dX0_fold_59 : decode cX0_fold 59 = .ok (.istore_n 3, 1) := by decide +kernel
theorem dX0_fold_60 : decode cX0_fold 60 = .ok (.iconst 0, 1) := by decide +kernel
theorem dX0_fold_61 : decode cX0_fold 61 = .ok (.istore 4, 2) := by decide +kernel
theorem dX0_fold_63 : decode cX0_fold 63 = .ok (.iload 4, 2) := by decide +kernel
theorem dX0_fold_65 : decode cX0_fold 65 = .ok (.iload_n 3, 1) := by decide +kernel
theorem dX0_fold_66 : decode cX0_fold 66 = .ok (.if_icmp .ge 49, 3) := by decide +kernel
theorem dX0_fold_69 : decode cX0_fold 69 = .ok (.aload_n 0, 1) := by decide +kernel
theorem dX0_fold_70 : decode cX0_fold 70 = .ok (.getfield 47, 3) := by decide +kernel
theorem dX0_fold_73 : decode cX0_fold 73 = .ok (.iload 4, 2) := by decide +kernel
theorem dX0_fold_75 : decode cX0_fold 75 = .ok (.aload_n 0, 1) := by decide +kernel
theorem dX0_fold_76 : decode cX0_fold 76 = .ok (.getfield 47, 3) := by decide +kernel
theorem dX0_fold_79 : decode cX0_fold 79 = .ok (.iload 4, 2) := by decide +kernel
theorem dX0_fold_81 : decode cX0_fold 81 = .ok (.iaload, 1) := by decide +kernel
theorem dX0_fold_82 : decode cX0_fold 82 = .ok (.iconst 4, 1) := by decide +kernel
theorem dX0_fold_83 : decode cX0_fold 83 = .ok (.aload_n 0, 1) := by decide +kernel
theorem dX0_fold_84 : decode cX0_fold 84 = .ok (.getfield 19, 3) := by decide +kernel
theorem dX0_fold_87 : decode cX0_fold 87 = .ok (.iload_n 2, 1) := by decide +kernel
theorem dX0_fold_88 : decode cX0_fold 88 = .ok (.iaload, 1) := by decide +kernel
theorem dX0_fold_89 : decode cX0_fold 89 = .ok (.isub, 1) := by decide +kernel
theorem dX0_fold_90 : decode cX0_fold 90 = .ok (.imul, 1) := by decide +kernel
theorem dX0_fold_91 : decode cX0_fold 91 = .ok (.aload_n 0, 1) := by decide +kernel
theorem dX0_fold_92 : decode cX0_fold 92 = .ok (.getfield 47, 3) := by decide +kernel
theorem dX0_fold_95 : decode cX0_fold 95 = .ok (.iload 4, 2) := by decide +kernel
theorem dX0_fold_97 : decode cX0_fold 97 = .ok (.iload_n 3, 1) := by decide +kernel
theorem dX0_fold_98 : decode cX0_fold 98 = .ok (.iadd, 1) := by decide +kernel
theorem dX0_fold_99 : decode cX0_fold 99 = .ok (.iaload, 1) := by decide +kernel
theorem dX0_fold_100 : decode cX0_fold 100 = .ok (.aload_n 0, 1) := by decide +kernel
theorem dX0_fold_101 : decode cX0_fold 101 = .ok (.getfield 19, 3) := by decide +kernel
theorem dX0_fold_104 : decode cX0_fold 104 = .ok (.iload_n 2, 1) := by decide +kernel
theorem dX0_fold_105 : decode cX0_fold 105 = .ok (.iaload, 1) := by decide +kernel
theorem dX0_fold_106 : decode cX0_fold 106 = .ok (.imul, 1) := by decide +kernel
theorem dX0_fold_107 : decode cX0_fold 107 = .ok (.iadd, 1) := by decide +kernel
theorem dX0_fold_108 : decode cX0_fold 108 = .ok (.iastore, 1) := by decide +kernel
theorem dX0_fold_109 : decode cX0_fold 109 = .ok (.iinc 4 1, 3) := by decide +kernel
theorem dX0_fold_112 : decode cX0_fold 112 = .ok (.goto (-49), 3) := by decide +kernel
theorem dX0_fold_115 : decode cX0_fold 115 = .ok (.iinc 2 (-1), 3) := by decide +kernel
theorem dX0_fold_118 : decode cX0_fold 118 = .ok (.goto (-66), 3) := by decide +kernel
theorem dX0_fold_121 : decode cX0_fold 121 = .ok (.aload_n 0, 1) := by decide +kernel
theorem dX0_fold_122 : decode cX0_fold 122 = .ok (.getfield 47, 3) := by decide +kernel
theorem dX0_fold_125 : decode cX0_fold 125 = .ok (.iconst 0, 1) := by decide +kernel
theorem dX0_fold_126 : decode cX0_fold 126 = .ok (.iaload, 1) := by decide +kernel
theorem dX0_fold_127 : decode cX0_fold 127 = .ok (.ireturn, 1) := by decide +kernel
abbrev cX0_all : ByteArray := prog_1_method_18_code
def yX0_all : MethodName := ⟨RX0, "all", "()I"⟩
theorem dX0_all_0 : decode cX0_all 0 = .ok (.iconst 1, 1) := by decide +kernel
theorem dX0_all_1 : decode cX0_all 1 = .ok (.iconst 2, 1) := by decide +kernel
theorem dX0_all_2 : decode cX0_all 2 = .ok (.aload_n 0, 1) := by decide +kernel
theorem dX0_all_3 : decode cX0_all 3 = .ok (.getfield 54, 3) := by decide +kernel
theorem dX0_all_6 : decode cX0_all 6 = .ok (.imul, 1) := by decide +kernel
theorem dX0_all_7 : decode cX0_all 7 = .ok (.ishl, 1) := by decide +kernel
theorem dX0_all_8 : decode cX0_all 8 = .ok (.ireturn, 1) := by decide +kernel
abbrev cX0_shareWith : ByteArray := prog_1_method_19_code
def yX0_shareWith : MethodName := ⟨RX0, "shareWith", "(I)I"⟩
theorem dX0_shareWith_0 : decode cX0_shareWith 0 = .ok (.aload_n 0, 1) := by decide +kernel
theorem dX0_shareWith_1 : decode cX0_shareWith 1 = .ok (.iload_n 1, 1) := by decide +kernel
theorem dX0_shareWith_2 : decode cX0_shareWith 2 = .ok (.invokevirtual 58, 3) := by decide +kernel
theorem dX0_shareWith_5 : decode cX0_shareWith 5 = .ok (.ifCond .eq 6, 3) := by decide +kernel
theorem dX0_shareWith_8 : decode cX0_shareWith 8 = .ok (.bipush (-4), 2) := by decide +kernel
theorem dX0_shareWith_10 : decode cX0_shareWith 10 = .ok (.ireturn, 1) := by decide +kernel
theorem dX0_shareWith_11 : decode cX0_shareWith 11 = .ok (.aload_n 0, 1) := by decide +kernel
theorem dX0_shareWith_12 : decode cX0_shareWith 12 = .ok (.invokevirtual 90, 3) := by decide +kernel
theorem dX0_shareWith_15 : decode cX0_shareWith 15 = .ok (.aload_n 0, 1) := by decide +kernel
theorem dX0_shareWith_16 : decode cX0_shareWith 16 = .ok (.iconst 1, 1) := by decide +kernel
theorem dX0_shareWith_17 : decode cX0_shareWith 17 = .ok (.iload_n 1, 1) := by decide +kernel
theorem dX0_shareWith_18 : decode cX0_shareWith 18 = .ok (.ishl, 1) := by decide +kernel
theorem dX0_shareWith_19 : decode cX0_shareWith 19 = .ok (.invokevirtual 93, 3) := by decide +kernel
theorem dX0_shareWith_22 : decode cX0_shareWith 22 = .ok (.ireturn, 1) := by decide +kernel
abbrev cX0_matters : ByteArray := prog_1_method_20_code
def yX0_matters : MethodName := ⟨RX0, "matters", "(I)Z"⟩
theorem dX0_matters_0 : decode cX0_matters 0 = .ok (.aload_n 0, 1) := by decide +kernel
theorem dX0_matters_1 : decode cX0_matters 1 = .ok (.iload_n 1, 1) := by decide +kernel
theorem dX0_matters_2 : decode cX0_matters 2 = .ok (.invokevirtual 58, 3) := by decide +kernel
theorem dX0_matters_5 : decode cX0_matters 5 = .ok (.ifCond .eq 5, 3) := by decide +kernel
theorem dX0_matters_8 : decode cX0_matters 8 = .ok (.iconst 0, 1) := by decide +kernel
theorem dX0_matters_9 : decode cX0_matters 9 = .ok (.ireturn, 1) := by decide +kernel
theorem dX0_matters_10 : decode cX0_matters 10 = .ok (.aload_n 0, 1) := by decide +kernel
theorem dX0_matters_11 : decode cX0_matters 11 = .ok (.invokevirtual 90, 3) := by decide +kernel
theorem dX0_matters_14 : decode cX0_matters 14 = .ok (.iconst 0, 1) := by decide +kernel
theorem dX0_matters_15 : decode cX0_matters 15 = .ok (.istore_n 2, 1) := by decide +kernel
theorem dX0_matters_16 : decode cX0_matters 16 = .ok (.iload_n 2, 1) := by decide +kernel
theorem dX0_matters_17 : decode cX0_matters 17 = .ok (.iconst 1, 1) := by decide +kernel
theorem dX0_matters_18 : decode cX0_matters 18 = .ok (.aload_n 0, 1) := by decide +kernel
theorem dX0_matters_19 : decode cX0_matters 19 = .ok (.getfield 54, 3) := by decide +kernel
theorem dX0_matters_22 : decode cX0_matters 22 = .ok (.ishl, 1) := by decide +kernel
theorem dX0_matters_23 : decode cX0_matters 23 = .ok (.if_icmp .ge 30, 3) := by decide +kernel
theorem dX0_matters_26 : decode cX0_matters 26 = .ok (.aload_n 0, 1) := by decide +kernel
theorem dX0_matters_27 : decode cX0_matters 27 = .ok (.getfield 44, 3) := by decide +kernel
theorem dX0_matters_30 : decode cX0_matters 30 = .ok (.iload_n 2, 1) := by decide +kernel
theorem dX0_matters_31 : decode cX0_matters 31 = .ok (.baload, 1) := by decide +kernel
theorem dX0_matters_32 : decode cX0_matters 32 = .ok (.aload_n 0, 1) := by decide +kernel
theorem dX0_matters_33 : decode cX0_matters 33 = .ok (.getfield 44, 3) := by decide +kernel
theorem dX0_matters_36 : decode cX0_matters 36 = .ok (.iload_n 2, 1) := by decide +kernel
theorem dX0_matters_37 : decode cX0_matters 37 = .ok (.iconst 1, 1) := by decide +kernel
theorem dX0_matters_38 : decode cX0_matters 38 = .ok (.iload_n 1, 1) := by decide +kernel
theorem dX0_matters_39 : decode cX0_matters 39 = .ok (.ishl, 1) := by decide +kernel
theorem dX0_matters_40 : decode cX0_matters 40 = .ok (.ior, 1) := by decide +kernel
theorem dX0_matters_41 : decode cX0_matters 41 = .ok (.baload, 1) := by decide +kernel
theorem dX0_matters_42 : decode cX0_matters 42 = .ok (.if_icmp .eq 5, 3) := by decide +kernel
theorem dX0_matters_45 : decode cX0_matters 45 = .ok (.iconst 1, 1) := by decide +kernel
theorem dX0_matters_46 : decode cX0_matters 46 = .ok (.ireturn, 1) := by decide +kernel
theorem dX0_matters_47 : decode cX0_matters 47 = .ok (.iinc 2 1, 3) := by decide +kernel
theorem dX0_matters_50 : decode cX0_matters 50 = .ok (.goto (-34), 3) := by decide +kernel
theorem dX0_matters_53 : decode cX0_matters 53 = .ok (.iconst 0, 1) := by decide +kernel
theorem dX0_matters_54 : decode cX0_matters 54 = .ok (.ireturn, 1) := by decide +kernel
abbrev cX0_fewest : ByteArray := prog_1_method_22_code
def yX0_fewest : MethodName := ⟨RX0, "fewest", "()I"⟩
theorem dX0_fewest_0 : decode cX0_fewest 0 = .ok (.aload_n 0, 1) := by decide +kernel
theorem dX0_fewest_1 : decode cX0_fewest 1 = .ok (.invokevirtual 90, 3) := by decide +kernel
theorem dX0_fewest_4 : decode cX0_fewest 4 = .ok (.bipush (-4), 2) := by decide +kernel
theorem dX0_fewest_6 : decode cX0_fewest 6 = .ok (.istore_n 1, 1) := by decide +kernel
theorem dX0_fewest_7 : decode cX0_fewest 7 = .ok (.iconst 0, 1) := by decide +kernel
theorem dX0_fewest_8 : decode cX0_fewest 8 = .ok (.istore_n 2, 1) := by decide +kernel
theorem dX0_fewest_9 : decode cX0_fewest 9 = .ok (.iload_n 2, 1) := by decide +kernel
theorem dX0_fewest_10 : decode cX0_fewest 10 = .ok (.iconst 1, 1) := by decide +kernel
theorem dX0_fewest_11 : decode cX0_fewest 11 = .ok (.aload_n 0, 1) := by decide +kernel
theorem dX0_fewest_12 : decode cX0_fewest 12 = .ok (.getfield 54, 3) := by decide +kernel
theorem dX0_fewest_15 : decode cX0_fewest 15 = .ok (.ishl, 1) := by decide +kernel
theorem dX0_fewest_16 : decode cX0_fewest 16 = .ok (.if_icmp .ge 34, 3) := by decide +kernel
theorem dX0_fewest_19 : decode cX0_fewest 19 = .ok (.aload_n 0, 1) := by decide +kernel
theorem dX0_fewest_20 : decode cX0_fewest 20 = .ok (.getfield 40, 3) := by decide +kernel
theorem dX0_fewest_23 : decode cX0_fewest 23 = .ok (.iload_n 2, 1) := by decide +kernel
theorem dX0_fewest_24 : decode cX0_fewest 24 = .ok (.baload, 1) := by decide +kernel
theorem dX0_fewest_25 : decode cX0_fewest 25 = .ok (.ifCond .eq 19, 3) := by decide +kernel
theorem dX0_fewest_28 : decode cX0_fewest 28 = .ok (.iload_n 2, 1) := by decide +kernel
theorem dX0_fewest_29 : decode cX0_fewest 29 = .ok (.invokestatic 97, 3) := by decide +kernel
theorem dX0_fewest_32 : decode cX0_fewest 32 = .ok (.istore_n 3, 1) := by decide +kernel
theorem dX0_fewest_33 : decode cX0_fewest 33 = .ok (.iload_n 1, 1) := by decide +kernel
theorem dX0_fewest_34 : decode cX0_fewest 34 = .ok (.ifCond .lt 8, 3) := by decide +kernel
theorem dX0_fewest_37 : decode cX0_fewest 37 = .ok (.iload_n 3, 1) := by decide +kernel
theorem dX0_fewest_38 : decode cX0_fewest 38 = .ok (.iload_n 1, 1) := by decide +kernel
theorem dX0_fewest_39 : decode cX0_fewest 39 = .ok (.if_icmp .ge 5, 3) := by decide +kernel
theorem dX0_fewest_42 : decode cX0_fewest 42 = .ok (.iload_n 3, 1) := by decide +kernel
theorem dX0_fewest_43 : decode cX0_fewest 43 = .ok (.istore_n 1, 1) := by decide +kernel
theorem dX0_fewest_44 : decode cX0_fewest 44 = .ok (.iinc 2 1, 3) := by decide +kernel
theorem dX0_fewest_47 : decode cX0_fewest 47 = .ok (.goto (-38), 3) := by decide +kernel
theorem dX0_fewest_50 : decode cX0_fewest 50 = .ok (.iload_n 1, 1) := by decide +kernel
theorem dX0_fewest_51 : decode cX0_fewest 51 = .ok (.ireturn, 1) := by decide +kernel
abbrev cX0_ones : ByteArray := prog_1_method_21_code
def yX0_ones : MethodName := ⟨RX0, "ones", "(I)I"⟩
theorem dX0_ones_0 : decode cX0_ones 0 = .ok (.iconst 0, 1) := by decide +kernel
theorem dX0_ones_1 : decode cX0_ones 1 = .ok (.istore_n 1, 1) := by decide +kernel
theorem dX0_ones_2 : decode cX0_ones 2 = .ok (.iconst 0, 1) := by decide +kernel
theorem dX0_ones_3 : decode cX0_ones 3 = .ok (.istore_n 2, 1) := by decide +kernel
theorem dX0_ones_4 : decode cX0_ones 4 = .ok (.iload_n 2, 1) := by decide +kernel
theorem dX0_ones_5 : decode cX0_ones 5 = .ok (.bipush 9, 2) := by decide +kernel
theorem dX0_ones_7 : decode cX0_ones 7 = .ok (.if_icmp .ge 17, 3) := by decide +kernel
theorem dX0_ones_10 : decode cX0_ones 10 = .ok (.iload_n 1, 1) := by decide +kernel
theorem dX0_ones_11 : decode cX0_ones 11 = .ok (.iload_n 0, 1) := by decide +kernel
theorem dX0_ones_12 : decode cX0_ones 12 = .ok (.iload_n 2, 1) := by decide +kernel
theorem dX0_ones_13 : decode cX0_ones 13 = .ok (.ishr, 1) := by decide +kernel
theorem dX0_ones_14 : decode cX0_ones 14 = .ok (.iconst 1, 1) := by decide +kernel
theorem dX0_ones_15 : decode cX0_ones 15 = .ok (.iand, 1) := by decide +kernel
theorem dX0_ones_16 : decode cX0_ones 16 = .ok (.iadd, 1) := by decide +kernel
theorem dX0_ones_17 : decode cX0_ones 17 = .ok (.istore_n 1, 1) := by decide +kernel
theorem dX0_ones_18 : decode cX0_ones 18 = .ok (.iinc 2 1, 3) := by decide +kernel
theorem dX0_ones_21 : decode cX0_ones 21 = .ok (.goto (-17), 3) := by decide +kernel
theorem dX0_ones_24 : decode cX0_ones 24 = .ok (.iload_n 1, 1) := by decide +kernel
theorem dX0_ones_25 : decode cX0_ones 25 = .ok (.ireturn, 1) := by decide +kernel
abbrev cX0_reasons : ByteArray := prog_1_method_23_code
def yX0_reasons : MethodName := ⟨RX0, "reasons", "()I"⟩
theorem dX0_reasons_0 : decode cX0_reasons 0 = .ok (.aload_n 0, 1) := by decide +kernel
theorem dX0_reasons_1 : decode cX0_reasons 1 = .ok (.invokevirtual 90, 3) := by decide +kernel
theorem dX0_reasons_4 : decode cX0_reasons 4 = .ok (.iconst 0, 1) := by decide +kernel
theorem dX0_reasons_5 : decode cX0_reasons 5 = .ok (.istore_n 1, 1) := by decide +kernel
theorem dX0_reasons_6 : decode cX0_reasons 6 = .ok (.iconst 0, 1) := by decide +kernel
theorem dX0_reasons_7 : decode cX0_reasons 7 = .ok (.istore_n 2, 1) := by decide +kernel
theorem dX0_reasons_8 : decode cX0_reasons 8 = .ok (.iload_n 2, 1) := by decide +kernel
theorem dX0_reasons_9 : decode cX0_reasons 9 = .ok (.iconst 1, 1) := by decide +kernel
theorem dX0_reasons_10 : decode cX0_reasons 10 = .ok (.aload_n 0, 1) := by decide +kernel
theorem dX0_reasons_11 : decode cX0_reasons 11 = .ok (.getfield 54, 3) := by decide +kernel
theorem dX0_reasons_14 : decode cX0_reasons 14 = .ok (.ishl, 1) := by decide +kernel
theorem dX0_reasons_15 : decode cX0_reasons 15 = .ok (.if_icmp .ge 31, 3) := by decide +kernel
theorem dX0_reasons_18 : decode cX0_reasons 18 = .ok (.aload_n 0, 1) := by decide +kernel
theorem dX0_reasons_19 : decode cX0_reasons 19 = .ok (.getfield 44, 3) := by decide +kernel
theorem dX0_reasons_22 : decode cX0_reasons 22 = .ok (.iload_n 2, 1) := by decide +kernel
theorem dX0_reasons_23 : decode cX0_reasons 23 = .ok (.baload, 1) := by decide +kernel
theorem dX0_reasons_24 : decode cX0_reasons 24 = .ok (.ifCond .eq 16, 3) := by decide +kernel
theorem dX0_reasons_27 : decode cX0_reasons 27 = .ok (.aload_n 0, 1) := by decide +kernel
theorem dX0_reasons_28 : decode cX0_reasons 28 = .ok (.iload_n 2, 1) := by decide +kernel
theorem dX0_reasons_29 : decode cX0_reasons 29 = .ok (.invokevirtual 87, 3) := by decide +kernel
theorem dX0_reasons_32 : decode cX0_reasons 32 = .ok (.istore_n 3, 1) := by decide +kernel
theorem dX0_reasons_33 : decode cX0_reasons 33 = .ok (.iload_n 3, 1) := by decide +kernel
theorem dX0_reasons_34 : decode cX0_reasons 34 = .ok (.ifCond .ne 6, 3) := by decide +kernel
theorem dX0_reasons_37 : decode cX0_reasons 37 = .ok (.iinc 1 1, 3) := by decide +kernel
theorem dX0_reasons_40 : decode cX0_reasons 40 = .ok (.iinc 2 1, 3) := by decide +kernel
theorem dX0_reasons_43 : decode cX0_reasons 43 = .ok (.goto (-35), 3) := by decide +kernel
theorem dX0_reasons_46 : decode cX0_reasons 46 = .ok (.iload_n 1, 1) := by decide +kernel
theorem dX0_reasons_47 : decode cX0_reasons 47 = .ok (.ireturn, 1) := by decide +kernel
theorem q20 : (Jvm.Cond.initialized "LineageWorlds") ∈ lw_all := lw_g (lw_at lw_m1 1 rfl) rfl
theorem q23 : (Jvm.Cond.instantiable "LineageWorlds" (16 : Nat)) ∈ lw_all := lw_g (lw_at lw_m1 4 rfl) rfl
theorem q25 : (Jvm.Cond.instanceMethod ({ cls := "LineageWorlds", name := "<init>", desc := "()V" } : Jvm.MethodName)) ∈ lw_all := lw_g (lw_at lw_m1 6 rfl) rfl
theorem q26 : (Jvm.Cond.code ({ cls := "LineageWorlds", name := "<init>", desc := "()V" } : Jvm.MethodName) prog_1_method_1_code (1 : Nat) (Option.none : Option Jvm.ClassFile.FieldType)) ∈ lw_all := lw_g (lw_at lw_m1 7 rfl) rfl
theorem q27 : (Jvm.Cond.methodLink "LineageWorlds" (1 : Nat) ({ cls := "java/lang/Object", name := "<init>", desc := "()V" } : Jvm.MethodName)) ∈ lw_all := lw_g (lw_at lw_m1 8 rfl) rfl
theorem q30 : (Jvm.Cond.fieldLink "LineageWorlds" (54 : Nat) "LineageWorlds" "facts" "I") ∈ lw_all := lw_g (lw_at lw_m1 11 rfl) rfl
theorem q31 : (Jvm.Cond.fieldLink "LineageWorlds" (7 : Nat) "LineageWorlds" "from" "[I") ∈ lw_all := lw_g (lw_at lw_m1 12 rfl) rfl
theorem q32 : (Jvm.Cond.fieldLink "LineageWorlds" (13 : Nat) "LineageWorlds" "to" "[I") ∈ lw_all := lw_g (lw_at lw_m1 13 rfl) rfl
theorem q33 : (Jvm.Cond.fieldLink "LineageWorlds" (16 : Nat) "LineageWorlds" "label" "[I") ∈ lw_all := lw_g (lw_at lw_m1 14 rfl) rfl
theorem q34 : (Jvm.Cond.fieldLink "LineageWorlds" (19 : Nat) "LineageWorlds" "chance" "[I") ∈ lw_all := lw_g (lw_at lw_m1 15 rfl) rfl
theorem q35 : (Jvm.Cond.fieldLink "LineageWorlds" (65 : Nat) "LineageWorlds" "conditions" "I") ∈ lw_all := lw_g (lw_at lw_m1 16 rfl) rfl
theorem q36 : (Jvm.Cond.fieldLink "LineageWorlds" (22 : Nat) "LineageWorlds" "wantLabel" "[I") ∈ lw_all := lw_g (lw_at lw_m1 17 rfl) rfl
theorem q37 : (Jvm.Cond.fieldLink "LineageWorlds" (25 : Nat) "LineageWorlds" "wantFrom" "[I") ∈ lw_all := lw_g (lw_at lw_m1 18 rfl) rfl
theorem q38 : (Jvm.Cond.fieldLink "LineageWorlds" (28 : Nat) "LineageWorlds" "wantTo" "[I") ∈ lw_all := lw_g (lw_at lw_m1 19 rfl) rfl
theorem q39 : (Jvm.Cond.fieldLink "LineageWorlds" (31 : Nat) "LineageWorlds" "tried" "[I") ∈ lw_all := lw_g (lw_at lw_m1 20 rfl) rfl
theorem q40 : (Jvm.Cond.fieldLink "LineageWorlds" (34 : Nat) "LineageWorlds" "bound" "[I") ∈ lw_all := lw_g (lw_at lw_m1 21 rfl) rfl
theorem q41 : (Jvm.Cond.fieldLink "LineageWorlds" (37 : Nat) "LineageWorlds" "value" "[I") ∈ lw_all := lw_g (lw_at lw_m1 22 rfl) rfl
theorem q42 : (Jvm.Cond.fieldLink "LineageWorlds" (50 : Nat) "LineageWorlds" "ready" "Z") ∈ lw_all := lw_g (lw_at lw_m1 23 rfl) rfl
theorem q43 : (Jvm.Cond.fieldLink "LineageWorlds" (40 : Nat) "LineageWorlds" "match" "[Z") ∈ lw_all := lw_g (lw_at lw_m1 24 rfl) rfl
theorem q44 : (Jvm.Cond.fieldLink "LineageWorlds" (44 : Nat) "LineageWorlds" "yes" "[Z") ∈ lw_all := lw_g (lw_at lw_m1 25 rfl) rfl
theorem q45 : (Jvm.Cond.fieldLink "LineageWorlds" (47 : Nat) "LineageWorlds" "folded" "[I") ∈ lw_all := lw_g (lw_at lw_m1 26 rfl) rfl
theorem q46 : (Jvm.Cond.lays "LineageWorlds" "LineageWorlds" "facts" "I") ∈ lw_all := lw_g (lw_at lw_m1 27 rfl) rfl
theorem q47 : (Jvm.Cond.soleField "LineageWorlds" "facts") ∈ lw_all := lw_g (lw_at lw_m1 28 rfl) rfl
theorem q48 : (Jvm.Cond.laysFinal "LineageWorlds" "LineageWorlds" "from" "[I") ∈ lw_all := lw_g (lw_at lw_m1 29 rfl) rfl
theorem q49 : (Jvm.Cond.soleField "LineageWorlds" "from") ∈ lw_all := lw_g (lw_at lw_m1 30 rfl) rfl
theorem q50 : (Jvm.Cond.laysFinal "LineageWorlds" "LineageWorlds" "to" "[I") ∈ lw_all := lw_g (lw_at lw_m1 31 rfl) rfl
theorem q51 : (Jvm.Cond.soleField "LineageWorlds" "to") ∈ lw_all := lw_g (lw_at lw_m1 32 rfl) rfl
theorem q52 : (Jvm.Cond.laysFinal "LineageWorlds" "LineageWorlds" "label" "[I") ∈ lw_all := lw_g (lw_at lw_m1 33 rfl) rfl
theorem q53 : (Jvm.Cond.soleField "LineageWorlds" "label") ∈ lw_all := lw_g (lw_at lw_m1 34 rfl) rfl
theorem q54 : (Jvm.Cond.laysFinal "LineageWorlds" "LineageWorlds" "chance" "[I") ∈ lw_all := lw_g (lw_at lw_m1 35 rfl) rfl
theorem q55 : (Jvm.Cond.soleField "LineageWorlds" "chance") ∈ lw_all := lw_g (lw_at lw_m1 36 rfl) rfl
theorem q56 : (Jvm.Cond.lays "LineageWorlds" "LineageWorlds" "conditions" "I") ∈ lw_all := lw_g (lw_at lw_m1 37 rfl) rfl
theorem q57 : (Jvm.Cond.soleField "LineageWorlds" "conditions") ∈ lw_all := lw_g (lw_at lw_m1 38 rfl) rfl
theorem q58 : (Jvm.Cond.laysFinal "LineageWorlds" "LineageWorlds" "wantLabel" "[I") ∈ lw_all := lw_g (lw_at lw_m1 39 rfl) rfl
theorem q59 : (Jvm.Cond.soleField "LineageWorlds" "wantLabel") ∈ lw_all := lw_g (lw_at lw_m1 40 rfl) rfl
theorem q60 : (Jvm.Cond.laysFinal "LineageWorlds" "LineageWorlds" "wantFrom" "[I") ∈ lw_all := lw_g (lw_at lw_m1 41 rfl) rfl
theorem q61 : (Jvm.Cond.soleField "LineageWorlds" "wantFrom") ∈ lw_all := lw_g (lw_at lw_m1 42 rfl) rfl
theorem q62 : (Jvm.Cond.laysFinal "LineageWorlds" "LineageWorlds" "wantTo" "[I") ∈ lw_all := lw_g (lw_at lw_m1 43 rfl) rfl
theorem q63 : (Jvm.Cond.soleField "LineageWorlds" "wantTo") ∈ lw_all := lw_g (lw_at lw_m1 44 rfl) rfl
theorem q64 : (Jvm.Cond.laysFinal "LineageWorlds" "LineageWorlds" "tried" "[I") ∈ lw_all := lw_g (lw_at lw_m1 45 rfl) rfl
theorem q65 : (Jvm.Cond.soleField "LineageWorlds" "tried") ∈ lw_all := lw_g (lw_at lw_m1 46 rfl) rfl
theorem q66 : (Jvm.Cond.laysFinal "LineageWorlds" "LineageWorlds" "bound" "[I") ∈ lw_all := lw_g (lw_at lw_m1 47 rfl) rfl
theorem q67 : (Jvm.Cond.soleField "LineageWorlds" "bound") ∈ lw_all := lw_g (lw_at lw_m1 48 rfl) rfl
theorem q68 : (Jvm.Cond.laysFinal "LineageWorlds" "LineageWorlds" "value" "[I") ∈ lw_all := lw_g (lw_at lw_m1 49 rfl) rfl
theorem q69 : (Jvm.Cond.soleField "LineageWorlds" "value") ∈ lw_all := lw_g (lw_at lw_m1 50 rfl) rfl
theorem q70 : (Jvm.Cond.lays "LineageWorlds" "LineageWorlds" "ready" "Z") ∈ lw_all := lw_g (lw_at lw_m1 51 rfl) rfl
theorem q71 : (Jvm.Cond.soleField "LineageWorlds" "ready") ∈ lw_all := lw_g (lw_at lw_m1 52 rfl) rfl
theorem q72 : (Jvm.Cond.laysFinal "LineageWorlds" "LineageWorlds" "match" "[Z") ∈ lw_all := lw_g (lw_at lw_m1 53 rfl) rfl
theorem q73 : (Jvm.Cond.soleField "LineageWorlds" "match") ∈ lw_all := lw_g (lw_at lw_m1 54 rfl) rfl
theorem q74 : (Jvm.Cond.laysFinal "LineageWorlds" "LineageWorlds" "yes" "[Z") ∈ lw_all := lw_g (lw_at lw_m1 55 rfl) rfl
theorem q75 : (Jvm.Cond.soleField "LineageWorlds" "yes") ∈ lw_all := lw_g (lw_at lw_m1 56 rfl) rfl
theorem q76 : (Jvm.Cond.laysFinal "LineageWorlds" "LineageWorlds" "folded" "[I") ∈ lw_all := lw_g (lw_at lw_m1 57 rfl) rfl
theorem q77 : (Jvm.Cond.soleField "LineageWorlds" "folded") ∈ lw_all := lw_g (lw_at lw_m1 58 rfl) rfl
theorem q78 : (Jvm.Cond.superclass "LineageWorlds" "java/lang/Object") ∈ lw_all := lw_g (lw_at lw_m1 59 rfl) rfl
theorem q82 : (Jvm.Cond.instanceMethod ({ cls := "LineageWorlds", name := "fact", desc := "(II)I" } : Jvm.MethodName)) ∈ lw_all := lw_g (lw_at lw_m1 63 rfl) rfl
theorem q83 : (Jvm.Cond.selects "LineageWorlds" ({ cls := "LineageWorlds", name := "fact", desc := "(II)I" } : Jvm.MethodName) ({ cls := "LineageWorlds", name := "fact", desc := "(II)I" } : Jvm.MethodName)) ∈ lw_all := lw_g (lw_at lw_m1 64 rfl) rfl
theorem q84 : (Jvm.Cond.code ({ cls := "LineageWorlds", name := "fact", desc := "(II)I" } : Jvm.MethodName) prog_1_method_3_code (5 : Nat) (Option.some Jvm.ClassFile.FieldType.int)) ∈ lw_all := lw_g (lw_at lw_m1 65 rfl) rfl
theorem q86 : (Jvm.Cond.instanceMethod ({ cls := "LineageWorlds", name := "likely", desc := "(II)I" } : Jvm.MethodName)) ∈ lw_all := lw_g (lw_at lw_m1 67 rfl) rfl
theorem q87 : (Jvm.Cond.selects "LineageWorlds" ({ cls := "LineageWorlds", name := "likely", desc := "(II)I" } : Jvm.MethodName) ({ cls := "LineageWorlds", name := "likely", desc := "(II)I" } : Jvm.MethodName)) ∈ lw_all := lw_g (lw_at lw_m1 68 rfl) rfl
theorem q88 : (Jvm.Cond.code ({ cls := "LineageWorlds", name := "likely", desc := "(II)I" } : Jvm.MethodName) prog_1_method_4_code (4 : Nat) (Option.some Jvm.ClassFile.FieldType.int)) ∈ lw_all := lw_g (lw_at lw_m1 69 rfl) rfl
theorem q89 : (Jvm.Cond.methodLink "LineageWorlds" (58 : Nat) ({ cls := "LineageWorlds", name := "noFact", desc := "(I)Z" } : Jvm.MethodName)) ∈ lw_all := lw_g (lw_at lw_m1 70 rfl) rfl
theorem q90 : (Jvm.Cond.privateMethod ({ cls := "LineageWorlds", name := "noFact", desc := "(I)Z" } : Jvm.MethodName)) ∈ lw_tbl := lw_at lw_m1 71 rfl
theorem q91 : (Jvm.Cond.instanceMethod ({ cls := "LineageWorlds", name := "noFact", desc := "(I)Z" } : Jvm.MethodName)) ∈ lw_all := lw_g (lw_at lw_m1 72 rfl) rfl
theorem q92 : (Jvm.Cond.code ({ cls := "LineageWorlds", name := "noFact", desc := "(I)Z" } : Jvm.MethodName) prog_1_method_2_code (2 : Nat) (Option.some Jvm.ClassFile.FieldType.boolean)) ∈ lw_all := lw_g (lw_at lw_m1 73 rfl) rfl
theorem q94 : (Jvm.Cond.instanceMethod ({ cls := "LineageWorlds", name := "condition", desc := "(III)I" } : Jvm.MethodName)) ∈ lw_all := lw_g (lw_at lw_m1 75 rfl) rfl
theorem q95 : (Jvm.Cond.selects "LineageWorlds" ({ cls := "LineageWorlds", name := "condition", desc := "(III)I" } : Jvm.MethodName) ({ cls := "LineageWorlds", name := "condition", desc := "(III)I" } : Jvm.MethodName)) ∈ lw_all := lw_g (lw_at lw_m1 76 rfl) rfl
theorem q96 : (Jvm.Cond.code ({ cls := "LineageWorlds", name := "condition", desc := "(III)I" } : Jvm.MethodName) prog_1_method_6_code (4 : Nat) (Option.some Jvm.ClassFile.FieldType.int)) ∈ lw_all := lw_g (lw_at lw_m1 77 rfl) rfl
theorem q97 : (Jvm.Cond.methodLink "LineageWorlds" (62 : Nat) ({ cls := "LineageWorlds", name := "badPlace", desc := "(I)Z" } : Jvm.MethodName)) ∈ lw_all := lw_g (lw_at lw_m1 78 rfl) rfl
theorem q98 : (Jvm.Cond.static ({ cls := "LineageWorlds", name := "badPlace", desc := "(I)Z" } : Jvm.MethodName)) ∈ lw_all := lw_g (lw_at lw_m1 79 rfl) rfl
theorem q99 : (Jvm.Cond.code ({ cls := "LineageWorlds", name := "badPlace", desc := "(I)Z" } : Jvm.MethodName) prog_1_method_5_code (1 : Nat) (Option.some Jvm.ClassFile.FieldType.boolean)) ∈ lw_all := lw_g (lw_at lw_m1 80 rfl) rfl
theorem q101 : (Jvm.Cond.instanceMethod ({ cls := "LineageWorlds", name := "ask", desc := "()V" } : Jvm.MethodName)) ∈ lw_all := lw_g (lw_at lw_m1 82 rfl) rfl
theorem q102 : (Jvm.Cond.selects "LineageWorlds" ({ cls := "LineageWorlds", name := "ask", desc := "()V" } : Jvm.MethodName) ({ cls := "LineageWorlds", name := "ask", desc := "()V" } : Jvm.MethodName)) ∈ lw_all := lw_g (lw_at lw_m1 83 rfl) rfl
theorem q103 : (Jvm.Cond.code ({ cls := "LineageWorlds", name := "ask", desc := "()V" } : Jvm.MethodName) prog_1_method_7_code (1 : Nat) (Option.none : Option Jvm.ClassFile.FieldType)) ∈ lw_all := lw_g (lw_at lw_m1 84 rfl) rfl
theorem q105 : (Jvm.Cond.instanceMethod ({ cls := "LineageWorlds", name := "drop", desc := "()I" } : Jvm.MethodName)) ∈ lw_all := lw_g (lw_at lw_m1 86 rfl) rfl
theorem q106 : (Jvm.Cond.selects "LineageWorlds" ({ cls := "LineageWorlds", name := "drop", desc := "()I" } : Jvm.MethodName) ({ cls := "LineageWorlds", name := "drop", desc := "()I" } : Jvm.MethodName)) ∈ lw_all := lw_g (lw_at lw_m1 87 rfl) rfl
theorem q107 : (Jvm.Cond.code ({ cls := "LineageWorlds", name := "drop", desc := "()I" } : Jvm.MethodName) prog_1_method_8_code (1 : Nat) (Option.some Jvm.ClassFile.FieldType.int)) ∈ lw_all := lw_g (lw_at lw_m1 88 rfl) rfl
theorem q109 : (Jvm.Cond.instanceMethod ({ cls := "LineageWorlds", name := "share", desc := "()I" } : Jvm.MethodName)) ∈ lw_all := lw_g (lw_at lw_m1 90 rfl) rfl
theorem q110 : (Jvm.Cond.selects "LineageWorlds" ({ cls := "LineageWorlds", name := "share", desc := "()I" } : Jvm.MethodName) ({ cls := "LineageWorlds", name := "share", desc := "()I" } : Jvm.MethodName)) ∈ lw_all := lw_g (lw_at lw_m1 91 rfl) rfl
theorem q111 : (Jvm.Cond.code ({ cls := "LineageWorlds", name := "share", desc := "()I" } : Jvm.MethodName) prog_1_method_17_code (1 : Nat) (Option.some Jvm.ClassFile.FieldType.int)) ∈ lw_all := lw_g (lw_at lw_m1 92 rfl) rfl
theorem q112 : (Jvm.Cond.methodLink "LineageWorlds" (90 : Nat) ({ cls := "LineageWorlds", name := "prepare", desc := "()V" } : Jvm.MethodName)) ∈ lw_all := lw_g (lw_at lw_m1 93 rfl) rfl
theorem q113 : (Jvm.Cond.privateMethod ({ cls := "LineageWorlds", name := "prepare", desc := "()V" } : Jvm.MethodName)) ∈ lw_tbl := lw_at lw_m1 94 rfl
theorem q114 : (Jvm.Cond.instanceMethod ({ cls := "LineageWorlds", name := "prepare", desc := "()V" } : Jvm.MethodName)) ∈ lw_all := lw_g (lw_at lw_m1 95 rfl) rfl
theorem q115 : (Jvm.Cond.code ({ cls := "LineageWorlds", name := "prepare", desc := "()V" } : Jvm.MethodName) prog_1_method_15_code (3 : Nat) (Option.none : Option Jvm.ClassFile.FieldType)) ∈ lw_all := lw_g (lw_at lw_m1 96 rfl) rfl
theorem q116 : (Jvm.Cond.methodLink "LineageWorlds" (84 : Nat) ({ cls := "LineageWorlds", name := "findMatches", desc := "()V" } : Jvm.MethodName)) ∈ lw_all := lw_g (lw_at lw_m1 97 rfl) rfl
theorem q117 : (Jvm.Cond.privateMethod ({ cls := "LineageWorlds", name := "findMatches", desc := "()V" } : Jvm.MethodName)) ∈ lw_tbl := lw_at lw_m1 98 rfl
theorem q118 : (Jvm.Cond.instanceMethod ({ cls := "LineageWorlds", name := "findMatches", desc := "()V" } : Jvm.MethodName)) ∈ lw_all := lw_g (lw_at lw_m1 99 rfl) rfl
theorem q119 : (Jvm.Cond.code ({ cls := "LineageWorlds", name := "findMatches", desc := "()V" } : Jvm.MethodName) prog_1_method_13_code (4 : Nat) (Option.none : Option Jvm.ClassFile.FieldType)) ∈ lw_all := lw_g (lw_at lw_m1 100 rfl) rfl
theorem q120 : (Jvm.Cond.constant "LineageWorlds" (76 : Nat) (40000 : Int32)) ∈ lw_all := lw_g (lw_at lw_m1 101 rfl) rfl
theorem q121 : (Jvm.Cond.methodLink "LineageWorlds" (77 : Nat) ({ cls := "LineageWorlds", name := "advance", desc := "(I)Z" } : Jvm.MethodName)) ∈ lw_all := lw_g (lw_at lw_m1 102 rfl) rfl
theorem q122 : (Jvm.Cond.privateMethod ({ cls := "LineageWorlds", name := "advance", desc := "(I)Z" } : Jvm.MethodName)) ∈ lw_tbl := lw_at lw_m1 103 rfl
theorem q123 : (Jvm.Cond.instanceMethod ({ cls := "LineageWorlds", name := "advance", desc := "(I)Z" } : Jvm.MethodName)) ∈ lw_all := lw_g (lw_at lw_m1 104 rfl) rfl
theorem q124 : (Jvm.Cond.code ({ cls := "LineageWorlds", name := "advance", desc := "(I)Z" } : Jvm.MethodName) prog_1_method_11_code (4 : Nat) (Option.some Jvm.ClassFile.FieldType.boolean)) ∈ lw_all := lw_g (lw_at lw_m1 105 rfl) rfl
theorem q125 : (Jvm.Cond.methodLink "LineageWorlds" (68 : Nat) ({ cls := "LineageWorlds", name := "release", desc := "(I)V" } : Jvm.MethodName)) ∈ lw_all := lw_g (lw_at lw_m1 106 rfl) rfl
theorem q126 : (Jvm.Cond.privateMethod ({ cls := "LineageWorlds", name := "release", desc := "(I)V" } : Jvm.MethodName)) ∈ lw_tbl := lw_at lw_m1 107 rfl
theorem q127 : (Jvm.Cond.instanceMethod ({ cls := "LineageWorlds", name := "release", desc := "(I)V" } : Jvm.MethodName)) ∈ lw_all := lw_g (lw_at lw_m1 108 rfl) rfl
theorem q128 : (Jvm.Cond.code ({ cls := "LineageWorlds", name := "release", desc := "(I)V" } : Jvm.MethodName) prog_1_method_10_code (3 : Nat) (Option.none : Option Jvm.ClassFile.FieldType)) ∈ lw_all := lw_g (lw_at lw_m1 109 rfl) rfl
theorem q129 : (Jvm.Cond.methodLink "LineageWorlds" (72 : Nat) ({ cls := "LineageWorlds", name := "fits", desc := "(III)Z" } : Jvm.MethodName)) ∈ lw_all := lw_g (lw_at lw_m1 110 rfl) rfl
theorem q130 : (Jvm.Cond.privateMethod ({ cls := "LineageWorlds", name := "fits", desc := "(III)Z" } : Jvm.MethodName)) ∈ lw_tbl := lw_at lw_m1 111 rfl
theorem q131 : (Jvm.Cond.instanceMethod ({ cls := "LineageWorlds", name := "fits", desc := "(III)Z" } : Jvm.MethodName)) ∈ lw_all := lw_g (lw_at lw_m1 112 rfl) rfl
theorem q132 : (Jvm.Cond.code ({ cls := "LineageWorlds", name := "fits", desc := "(III)Z" } : Jvm.MethodName) prog_1_method_9_code (4 : Nat) (Option.some Jvm.ClassFile.FieldType.boolean)) ∈ lw_all := lw_g (lw_at lw_m1 113 rfl) rfl
theorem q133 : (Jvm.Cond.methodLink "LineageWorlds" (80 : Nat) ({ cls := "LineageWorlds", name := "factsOfMatch", desc := "()I" } : Jvm.MethodName)) ∈ lw_all := lw_g (lw_at lw_m1 114 rfl) rfl
theorem q134 : (Jvm.Cond.privateMethod ({ cls := "LineageWorlds", name := "factsOfMatch", desc := "()I" } : Jvm.MethodName)) ∈ lw_tbl := lw_at lw_m1 115 rfl
theorem q135 : (Jvm.Cond.instanceMethod ({ cls := "LineageWorlds", name := "factsOfMatch", desc := "()I" } : Jvm.MethodName)) ∈ lw_all := lw_g (lw_at lw_m1 116 rfl) rfl
theorem q136 : (Jvm.Cond.code ({ cls := "LineageWorlds", name := "factsOfMatch", desc := "()I" } : Jvm.MethodName) prog_1_method_12_code (3 : Nat) (Option.some Jvm.ClassFile.FieldType.int)) ∈ lw_all := lw_g (lw_at lw_m1 117 rfl) rfl
theorem q137 : (Jvm.Cond.methodLink "LineageWorlds" (87 : Nat) ({ cls := "LineageWorlds", name := "yesBelow", desc := "(I)Z" } : Jvm.MethodName)) ∈ lw_all := lw_g (lw_at lw_m1 118 rfl) rfl
theorem q138 : (Jvm.Cond.privateMethod ({ cls := "LineageWorlds", name := "yesBelow", desc := "(I)Z" } : Jvm.MethodName)) ∈ lw_tbl := lw_at lw_m1 119 rfl
theorem q139 : (Jvm.Cond.instanceMethod ({ cls := "LineageWorlds", name := "yesBelow", desc := "(I)Z" } : Jvm.MethodName)) ∈ lw_all := lw_g (lw_at lw_m1 120 rfl) rfl
theorem q140 : (Jvm.Cond.code ({ cls := "LineageWorlds", name := "yesBelow", desc := "(I)Z" } : Jvm.MethodName) prog_1_method_14_code (3 : Nat) (Option.some Jvm.ClassFile.FieldType.boolean)) ∈ lw_all := lw_g (lw_at lw_m1 121 rfl) rfl
theorem q141 : (Jvm.Cond.methodLink "LineageWorlds" (93 : Nat) ({ cls := "LineageWorlds", name := "fold", desc := "(I)I" } : Jvm.MethodName)) ∈ lw_all := lw_g (lw_at lw_m1 122 rfl) rfl
theorem q142 : (Jvm.Cond.privateMethod ({ cls := "LineageWorlds", name := "fold", desc := "(I)I" } : Jvm.MethodName)) ∈ lw_tbl := lw_at lw_m1 123 rfl
theorem q143 : (Jvm.Cond.instanceMethod ({ cls := "LineageWorlds", name := "fold", desc := "(I)I" } : Jvm.MethodName)) ∈ lw_all := lw_g (lw_at lw_m1 124 rfl) rfl
theorem q144 : (Jvm.Cond.code ({ cls := "LineageWorlds", name := "fold", desc := "(I)I" } : Jvm.MethodName) prog_1_method_16_code (5 : Nat) (Option.some Jvm.ClassFile.FieldType.int)) ∈ lw_all := lw_g (lw_at lw_m1 125 rfl) rfl
theorem q146 : (Jvm.Cond.instanceMethod ({ cls := "LineageWorlds", name := "all", desc := "()I" } : Jvm.MethodName)) ∈ lw_all := lw_g (lw_at lw_m1 127 rfl) rfl
theorem q147 : (Jvm.Cond.selects "LineageWorlds" ({ cls := "LineageWorlds", name := "all", desc := "()I" } : Jvm.MethodName) ({ cls := "LineageWorlds", name := "all", desc := "()I" } : Jvm.MethodName)) ∈ lw_all := lw_g (lw_at lw_m1 128 rfl) rfl
theorem q148 : (Jvm.Cond.code ({ cls := "LineageWorlds", name := "all", desc := "()I" } : Jvm.MethodName) prog_1_method_18_code (1 : Nat) (Option.some Jvm.ClassFile.FieldType.int)) ∈ lw_all := lw_g (lw_at lw_m1 129 rfl) rfl
theorem q150 : (Jvm.Cond.instanceMethod ({ cls := "LineageWorlds", name := "shareWith", desc := "(I)I" } : Jvm.MethodName)) ∈ lw_all := lw_g (lw_at lw_m1 131 rfl) rfl
theorem q151 : (Jvm.Cond.selects "LineageWorlds" ({ cls := "LineageWorlds", name := "shareWith", desc := "(I)I" } : Jvm.MethodName) ({ cls := "LineageWorlds", name := "shareWith", desc := "(I)I" } : Jvm.MethodName)) ∈ lw_all := lw_g (lw_at lw_m1 132 rfl) rfl
theorem q152 : (Jvm.Cond.code ({ cls := "LineageWorlds", name := "shareWith", desc := "(I)I" } : Jvm.MethodName) prog_1_method_19_code (2 : Nat) (Option.some Jvm.ClassFile.FieldType.int)) ∈ lw_all := lw_g (lw_at lw_m1 133 rfl) rfl
theorem q154 : (Jvm.Cond.instanceMethod ({ cls := "LineageWorlds", name := "matters", desc := "(I)Z" } : Jvm.MethodName)) ∈ lw_all := lw_g (lw_at lw_m1 135 rfl) rfl
theorem q155 : (Jvm.Cond.selects "LineageWorlds" ({ cls := "LineageWorlds", name := "matters", desc := "(I)Z" } : Jvm.MethodName) ({ cls := "LineageWorlds", name := "matters", desc := "(I)Z" } : Jvm.MethodName)) ∈ lw_all := lw_g (lw_at lw_m1 136 rfl) rfl
theorem q156 : (Jvm.Cond.code ({ cls := "LineageWorlds", name := "matters", desc := "(I)Z" } : Jvm.MethodName) prog_1_method_20_code (3 : Nat) (Option.some Jvm.ClassFile.FieldType.boolean)) ∈ lw_all := lw_g (lw_at lw_m1 137 rfl) rfl
theorem q158 : (Jvm.Cond.instanceMethod ({ cls := "LineageWorlds", name := "fewest", desc := "()I" } : Jvm.MethodName)) ∈ lw_all := lw_g (lw_at lw_m1 139 rfl) rfl
theorem q159 : (Jvm.Cond.selects "LineageWorlds" ({ cls := "LineageWorlds", name := "fewest", desc := "()I" } : Jvm.MethodName) ({ cls := "LineageWorlds", name := "fewest", desc := "()I" } : Jvm.MethodName)) ∈ lw_all := lw_g (lw_at lw_m1 140 rfl) rfl
theorem q160 : (Jvm.Cond.code ({ cls := "LineageWorlds", name := "fewest", desc := "()I" } : Jvm.MethodName) prog_1_method_22_code (4 : Nat) (Option.some Jvm.ClassFile.FieldType.int)) ∈ lw_all := lw_g (lw_at lw_m1 141 rfl) rfl
theorem q161 : (Jvm.Cond.methodLink "LineageWorlds" (97 : Nat) ({ cls := "LineageWorlds", name := "ones", desc := "(I)I" } : Jvm.MethodName)) ∈ lw_all := lw_g (lw_at lw_m1 142 rfl) rfl
theorem q162 : (Jvm.Cond.static ({ cls := "LineageWorlds", name := "ones", desc := "(I)I" } : Jvm.MethodName)) ∈ lw_all := lw_g (lw_at lw_m1 143 rfl) rfl
theorem q163 : (Jvm.Cond.code ({ cls := "LineageWorlds", name := "ones", desc := "(I)I" } : Jvm.MethodName) prog_1_method_21_code (3 : Nat) (Option.some Jvm.ClassFile.FieldType.int)) ∈ lw_all := lw_g (lw_at lw_m1 144 rfl) rfl
theorem q165 : (Jvm.Cond.instanceMethod ({ cls := "LineageWorlds", name := "reasons", desc := "()I" } : Jvm.MethodName)) ∈ lw_all := lw_g (lw_at lw_m1 146 rfl) rfl
theorem q166 : (Jvm.Cond.selects "LineageWorlds" ({ cls := "LineageWorlds", name := "reasons", desc := "()I" } : Jvm.MethodName) ({ cls := "LineageWorlds", name := "reasons", desc := "()I" } : Jvm.MethodName)) ∈ lw_all := lw_g (lw_at lw_m1 147 rfl) rfl
theorem q167 : (Jvm.Cond.code ({ cls := "LineageWorlds", name := "reasons", desc := "()I" } : Jvm.MethodName) prog_1_method_23_code (4 : Nat) (Option.some Jvm.ClassFile.FieldType.int)) ∈ lw_all := lw_g (lw_at lw_m1 148 rfl) rfl
theorem in_X0 : ∀ w ∈ wsX00, w ∈ lw_all := lw_in wsX00 [46, 48, 50, 52, 54, 56, 58, 60, 62, 64, 66, 68, 70, 72, 74, 76] (by decide +kernel) (by decide +kernel)
end
section
/-! LineageWorldsModel -/
set_option maxRecDepth 100000
def RX1 : String := "LineageWorldsModel"
def TX1 : u_T := fun k => match k with
  | 0 => ("LineageWorldsModel", "tails", "[I", true)
  | 1 => ("LineageWorldsModel", "heads", "[I", true)
  | 2 => ("LineageWorldsModel", "labels", "[I", true)
  | 3 => ("LineageWorldsModel", "numbers", "[I", true)
  | 4 => ("LineageWorldsModel", "facts", "I", false)
  | 5 => ("LineageWorldsModel", "askedLabel", "[I", true)
  | 6 => ("LineageWorldsModel", "askedFrom", "[I", true)
  | 7 => ("LineageWorldsModel", "askedTo", "[I", true)
  | 8 => ("LineageWorldsModel", "conditions", "I", false)
  | 9 => ("LineageWorldsModel", "makes", "[I", true)
  | 10 => ("LineageWorldsModel", "yes", "[Z", true)
  | _ => ("LineageWorldsModel", "known", "Z", false)
def tyX1 : Nat → FieldType := fun k => match k with
  | 0 => .array .int
  | 1 => .array .int
  | 2 => .array .int
  | 3 => .array .int
  | 4 => .int
  | 5 => .array .int
  | 6 => .array .int
  | 7 => .array .int
  | 8 => .int
  | 9 => .array .int
  | 10 => .array .boolean
  | _ => .boolean
abbrev wsX10 : List Cond := u_ws RX1 TX1 12
theorem nmX1 : ∀ a, a < 12 → ∀ b, b < 12 → a ≠ b → (TX1 a).2.1 ≠ (TX1 b).2.1 := by decide +kernel
theorem tyX1_ok : ∀ k, k < 12 → parseFieldDescriptor (TX1 k).2.2.1 = some (tyX1 k) := by decide +kernel
abbrev cX1_init : ByteArray := prog_3_method_1_code
def yX1_init : MethodName := ⟨RX1, "<init>", "()V"⟩
theorem dX1_init_0 : decode cX1_init 0 = .ok (.aload_n 0, 1) := by decide +kernel
theorem dX1_init_1 : decode cX1_init 1 = .ok (.invokespecial 1, 3) := by decide +kernel
theorem dX1_init_4 : decode cX1_init 4 = .ok (.aload_n 0, 1) := by decide +kernel
theorem dX1_init_5 : decode cX1_init 5 = .ok (.bipush 9, 2) := by decide +kernel
theorem dX1_init_7 : decode cX1_init 7 = .ok (.newarray .int, 2) := by decide +kernel
theorem dX1_init_9 : decode cX1_init 9 = .ok (.putfield 7, 3) := by decide +kernel
theorem dX1_init_12 : decode cX1_init 12 = .ok (.aload_n 0, 1) := by decide +kernel
theorem dX1_init_13 : decode cX1_init 13 = .ok (.bipush 9, 2) := by decide +kernel
theorem dX1_init_15 : decode cX1_init 15 = .ok (.newarray .int, 2) := by decide +kernel
theorem dX1_init_17 : decode cX1_init 17 = .ok (.putfield 13, 3) := by decide +kernel
theorem dX1_init_20 : decode cX1_init 20 = .ok (.aload_n 0, 1) := by decide +kernel
theorem dX1_init_21 : decode cX1_init 21 = .ok (.bipush 9, 2) := by decide +kernel
theorem dX1_init_23 : decode cX1_init 23 = .ok (.newarray .int, 2) := by decide +kernel
theorem dX1_init_25 : decode cX1_init 25 = .ok (.putfield 16, 3) := by decide +kernel
theorem dX1_init_28 : decode cX1_init 28 = .ok (.aload_n 0, 1) := by decide +kernel
theorem dX1_init_29 : decode cX1_init 29 = .ok (.bipush 9, 2) := by decide +kernel
theorem dX1_init_31 : decode cX1_init 31 = .ok (.newarray .int, 2) := by decide +kernel
theorem dX1_init_33 : decode cX1_init 33 = .ok (.putfield 19, 3) := by decide +kernel
theorem dX1_init_36 : decode cX1_init 36 = .ok (.aload_n 0, 1) := by decide +kernel
theorem dX1_init_37 : decode cX1_init 37 = .ok (.iconst 4, 1) := by decide +kernel
theorem dX1_init_38 : decode cX1_init 38 = .ok (.newarray .int, 2) := by decide +kernel
theorem dX1_init_40 : decode cX1_init 40 = .ok (.putfield 22, 3) := by decide +kernel
theorem dX1_init_43 : decode cX1_init 43 = .ok (.aload_n 0, 1) := by decide +kernel
theorem dX1_init_44 : decode cX1_init 44 = .ok (.iconst 4, 1) := by decide +kernel
theorem dX1_init_45 : decode cX1_init 45 = .ok (.newarray .int, 2) := by decide +kernel
theorem dX1_init_47 : decode cX1_init 47 = .ok (.putfield 25, 3) := by decide +kernel
theorem dX1_init_50 : decode cX1_init 50 = .ok (.aload_n 0, 1) := by decide +kernel
theorem dX1_init_51 : decode cX1_init 51 = .ok (.iconst 4, 1) := by decide +kernel
theorem dX1_init_52 : decode cX1_init 52 = .ok (.newarray .int, 2) := by decide +kernel
theorem dX1_init_54 : decode cX1_init 54 = .ok (.putfield 28, 3) := by decide +kernel
theorem dX1_init_57 : decode cX1_init 57 = .ok (.aload_n 0, 1) := by decide +kernel
theorem dX1_init_58 : decode cX1_init 58 = .ok (.iconst 4, 1) := by decide +kernel
theorem dX1_init_59 : decode cX1_init 59 = .ok (.newarray .int, 2) := by decide +kernel
theorem dX1_init_61 : decode cX1_init 61 = .ok (.putfield 31, 3) := by decide +kernel
theorem dX1_init_64 : decode cX1_init 64 = .ok (.aload_n 0, 1) := by decide +kernel
theorem dX1_init_65 : decode cX1_init 65 = .ok (.sipush 512, 3) := by decide +kernel
theorem dX1_init_68 : decode cX1_init 68 = .ok (.newarray .boolean, 2) := by decide +kernel
theorem dX1_init_70 : decode cX1_init 70 = .ok (.putfield 34, 3) := by decide +kernel
theorem dX1_init_73 : decode cX1_init 73 = .ok (.return_, 1) := by decide +kernel
abbrev cX1_fact : ByteArray := prog_3_method_2_code
def yX1_fact : MethodName := ⟨RX1, "fact", "(II)I"⟩
theorem dX1_fact_0 : decode cX1_fact 0 = .ok (.iload_n 1, 1) := by decide +kernel
theorem dX1_fact_1 : decode cX1_fact 1 = .ok (.bipush 7, 2) := by decide +kernel
theorem dX1_fact_3 : decode cX1_fact 3 = .ok (.iand, 1) := by decide +kernel
theorem dX1_fact_4 : decode cX1_fact 4 = .ok (.iconst 5, 1) := by decide +kernel
theorem dX1_fact_5 : decode cX1_fact 5 = .ok (.if_icmp .gt 13, 3) := by decide +kernel
theorem dX1_fact_8 : decode cX1_fact 8 = .ok (.iload_n 1, 1) := by decide +kernel
theorem dX1_fact_9 : decode cX1_fact 9 = .ok (.iconst 3, 1) := by decide +kernel
theorem dX1_fact_10 : decode cX1_fact 10 = .ok (.ishr, 1) := by decide +kernel
theorem dX1_fact_11 : decode cX1_fact 11 = .ok (.bipush 7, 2) := by decide +kernel
theorem dX1_fact_13 : decode cX1_fact 13 = .ok (.iand, 1) := by decide +kernel
theorem dX1_fact_14 : decode cX1_fact 14 = .ok (.iconst 5, 1) := by decide +kernel
theorem dX1_fact_15 : decode cX1_fact 15 = .ok (.if_icmp .le 5, 3) := by decide +kernel
theorem dX1_fact_18 : decode cX1_fact 18 = .ok (.iconst (-1), 1) := by decide +kernel
theorem dX1_fact_19 : decode cX1_fact 19 = .ok (.ireturn, 1) := by decide +kernel
theorem dX1_fact_20 : decode cX1_fact 20 = .ok (.iload_n 2, 1) := by decide +kernel
theorem dX1_fact_21 : decode cX1_fact 21 = .ok (.iconst 1, 1) := by decide +kernel
theorem dX1_fact_22 : decode cX1_fact 22 = .ok (.if_icmp .lt 8, 3) := by decide +kernel
theorem dX1_fact_25 : decode cX1_fact 25 = .ok (.iload_n 2, 1) := by decide +kernel
theorem dX1_fact_26 : decode cX1_fact 26 = .ok (.iconst 4, 1) := by decide +kernel
theorem dX1_fact_27 : decode cX1_fact 27 = .ok (.if_icmp .le 6, 3) := by decide +kernel
theorem dX1_fact_30 : decode cX1_fact 30 = .ok (.bipush (-2), 2) := by decide +kernel
theorem dX1_fact_32 : decode cX1_fact 32 = .ok (.ireturn, 1) := by decide +kernel
theorem dX1_fact_33 : decode cX1_fact 33 = .ok (.aload_n 0, 1) := by decide +kernel
theorem dX1_fact_34 : decode cX1_fact 34 = .ok (.getfield 38, 3) := by decide +kernel
theorem dX1_fact_37 : decode cX1_fact 37 = .ok (.bipush 9, 2) := by decide +kernel
theorem dX1_fact_39 : decode cX1_fact 39 = .ok (.if_icmp .ne 6, 3) := by decide +kernel
theorem dX1_fact_42 : decode cX1_fact 42 = .ok (.bipush (-3), 2) := by decide +kernel
theorem dX1_fact_44 : decode cX1_fact 44 = .ok (.ireturn, 1) := by decide +kernel
theorem dX1_fact_45 : decode cX1_fact 45 = .ok (.aload_n 0, 1) := by decide +kernel
theorem dX1_fact_46 : decode cX1_fact 46 = .ok (.getfield 7, 3) := by decide +kernel
theorem dX1_fact_49 : decode cX1_fact 49 = .ok (.aload_n 0, 1) := by decide +kernel
theorem dX1_fact_50 : decode cX1_fact 50 = .ok (.getfield 38, 3) := by decide +kernel
theorem dX1_fact_53 : decode cX1_fact 53 = .ok (.iload_n 1, 1) := by decide +kernel
theorem dX1_fact_54 : decode cX1_fact 54 = .ok (.bipush 7, 2) := by decide +kernel
theorem dX1_fact_56 : decode cX1_fact 56 = .ok (.iand, 1) := by decide +kernel
theorem dX1_fact_57 : decode cX1_fact 57 = .ok (.iastore, 1) := by decide +kernel
theorem dX1_fact_58 : decode cX1_fact 58 = .ok (.aload_n 0, 1) := by decide +kernel
theorem dX1_fact_59 : decode cX1_fact 59 = .ok (.getfield 13, 3) := by decide +kernel
theorem dX1_fact_62 : decode cX1_fact 62 = .ok (.aload_n 0, 1) := by decide +kernel
theorem dX1_fact_63 : decode cX1_fact 63 = .ok (.getfield 38, 3) := by decide +kernel
theorem dX1_fact_66 : decode cX1_fact 66 = .ok (.iload_n 1, 1) := by decide +kernel
theorem dX1_fact_67 : decode cX1_fact 67 = .ok (.iconst 3, 1) := by decide +kernel
theorem dX1_fact_68 : decode cX1_fact 68 = .ok (.ishr, 1) := by decide +kernel
theorem dX1_fact_69 : decode cX1_fact 69 = .ok (.bipush 7, 2) := by decide +kernel
theorem dX1_fact_71 : decode cX1_fact 71 = .ok (.iand, 1) := by decide +kernel
theorem dX1_fact_72 : decode cX1_fact 72 = .ok (.iastore, 1) := by decide +kernel
theorem dX1_fact_73 : decode cX1_fact 73 = .ok (.aload_n 0, 1) := by decide +kernel
theorem dX1_fact_74 : decode cX1_fact 74 = .ok (.getfield 16, 3) := by decide +kernel
theorem dX1_fact_77 : decode cX1_fact 77 = .ok (.aload_n 0, 1) := by decide +kernel
theorem dX1_fact_78 : decode cX1_fact 78 = .ok (.getfield 38, 3) := by decide +kernel
theorem dX1_fact_81 : decode cX1_fact 81 = .ok (.iload_n 1, 1) := by decide +kernel
theorem dX1_fact_82 : decode cX1_fact 82 = .ok (.bipush 6, 2) := by decide +kernel
theorem dX1_fact_84 : decode cX1_fact 84 = .ok (.ishr, 1) := by decide +kernel
theorem dX1_fact_85 : decode cX1_fact 85 = .ok (.iconst 1, 1) := by decide +kernel
theorem dX1_fact_86 : decode cX1_fact 86 = .ok (.iand, 1) := by decide +kernel
theorem dX1_fact_87 : decode cX1_fact 87 = .ok (.iastore, 1) := by decide +kernel
theorem dX1_fact_88 : decode cX1_fact 88 = .ok (.aload_n 0, 1) := by decide +kernel
theorem dX1_fact_89 : decode cX1_fact 89 = .ok (.getfield 19, 3) := by decide +kernel
theorem dX1_fact_92 : decode cX1_fact 92 = .ok (.aload_n 0, 1) := by decide +kernel
theorem dX1_fact_93 : decode cX1_fact 93 = .ok (.getfield 38, 3) := by decide +kernel
theorem dX1_fact_96 : decode cX1_fact 96 = .ok (.iload_n 2, 1) := by decide +kernel
theorem dX1_fact_97 : decode cX1_fact 97 = .ok (.iastore, 1) := by decide +kernel
theorem dX1_fact_98 : decode cX1_fact 98 = .ok (.aload_n 0, 1) := by decide +kernel
theorem dX1_fact_99 : decode cX1_fact 99 = .ok (.dup, 1) := by decide +kernel
theorem dX1_fact_100 : decode cX1_fact 100 = .ok (.getfield 38, 3) := by decide +kernel
theorem dX1_fact_103 : decode cX1_fact 103 = .ok (.iconst 1, 1) := by decide +kernel
theorem dX1_fact_104 : decode cX1_fact 104 = .ok (.iadd, 1) := by decide +kernel
theorem dX1_fact_105 : decode cX1_fact 105 = .ok (.putfield 38, 3) := by decide +kernel
theorem dX1_fact_108 : decode cX1_fact 108 = .ok (.aload_n 0, 1) := by decide +kernel
theorem dX1_fact_109 : decode cX1_fact 109 = .ok (.iconst 0, 1) := by decide +kernel
theorem dX1_fact_110 : decode cX1_fact 110 = .ok (.putfield 42, 3) := by decide +kernel
theorem dX1_fact_113 : decode cX1_fact 113 = .ok (.aload_n 0, 1) := by decide +kernel
theorem dX1_fact_114 : decode cX1_fact 114 = .ok (.getfield 38, 3) := by decide +kernel
theorem dX1_fact_117 : decode cX1_fact 117 = .ok (.iconst 1, 1) := by decide +kernel
theorem dX1_fact_118 : decode cX1_fact 118 = .ok (.isub, 1) := by decide +kernel
theorem dX1_fact_119 : decode cX1_fact 119 = .ok (.ireturn, 1) := by decide +kernel
abbrev cX1_likely : ByteArray := prog_3_method_4_code
def yX1_likely : MethodName := ⟨RX1, "likely", "(II)I"⟩
theorem dX1_likely_0 : decode cX1_likely 0 = .ok (.aload_n 0, 1) := by decide +kernel
theorem dX1_likely_1 : decode cX1_likely 1 = .ok (.iload_n 1, 1) := by decide +kernel
theorem dX1_likely_2 : decode cX1_likely 2 = .ok (.invokevirtual 46, 3) := by decide +kernel
theorem dX1_likely_5 : decode cX1_likely 5 = .ok (.ifCond .ne 6, 3) := by decide +kernel
theorem dX1_likely_8 : decode cX1_likely 8 = .ok (.bipush (-4), 2) := by decide +kernel
theorem dX1_likely_10 : decode cX1_likely 10 = .ok (.ireturn, 1) := by decide +kernel
theorem dX1_likely_11 : decode cX1_likely 11 = .ok (.iload_n 2, 1) := by decide +kernel
theorem dX1_likely_12 : decode cX1_likely 12 = .ok (.iconst 1, 1) := by decide +kernel
theorem dX1_likely_13 : decode cX1_likely 13 = .ok (.if_icmp .lt 8, 3) := by decide +kernel
theorem dX1_likely_16 : decode cX1_likely 16 = .ok (.iload_n 2, 1) := by decide +kernel
theorem dX1_likely_17 : decode cX1_likely 17 = .ok (.iconst 4, 1) := by decide +kernel
theorem dX1_likely_18 : decode cX1_likely 18 = .ok (.if_icmp .le 6, 3) := by decide +kernel
theorem dX1_likely_21 : decode cX1_likely 21 = .ok (.bipush (-2), 2) := by decide +kernel
theorem dX1_likely_23 : decode cX1_likely 23 = .ok (.ireturn, 1) := by decide +kernel
theorem dX1_likely_24 : decode cX1_likely 24 = .ok (.aload_n 0, 1) := by decide +kernel
theorem dX1_likely_25 : decode cX1_likely 25 = .ok (.getfield 19, 3) := by decide +kernel
theorem dX1_likely_28 : decode cX1_likely 28 = .ok (.iload_n 1, 1) := by decide +kernel
theorem dX1_likely_29 : decode cX1_likely 29 = .ok (.iaload, 1) := by decide +kernel
theorem dX1_likely_30 : decode cX1_likely 30 = .ok (.istore_n 3, 1) := by decide +kernel
theorem dX1_likely_31 : decode cX1_likely 31 = .ok (.aload_n 0, 1) := by decide +kernel
theorem dX1_likely_32 : decode cX1_likely 32 = .ok (.getfield 19, 3) := by decide +kernel
theorem dX1_likely_35 : decode cX1_likely 35 = .ok (.iload_n 1, 1) := by decide +kernel
theorem dX1_likely_36 : decode cX1_likely 36 = .ok (.iload_n 2, 1) := by decide +kernel
theorem dX1_likely_37 : decode cX1_likely 37 = .ok (.iastore, 1) := by decide +kernel
theorem dX1_likely_38 : decode cX1_likely 38 = .ok (.iload_n 3, 1) := by decide +kernel
theorem dX1_likely_39 : decode cX1_likely 39 = .ok (.ireturn, 1) := by decide +kernel
abbrev cX1_isFact : ByteArray := prog_3_method_3_code
def yX1_isFact : MethodName := ⟨RX1, "isFact", "(I)Z"⟩
theorem dX1_isFact_0 : decode cX1_isFact 0 = .ok (.iload_n 1, 1) := by decide +kernel
theorem dX1_isFact_1 : decode cX1_isFact 1 = .ok (.ifCond .lt 15, 3) := by decide +kernel
theorem dX1_isFact_4 : decode cX1_isFact 4 = .ok (.iload_n 1, 1) := by decide +kernel
theorem dX1_isFact_5 : decode cX1_isFact 5 = .ok (.aload_n 0, 1) := by decide +kernel
theorem dX1_isFact_6 : decode cX1_isFact 6 = .ok (.getfield 38, 3) := by decide +kernel
theorem dX1_isFact_9 : decode cX1_isFact 9 = .ok (.if_icmp .ge 7, 3) := by decide +kernel
theorem dX1_isFact_12 : decode cX1_isFact 12 = .ok (.iconst 1, 1) := by decide +kernel
theorem dX1_isFact_13 : decode cX1_isFact 13 = .ok (.goto 4, 3) := by decide +kernel
theorem dX1_isFact_16 : decode cX1_isFact 16 = .ok (.iconst 0, 1) := by decide +kernel
theorem dX1_isFact_17 : decode cX1_isFact 17 = .ok (.ireturn, 1) := by decide +kernel
abbrev cX1_condition : ByteArray := prog_3_method_6_code
def yX1_condition : MethodName := ⟨RX1, "condition", "(III)I"⟩
theorem dX1_condition_0 : decode cX1_condition 0 = .ok (.aload_n 0, 1) := by decide +kernel
theorem dX1_condition_1 : decode cX1_condition 1 = .ok (.iload_n 2, 1) := by decide +kernel
theorem dX1_condition_2 : decode cX1_condition 2 = .ok (.invokevirtual 50, 3) := by decide +kernel
theorem dX1_condition_5 : decode cX1_condition 5 = .ok (.ifCond .eq 11, 3) := by decide +kernel
theorem dX1_condition_8 : decode cX1_condition 8 = .ok (.aload_n 0, 1) := by decide +kernel
theorem dX1_condition_9 : decode cX1_condition 9 = .ok (.iload_n 3, 1) := by decide +kernel
theorem dX1_condition_10 : decode cX1_condition 10 = .ok (.invokevirtual 50, 3) := by decide +kernel
theorem dX1_condition_13 : decode cX1_condition 13 = .ok (.ifCond .ne 5, 3) := by decide +kernel
theorem dX1_condition_16 : decode cX1_condition 16 = .ok (.iconst (-1), 1) := by decide +kernel
theorem dX1_condition_17 : decode cX1_condition 17 = .ok (.ireturn, 1) := by decide +kernel
theorem dX1_condition_18 : decode cX1_condition 18 = .ok (.aload_n 0, 1) := by decide +kernel
theorem dX1_condition_19 : decode cX1_condition 19 = .ok (.getfield 53, 3) := by decide +kernel
theorem dX1_condition_22 : decode cX1_condition 22 = .ok (.iconst 4, 1) := by decide +kernel
theorem dX1_condition_23 : decode cX1_condition 23 = .ok (.if_icmp .ne 6, 3) := by decide +kernel
theorem dX1_condition_26 : decode cX1_condition 26 = .ok (.bipush (-3), 2) := by decide +kernel
theorem dX1_condition_28 : decode cX1_condition 28 = .ok (.ireturn, 1) := by decide +kernel
theorem dX1_condition_29 : decode cX1_condition 29 = .ok (.aload_n 0, 1) := by decide +kernel
theorem dX1_condition_30 : decode cX1_condition 30 = .ok (.getfield 22, 3) := by decide +kernel
theorem dX1_condition_33 : decode cX1_condition 33 = .ok (.aload_n 0, 1) := by decide +kernel
theorem dX1_condition_34 : decode cX1_condition 34 = .ok (.getfield 53, 3) := by decide +kernel
theorem dX1_condition_37 : decode cX1_condition 37 = .ok (.iload_n 1, 1) := by decide +kernel
theorem dX1_condition_38 : decode cX1_condition 38 = .ok (.iconst 1, 1) := by decide +kernel
theorem dX1_condition_39 : decode cX1_condition 39 = .ok (.iand, 1) := by decide +kernel
theorem dX1_condition_40 : decode cX1_condition 40 = .ok (.iastore, 1) := by decide +kernel
theorem dX1_condition_41 : decode cX1_condition 41 = .ok (.aload_n 0, 1) := by decide +kernel
theorem dX1_condition_42 : decode cX1_condition 42 = .ok (.getfield 25, 3) := by decide +kernel
theorem dX1_condition_45 : decode cX1_condition 45 = .ok (.aload_n 0, 1) := by decide +kernel
theorem dX1_condition_46 : decode cX1_condition 46 = .ok (.getfield 53, 3) := by decide +kernel
theorem dX1_condition_49 : decode cX1_condition 49 = .ok (.iload_n 2, 1) := by decide +kernel
theorem dX1_condition_50 : decode cX1_condition 50 = .ok (.iastore, 1) := by decide +kernel
theorem dX1_condition_51 : decode cX1_condition 51 = .ok (.aload_n 0, 1) := by decide +kernel
theorem dX1_condition_52 : decode cX1_condition 52 = .ok (.getfield 28, 3) := by decide +kernel
theorem dX1_condition_55 : decode cX1_condition 55 = .ok (.aload_n 0, 1) := by decide +kernel
theorem dX1_condition_56 : decode cX1_condition 56 = .ok (.getfield 53, 3) := by decide +kernel
theorem dX1_condition_59 : decode cX1_condition 59 = .ok (.iload_n 3, 1) := by decide +kernel
theorem dX1_condition_60 : decode cX1_condition 60 = .ok (.iastore, 1) := by decide +kernel
theorem dX1_condition_61 : decode cX1_condition 61 = .ok (.aload_n 0, 1) := by decide +kernel
theorem dX1_condition_62 : decode cX1_condition 62 = .ok (.dup, 1) := by decide +kernel
theorem dX1_condition_63 : decode cX1_condition 63 = .ok (.getfield 53, 3) := by decide +kernel
theorem dX1_condition_66 : decode cX1_condition 66 = .ok (.iconst 1, 1) := by decide +kernel
theorem dX1_condition_67 : decode cX1_condition 67 = .ok (.iadd, 1) := by decide +kernel
theorem dX1_condition_68 : decode cX1_condition 68 = .ok (.putfield 53, 3) := by decide +kernel
theorem dX1_condition_71 : decode cX1_condition 71 = .ok (.aload_n 0, 1) := by decide +kernel
theorem dX1_condition_72 : decode cX1_condition 72 = .ok (.iconst 0, 1) := by decide +kernel
theorem dX1_condition_73 : decode cX1_condition 73 = .ok (.putfield 42, 3) := by decide +kernel
theorem dX1_condition_76 : decode cX1_condition 76 = .ok (.aload_n 0, 1) := by decide +kernel
theorem dX1_condition_77 : decode cX1_condition 77 = .ok (.getfield 53, 3) := by decide +kernel
theorem dX1_condition_80 : decode cX1_condition 80 = .ok (.ireturn, 1) := by decide +kernel
abbrev cX1_isEnd : ByteArray := prog_3_method_5_code
def yX1_isEnd : MethodName := ⟨RX1, "isEnd", "(I)Z"⟩
theorem dX1_isEnd_0 : decode cX1_isEnd 0 = .ok (.iload_n 1, 1) := by decide +kernel
theorem dX1_isEnd_1 : decode cX1_isEnd 1 = .ok (.ifCond .lt 8, 3) := by decide +kernel
theorem dX1_isEnd_4 : decode cX1_isEnd 4 = .ok (.iload_n 1, 1) := by decide +kernel
theorem dX1_isEnd_5 : decode cX1_isEnd 5 = .ok (.iconst 2, 1) := by decide +kernel
theorem dX1_isEnd_6 : decode cX1_isEnd 6 = .ok (.if_icmp .le 15, 3) := by decide +kernel
theorem dX1_isEnd_9 : decode cX1_isEnd 9 = .ok (.iload_n 1, 1) := by decide +kernel
theorem dX1_isEnd_10 : decode cX1_isEnd 10 = .ok (.bipush 8, 2) := by decide +kernel
theorem dX1_isEnd_12 : decode cX1_isEnd 12 = .ok (.if_icmp .lt 13, 3) := by decide +kernel
theorem dX1_isEnd_15 : decode cX1_isEnd 15 = .ok (.iload_n 1, 1) := by decide +kernel
theorem dX1_isEnd_16 : decode cX1_isEnd 16 = .ok (.bipush 13, 2) := by decide +kernel
theorem dX1_isEnd_18 : decode cX1_isEnd 18 = .ok (.if_icmp .gt 7, 3) := by decide +kernel
theorem dX1_isEnd_21 : decode cX1_isEnd 21 = .ok (.iconst 1, 1) := by decide +kernel
theorem dX1_isEnd_22 : decode cX1_isEnd 22 = .ok (.goto 4, 3) := by decide +kernel
theorem dX1_isEnd_25 : decode cX1_isEnd 25 = .ok (.iconst 0, 1) := by decide +kernel
theorem dX1_isEnd_26 : decode cX1_isEnd 26 = .ok (.ireturn, 1) := by decide +kernel
abbrev cX1_ask : ByteArray := prog_3_method_7_code
def yX1_ask : MethodName := ⟨RX1, "ask", "()V"⟩
theorem dX1_ask_0 : decode cX1_ask 0 = .ok (.aload_n 0, 1) := by decide +kernel
theorem dX1_ask_1 : decode cX1_ask 1 = .ok (.iconst 0, 1) := by decide +kernel
theorem dX1_ask_2 : decode cX1_ask 2 = .ok (.putfield 53, 3) := by decide +kernel
theorem dX1_ask_5 : decode cX1_ask 5 = .ok (.aload_n 0, 1) := by decide +kernel
theorem dX1_ask_6 : decode cX1_ask 6 = .ok (.iconst 0, 1) := by decide +kernel
theorem dX1_ask_7 : decode cX1_ask 7 = .ok (.putfield 42, 3) := by decide +kernel
theorem dX1_ask_10 : decode cX1_ask 10 = .ok (.return_, 1) := by decide +kernel
abbrev cX1_drop : ByteArray := prog_3_method_8_code
def yX1_drop : MethodName := ⟨RX1, "drop", "()I"⟩
theorem dX1_drop_0 : decode cX1_drop 0 = .ok (.aload_n 0, 1) := by decide +kernel
theorem dX1_drop_1 : decode cX1_drop 1 = .ok (.getfield 38, 3) := by decide +kernel
theorem dX1_drop_4 : decode cX1_drop 4 = .ok (.ifCond .ne 6, 3) := by decide +kernel
theorem dX1_drop_7 : decode cX1_drop 7 = .ok (.bipush (-4), 2) := by decide +kernel
theorem dX1_drop_9 : decode cX1_drop 9 = .ok (.ireturn, 1) := by decide +kernel
theorem dX1_drop_10 : decode cX1_drop 10 = .ok (.aload_n 0, 1) := by decide +kernel
theorem dX1_drop_11 : decode cX1_drop 11 = .ok (.dup, 1) := by decide +kernel
theorem dX1_drop_12 : decode cX1_drop 12 = .ok (.getfield 38, 3) := by decide +kernel
theorem dX1_drop_15 : decode cX1_drop 15 = .ok (.iconst 1, 1) := by decide +kernel
theorem dX1_drop_16 : decode cX1_drop 16 = .ok (.isub, 1) := by decide +kernel
theorem dX1_drop_17 : decode cX1_drop 17 = .ok (.putfield 38, 3) := by decide +kernel
theorem dX1_drop_20 : decode cX1_drop 20 = .ok (.aload_n 0, 1) := by decide +kernel
theorem dX1_drop_21 : decode cX1_drop 21 = .ok (.iconst 0, 1) := by decide +kernel
theorem dX1_drop_22 : decode cX1_drop 22 = .ok (.putfield 42, 3) := by decide +kernel
theorem dX1_drop_25 : decode cX1_drop 25 = .ok (.aload_n 0, 1) := by decide +kernel
theorem dX1_drop_26 : decode cX1_drop 26 = .ok (.getfield 38, 3) := by decide +kernel
theorem dX1_drop_29 : decode cX1_drop 29 = .ok (.ireturn, 1) := by decide +kernel
abbrev cX1_share : ByteArray := prog_3_method_15_code
def yX1_share : MethodName := ⟨RX1, "share", "()I"⟩
theorem dX1_share_0 : decode cX1_share 0 = .ok (.aload_n 0, 1) := by decide +kernel
theorem dX1_share_1 : decode cX1_share 1 = .ok (.iconst 0, 1) := by decide +kernel
theorem dX1_share_2 : decode cX1_share 2 = .ok (.invokevirtual 73, 3) := by decide +kernel
theorem dX1_share_5 : decode cX1_share 5 = .ok (.ireturn, 1) := by decide +kernel
abbrev cX1_sum : ByteArray := prog_3_method_14_code
def yX1_sum : MethodName := ⟨RX1, "sum", "(I)I"⟩
theorem dX1_sum_0 : decode cX1_sum 0 = .ok (.iconst 0, 1) := by decide +kernel
theorem dX1_sum_1 : decode cX1_sum 1 = .ok (.istore_n 2, 1) := by decide +kernel
theorem dX1_sum_2 : decode cX1_sum 2 = .ok (.aload_n 0, 1) := by decide +kernel
theorem dX1_sum_3 : decode cX1_sum 3 = .ok (.invokevirtual 66, 3) := by decide +kernel
theorem dX1_sum_6 : decode cX1_sum 6 = .ok (.iconst 0, 1) := by decide +kernel
theorem dX1_sum_7 : decode cX1_sum 7 = .ok (.istore_n 3, 1) := by decide +kernel
theorem dX1_sum_8 : decode cX1_sum 8 = .ok (.iload_n 3, 1) := by decide +kernel
theorem dX1_sum_9 : decode cX1_sum 9 = .ok (.iconst 1, 1) := by decide +kernel
theorem dX1_sum_10 : decode cX1_sum 10 = .ok (.aload_n 0, 1) := by decide +kernel
theorem dX1_sum_11 : decode cX1_sum 11 = .ok (.getfield 38, 3) := by decide +kernel
theorem dX1_sum_14 : decode cX1_sum 14 = .ok (.ishl, 1) := by decide +kernel
theorem dX1_sum_15 : decode cX1_sum 15 = .ok (.if_icmp .ge 33, 3) := by decide +kernel
theorem dX1_sum_18 : decode cX1_sum 18 = .ok (.aload_n 0, 1) := by decide +kernel
theorem dX1_sum_19 : decode cX1_sum 19 = .ok (.getfield 34, 3) := by decide +kernel
theorem dX1_sum_22 : decode cX1_sum 22 = .ok (.iload_n 3, 1) := by decide +kernel
theorem dX1_sum_23 : decode cX1_sum 23 = .ok (.baload, 1) := by decide +kernel
theorem dX1_sum_24 : decode cX1_sum 24 = .ok (.ifCond .eq 18, 3) := by decide +kernel
theorem dX1_sum_27 : decode cX1_sum 27 = .ok (.iload_n 3, 1) := by decide +kernel
theorem dX1_sum_28 : decode cX1_sum 28 = .ok (.iload_n 1, 1) := by decide +kernel
theorem dX1_sum_29 : decode cX1_sum 29 = .ok (.iand, 1) := by decide +kernel
theorem dX1_sum_30 : decode cX1_sum 30 = .ok (.iload_n 1, 1) := by decide +kernel
theorem dX1_sum_31 : decode cX1_sum 31 = .ok (.if_icmp .ne 11, 3) := by decide +kernel
theorem dX1_sum_34 : decode cX1_sum 34 = .ok (.iload_n 2, 1) := by decide +kernel
theorem dX1_sum_35 : decode cX1_sum 35 = .ok (.aload_n 0, 1) := by decide +kernel
theorem dX1_sum_36 : decode cX1_sum 36 = .ok (.iload_n 3, 1) := by decide +kernel
theorem dX1_sum_37 : decode cX1_sum 37 = .ok (.invokevirtual 69, 3) := by decide +kernel
theorem dX1_sum_40 : decode cX1_sum 40 = .ok (.iadd, 1) := by decide +kernel
theorem dX1_sum_41 : decode cX1_sum 41 = .ok (.istore_n 2, 1) := by decide +kernel
theorem dX1_sum_42 : decode cX1_sum 42 = .ok (.iinc 3 1, 3) := by decide +kernel
theorem dX1_sum_45 : decode cX1_sum 45 = .ok (.goto (-37), 3) := by decide +kernel
theorem dX1_sum_48 : decode cX1_sum 48 = .ok (.iload_n 2, 1) := by decide +kernel
theorem dX1_sum_49 : decode cX1_sum 49 = .ok (.ireturn, 1) := by decide +kernel
abbrev cX1_work : ByteArray := prog_3_method_12_code
def yX1_work : MethodName := ⟨RX1, "work", "()V"⟩
theorem dX1_work_0 : decode cX1_work 0 = .ok (.aload_n 0, 1) := by decide +kernel
theorem dX1_work_1 : decode cX1_work 1 = .ok (.getfield 42, 3) := by decide +kernel
theorem dX1_work_4 : decode cX1_work 4 = .ok (.ifCond .eq 4, 3) := by decide +kernel
theorem dX1_work_7 : decode cX1_work 7 = .ok (.return_, 1) := by decide +kernel
theorem dX1_work_8 : decode cX1_work 8 = .ok (.aload_n 0, 1) := by decide +kernel
theorem dX1_work_9 : decode cX1_work 9 = .ok (.iconst 1, 1) := by decide +kernel
theorem dX1_work_10 : decode cX1_work 10 = .ok (.putfield 42, 3) := by decide +kernel
theorem dX1_work_13 : decode cX1_work 13 = .ok (.iconst 0, 1) := by decide +kernel
theorem dX1_work_14 : decode cX1_work 14 = .ok (.istore_n 1, 1) := by decide +kernel
theorem dX1_work_15 : decode cX1_work 15 = .ok (.iload_n 1, 1) := by decide +kernel
theorem dX1_work_16 : decode cX1_work 16 = .ok (.sipush 512, 3) := by decide +kernel
theorem dX1_work_19 : decode cX1_work 19 = .ok (.if_icmp .ge 16, 3) := by decide +kernel
theorem dX1_work_22 : decode cX1_work 22 = .ok (.aload_n 0, 1) := by decide +kernel
theorem dX1_work_23 : decode cX1_work 23 = .ok (.getfield 34, 3) := by decide +kernel
theorem dX1_work_26 : decode cX1_work 26 = .ok (.iload_n 1, 1) := by decide +kernel
theorem dX1_work_27 : decode cX1_work 27 = .ok (.iconst 0, 1) := by decide +kernel
theorem dX1_work_28 : decode cX1_work 28 = .ok (.bastore, 1) := by decide +kernel
theorem dX1_work_29 : decode cX1_work 29 = .ok (.iinc 1 1, 3) := by decide +kernel
theorem dX1_work_32 : decode cX1_work 32 = .ok (.goto (-17), 3) := by decide +kernel
theorem dX1_work_35 : decode cX1_work 35 = .ok (.aload_n 0, 1) := by decide +kernel
theorem dX1_work_36 : decode cX1_work 36 = .ok (.getfield 53, 3) := by decide +kernel
theorem dX1_work_39 : decode cX1_work 39 = .ok (.ifCond .ne 7, 3) := by decide +kernel
theorem dX1_work_42 : decode cX1_work 42 = .ok (.iconst 1, 1) := by decide +kernel
theorem dX1_work_43 : decode cX1_work 43 = .ok (.goto 6, 3) := by decide +kernel
theorem dX1_work_46 : decode cX1_work 46 = .ok (.sipush 216, 3) := by decide +kernel
theorem dX1_work_49 : decode cX1_work 49 = .ok (.istore_n 1, 1) := by decide +kernel
theorem dX1_work_50 : decode cX1_work 50 = .ok (.iconst 0, 1) := by decide +kernel
theorem dX1_work_51 : decode cX1_work 51 = .ok (.istore_n 2, 1) := by decide +kernel
theorem dX1_work_52 : decode cX1_work 52 = .ok (.iload_n 2, 1) := by decide +kernel
theorem dX1_work_53 : decode cX1_work 53 = .ok (.iload_n 1, 1) := by decide +kernel
theorem dX1_work_54 : decode cX1_work 54 = .ok (.if_icmp .ge 70, 3) := by decide +kernel
theorem dX1_work_57 : decode cX1_work 57 = .ok (.aload_n 0, 1) := by decide +kernel
theorem dX1_work_58 : decode cX1_work 58 = .ok (.iload_n 2, 1) := by decide +kernel
theorem dX1_work_59 : decode cX1_work 59 = .ok (.invokevirtual 60, 3) := by decide +kernel
theorem dX1_work_62 : decode cX1_work 62 = .ok (.istore_n 3, 1) := by decide +kernel
theorem dX1_work_63 : decode cX1_work 63 = .ok (.iconst 0, 1) := by decide +kernel
theorem dX1_work_64 : decode cX1_work 64 = .ok (.istore 4, 2) := by decide +kernel
theorem dX1_work_66 : decode cX1_work 66 = .ok (.iload_n 3, 1) := by decide +kernel
theorem dX1_work_67 : decode cX1_work 67 = .ok (.ifCond .eq 51, 3) := by decide +kernel
theorem dX1_work_70 : decode cX1_work 70 = .ok (.iload 4, 2) := by decide +kernel
theorem dX1_work_72 : decode cX1_work 72 = .ok (.iconst 1, 1) := by decide +kernel
theorem dX1_work_73 : decode cX1_work 73 = .ok (.aload_n 0, 1) := by decide +kernel
theorem dX1_work_74 : decode cX1_work 74 = .ok (.getfield 38, 3) := by decide +kernel
theorem dX1_work_77 : decode cX1_work 77 = .ok (.ishl, 1) := by decide +kernel
theorem dX1_work_78 : decode cX1_work 78 = .ok (.if_icmp .ge 40, 3) := by decide +kernel
theorem dX1_work_81 : decode cX1_work 81 = .ok (.aload_n 0, 1) := by decide +kernel
theorem dX1_work_82 : decode cX1_work 82 = .ok (.getfield 34, 3) := by decide +kernel
theorem dX1_work_85 : decode cX1_work 85 = .ok (.iload 4, 2) := by decide +kernel
theorem dX1_work_87 : decode cX1_work 87 = .ok (.aload_n 0, 1) := by decide +kernel
theorem dX1_work_88 : decode cX1_work 88 = .ok (.getfield 34, 3) := by decide +kernel
theorem dX1_work_91 : decode cX1_work 91 = .ok (.iload 4, 2) := by decide +kernel
theorem dX1_work_93 : decode cX1_work 93 = .ok (.baload, 1) := by decide +kernel
theorem dX1_work_94 : decode cX1_work 94 = .ok (.ifCond .ne 12, 3) := by decide +kernel
theorem dX1_work_97 : decode cX1_work 97 = .ok (.aload_n 0, 1) := by decide +kernel
theorem dX1_work_98 : decode cX1_work 98 = .ok (.iload 4, 2) := by decide +kernel
theorem dX1_work_100 : decode cX1_work 100 = .ok (.invokevirtual 63, 3) := by decide +kernel
theorem dX1_work_103 : decode cX1_work 103 = .ok (.ifCond .eq 7, 3) := by decide +kernel
theorem dX1_work_106 : decode cX1_work 106 = .ok (.iconst 1, 1) := by decide +kernel
theorem dX1_work_107 : decode cX1_work 107 = .ok (.goto 4, 3) := by decide +kernel
theorem dX1_work_110 : decode cX1_work 110 = .ok (.iconst 0, 1) := by decide +kernel
theorem dX1_work_111 : decode cX1_work 111 = .ok (.bastore, 1) := by decide +kernel
theorem dX1_work_112 : decode cX1_work 112 = .ok (.iinc 4 1, 3) := by decide +kernel
theorem dX1_work_115 : decode cX1_work 115 = .ok (.goto (-49), 3) := by decide +kernel
theorem dX1_work_118 : decode cX1_work 118 = .ok (.iinc 2 1, 3) := by decide +kernel
theorem dX1_work_121 : decode cX1_work 121 = .ok (.goto (-69), 3) := by decide +kernel
theorem dX1_work_124 : decode cX1_work 124 = .ok (.return_, 1) := by decide +kernel
end
section
set_option maxRecDepth 100000
abbrev cX1_possible : ByteArray := prog_3_method_10_code
def yX1_possible : MethodName := ⟨RX1, "possible", "(I)Z"⟩
theorem dX1_possible_0 : decode cX1_possible 0 = .ok (.iconst 0, 1) := by decide +kernel
theorem dX1_possible_1 : decode cX1_possible 1 = .ok (.istore_n 2, 1) := by decide +kernel
theorem dX1_possible_2 : decode cX1_possible 2 = .ok (.iload_n 2, 1) := by decide +kernel
theorem dX1_possible_3 : decode cX1_possible 3 = .ok (.aload_n 0, 1) := by decide +kernel
theorem dX1_possible_4 : decode cX1_possible 4 = .ok (.getfield 53, 3) := by decide +kernel
theorem dX1_possible_7 : decode cX1_possible 7 = .ok (.if_icmp .ge 122, 3) := by decide +kernel
theorem dX1_possible_10 : decode cX1_possible 10 = .ok (.aload_n 0, 1) := by decide +kernel
theorem dX1_possible_11 : decode cX1_possible 11 = .ok (.getfield 31, 3) := by decide +kernel
theorem dX1_possible_14 : decode cX1_possible 14 = .ok (.iload_n 2, 1) := by decide +kernel
theorem dX1_possible_15 : decode cX1_possible 15 = .ok (.iconst 0, 1) := by decide +kernel
theorem dX1_possible_16 : decode cX1_possible 16 = .ok (.iastore, 1) := by decide +kernel
theorem dX1_possible_17 : decode cX1_possible 17 = .ok (.iconst 0, 1) := by decide +kernel
theorem dX1_possible_18 : decode cX1_possible 18 = .ok (.istore_n 3, 1) := by decide +kernel
theorem dX1_possible_19 : decode cX1_possible 19 = .ok (.iload_n 3, 1) := by decide +kernel
theorem dX1_possible_20 : decode cX1_possible 20 = .ok (.aload_n 0, 1) := by decide +kernel
theorem dX1_possible_21 : decode cX1_possible 21 = .ok (.getfield 38, 3) := by decide +kernel
theorem dX1_possible_24 : decode cX1_possible 24 = .ok (.if_icmp .ge 88, 3) := by decide +kernel
theorem dX1_possible_27 : decode cX1_possible 27 = .ok (.aload_n 0, 1) := by decide +kernel
theorem dX1_possible_28 : decode cX1_possible 28 = .ok (.getfield 7, 3) := by decide +kernel
theorem dX1_possible_31 : decode cX1_possible 31 = .ok (.iload_n 3, 1) := by decide +kernel
theorem dX1_possible_32 : decode cX1_possible 32 = .ok (.iaload, 1) := by decide +kernel
theorem dX1_possible_33 : decode cX1_possible 33 = .ok (.aload_n 0, 1) := by decide +kernel
theorem dX1_possible_34 : decode cX1_possible 34 = .ok (.aload_n 0, 1) := by decide +kernel
theorem dX1_possible_35 : decode cX1_possible 35 = .ok (.getfield 25, 3) := by decide +kernel
theorem dX1_possible_38 : decode cX1_possible 38 = .ok (.iload_n 2, 1) := by decide +kernel
theorem dX1_possible_39 : decode cX1_possible 39 = .ok (.iaload, 1) := by decide +kernel
theorem dX1_possible_40 : decode cX1_possible 40 = .ok (.iload_n 1, 1) := by decide +kernel
theorem dX1_possible_41 : decode cX1_possible 41 = .ok (.invokevirtual 56, 3) := by decide +kernel
theorem dX1_possible_44 : decode cX1_possible 44 = .ok (.if_icmp .ne 27, 3) := by decide +kernel
theorem dX1_possible_47 : decode cX1_possible 47 = .ok (.aload_n 0, 1) := by decide +kernel
theorem dX1_possible_48 : decode cX1_possible 48 = .ok (.getfield 13, 3) := by decide +kernel
theorem dX1_possible_51 : decode cX1_possible 51 = .ok (.iload_n 3, 1) := by decide +kernel
theorem dX1_possible_52 : decode cX1_possible 52 = .ok (.iaload, 1) := by decide +kernel
theorem dX1_possible_53 : decode cX1_possible 53 = .ok (.aload_n 0, 1) := by decide +kernel
theorem dX1_possible_54 : decode cX1_possible 54 = .ok (.aload_n 0, 1) := by decide +kernel
theorem dX1_possible_55 : decode cX1_possible 55 = .ok (.getfield 28, 3) := by decide +kernel
theorem dX1_possible_58 : decode cX1_possible 58 = .ok (.iload_n 2, 1) := by decide +kernel
theorem dX1_possible_59 : decode cX1_possible 59 = .ok (.iaload, 1) := by decide +kernel
theorem dX1_possible_60 : decode cX1_possible 60 = .ok (.iload_n 1, 1) := by decide +kernel
theorem dX1_possible_61 : decode cX1_possible 61 = .ok (.invokevirtual 56, 3) := by decide +kernel
theorem dX1_possible_64 : decode cX1_possible 64 = .ok (.if_icmp .ne 7, 3) := by decide +kernel
theorem dX1_possible_67 : decode cX1_possible 67 = .ok (.iconst 1, 1) := by decide +kernel
theorem dX1_possible_68 : decode cX1_possible 68 = .ok (.goto 4, 3) := by decide +kernel
theorem dX1_possible_71 : decode cX1_possible 71 = .ok (.iconst 0, 1) := by decide +kernel
theorem dX1_possible_72 : decode cX1_possible 72 = .ok (.istore 4, 2) := by decide +kernel
theorem dX1_possible_74 : decode cX1_possible 74 = .ok (.iload 4, 2) := by decide +kernel
theorem dX1_possible_76 : decode cX1_possible 76 = .ok (.ifCond .eq 30, 3) := by decide +kernel
theorem dX1_possible_79 : decode cX1_possible 79 = .ok (.aload_n 0, 1) := by decide +kernel
theorem dX1_possible_80 : decode cX1_possible 80 = .ok (.getfield 16, 3) := by decide +kernel
theorem dX1_possible_83 : decode cX1_possible 83 = .ok (.iload_n 3, 1) := by decide +kernel
theorem dX1_possible_84 : decode cX1_possible 84 = .ok (.iaload, 1) := by decide +kernel
theorem dX1_possible_85 : decode cX1_possible 85 = .ok (.aload_n 0, 1) := by decide +kernel
theorem dX1_possible_86 : decode cX1_possible 86 = .ok (.getfield 22, 3) := by decide +kernel
theorem dX1_possible_89 : decode cX1_possible 89 = .ok (.iload_n 2, 1) := by decide +kernel
theorem dX1_possible_90 : decode cX1_possible 90 = .ok (.iaload, 1) := by decide +kernel
theorem dX1_possible_91 : decode cX1_possible 91 = .ok (.if_icmp .ne 15, 3) := by decide +kernel
theorem dX1_possible_94 : decode cX1_possible 94 = .ok (.aload_n 0, 1) := by decide +kernel
theorem dX1_possible_95 : decode cX1_possible 95 = .ok (.getfield 31, 3) := by decide +kernel
theorem dX1_possible_98 : decode cX1_possible 98 = .ok (.iload_n 2, 1) := by decide +kernel
theorem dX1_possible_99 : decode cX1_possible 99 = .ok (.dup2, 1) := by decide +kernel
theorem dX1_possible_100 : decode cX1_possible 100 = .ok (.iaload, 1) := by decide +kernel
theorem dX1_possible_101 : decode cX1_possible 101 = .ok (.iconst 1, 1) := by decide +kernel
theorem dX1_possible_102 : decode cX1_possible 102 = .ok (.iload_n 3, 1) := by decide +kernel
theorem dX1_possible_103 : decode cX1_possible 103 = .ok (.ishl, 1) := by decide +kernel
theorem dX1_possible_104 : decode cX1_possible 104 = .ok (.ior, 1) := by decide +kernel
theorem dX1_possible_105 : decode cX1_possible 105 = .ok (.iastore, 1) := by decide +kernel
theorem dX1_possible_106 : decode cX1_possible 106 = .ok (.iinc 3 1, 3) := by decide +kernel
theorem dX1_possible_109 : decode cX1_possible 109 = .ok (.goto (-90), 3) := by decide +kernel
theorem dX1_possible_112 : decode cX1_possible 112 = .ok (.aload_n 0, 1) := by decide +kernel
theorem dX1_possible_113 : decode cX1_possible 113 = .ok (.getfield 31, 3) := by decide +kernel
theorem dX1_possible_116 : decode cX1_possible 116 = .ok (.iload_n 2, 1) := by decide +kernel
theorem dX1_possible_117 : decode cX1_possible 117 = .ok (.iaload, 1) := by decide +kernel
theorem dX1_possible_118 : decode cX1_possible 118 = .ok (.ifCond .ne 5, 3) := by decide +kernel
theorem dX1_possible_121 : decode cX1_possible 121 = .ok (.iconst 0, 1) := by decide +kernel
theorem dX1_possible_122 : decode cX1_possible 122 = .ok (.ireturn, 1) := by decide +kernel
theorem dX1_possible_123 : decode cX1_possible 123 = .ok (.iinc 2 1, 3) := by decide +kernel
theorem dX1_possible_126 : decode cX1_possible 126 = .ok (.goto (-124), 3) := by decide +kernel
theorem dX1_possible_129 : decode cX1_possible 129 = .ok (.iconst 1, 1) := by decide +kernel
theorem dX1_possible_130 : decode cX1_possible 130 = .ok (.ireturn, 1) := by decide +kernel
abbrev cX1_node : ByteArray := prog_3_method_9_code
def yX1_node : MethodName := ⟨RX1, "node", "(II)I"⟩
theorem dX1_node_0 : decode cX1_node 0 = .ok (.iload_n 1, 1) := by decide +kernel
theorem dX1_node_1 : decode cX1_node 1 = .ok (.bipush 8, 2) := by decide +kernel
theorem dX1_node_3 : decode cX1_node 3 = .ok (.if_icmp .lt 8, 3) := by decide +kernel
theorem dX1_node_6 : decode cX1_node 6 = .ok (.iload_n 1, 1) := by decide +kernel
theorem dX1_node_7 : decode cX1_node 7 = .ok (.bipush 8, 2) := by decide +kernel
theorem dX1_node_9 : decode cX1_node 9 = .ok (.isub, 1) := by decide +kernel
theorem dX1_node_10 : decode cX1_node 10 = .ok (.ireturn, 1) := by decide +kernel
theorem dX1_node_11 : decode cX1_node 11 = .ok (.iload_n 1, 1) := by decide +kernel
theorem dX1_node_12 : decode cX1_node 12 = .ok (.ifCond .ne 8, 3) := by decide +kernel
theorem dX1_node_15 : decode cX1_node 15 = .ok (.iload_n 2, 1) := by decide +kernel
theorem dX1_node_16 : decode cX1_node 16 = .ok (.bipush 6, 2) := by decide +kernel
theorem dX1_node_18 : decode cX1_node 18 = .ok (.irem, 1) := by decide +kernel
theorem dX1_node_19 : decode cX1_node 19 = .ok (.ireturn, 1) := by decide +kernel
theorem dX1_node_20 : decode cX1_node 20 = .ok (.iload_n 1, 1) := by decide +kernel
theorem dX1_node_21 : decode cX1_node 21 = .ok (.iconst 1, 1) := by decide +kernel
theorem dX1_node_22 : decode cX1_node 22 = .ok (.if_icmp .ne 13, 3) := by decide +kernel
theorem dX1_node_25 : decode cX1_node 25 = .ok (.iload_n 2, 1) := by decide +kernel
theorem dX1_node_26 : decode cX1_node 26 = .ok (.bipush 6, 2) := by decide +kernel
theorem dX1_node_28 : decode cX1_node 28 = .ok (.idiv, 1) := by decide +kernel
theorem dX1_node_29 : decode cX1_node 29 = .ok (.bipush 6, 2) := by decide +kernel
theorem dX1_node_31 : decode cX1_node 31 = .ok (.irem, 1) := by decide +kernel
theorem dX1_node_32 : decode cX1_node 32 = .ok (.goto 7, 3) := by decide +kernel
theorem dX1_node_35 : decode cX1_node 35 = .ok (.iload_n 2, 1) := by decide +kernel
theorem dX1_node_36 : decode cX1_node 36 = .ok (.bipush 36, 2) := by decide +kernel
theorem dX1_node_38 : decode cX1_node 38 = .ok (.idiv, 1) := by decide +kernel
theorem dX1_node_39 : decode cX1_node 39 = .ok (.ireturn, 1) := by decide +kernel
abbrev cX1_holdsIn : ByteArray := prog_3_method_11_code
def yX1_holdsIn : MethodName := ⟨RX1, "holdsIn", "(I)Z"⟩
theorem dX1_holdsIn_0 : decode cX1_holdsIn 0 = .ok (.iconst 0, 1) := by decide +kernel
theorem dX1_holdsIn_1 : decode cX1_holdsIn 1 = .ok (.istore_n 2, 1) := by decide +kernel
theorem dX1_holdsIn_2 : decode cX1_holdsIn 2 = .ok (.iload_n 2, 1) := by decide +kernel
theorem dX1_holdsIn_3 : decode cX1_holdsIn 3 = .ok (.aload_n 0, 1) := by decide +kernel
theorem dX1_holdsIn_4 : decode cX1_holdsIn 4 = .ok (.getfield 53, 3) := by decide +kernel
theorem dX1_holdsIn_7 : decode cX1_holdsIn 7 = .ok (.if_icmp .ge 22, 3) := by decide +kernel
theorem dX1_holdsIn_10 : decode cX1_holdsIn 10 = .ok (.iload_n 1, 1) := by decide +kernel
theorem dX1_holdsIn_11 : decode cX1_holdsIn 11 = .ok (.aload_n 0, 1) := by decide +kernel
theorem dX1_holdsIn_12 : decode cX1_holdsIn 12 = .ok (.getfield 31, 3) := by decide +kernel
theorem dX1_holdsIn_15 : decode cX1_holdsIn 15 = .ok (.iload_n 2, 1) := by decide +kernel
theorem dX1_holdsIn_16 : decode cX1_holdsIn 16 = .ok (.iaload, 1) := by decide +kernel
theorem dX1_holdsIn_17 : decode cX1_holdsIn 17 = .ok (.iand, 1) := by decide +kernel
theorem dX1_holdsIn_18 : decode cX1_holdsIn 18 = .ok (.ifCond .ne 5, 3) := by decide +kernel
theorem dX1_holdsIn_21 : decode cX1_holdsIn 21 = .ok (.iconst 0, 1) := by decide +kernel
theorem dX1_holdsIn_22 : decode cX1_holdsIn 22 = .ok (.ireturn, 1) := by decide +kernel
theorem dX1_holdsIn_23 : decode cX1_holdsIn 23 = .ok (.iinc 2 1, 3) := by decide +kernel
theorem dX1_holdsIn_26 : decode cX1_holdsIn 26 = .ok (.goto (-24), 3) := by decide +kernel
theorem dX1_holdsIn_29 : decode cX1_holdsIn 29 = .ok (.iconst 1, 1) := by decide +kernel
theorem dX1_holdsIn_30 : decode cX1_holdsIn 30 = .ok (.ireturn, 1) := by decide +kernel
abbrev cX1_weight : ByteArray := prog_3_method_13_code
def yX1_weight : MethodName := ⟨RX1, "weight", "(I)I"⟩
theorem dX1_weight_0 : decode cX1_weight 0 = .ok (.iconst 1, 1) := by decide +kernel
theorem dX1_weight_1 : decode cX1_weight 1 = .ok (.istore_n 2, 1) := by decide +kernel
theorem dX1_weight_2 : decode cX1_weight 2 = .ok (.iconst 0, 1) := by decide +kernel
theorem dX1_weight_3 : decode cX1_weight 3 = .ok (.istore_n 3, 1) := by decide +kernel
theorem dX1_weight_4 : decode cX1_weight 4 = .ok (.iload_n 3, 1) := by decide +kernel
theorem dX1_weight_5 : decode cX1_weight 5 = .ok (.aload_n 0, 1) := by decide +kernel
theorem dX1_weight_6 : decode cX1_weight 6 = .ok (.getfield 38, 3) := by decide +kernel
theorem dX1_weight_9 : decode cX1_weight 9 = .ok (.if_icmp .ge 37, 3) := by decide +kernel
theorem dX1_weight_12 : decode cX1_weight 12 = .ok (.iload_n 2, 1) := by decide +kernel
theorem dX1_weight_13 : decode cX1_weight 13 = .ok (.iload_n 1, 1) := by decide +kernel
theorem dX1_weight_14 : decode cX1_weight 14 = .ok (.iload_n 3, 1) := by decide +kernel
theorem dX1_weight_15 : decode cX1_weight 15 = .ok (.ishr, 1) := by decide +kernel
theorem dX1_weight_16 : decode cX1_weight 16 = .ok (.iconst 1, 1) := by decide +kernel
theorem dX1_weight_17 : decode cX1_weight 17 = .ok (.iand, 1) := by decide +kernel
theorem dX1_weight_18 : decode cX1_weight 18 = .ok (.ifCond .eq 12, 3) := by decide +kernel
theorem dX1_weight_21 : decode cX1_weight 21 = .ok (.aload_n 0, 1) := by decide +kernel
theorem dX1_weight_22 : decode cX1_weight 22 = .ok (.getfield 19, 3) := by decide +kernel
theorem dX1_weight_25 : decode cX1_weight 25 = .ok (.iload_n 3, 1) := by decide +kernel
theorem dX1_weight_26 : decode cX1_weight 26 = .ok (.iaload, 1) := by decide +kernel
theorem dX1_weight_27 : decode cX1_weight 27 = .ok (.goto 11, 3) := by decide +kernel
theorem dX1_weight_30 : decode cX1_weight 30 = .ok (.iconst 4, 1) := by decide +kernel
theorem dX1_weight_31 : decode cX1_weight 31 = .ok (.aload_n 0, 1) := by decide +kernel
theorem dX1_weight_32 : decode cX1_weight 32 = .ok (.getfield 19, 3) := by decide +kernel
theorem dX1_weight_35 : decode cX1_weight 35 = .ok (.iload_n 3, 1) := by decide +kernel
theorem dX1_weight_36 : decode cX1_weight 36 = .ok (.iaload, 1) := by decide +kernel
theorem dX1_weight_37 : decode cX1_weight 37 = .ok (.isub, 1) := by decide +kernel
theorem dX1_weight_38 : decode cX1_weight 38 = .ok (.imul, 1) := by decide +kernel
theorem dX1_weight_39 : decode cX1_weight 39 = .ok (.istore_n 2, 1) := by decide +kernel
theorem dX1_weight_40 : decode cX1_weight 40 = .ok (.iinc 3 1, 3) := by decide +kernel
theorem dX1_weight_43 : decode cX1_weight 43 = .ok (.goto (-39), 3) := by decide +kernel
theorem dX1_weight_46 : decode cX1_weight 46 = .ok (.iload_n 2, 1) := by decide +kernel
theorem dX1_weight_47 : decode cX1_weight 47 = .ok (.ireturn, 1) := by decide +kernel
abbrev cX1_all : ByteArray := prog_3_method_16_code
def yX1_all : MethodName := ⟨RX1, "all", "()I"⟩
theorem dX1_all_0 : decode cX1_all 0 = .ok (.iconst 1, 1) := by decide +kernel
theorem dX1_all_1 : decode cX1_all 1 = .ok (.istore_n 1, 1) := by decide +kernel
theorem dX1_all_2 : decode cX1_all 2 = .ok (.iconst 0, 1) := by decide +kernel
theorem dX1_all_3 : decode cX1_all 3 = .ok (.istore_n 2, 1) := by decide +kernel
theorem dX1_all_4 : decode cX1_all 4 = .ok (.iload_n 2, 1) := by decide +kernel
theorem dX1_all_5 : decode cX1_all 5 = .ok (.aload_n 0, 1) := by decide +kernel
theorem dX1_all_6 : decode cX1_all 6 = .ok (.getfield 38, 3) := by decide +kernel
theorem dX1_all_9 : decode cX1_all 9 = .ok (.if_icmp .ge 13, 3) := by decide +kernel
theorem dX1_all_12 : decode cX1_all 12 = .ok (.iload_n 1, 1) := by decide +kernel
theorem dX1_all_13 : decode cX1_all 13 = .ok (.iconst 4, 1) := by decide +kernel
theorem dX1_all_14 : decode cX1_all 14 = .ok (.imul, 1) := by decide +kernel
theorem dX1_all_15 : decode cX1_all 15 = .ok (.istore_n 1, 1) := by decide +kernel
theorem dX1_all_16 : decode cX1_all 16 = .ok (.iinc 2 1, 3) := by decide +kernel
theorem dX1_all_19 : decode cX1_all 19 = .ok (.goto (-15), 3) := by decide +kernel
theorem dX1_all_22 : decode cX1_all 22 = .ok (.iload_n 1, 1) := by decide +kernel
theorem dX1_all_23 : decode cX1_all 23 = .ok (.ireturn, 1) := by decide +kernel
abbrev cX1_shareWith : ByteArray := prog_3_method_17_code
def yX1_shareWith : MethodName := ⟨RX1, "shareWith", "(I)I"⟩
theorem dX1_shareWith_0 : decode cX1_shareWith 0 = .ok (.aload_n 0, 1) := by decide +kernel
theorem dX1_shareWith_1 : decode cX1_shareWith 1 = .ok (.iload_n 1, 1) := by decide +kernel
theorem dX1_shareWith_2 : decode cX1_shareWith 2 = .ok (.invokevirtual 46, 3) := by decide +kernel
theorem dX1_shareWith_5 : decode cX1_shareWith 5 = .ok (.ifCond .eq 13, 3) := by decide +kernel
theorem dX1_shareWith_8 : decode cX1_shareWith 8 = .ok (.aload_n 0, 1) := by decide +kernel
theorem dX1_shareWith_9 : decode cX1_shareWith 9 = .ok (.iconst 1, 1) := by decide +kernel
theorem dX1_shareWith_10 : decode cX1_shareWith 10 = .ok (.iload_n 1, 1) := by decide +kernel
theorem dX1_shareWith_11 : decode cX1_shareWith 11 = .ok (.ishl, 1) := by decide +kernel
theorem dX1_shareWith_12 : decode cX1_shareWith 12 = .ok (.invokevirtual 73, 3) := by decide +kernel
theorem dX1_shareWith_15 : decode cX1_shareWith 15 = .ok (.goto 5, 3) := by decide +kernel
theorem dX1_shareWith_18 : decode cX1_shareWith 18 = .ok (.bipush (-4), 2) := by decide +kernel
theorem dX1_shareWith_20 : decode cX1_shareWith 20 = .ok (.ireturn, 1) := by decide +kernel
abbrev cX1_matters : ByteArray := prog_3_method_18_code
def yX1_matters : MethodName := ⟨RX1, "matters", "(I)Z"⟩
theorem dX1_matters_0 : decode cX1_matters 0 = .ok (.aload_n 0, 1) := by decide +kernel
theorem dX1_matters_1 : decode cX1_matters 1 = .ok (.iload_n 1, 1) := by decide +kernel
theorem dX1_matters_2 : decode cX1_matters 2 = .ok (.invokevirtual 46, 3) := by decide +kernel
theorem dX1_matters_5 : decode cX1_matters 5 = .ok (.ifCond .ne 5, 3) := by decide +kernel
theorem dX1_matters_8 : decode cX1_matters 8 = .ok (.iconst 0, 1) := by decide +kernel
theorem dX1_matters_9 : decode cX1_matters 9 = .ok (.ireturn, 1) := by decide +kernel
theorem dX1_matters_10 : decode cX1_matters 10 = .ok (.aload_n 0, 1) := by decide +kernel
theorem dX1_matters_11 : decode cX1_matters 11 = .ok (.invokevirtual 66, 3) := by decide +kernel
theorem dX1_matters_14 : decode cX1_matters 14 = .ok (.iconst 0, 1) := by decide +kernel
theorem dX1_matters_15 : decode cX1_matters 15 = .ok (.istore_n 2, 1) := by decide +kernel
theorem dX1_matters_16 : decode cX1_matters 16 = .ok (.iload_n 2, 1) := by decide +kernel
theorem dX1_matters_17 : decode cX1_matters 17 = .ok (.iconst 1, 1) := by decide +kernel
theorem dX1_matters_18 : decode cX1_matters 18 = .ok (.aload_n 0, 1) := by decide +kernel
theorem dX1_matters_19 : decode cX1_matters 19 = .ok (.getfield 38, 3) := by decide +kernel
theorem dX1_matters_22 : decode cX1_matters 22 = .ok (.ishl, 1) := by decide +kernel
theorem dX1_matters_23 : decode cX1_matters 23 = .ok (.if_icmp .ge 30, 3) := by decide +kernel
theorem dX1_matters_26 : decode cX1_matters 26 = .ok (.aload_n 0, 1) := by decide +kernel
theorem dX1_matters_27 : decode cX1_matters 27 = .ok (.getfield 34, 3) := by decide +kernel
theorem dX1_matters_30 : decode cX1_matters 30 = .ok (.iload_n 2, 1) := by decide +kernel
theorem dX1_matters_31 : decode cX1_matters 31 = .ok (.baload, 1) := by decide +kernel
theorem dX1_matters_32 : decode cX1_matters 32 = .ok (.aload_n 0, 1) := by decide +kernel
theorem dX1_matters_33 : decode cX1_matters 33 = .ok (.getfield 34, 3) := by decide +kernel
theorem dX1_matters_36 : decode cX1_matters 36 = .ok (.iload_n 2, 1) := by decide +kernel
theorem dX1_matters_37 : decode cX1_matters 37 = .ok (.iconst 1, 1) := by decide +kernel
theorem dX1_matters_38 : decode cX1_matters 38 = .ok (.iload_n 1, 1) := by decide +kernel
theorem dX1_matters_39 : decode cX1_matters 39 = .ok (.ishl, 1) := by decide +kernel
theorem dX1_matters_40 : decode cX1_matters 40 = .ok (.ixor, 1) := by decide +kernel
theorem dX1_matters_41 : decode cX1_matters 41 = .ok (.baload, 1) := by decide +kernel
theorem dX1_matters_42 : decode cX1_matters 42 = .ok (.if_icmp .eq 5, 3) := by decide +kernel
theorem dX1_matters_45 : decode cX1_matters 45 = .ok (.iconst 1, 1) := by decide +kernel
theorem dX1_matters_46 : decode cX1_matters 46 = .ok (.ireturn, 1) := by decide +kernel
theorem dX1_matters_47 : decode cX1_matters 47 = .ok (.iinc 2 1, 3) := by decide +kernel
theorem dX1_matters_50 : decode cX1_matters 50 = .ok (.goto (-34), 3) := by decide +kernel
theorem dX1_matters_53 : decode cX1_matters 53 = .ok (.iconst 0, 1) := by decide +kernel
theorem dX1_matters_54 : decode cX1_matters 54 = .ok (.ireturn, 1) := by decide +kernel
abbrev cX1_fewest : ByteArray := prog_3_method_20_code
def yX1_fewest : MethodName := ⟨RX1, "fewest", "()I"⟩
theorem dX1_fewest_0 : decode cX1_fewest 0 = .ok (.bipush (-4), 2) := by decide +kernel
theorem dX1_fewest_2 : decode cX1_fewest 2 = .ok (.istore_n 1, 1) := by decide +kernel
theorem dX1_fewest_3 : decode cX1_fewest 3 = .ok (.aload_n 0, 1) := by decide +kernel
theorem dX1_fewest_4 : decode cX1_fewest 4 = .ok (.invokevirtual 66, 3) := by decide +kernel
theorem dX1_fewest_7 : decode cX1_fewest 7 = .ok (.iconst 0, 1) := by decide +kernel
theorem dX1_fewest_8 : decode cX1_fewest 8 = .ok (.istore_n 2, 1) := by decide +kernel
theorem dX1_fewest_9 : decode cX1_fewest 9 = .ok (.iload_n 2, 1) := by decide +kernel
theorem dX1_fewest_10 : decode cX1_fewest 10 = .ok (.iconst 1, 1) := by decide +kernel
theorem dX1_fewest_11 : decode cX1_fewest 11 = .ok (.aload_n 0, 1) := by decide +kernel
theorem dX1_fewest_12 : decode cX1_fewest 12 = .ok (.getfield 38, 3) := by decide +kernel
theorem dX1_fewest_15 : decode cX1_fewest 15 = .ok (.ishl, 1) := by decide +kernel
theorem dX1_fewest_16 : decode cX1_fewest 16 = .ok (.if_icmp .ge 35, 3) := by decide +kernel
theorem dX1_fewest_19 : decode cX1_fewest 19 = .ok (.aload_n 0, 1) := by decide +kernel
theorem dX1_fewest_20 : decode cX1_fewest 20 = .ok (.iload_n 2, 1) := by decide +kernel
theorem dX1_fewest_21 : decode cX1_fewest 21 = .ok (.invokevirtual 76, 3) := by decide +kernel
theorem dX1_fewest_24 : decode cX1_fewest 24 = .ok (.istore_n 3, 1) := by decide +kernel
theorem dX1_fewest_25 : decode cX1_fewest 25 = .ok (.aload_n 0, 1) := by decide +kernel
theorem dX1_fewest_26 : decode cX1_fewest 26 = .ok (.getfield 34, 3) := by decide +kernel
theorem dX1_fewest_29 : decode cX1_fewest 29 = .ok (.iload_n 2, 1) := by decide +kernel
theorem dX1_fewest_30 : decode cX1_fewest 30 = .ok (.baload, 1) := by decide +kernel
theorem dX1_fewest_31 : decode cX1_fewest 31 = .ok (.ifCond .eq 14, 3) := by decide +kernel
theorem dX1_fewest_34 : decode cX1_fewest 34 = .ok (.iload_n 1, 1) := by decide +kernel
theorem dX1_fewest_35 : decode cX1_fewest 35 = .ok (.ifCond .lt 8, 3) := by decide +kernel
theorem dX1_fewest_38 : decode cX1_fewest 38 = .ok (.iload_n 3, 1) := by decide +kernel
theorem dX1_fewest_39 : decode cX1_fewest 39 = .ok (.iload_n 1, 1) := by decide +kernel
theorem dX1_fewest_40 : decode cX1_fewest 40 = .ok (.if_icmp .ge 5, 3) := by decide +kernel
theorem dX1_fewest_43 : decode cX1_fewest 43 = .ok (.iload_n 3, 1) := by decide +kernel
theorem dX1_fewest_44 : decode cX1_fewest 44 = .ok (.istore_n 1, 1) := by decide +kernel
theorem dX1_fewest_45 : decode cX1_fewest 45 = .ok (.iinc 2 1, 3) := by decide +kernel
theorem dX1_fewest_48 : decode cX1_fewest 48 = .ok (.goto (-39), 3) := by decide +kernel
theorem dX1_fewest_51 : decode cX1_fewest 51 = .ok (.iload_n 1, 1) := by decide +kernel
theorem dX1_fewest_52 : decode cX1_fewest 52 = .ok (.ireturn, 1) := by decide +kernel
abbrev cX1_size : ByteArray := prog_3_method_19_code
def yX1_size : MethodName := ⟨RX1, "size", "(I)I"⟩
theorem dX1_size_0 : decode cX1_size 0 = .ok (.iconst 0, 1) := by decide +kernel
theorem dX1_size_1 : decode cX1_size 1 = .ok (.istore_n 2, 1) := by decide +kernel
theorem dX1_size_2 : decode cX1_size 2 = .ok (.iconst 0, 1) := by decide +kernel
theorem dX1_size_3 : decode cX1_size 3 = .ok (.istore_n 3, 1) := by decide +kernel
theorem dX1_size_4 : decode cX1_size 4 = .ok (.iload_n 3, 1) := by decide +kernel
theorem dX1_size_5 : decode cX1_size 5 = .ok (.aload_n 0, 1) := by decide +kernel
theorem dX1_size_6 : decode cX1_size 6 = .ok (.getfield 38, 3) := by decide +kernel
theorem dX1_size_9 : decode cX1_size 9 = .ok (.if_icmp .ge 17, 3) := by decide +kernel
theorem dX1_size_12 : decode cX1_size 12 = .ok (.iload_n 2, 1) := by decide +kernel
theorem dX1_size_13 : decode cX1_size 13 = .ok (.iload_n 1, 1) := by decide +kernel
theorem dX1_size_14 : decode cX1_size 14 = .ok (.iload_n 3, 1) := by decide +kernel
theorem dX1_size_15 : decode cX1_size 15 = .ok (.ishr, 1) := by decide +kernel
theorem dX1_size_16 : decode cX1_size 16 = .ok (.iconst 1, 1) := by decide +kernel
theorem dX1_size_17 : decode cX1_size 17 = .ok (.iand, 1) := by decide +kernel
theorem dX1_size_18 : decode cX1_size 18 = .ok (.iadd, 1) := by decide +kernel
theorem dX1_size_19 : decode cX1_size 19 = .ok (.istore_n 2, 1) := by decide +kernel
theorem dX1_size_20 : decode cX1_size 20 = .ok (.iinc 3 1, 3) := by decide +kernel
theorem dX1_size_23 : decode cX1_size 23 = .ok (.goto (-19), 3) := by decide +kernel
theorem dX1_size_26 : decode cX1_size 26 = .ok (.iload_n 2, 1) := by decide +kernel
theorem dX1_size_27 : decode cX1_size 27 = .ok (.ireturn, 1) := by decide +kernel
abbrev cX1_reasons : ByteArray := prog_3_method_22_code
def yX1_reasons : MethodName := ⟨RX1, "reasons", "()I"⟩
theorem dX1_reasons_0 : decode cX1_reasons 0 = .ok (.iconst 0, 1) := by decide +kernel
theorem dX1_reasons_1 : decode cX1_reasons 1 = .ok (.istore_n 1, 1) := by decide +kernel
theorem dX1_reasons_2 : decode cX1_reasons 2 = .ok (.aload_n 0, 1) := by decide +kernel
theorem dX1_reasons_3 : decode cX1_reasons 3 = .ok (.invokevirtual 66, 3) := by decide +kernel
theorem dX1_reasons_6 : decode cX1_reasons 6 = .ok (.iconst 0, 1) := by decide +kernel
theorem dX1_reasons_7 : decode cX1_reasons 7 = .ok (.istore_n 2, 1) := by decide +kernel
theorem dX1_reasons_8 : decode cX1_reasons 8 = .ok (.iload_n 2, 1) := by decide +kernel
theorem dX1_reasons_9 : decode cX1_reasons 9 = .ok (.iconst 1, 1) := by decide +kernel
theorem dX1_reasons_10 : decode cX1_reasons 10 = .ok (.aload_n 0, 1) := by decide +kernel
theorem dX1_reasons_11 : decode cX1_reasons 11 = .ok (.getfield 38, 3) := by decide +kernel
theorem dX1_reasons_14 : decode cX1_reasons 14 = .ok (.ishl, 1) := by decide +kernel
theorem dX1_reasons_15 : decode cX1_reasons 15 = .ok (.if_icmp .ge 29, 3) := by decide +kernel
theorem dX1_reasons_18 : decode cX1_reasons 18 = .ok (.aload_n 0, 1) := by decide +kernel
theorem dX1_reasons_19 : decode cX1_reasons 19 = .ok (.getfield 34, 3) := by decide +kernel
theorem dX1_reasons_22 : decode cX1_reasons 22 = .ok (.iload_n 2, 1) := by decide +kernel
theorem dX1_reasons_23 : decode cX1_reasons 23 = .ok (.baload, 1) := by decide +kernel
theorem dX1_reasons_24 : decode cX1_reasons 24 = .ok (.ifCond .eq 14, 3) := by decide +kernel
theorem dX1_reasons_27 : decode cX1_reasons 27 = .ok (.aload_n 0, 1) := by decide +kernel
theorem dX1_reasons_28 : decode cX1_reasons 28 = .ok (.iload_n 2, 1) := by decide +kernel
theorem dX1_reasons_29 : decode cX1_reasons 29 = .ok (.invokevirtual 79, 3) := by decide +kernel
theorem dX1_reasons_32 : decode cX1_reasons 32 = .ok (.ifCond .ne 6, 3) := by decide +kernel
theorem dX1_reasons_35 : decode cX1_reasons 35 = .ok (.iinc 1 1, 3) := by decide +kernel
theorem dX1_reasons_38 : decode cX1_reasons 38 = .ok (.iinc 2 1, 3) := by decide +kernel
theorem dX1_reasons_41 : decode cX1_reasons 41 = .ok (.goto (-33), 3) := by decide +kernel
theorem dX1_reasons_44 : decode cX1_reasons 44 = .ok (.iload_n 1, 1) := by decide +kernel
theorem dX1_reasons_45 : decode cX1_reasons 45 = .ok (.ireturn, 1) := by decide +kernel
abbrev cX1_spare : ByteArray := prog_3_method_21_code
def yX1_spare : MethodName := ⟨RX1, "spare", "(I)Z"⟩
theorem dX1_spare_0 : decode cX1_spare 0 = .ok (.iconst 0, 1) := by decide +kernel
theorem dX1_spare_1 : decode cX1_spare 1 = .ok (.istore_n 2, 1) := by decide +kernel
theorem dX1_spare_2 : decode cX1_spare 2 = .ok (.iload_n 2, 1) := by decide +kernel
theorem dX1_spare_3 : decode cX1_spare 3 = .ok (.aload_n 0, 1) := by decide +kernel
theorem dX1_spare_4 : decode cX1_spare 4 = .ok (.getfield 38, 3) := by decide +kernel
theorem dX1_spare_7 : decode cX1_spare 7 = .ok (.if_icmp .ge 32, 3) := by decide +kernel
theorem dX1_spare_10 : decode cX1_spare 10 = .ok (.iload_n 1, 1) := by decide +kernel
theorem dX1_spare_11 : decode cX1_spare 11 = .ok (.iload_n 2, 1) := by decide +kernel
theorem dX1_spare_12 : decode cX1_spare 12 = .ok (.ishr, 1) := by decide +kernel
theorem dX1_spare_13 : decode cX1_spare 13 = .ok (.iconst 1, 1) := by decide +kernel
theorem dX1_spare_14 : decode cX1_spare 14 = .ok (.iand, 1) := by decide +kernel
theorem dX1_spare_15 : decode cX1_spare 15 = .ok (.ifCond .eq 18, 3) := by decide +kernel
theorem dX1_spare_18 : decode cX1_spare 18 = .ok (.aload_n 0, 1) := by decide +kernel
theorem dX1_spare_19 : decode cX1_spare 19 = .ok (.getfield 34, 3) := by decide +kernel
theorem dX1_spare_22 : decode cX1_spare 22 = .ok (.iload_n 1, 1) := by decide +kernel
theorem dX1_spare_23 : decode cX1_spare 23 = .ok (.iconst 1, 1) := by decide +kernel
theorem dX1_spare_24 : decode cX1_spare 24 = .ok (.iload_n 2, 1) := by decide +kernel
theorem dX1_spare_25 : decode cX1_spare 25 = .ok (.ishl, 1) := by decide +kernel
theorem dX1_spare_26 : decode cX1_spare 26 = .ok (.ixor, 1) := by decide +kernel
theorem dX1_spare_27 : decode cX1_spare 27 = .ok (.baload, 1) := by decide +kernel
theorem dX1_spare_28 : decode cX1_spare 28 = .ok (.ifCond .eq 5, 3) := by decide +kernel
theorem dX1_spare_31 : decode cX1_spare 31 = .ok (.iconst 1, 1) := by decide +kernel
theorem dX1_spare_32 : decode cX1_spare 32 = .ok (.ireturn, 1) := by decide +kernel
theorem dX1_spare_33 : decode cX1_spare 33 = .ok (.iinc 2 1, 3) := by decide +kernel
theorem dX1_spare_36 : decode cX1_spare 36 = .ok (.goto (-34), 3) := by decide +kernel
theorem dX1_spare_39 : decode cX1_spare 39 = .ok (.iconst 0, 1) := by decide +kernel
theorem dX1_spare_40 : decode cX1_spare 40 = .ok (.ireturn, 1) := by decide +kernel
theorem q21 : (Jvm.Cond.initialized "LineageWorldsModel") ∈ lw_all := lw_g (lw_at lw_m1 2 rfl) rfl
theorem q169 : (Jvm.Cond.instantiable "LineageWorldsModel" (12 : Nat)) ∈ lw_all := lw_g (lw_at lw_m1 150 rfl) rfl
theorem q171 : (Jvm.Cond.instanceMethod ({ cls := "LineageWorldsModel", name := "<init>", desc := "()V" } : Jvm.MethodName)) ∈ lw_all := lw_g (lw_at lw_m1 152 rfl) rfl
theorem q172 : (Jvm.Cond.code ({ cls := "LineageWorldsModel", name := "<init>", desc := "()V" } : Jvm.MethodName) prog_3_method_1_code (1 : Nat) (Option.none : Option Jvm.ClassFile.FieldType)) ∈ lw_all := lw_g (lw_at lw_m1 153 rfl) rfl
theorem q173 : (Jvm.Cond.methodLink "LineageWorldsModel" (1 : Nat) ({ cls := "java/lang/Object", name := "<init>", desc := "()V" } : Jvm.MethodName)) ∈ lw_all := lw_g (lw_at lw_m1 154 rfl) rfl
theorem q174 : (Jvm.Cond.fieldLink "LineageWorldsModel" (7 : Nat) "LineageWorldsModel" "tails" "[I") ∈ lw_all := lw_g (lw_at lw_m1 155 rfl) rfl
theorem q175 : (Jvm.Cond.fieldLink "LineageWorldsModel" (13 : Nat) "LineageWorldsModel" "heads" "[I") ∈ lw_all := lw_g (lw_at lw_m1 156 rfl) rfl
theorem q176 : (Jvm.Cond.fieldLink "LineageWorldsModel" (16 : Nat) "LineageWorldsModel" "labels" "[I") ∈ lw_all := lw_g (lw_at lw_m1 157 rfl) rfl
theorem q177 : (Jvm.Cond.fieldLink "LineageWorldsModel" (19 : Nat) "LineageWorldsModel" "numbers" "[I") ∈ lw_all := lw_g (lw_at lw_m1 158 rfl) rfl
theorem q178 : (Jvm.Cond.fieldLink "LineageWorldsModel" (38 : Nat) "LineageWorldsModel" "facts" "I") ∈ lw_all := lw_g (lw_at lw_m1 159 rfl) rfl
theorem q179 : (Jvm.Cond.fieldLink "LineageWorldsModel" (22 : Nat) "LineageWorldsModel" "askedLabel" "[I") ∈ lw_all := lw_g (lw_at lw_m1 160 rfl) rfl
theorem q180 : (Jvm.Cond.fieldLink "LineageWorldsModel" (25 : Nat) "LineageWorldsModel" "askedFrom" "[I") ∈ lw_all := lw_g (lw_at lw_m1 161 rfl) rfl
theorem q181 : (Jvm.Cond.fieldLink "LineageWorldsModel" (28 : Nat) "LineageWorldsModel" "askedTo" "[I") ∈ lw_all := lw_g (lw_at lw_m1 162 rfl) rfl
theorem q182 : (Jvm.Cond.fieldLink "LineageWorldsModel" (53 : Nat) "LineageWorldsModel" "conditions" "I") ∈ lw_all := lw_g (lw_at lw_m1 163 rfl) rfl
theorem q183 : (Jvm.Cond.fieldLink "LineageWorldsModel" (31 : Nat) "LineageWorldsModel" "makes" "[I") ∈ lw_all := lw_g (lw_at lw_m1 164 rfl) rfl
theorem q184 : (Jvm.Cond.fieldLink "LineageWorldsModel" (34 : Nat) "LineageWorldsModel" "yes" "[Z") ∈ lw_all := lw_g (lw_at lw_m1 165 rfl) rfl
theorem q185 : (Jvm.Cond.fieldLink "LineageWorldsModel" (42 : Nat) "LineageWorldsModel" "known" "Z") ∈ lw_all := lw_g (lw_at lw_m1 166 rfl) rfl
theorem q186 : (Jvm.Cond.laysFinal "LineageWorldsModel" "LineageWorldsModel" "tails" "[I") ∈ lw_all := lw_g (lw_at lw_m1 167 rfl) rfl
theorem q187 : (Jvm.Cond.soleField "LineageWorldsModel" "tails") ∈ lw_all := lw_g (lw_at lw_m1 168 rfl) rfl
theorem q188 : (Jvm.Cond.laysFinal "LineageWorldsModel" "LineageWorldsModel" "heads" "[I") ∈ lw_all := lw_g (lw_at lw_m1 169 rfl) rfl
theorem q189 : (Jvm.Cond.soleField "LineageWorldsModel" "heads") ∈ lw_all := lw_g (lw_at lw_m1 170 rfl) rfl
theorem q190 : (Jvm.Cond.laysFinal "LineageWorldsModel" "LineageWorldsModel" "labels" "[I") ∈ lw_all := lw_g (lw_at lw_m1 171 rfl) rfl
theorem q191 : (Jvm.Cond.soleField "LineageWorldsModel" "labels") ∈ lw_all := lw_g (lw_at lw_m1 172 rfl) rfl
theorem q192 : (Jvm.Cond.laysFinal "LineageWorldsModel" "LineageWorldsModel" "numbers" "[I") ∈ lw_all := lw_g (lw_at lw_m1 173 rfl) rfl
theorem q193 : (Jvm.Cond.soleField "LineageWorldsModel" "numbers") ∈ lw_all := lw_g (lw_at lw_m1 174 rfl) rfl
theorem q194 : (Jvm.Cond.lays "LineageWorldsModel" "LineageWorldsModel" "facts" "I") ∈ lw_all := lw_g (lw_at lw_m1 175 rfl) rfl
theorem q195 : (Jvm.Cond.soleField "LineageWorldsModel" "facts") ∈ lw_all := lw_g (lw_at lw_m1 176 rfl) rfl
theorem q196 : (Jvm.Cond.laysFinal "LineageWorldsModel" "LineageWorldsModel" "askedLabel" "[I") ∈ lw_all := lw_g (lw_at lw_m1 177 rfl) rfl
theorem q197 : (Jvm.Cond.soleField "LineageWorldsModel" "askedLabel") ∈ lw_all := lw_g (lw_at lw_m1 178 rfl) rfl
theorem q198 : (Jvm.Cond.laysFinal "LineageWorldsModel" "LineageWorldsModel" "askedFrom" "[I") ∈ lw_all := lw_g (lw_at lw_m1 179 rfl) rfl
theorem q199 : (Jvm.Cond.soleField "LineageWorldsModel" "askedFrom") ∈ lw_all := lw_g (lw_at lw_m1 180 rfl) rfl
theorem q200 : (Jvm.Cond.laysFinal "LineageWorldsModel" "LineageWorldsModel" "askedTo" "[I") ∈ lw_all := lw_g (lw_at lw_m1 181 rfl) rfl
theorem q201 : (Jvm.Cond.soleField "LineageWorldsModel" "askedTo") ∈ lw_all := lw_g (lw_at lw_m1 182 rfl) rfl
theorem q202 : (Jvm.Cond.lays "LineageWorldsModel" "LineageWorldsModel" "conditions" "I") ∈ lw_all := lw_g (lw_at lw_m1 183 rfl) rfl
theorem q203 : (Jvm.Cond.soleField "LineageWorldsModel" "conditions") ∈ lw_all := lw_g (lw_at lw_m1 184 rfl) rfl
theorem q204 : (Jvm.Cond.laysFinal "LineageWorldsModel" "LineageWorldsModel" "makes" "[I") ∈ lw_all := lw_g (lw_at lw_m1 185 rfl) rfl
theorem q205 : (Jvm.Cond.soleField "LineageWorldsModel" "makes") ∈ lw_all := lw_g (lw_at lw_m1 186 rfl) rfl
theorem q206 : (Jvm.Cond.laysFinal "LineageWorldsModel" "LineageWorldsModel" "yes" "[Z") ∈ lw_all := lw_g (lw_at lw_m1 187 rfl) rfl
theorem q207 : (Jvm.Cond.soleField "LineageWorldsModel" "yes") ∈ lw_all := lw_g (lw_at lw_m1 188 rfl) rfl
theorem q208 : (Jvm.Cond.lays "LineageWorldsModel" "LineageWorldsModel" "known" "Z") ∈ lw_all := lw_g (lw_at lw_m1 189 rfl) rfl
theorem q209 : (Jvm.Cond.soleField "LineageWorldsModel" "known") ∈ lw_all := lw_g (lw_at lw_m1 190 rfl) rfl
theorem q210 : (Jvm.Cond.superclass "LineageWorldsModel" "java/lang/Object") ∈ lw_all := lw_g (lw_at lw_m1 191 rfl) rfl
theorem q212 : (Jvm.Cond.instanceMethod ({ cls := "LineageWorldsModel", name := "fact", desc := "(II)I" } : Jvm.MethodName)) ∈ lw_all := lw_g (lw_at lw_m1 193 rfl) rfl
theorem q213 : (Jvm.Cond.selects "LineageWorldsModel" ({ cls := "LineageWorldsModel", name := "fact", desc := "(II)I" } : Jvm.MethodName) ({ cls := "LineageWorldsModel", name := "fact", desc := "(II)I" } : Jvm.MethodName)) ∈ lw_all := lw_g (lw_at lw_m1 194 rfl) rfl
theorem q214 : (Jvm.Cond.code ({ cls := "LineageWorldsModel", name := "fact", desc := "(II)I" } : Jvm.MethodName) prog_3_method_2_code (3 : Nat) (Option.some Jvm.ClassFile.FieldType.int)) ∈ lw_all := lw_g (lw_at lw_m1 195 rfl) rfl
theorem q216 : (Jvm.Cond.instanceMethod ({ cls := "LineageWorldsModel", name := "likely", desc := "(II)I" } : Jvm.MethodName)) ∈ lw_all := lw_g (lw_at lw_m1 197 rfl) rfl
theorem q217 : (Jvm.Cond.selects "LineageWorldsModel" ({ cls := "LineageWorldsModel", name := "likely", desc := "(II)I" } : Jvm.MethodName) ({ cls := "LineageWorldsModel", name := "likely", desc := "(II)I" } : Jvm.MethodName)) ∈ lw_all := lw_g (lw_at lw_m1 198 rfl) rfl
theorem q218 : (Jvm.Cond.code ({ cls := "LineageWorldsModel", name := "likely", desc := "(II)I" } : Jvm.MethodName) prog_3_method_4_code (4 : Nat) (Option.some Jvm.ClassFile.FieldType.int)) ∈ lw_all := lw_g (lw_at lw_m1 199 rfl) rfl
theorem q219 : (Jvm.Cond.methodLink "LineageWorldsModel" (46 : Nat) ({ cls := "LineageWorldsModel", name := "isFact", desc := "(I)Z" } : Jvm.MethodName)) ∈ lw_all := lw_g (lw_at lw_m1 200 rfl) rfl
theorem q220 : (Jvm.Cond.privateMethod ({ cls := "LineageWorldsModel", name := "isFact", desc := "(I)Z" } : Jvm.MethodName)) ∈ lw_tbl := lw_at lw_m1 201 rfl
theorem q221 : (Jvm.Cond.instanceMethod ({ cls := "LineageWorldsModel", name := "isFact", desc := "(I)Z" } : Jvm.MethodName)) ∈ lw_all := lw_g (lw_at lw_m1 202 rfl) rfl
theorem q222 : (Jvm.Cond.code ({ cls := "LineageWorldsModel", name := "isFact", desc := "(I)Z" } : Jvm.MethodName) prog_3_method_3_code (2 : Nat) (Option.some Jvm.ClassFile.FieldType.boolean)) ∈ lw_all := lw_g (lw_at lw_m1 203 rfl) rfl
theorem q224 : (Jvm.Cond.instanceMethod ({ cls := "LineageWorldsModel", name := "condition", desc := "(III)I" } : Jvm.MethodName)) ∈ lw_all := lw_g (lw_at lw_m1 205 rfl) rfl
theorem q225 : (Jvm.Cond.selects "LineageWorldsModel" ({ cls := "LineageWorldsModel", name := "condition", desc := "(III)I" } : Jvm.MethodName) ({ cls := "LineageWorldsModel", name := "condition", desc := "(III)I" } : Jvm.MethodName)) ∈ lw_all := lw_g (lw_at lw_m1 206 rfl) rfl
theorem q226 : (Jvm.Cond.code ({ cls := "LineageWorldsModel", name := "condition", desc := "(III)I" } : Jvm.MethodName) prog_3_method_6_code (4 : Nat) (Option.some Jvm.ClassFile.FieldType.int)) ∈ lw_all := lw_g (lw_at lw_m1 207 rfl) rfl
theorem q227 : (Jvm.Cond.methodLink "LineageWorldsModel" (50 : Nat) ({ cls := "LineageWorldsModel", name := "isEnd", desc := "(I)Z" } : Jvm.MethodName)) ∈ lw_all := lw_g (lw_at lw_m1 208 rfl) rfl
theorem q228 : (Jvm.Cond.privateMethod ({ cls := "LineageWorldsModel", name := "isEnd", desc := "(I)Z" } : Jvm.MethodName)) ∈ lw_tbl := lw_at lw_m1 209 rfl
theorem q229 : (Jvm.Cond.instanceMethod ({ cls := "LineageWorldsModel", name := "isEnd", desc := "(I)Z" } : Jvm.MethodName)) ∈ lw_all := lw_g (lw_at lw_m1 210 rfl) rfl
theorem q230 : (Jvm.Cond.code ({ cls := "LineageWorldsModel", name := "isEnd", desc := "(I)Z" } : Jvm.MethodName) prog_3_method_5_code (2 : Nat) (Option.some Jvm.ClassFile.FieldType.boolean)) ∈ lw_all := lw_g (lw_at lw_m1 211 rfl) rfl
theorem q232 : (Jvm.Cond.instanceMethod ({ cls := "LineageWorldsModel", name := "ask", desc := "()V" } : Jvm.MethodName)) ∈ lw_all := lw_g (lw_at lw_m1 213 rfl) rfl
theorem q233 : (Jvm.Cond.selects "LineageWorldsModel" ({ cls := "LineageWorldsModel", name := "ask", desc := "()V" } : Jvm.MethodName) ({ cls := "LineageWorldsModel", name := "ask", desc := "()V" } : Jvm.MethodName)) ∈ lw_all := lw_g (lw_at lw_m1 214 rfl) rfl
theorem q234 : (Jvm.Cond.code ({ cls := "LineageWorldsModel", name := "ask", desc := "()V" } : Jvm.MethodName) prog_3_method_7_code (1 : Nat) (Option.none : Option Jvm.ClassFile.FieldType)) ∈ lw_all := lw_g (lw_at lw_m1 215 rfl) rfl
theorem q236 : (Jvm.Cond.instanceMethod ({ cls := "LineageWorldsModel", name := "drop", desc := "()I" } : Jvm.MethodName)) ∈ lw_all := lw_g (lw_at lw_m1 217 rfl) rfl
theorem q237 : (Jvm.Cond.selects "LineageWorldsModel" ({ cls := "LineageWorldsModel", name := "drop", desc := "()I" } : Jvm.MethodName) ({ cls := "LineageWorldsModel", name := "drop", desc := "()I" } : Jvm.MethodName)) ∈ lw_all := lw_g (lw_at lw_m1 218 rfl) rfl
theorem q238 : (Jvm.Cond.code ({ cls := "LineageWorldsModel", name := "drop", desc := "()I" } : Jvm.MethodName) prog_3_method_8_code (1 : Nat) (Option.some Jvm.ClassFile.FieldType.int)) ∈ lw_all := lw_g (lw_at lw_m1 219 rfl) rfl
theorem q240 : (Jvm.Cond.instanceMethod ({ cls := "LineageWorldsModel", name := "share", desc := "()I" } : Jvm.MethodName)) ∈ lw_all := lw_g (lw_at lw_m1 221 rfl) rfl
theorem q241 : (Jvm.Cond.selects "LineageWorldsModel" ({ cls := "LineageWorldsModel", name := "share", desc := "()I" } : Jvm.MethodName) ({ cls := "LineageWorldsModel", name := "share", desc := "()I" } : Jvm.MethodName)) ∈ lw_all := lw_g (lw_at lw_m1 222 rfl) rfl
theorem q242 : (Jvm.Cond.code ({ cls := "LineageWorldsModel", name := "share", desc := "()I" } : Jvm.MethodName) prog_3_method_15_code (1 : Nat) (Option.some Jvm.ClassFile.FieldType.int)) ∈ lw_all := lw_g (lw_at lw_m1 223 rfl) rfl
theorem q243 : (Jvm.Cond.methodLink "LineageWorldsModel" (73 : Nat) ({ cls := "LineageWorldsModel", name := "sum", desc := "(I)I" } : Jvm.MethodName)) ∈ lw_all := lw_g (lw_at lw_m1 224 rfl) rfl
theorem q244 : (Jvm.Cond.privateMethod ({ cls := "LineageWorldsModel", name := "sum", desc := "(I)I" } : Jvm.MethodName)) ∈ lw_tbl := lw_at lw_m1 225 rfl
theorem q245 : (Jvm.Cond.instanceMethod ({ cls := "LineageWorldsModel", name := "sum", desc := "(I)I" } : Jvm.MethodName)) ∈ lw_all := lw_g (lw_at lw_m1 226 rfl) rfl
theorem q246 : (Jvm.Cond.code ({ cls := "LineageWorldsModel", name := "sum", desc := "(I)I" } : Jvm.MethodName) prog_3_method_14_code (4 : Nat) (Option.some Jvm.ClassFile.FieldType.int)) ∈ lw_all := lw_g (lw_at lw_m1 227 rfl) rfl
theorem q247 : (Jvm.Cond.methodLink "LineageWorldsModel" (66 : Nat) ({ cls := "LineageWorldsModel", name := "work", desc := "()V" } : Jvm.MethodName)) ∈ lw_all := lw_g (lw_at lw_m1 228 rfl) rfl
theorem q248 : (Jvm.Cond.privateMethod ({ cls := "LineageWorldsModel", name := "work", desc := "()V" } : Jvm.MethodName)) ∈ lw_tbl := lw_at lw_m1 229 rfl
theorem q249 : (Jvm.Cond.instanceMethod ({ cls := "LineageWorldsModel", name := "work", desc := "()V" } : Jvm.MethodName)) ∈ lw_all := lw_g (lw_at lw_m1 230 rfl) rfl
theorem q250 : (Jvm.Cond.code ({ cls := "LineageWorldsModel", name := "work", desc := "()V" } : Jvm.MethodName) prog_3_method_12_code (5 : Nat) (Option.none : Option Jvm.ClassFile.FieldType)) ∈ lw_all := lw_g (lw_at lw_m1 231 rfl) rfl
theorem q251 : (Jvm.Cond.methodLink "LineageWorldsModel" (60 : Nat) ({ cls := "LineageWorldsModel", name := "possible", desc := "(I)Z" } : Jvm.MethodName)) ∈ lw_all := lw_g (lw_at lw_m1 232 rfl) rfl
theorem q252 : (Jvm.Cond.privateMethod ({ cls := "LineageWorldsModel", name := "possible", desc := "(I)Z" } : Jvm.MethodName)) ∈ lw_tbl := lw_at lw_m1 233 rfl
theorem q253 : (Jvm.Cond.instanceMethod ({ cls := "LineageWorldsModel", name := "possible", desc := "(I)Z" } : Jvm.MethodName)) ∈ lw_all := lw_g (lw_at lw_m1 234 rfl) rfl
theorem q254 : (Jvm.Cond.code ({ cls := "LineageWorldsModel", name := "possible", desc := "(I)Z" } : Jvm.MethodName) prog_3_method_10_code (5 : Nat) (Option.some Jvm.ClassFile.FieldType.boolean)) ∈ lw_all := lw_g (lw_at lw_m1 235 rfl) rfl
theorem q255 : (Jvm.Cond.methodLink "LineageWorldsModel" (56 : Nat) ({ cls := "LineageWorldsModel", name := "node", desc := "(II)I" } : Jvm.MethodName)) ∈ lw_all := lw_g (lw_at lw_m1 236 rfl) rfl
theorem q256 : (Jvm.Cond.privateMethod ({ cls := "LineageWorldsModel", name := "node", desc := "(II)I" } : Jvm.MethodName)) ∈ lw_tbl := lw_at lw_m1 237 rfl
theorem q257 : (Jvm.Cond.instanceMethod ({ cls := "LineageWorldsModel", name := "node", desc := "(II)I" } : Jvm.MethodName)) ∈ lw_all := lw_g (lw_at lw_m1 238 rfl) rfl
theorem q258 : (Jvm.Cond.code ({ cls := "LineageWorldsModel", name := "node", desc := "(II)I" } : Jvm.MethodName) prog_3_method_9_code (3 : Nat) (Option.some Jvm.ClassFile.FieldType.int)) ∈ lw_all := lw_g (lw_at lw_m1 239 rfl) rfl
theorem q259 : (Jvm.Cond.methodLink "LineageWorldsModel" (63 : Nat) ({ cls := "LineageWorldsModel", name := "holdsIn", desc := "(I)Z" } : Jvm.MethodName)) ∈ lw_all := lw_g (lw_at lw_m2 0 rfl) rfl
theorem q260 : (Jvm.Cond.privateMethod ({ cls := "LineageWorldsModel", name := "holdsIn", desc := "(I)Z" } : Jvm.MethodName)) ∈ lw_tbl := lw_at lw_m2 1 rfl
theorem q261 : (Jvm.Cond.instanceMethod ({ cls := "LineageWorldsModel", name := "holdsIn", desc := "(I)Z" } : Jvm.MethodName)) ∈ lw_all := lw_g (lw_at lw_m2 2 rfl) rfl
theorem q262 : (Jvm.Cond.code ({ cls := "LineageWorldsModel", name := "holdsIn", desc := "(I)Z" } : Jvm.MethodName) prog_3_method_11_code (3 : Nat) (Option.some Jvm.ClassFile.FieldType.boolean)) ∈ lw_all := lw_g (lw_at lw_m2 3 rfl) rfl
theorem q263 : (Jvm.Cond.methodLink "LineageWorldsModel" (69 : Nat) ({ cls := "LineageWorldsModel", name := "weight", desc := "(I)I" } : Jvm.MethodName)) ∈ lw_all := lw_g (lw_at lw_m2 4 rfl) rfl
theorem q264 : (Jvm.Cond.privateMethod ({ cls := "LineageWorldsModel", name := "weight", desc := "(I)I" } : Jvm.MethodName)) ∈ lw_tbl := lw_at lw_m2 5 rfl
theorem q265 : (Jvm.Cond.instanceMethod ({ cls := "LineageWorldsModel", name := "weight", desc := "(I)I" } : Jvm.MethodName)) ∈ lw_all := lw_g (lw_at lw_m2 6 rfl) rfl
theorem q266 : (Jvm.Cond.code ({ cls := "LineageWorldsModel", name := "weight", desc := "(I)I" } : Jvm.MethodName) prog_3_method_13_code (4 : Nat) (Option.some Jvm.ClassFile.FieldType.int)) ∈ lw_all := lw_g (lw_at lw_m2 7 rfl) rfl
theorem q268 : (Jvm.Cond.instanceMethod ({ cls := "LineageWorldsModel", name := "all", desc := "()I" } : Jvm.MethodName)) ∈ lw_all := lw_g (lw_at lw_m2 9 rfl) rfl
theorem q269 : (Jvm.Cond.selects "LineageWorldsModel" ({ cls := "LineageWorldsModel", name := "all", desc := "()I" } : Jvm.MethodName) ({ cls := "LineageWorldsModel", name := "all", desc := "()I" } : Jvm.MethodName)) ∈ lw_all := lw_g (lw_at lw_m2 10 rfl) rfl
theorem q270 : (Jvm.Cond.code ({ cls := "LineageWorldsModel", name := "all", desc := "()I" } : Jvm.MethodName) prog_3_method_16_code (3 : Nat) (Option.some Jvm.ClassFile.FieldType.int)) ∈ lw_all := lw_g (lw_at lw_m2 11 rfl) rfl
theorem q272 : (Jvm.Cond.instanceMethod ({ cls := "LineageWorldsModel", name := "shareWith", desc := "(I)I" } : Jvm.MethodName)) ∈ lw_all := lw_g (lw_at lw_m2 13 rfl) rfl
theorem q273 : (Jvm.Cond.selects "LineageWorldsModel" ({ cls := "LineageWorldsModel", name := "shareWith", desc := "(I)I" } : Jvm.MethodName) ({ cls := "LineageWorldsModel", name := "shareWith", desc := "(I)I" } : Jvm.MethodName)) ∈ lw_all := lw_g (lw_at lw_m2 14 rfl) rfl
theorem q274 : (Jvm.Cond.code ({ cls := "LineageWorldsModel", name := "shareWith", desc := "(I)I" } : Jvm.MethodName) prog_3_method_17_code (2 : Nat) (Option.some Jvm.ClassFile.FieldType.int)) ∈ lw_all := lw_g (lw_at lw_m2 15 rfl) rfl
theorem q276 : (Jvm.Cond.instanceMethod ({ cls := "LineageWorldsModel", name := "matters", desc := "(I)Z" } : Jvm.MethodName)) ∈ lw_all := lw_g (lw_at lw_m2 17 rfl) rfl
theorem q277 : (Jvm.Cond.selects "LineageWorldsModel" ({ cls := "LineageWorldsModel", name := "matters", desc := "(I)Z" } : Jvm.MethodName) ({ cls := "LineageWorldsModel", name := "matters", desc := "(I)Z" } : Jvm.MethodName)) ∈ lw_all := lw_g (lw_at lw_m2 18 rfl) rfl
theorem q278 : (Jvm.Cond.code ({ cls := "LineageWorldsModel", name := "matters", desc := "(I)Z" } : Jvm.MethodName) prog_3_method_18_code (3 : Nat) (Option.some Jvm.ClassFile.FieldType.boolean)) ∈ lw_all := lw_g (lw_at lw_m2 19 rfl) rfl
theorem q280 : (Jvm.Cond.instanceMethod ({ cls := "LineageWorldsModel", name := "fewest", desc := "()I" } : Jvm.MethodName)) ∈ lw_all := lw_g (lw_at lw_m2 21 rfl) rfl
theorem q281 : (Jvm.Cond.selects "LineageWorldsModel" ({ cls := "LineageWorldsModel", name := "fewest", desc := "()I" } : Jvm.MethodName) ({ cls := "LineageWorldsModel", name := "fewest", desc := "()I" } : Jvm.MethodName)) ∈ lw_all := lw_g (lw_at lw_m2 22 rfl) rfl
theorem q282 : (Jvm.Cond.code ({ cls := "LineageWorldsModel", name := "fewest", desc := "()I" } : Jvm.MethodName) prog_3_method_20_code (4 : Nat) (Option.some Jvm.ClassFile.FieldType.int)) ∈ lw_all := lw_g (lw_at lw_m2 23 rfl) rfl
theorem q283 : (Jvm.Cond.methodLink "LineageWorldsModel" (76 : Nat) ({ cls := "LineageWorldsModel", name := "size", desc := "(I)I" } : Jvm.MethodName)) ∈ lw_all := lw_g (lw_at lw_m2 24 rfl) rfl
theorem q284 : (Jvm.Cond.privateMethod ({ cls := "LineageWorldsModel", name := "size", desc := "(I)I" } : Jvm.MethodName)) ∈ lw_tbl := lw_at lw_m2 25 rfl
theorem q285 : (Jvm.Cond.instanceMethod ({ cls := "LineageWorldsModel", name := "size", desc := "(I)I" } : Jvm.MethodName)) ∈ lw_all := lw_g (lw_at lw_m2 26 rfl) rfl
theorem q286 : (Jvm.Cond.code ({ cls := "LineageWorldsModel", name := "size", desc := "(I)I" } : Jvm.MethodName) prog_3_method_19_code (4 : Nat) (Option.some Jvm.ClassFile.FieldType.int)) ∈ lw_all := lw_g (lw_at lw_m2 27 rfl) rfl
theorem q288 : (Jvm.Cond.instanceMethod ({ cls := "LineageWorldsModel", name := "reasons", desc := "()I" } : Jvm.MethodName)) ∈ lw_all := lw_g (lw_at lw_m2 29 rfl) rfl
theorem q289 : (Jvm.Cond.selects "LineageWorldsModel" ({ cls := "LineageWorldsModel", name := "reasons", desc := "()I" } : Jvm.MethodName) ({ cls := "LineageWorldsModel", name := "reasons", desc := "()I" } : Jvm.MethodName)) ∈ lw_all := lw_g (lw_at lw_m2 30 rfl) rfl
theorem q290 : (Jvm.Cond.code ({ cls := "LineageWorldsModel", name := "reasons", desc := "()I" } : Jvm.MethodName) prog_3_method_22_code (3 : Nat) (Option.some Jvm.ClassFile.FieldType.int)) ∈ lw_all := lw_g (lw_at lw_m2 31 rfl) rfl
theorem q291 : (Jvm.Cond.methodLink "LineageWorldsModel" (79 : Nat) ({ cls := "LineageWorldsModel", name := "spare", desc := "(I)Z" } : Jvm.MethodName)) ∈ lw_all := lw_g (lw_at lw_m2 32 rfl) rfl
theorem q292 : (Jvm.Cond.privateMethod ({ cls := "LineageWorldsModel", name := "spare", desc := "(I)Z" } : Jvm.MethodName)) ∈ lw_tbl := lw_at lw_m2 33 rfl
theorem q293 : (Jvm.Cond.instanceMethod ({ cls := "LineageWorldsModel", name := "spare", desc := "(I)Z" } : Jvm.MethodName)) ∈ lw_all := lw_g (lw_at lw_m2 34 rfl) rfl
theorem q294 : (Jvm.Cond.code ({ cls := "LineageWorldsModel", name := "spare", desc := "(I)Z" } : Jvm.MethodName) prog_3_method_21_code (3 : Nat) (Option.some Jvm.ClassFile.FieldType.boolean)) ∈ lw_all := lw_g (lw_at lw_m2 35 rfl) rfl
theorem in_X1 : ∀ w ∈ wsX10, w ∈ lw_all := lw_in wsX10 [186, 188, 190, 192, 194, 196, 198, 200, 202, 204, 206, 208] (by decide +kernel) (by decide +kernel)
end
section
/-! java/lang/Object -/
set_option maxRecDepth 100000
def RJ0 : String := "java/lang/Object"
abbrev cJ0_init : ByteArray := object_method_1_code
def yJ0_init : MethodName := ⟨RJ0, "<init>", "()V"⟩
theorem dJ0_init_0 : decode cJ0_init 0 = .ok (.return_, 1) := by decide +kernel
theorem q28 : (Jvm.Cond.instanceMethod ({ cls := "java/lang/Object", name := "<init>", desc := "()V" } : Jvm.MethodName)) ∈ lw_all := lw_g (lw_at lw_m1 9 rfl) rfl
theorem q29 : (Jvm.Cond.code ({ cls := "java/lang/Object", name := "<init>", desc := "()V" } : Jvm.MethodName) object_method_1_code (1 : Nat) (Option.none : Option Jvm.ClassFile.FieldType)) ∈ lw_all := lw_g (lw_at lw_m1 10 rfl) rfl
theorem q79 : (Jvm.Cond.arrayClass Jvm.ClassFile.FieldType.int) ∈ lw_all := lw_g (lw_at lw_m1 60 rfl) rfl
set_option maxRecDepth 100000
theorem q80 : (Jvm.Cond.arrayClass Jvm.ClassFile.FieldType.boolean) ∈ lw_all := lw_g (lw_at lw_m1 61 rfl) rfl
theorem q19 : (Jvm.Cond.initialized "LineageWorldsLaw") ∈ lw_all := lw_g (lw_at lw_m1 0 rfl) rfl
set_option maxRecDepth 100000
theorem q22 : (Jvm.Cond.classLink "LineageWorldsLaw" (7 : Nat) "LineageWorlds") ∈ lw_all := lw_g (lw_at lw_m1 3 rfl) rfl
theorem q24 : (Jvm.Cond.methodLink "LineageWorldsLaw" (9 : Nat) ({ cls := "LineageWorlds", name := "<init>", desc := "()V" } : Jvm.MethodName)) ∈ lw_all := lw_g (lw_at lw_m1 5 rfl) rfl
theorem q81 : (Jvm.Cond.methodLink "LineageWorldsLaw" (13 : Nat) ({ cls := "LineageWorlds", name := "fact", desc := "(II)I" } : Jvm.MethodName)) ∈ lw_all := lw_g (lw_at lw_m1 62 rfl) rfl
theorem q85 : (Jvm.Cond.methodLink "LineageWorldsLaw" (18 : Nat) ({ cls := "LineageWorlds", name := "likely", desc := "(II)I" } : Jvm.MethodName)) ∈ lw_all := lw_g (lw_at lw_m1 66 rfl) rfl
theorem q93 : (Jvm.Cond.methodLink "LineageWorldsLaw" (22 : Nat) ({ cls := "LineageWorlds", name := "condition", desc := "(III)I" } : Jvm.MethodName)) ∈ lw_all := lw_g (lw_at lw_m1 74 rfl) rfl
theorem q100 : (Jvm.Cond.methodLink "LineageWorldsLaw" (27 : Nat) ({ cls := "LineageWorlds", name := "ask", desc := "()V" } : Jvm.MethodName)) ∈ lw_all := lw_g (lw_at lw_m1 81 rfl) rfl
theorem q104 : (Jvm.Cond.methodLink "LineageWorldsLaw" (31 : Nat) ({ cls := "LineageWorlds", name := "drop", desc := "()I" } : Jvm.MethodName)) ∈ lw_all := lw_g (lw_at lw_m1 85 rfl) rfl
theorem q108 : (Jvm.Cond.methodLink "LineageWorldsLaw" (36 : Nat) ({ cls := "LineageWorlds", name := "share", desc := "()I" } : Jvm.MethodName)) ∈ lw_all := lw_g (lw_at lw_m1 89 rfl) rfl
theorem q145 : (Jvm.Cond.methodLink "LineageWorldsLaw" (40 : Nat) ({ cls := "LineageWorlds", name := "all", desc := "()I" } : Jvm.MethodName)) ∈ lw_all := lw_g (lw_at lw_m1 126 rfl) rfl
theorem q149 : (Jvm.Cond.methodLink "LineageWorldsLaw" (44 : Nat) ({ cls := "LineageWorlds", name := "shareWith", desc := "(I)I" } : Jvm.MethodName)) ∈ lw_all := lw_g (lw_at lw_m1 130 rfl) rfl
theorem q153 : (Jvm.Cond.methodLink "LineageWorldsLaw" (49 : Nat) ({ cls := "LineageWorlds", name := "matters", desc := "(I)Z" } : Jvm.MethodName)) ∈ lw_all := lw_g (lw_at lw_m1 134 rfl) rfl
theorem q157 : (Jvm.Cond.methodLink "LineageWorldsLaw" (54 : Nat) ({ cls := "LineageWorlds", name := "fewest", desc := "()I" } : Jvm.MethodName)) ∈ lw_all := lw_g (lw_at lw_m1 138 rfl) rfl
theorem q164 : (Jvm.Cond.methodLink "LineageWorldsLaw" (58 : Nat) ({ cls := "LineageWorlds", name := "reasons", desc := "()I" } : Jvm.MethodName)) ∈ lw_all := lw_g (lw_at lw_m1 145 rfl) rfl
theorem q168 : (Jvm.Cond.classLink "LineageWorldsLaw" (10 : Nat) "LineageWorldsModel") ∈ lw_all := lw_g (lw_at lw_m1 149 rfl) rfl
theorem q170 : (Jvm.Cond.methodLink "LineageWorldsLaw" (12 : Nat) ({ cls := "LineageWorldsModel", name := "<init>", desc := "()V" } : Jvm.MethodName)) ∈ lw_all := lw_g (lw_at lw_m1 151 rfl) rfl
theorem q211 : (Jvm.Cond.methodLink "LineageWorldsLaw" (17 : Nat) ({ cls := "LineageWorldsModel", name := "fact", desc := "(II)I" } : Jvm.MethodName)) ∈ lw_all := lw_g (lw_at lw_m1 192 rfl) rfl
theorem q215 : (Jvm.Cond.methodLink "LineageWorldsLaw" (21 : Nat) ({ cls := "LineageWorldsModel", name := "likely", desc := "(II)I" } : Jvm.MethodName)) ∈ lw_all := lw_g (lw_at lw_m1 196 rfl) rfl
theorem q223 : (Jvm.Cond.methodLink "LineageWorldsLaw" (26 : Nat) ({ cls := "LineageWorldsModel", name := "condition", desc := "(III)I" } : Jvm.MethodName)) ∈ lw_all := lw_g (lw_at lw_m1 204 rfl) rfl
theorem q231 : (Jvm.Cond.methodLink "LineageWorldsLaw" (30 : Nat) ({ cls := "LineageWorldsModel", name := "ask", desc := "()V" } : Jvm.MethodName)) ∈ lw_all := lw_g (lw_at lw_m1 212 rfl) rfl
theorem q235 : (Jvm.Cond.methodLink "LineageWorldsLaw" (35 : Nat) ({ cls := "LineageWorldsModel", name := "drop", desc := "()I" } : Jvm.MethodName)) ∈ lw_all := lw_g (lw_at lw_m1 216 rfl) rfl
theorem q239 : (Jvm.Cond.methodLink "LineageWorldsLaw" (39 : Nat) ({ cls := "LineageWorldsModel", name := "share", desc := "()I" } : Jvm.MethodName)) ∈ lw_all := lw_g (lw_at lw_m1 220 rfl) rfl
theorem q267 : (Jvm.Cond.methodLink "LineageWorldsLaw" (43 : Nat) ({ cls := "LineageWorldsModel", name := "all", desc := "()I" } : Jvm.MethodName)) ∈ lw_all := lw_g (lw_at lw_m2 8 rfl) rfl
theorem q271 : (Jvm.Cond.methodLink "LineageWorldsLaw" (48 : Nat) ({ cls := "LineageWorldsModel", name := "shareWith", desc := "(I)I" } : Jvm.MethodName)) ∈ lw_all := lw_g (lw_at lw_m2 12 rfl) rfl
theorem q275 : (Jvm.Cond.methodLink "LineageWorldsLaw" (53 : Nat) ({ cls := "LineageWorldsModel", name := "matters", desc := "(I)Z" } : Jvm.MethodName)) ∈ lw_all := lw_g (lw_at lw_m2 16 rfl) rfl
theorem q279 : (Jvm.Cond.methodLink "LineageWorldsLaw" (57 : Nat) ({ cls := "LineageWorldsModel", name := "fewest", desc := "()I" } : Jvm.MethodName)) ∈ lw_all := lw_g (lw_at lw_m2 20 rfl) rfl
theorem q287 : (Jvm.Cond.methodLink "LineageWorldsLaw" (61 : Nat) ({ cls := "LineageWorldsModel", name := "reasons", desc := "()I" } : Jvm.MethodName)) ∈ lw_all := lw_g (lw_at lw_m2 28 rfl) rfl
/-! the law's own entry -/
set_option maxRecDepth 100000
abbrev cL_law : ByteArray := code
theorem dL_law_0 : decode cL_law 0 = .ok (.new 7, 3) := by decide +kernel
theorem dL_law_3 : decode cL_law 3 = .ok (.dup, 1) := by decide +kernel
theorem dL_law_4 : decode cL_law 4 = .ok (.invokespecial 9, 3) := by decide +kernel
theorem dL_law_7 : decode cL_law 7 = .ok (.astore_n 1, 1) := by decide +kernel
theorem dL_law_8 : decode cL_law 8 = .ok (.new 10, 3) := by decide +kernel
theorem dL_law_11 : decode cL_law 11 = .ok (.dup, 1) := by decide +kernel
theorem dL_law_12 : decode cL_law 12 = .ok (.invokespecial 12, 3) := by decide +kernel
theorem dL_law_15 : decode cL_law 15 = .ok (.astore_n 2, 1) := by decide +kernel
theorem dL_law_16 : decode cL_law 16 = .ok (.iconst 0, 1) := by decide +kernel
theorem dL_law_17 : decode cL_law 17 = .ok (.istore_n 3, 1) := by decide +kernel
theorem dL_law_18 : decode cL_law 18 = .ok (.iload_n 3, 1) := by decide +kernel
theorem dL_law_19 : decode cL_law 19 = .ok (.aload_n 0, 1) := by decide +kernel
theorem dL_law_20 : decode cL_law 20 = .ok (.arraylength, 1) := by decide +kernel
theorem dL_law_21 : decode cL_law 21 = .ok (.iconst 4, 1) := by decide +kernel
theorem dL_law_22 : decode cL_law 22 = .ok (.isub, 1) := by decide +kernel
theorem dL_law_23 : decode cL_law 23 = .ok (.if_icmp .gt 306, 3) := by decide +kernel
theorem dL_law_26 : decode cL_law 26 = .ok (.aload_n 0, 1) := by decide +kernel
theorem dL_law_27 : decode cL_law 27 = .ok (.iload_n 3, 1) := by decide +kernel
theorem dL_law_28 : decode cL_law 28 = .ok (.iaload, 1) := by decide +kernel
theorem dL_law_29 : decode cL_law 29 = .ok (.bipush 15, 2) := by decide +kernel
theorem dL_law_31 : decode cL_law 31 = .ok (.iand, 1) := by decide +kernel
theorem dL_law_32 : decode cL_law 32 = .ok (.tableswitch 291 0 10 #[60, 93, 126, 169, 180, 193, 206, 219, 242, 265, 278], 60) := by decide +kernel
theorem dL_law_92 : decode cL_law 92 = .ok (.aload_n 1, 1) := by decide +kernel
theorem dL_law_93 : decode cL_law 93 = .ok (.aload_n 0, 1) := by decide +kernel
theorem dL_law_94 : decode cL_law 94 = .ok (.iload_n 3, 1) := by decide +kernel
theorem dL_law_95 : decode cL_law 95 = .ok (.iconst 1, 1) := by decide +kernel
theorem dL_law_96 : decode cL_law 96 = .ok (.iadd, 1) := by decide +kernel
theorem dL_law_97 : decode cL_law 97 = .ok (.iaload, 1) := by decide +kernel
theorem dL_law_98 : decode cL_law 98 = .ok (.aload_n 0, 1) := by decide +kernel
theorem dL_law_99 : decode cL_law 99 = .ok (.iload_n 3, 1) := by decide +kernel
theorem dL_law_100 : decode cL_law 100 = .ok (.iconst 2, 1) := by decide +kernel
theorem dL_law_101 : decode cL_law 101 = .ok (.iadd, 1) := by decide +kernel
theorem dL_law_102 : decode cL_law 102 = .ok (.iaload, 1) := by decide +kernel
theorem dL_law_103 : decode cL_law 103 = .ok (.invokevirtual 13, 3) := by decide +kernel
theorem dL_law_106 : decode cL_law 106 = .ok (.aload_n 2, 1) := by decide +kernel
theorem dL_law_107 : decode cL_law 107 = .ok (.aload_n 0, 1) := by decide +kernel
theorem dL_law_108 : decode cL_law 108 = .ok (.iload_n 3, 1) := by decide +kernel
theorem dL_law_109 : decode cL_law 109 = .ok (.iconst 1, 1) := by decide +kernel
theorem dL_law_110 : decode cL_law 110 = .ok (.iadd, 1) := by decide +kernel
theorem dL_law_111 : decode cL_law 111 = .ok (.iaload, 1) := by decide +kernel
theorem dL_law_112 : decode cL_law 112 = .ok (.aload_n 0, 1) := by decide +kernel
theorem dL_law_113 : decode cL_law 113 = .ok (.iload_n 3, 1) := by decide +kernel
theorem dL_law_114 : decode cL_law 114 = .ok (.iconst 2, 1) := by decide +kernel
theorem dL_law_115 : decode cL_law 115 = .ok (.iadd, 1) := by decide +kernel
theorem dL_law_116 : decode cL_law 116 = .ok (.iaload, 1) := by decide +kernel
theorem dL_law_117 : decode cL_law 117 = .ok (.invokevirtual 17, 3) := by decide +kernel
theorem dL_law_120 : decode cL_law 120 = .ok (.if_icmp .eq 203, 3) := by decide +kernel
theorem dL_law_123 : decode cL_law 123 = .ok (.iconst 0, 1) := by decide +kernel
theorem dL_law_124 : decode cL_law 124 = .ok (.ireturn, 1) := by decide +kernel
theorem dL_law_125 : decode cL_law 125 = .ok (.aload_n 1, 1) := by decide +kernel
theorem dL_law_126 : decode cL_law 126 = .ok (.aload_n 0, 1) := by decide +kernel
theorem dL_law_127 : decode cL_law 127 = .ok (.iload_n 3, 1) := by decide +kernel
theorem dL_law_128 : decode cL_law 128 = .ok (.iconst 1, 1) := by decide +kernel
theorem dL_law_129 : decode cL_law 129 = .ok (.iadd, 1) := by decide +kernel
theorem dL_law_130 : decode cL_law 130 = .ok (.iaload, 1) := by decide +kernel
theorem dL_law_131 : decode cL_law 131 = .ok (.aload_n 0, 1) := by decide +kernel
theorem dL_law_132 : decode cL_law 132 = .ok (.iload_n 3, 1) := by decide +kernel
theorem dL_law_133 : decode cL_law 133 = .ok (.iconst 2, 1) := by decide +kernel
theorem dL_law_134 : decode cL_law 134 = .ok (.iadd, 1) := by decide +kernel
theorem dL_law_135 : decode cL_law 135 = .ok (.iaload, 1) := by decide +kernel
theorem dL_law_136 : decode cL_law 136 = .ok (.invokevirtual 18, 3) := by decide +kernel
theorem dL_law_139 : decode cL_law 139 = .ok (.aload_n 2, 1) := by decide +kernel
theorem dL_law_140 : decode cL_law 140 = .ok (.aload_n 0, 1) := by decide +kernel
theorem dL_law_141 : decode cL_law 141 = .ok (.iload_n 3, 1) := by decide +kernel
theorem dL_law_142 : decode cL_law 142 = .ok (.iconst 1, 1) := by decide +kernel
theorem dL_law_143 : decode cL_law 143 = .ok (.iadd, 1) := by decide +kernel
theorem dL_law_144 : decode cL_law 144 = .ok (.iaload, 1) := by decide +kernel
theorem dL_law_145 : decode cL_law 145 = .ok (.aload_n 0, 1) := by decide +kernel
theorem dL_law_146 : decode cL_law 146 = .ok (.iload_n 3, 1) := by decide +kernel
theorem dL_law_147 : decode cL_law 147 = .ok (.iconst 2, 1) := by decide +kernel
theorem dL_law_148 : decode cL_law 148 = .ok (.iadd, 1) := by decide +kernel
theorem dL_law_149 : decode cL_law 149 = .ok (.iaload, 1) := by decide +kernel
theorem dL_law_150 : decode cL_law 150 = .ok (.invokevirtual 21, 3) := by decide +kernel
theorem dL_law_153 : decode cL_law 153 = .ok (.if_icmp .eq 170, 3) := by decide +kernel
theorem dL_law_156 : decode cL_law 156 = .ok (.iconst 0, 1) := by decide +kernel
theorem dL_law_157 : decode cL_law 157 = .ok (.ireturn, 1) := by decide +kernel
theorem dL_law_158 : decode cL_law 158 = .ok (.aload_n 1, 1) := by decide +kernel
theorem dL_law_159 : decode cL_law 159 = .ok (.aload_n 0, 1) := by decide +kernel
theorem dL_law_160 : decode cL_law 160 = .ok (.iload_n 3, 1) := by decide +kernel
theorem dL_law_161 : decode cL_law 161 = .ok (.iconst 1, 1) := by decide +kernel
theorem dL_law_162 : decode cL_law 162 = .ok (.iadd, 1) := by decide +kernel
theorem dL_law_163 : decode cL_law 163 = .ok (.iaload, 1) := by decide +kernel
theorem dL_law_164 : decode cL_law 164 = .ok (.aload_n 0, 1) := by decide +kernel
theorem dL_law_165 : decode cL_law 165 = .ok (.iload_n 3, 1) := by decide +kernel
theorem dL_law_166 : decode cL_law 166 = .ok (.iconst 2, 1) := by decide +kernel
theorem dL_law_167 : decode cL_law 167 = .ok (.iadd, 1) := by decide +kernel
theorem dL_law_168 : decode cL_law 168 = .ok (.iaload, 1) := by decide +kernel
theorem dL_law_169 : decode cL_law 169 = .ok (.aload_n 0, 1) := by decide +kernel
theorem dL_law_170 : decode cL_law 170 = .ok (.iload_n 3, 1) := by decide +kernel
theorem dL_law_171 : decode cL_law 171 = .ok (.iconst 3, 1) := by decide +kernel
theorem dL_law_172 : decode cL_law 172 = .ok (.iadd, 1) := by decide +kernel
theorem dL_law_173 : decode cL_law 173 = .ok (.iaload, 1) := by decide +kernel
theorem dL_law_174 : decode cL_law 174 = .ok (.invokevirtual 22, 3) := by decide +kernel
theorem dL_law_177 : decode cL_law 177 = .ok (.aload_n 2, 1) := by decide +kernel
theorem dL_law_178 : decode cL_law 178 = .ok (.aload_n 0, 1) := by decide +kernel
theorem dL_law_179 : decode cL_law 179 = .ok (.iload_n 3, 1) := by decide +kernel
theorem dL_law_180 : decode cL_law 180 = .ok (.iconst 1, 1) := by decide +kernel
theorem dL_law_181 : decode cL_law 181 = .ok (.iadd, 1) := by decide +kernel
theorem dL_law_182 : decode cL_law 182 = .ok (.iaload, 1) := by decide +kernel
theorem dL_law_183 : decode cL_law 183 = .ok (.aload_n 0, 1) := by decide +kernel
theorem dL_law_184 : decode cL_law 184 = .ok (.iload_n 3, 1) := by decide +kernel
theorem dL_law_185 : decode cL_law 185 = .ok (.iconst 2, 1) := by decide +kernel
theorem dL_law_186 : decode cL_law 186 = .ok (.iadd, 1) := by decide +kernel
theorem dL_law_187 : decode cL_law 187 = .ok (.iaload, 1) := by decide +kernel
theorem dL_law_188 : decode cL_law 188 = .ok (.aload_n 0, 1) := by decide +kernel
theorem dL_law_189 : decode cL_law 189 = .ok (.iload_n 3, 1) := by decide +kernel
theorem dL_law_190 : decode cL_law 190 = .ok (.iconst 3, 1) := by decide +kernel
theorem dL_law_191 : decode cL_law 191 = .ok (.iadd, 1) := by decide +kernel
theorem dL_law_192 : decode cL_law 192 = .ok (.iaload, 1) := by decide +kernel
theorem dL_law_193 : decode cL_law 193 = .ok (.invokevirtual 26, 3) := by decide +kernel
theorem dL_law_196 : decode cL_law 196 = .ok (.if_icmp .eq 127, 3) := by decide +kernel
theorem dL_law_199 : decode cL_law 199 = .ok (.iconst 0, 1) := by decide +kernel
theorem dL_law_200 : decode cL_law 200 = .ok (.ireturn, 1) := by decide +kernel
theorem dL_law_201 : decode cL_law 201 = .ok (.aload_n 1, 1) := by decide +kernel
theorem dL_law_202 : decode cL_law 202 = .ok (.invokevirtual 27, 3) := by decide +kernel
theorem dL_law_205 : decode cL_law 205 = .ok (.aload_n 2, 1) := by decide +kernel
theorem dL_law_206 : decode cL_law 206 = .ok (.invokevirtual 30, 3) := by decide +kernel
theorem dL_law_209 : decode cL_law 209 = .ok (.goto 114, 3) := by decide +kernel
theorem dL_law_212 : decode cL_law 212 = .ok (.aload_n 1, 1) := by decide +kernel
theorem dL_law_213 : decode cL_law 213 = .ok (.invokevirtual 31, 3) := by decide +kernel
theorem dL_law_216 : decode cL_law 216 = .ok (.aload_n 2, 1) := by decide +kernel
theorem dL_law_217 : decode cL_law 217 = .ok (.invokevirtual 35, 3) := by decide +kernel
theorem dL_law_220 : decode cL_law 220 = .ok (.if_icmp .eq 103, 3) := by decide +kernel
theorem dL_law_223 : decode cL_law 223 = .ok (.iconst 0, 1) := by decide +kernel
theorem dL_law_224 : decode cL_law 224 = .ok (.ireturn, 1) := by decide +kernel
theorem dL_law_225 : decode cL_law 225 = .ok (.aload_n 1, 1) := by decide +kernel
theorem dL_law_226 : decode cL_law 226 = .ok (.invokevirtual 36, 3) := by decide +kernel
theorem dL_law_229 : decode cL_law 229 = .ok (.aload_n 2, 1) := by decide +kernel
theorem dL_law_230 : decode cL_law 230 = .ok (.invokevirtual 39, 3) := by decide +kernel
theorem dL_law_233 : decode cL_law 233 = .ok (.if_icmp .eq 90, 3) := by decide +kernel
theorem dL_law_236 : decode cL_law 236 = .ok (.iconst 0, 1) := by decide +kernel
theorem dL_law_237 : decode cL_law 237 = .ok (.ireturn, 1) := by decide +kernel
theorem dL_law_238 : decode cL_law 238 = .ok (.aload_n 1, 1) := by decide +kernel
theorem dL_law_239 : decode cL_law 239 = .ok (.invokevirtual 40, 3) := by decide +kernel
theorem dL_law_242 : decode cL_law 242 = .ok (.aload_n 2, 1) := by decide +kernel
theorem dL_law_243 : decode cL_law 243 = .ok (.invokevirtual 43, 3) := by decide +kernel
theorem dL_law_246 : decode cL_law 246 = .ok (.if_icmp .eq 77, 3) := by decide +kernel
theorem dL_law_249 : decode cL_law 249 = .ok (.iconst 0, 1) := by decide +kernel
theorem dL_law_250 : decode cL_law 250 = .ok (.ireturn, 1) := by decide +kernel
theorem dL_law_251 : decode cL_law 251 = .ok (.aload_n 1, 1) := by decide +kernel
theorem dL_law_252 : decode cL_law 252 = .ok (.aload_n 0, 1) := by decide +kernel
theorem dL_law_253 : decode cL_law 253 = .ok (.iload_n 3, 1) := by decide +kernel
theorem dL_law_254 : decode cL_law 254 = .ok (.iconst 1, 1) := by decide +kernel
theorem dL_law_255 : decode cL_law 255 = .ok (.iadd, 1) := by decide +kernel
theorem dL_law_256 : decode cL_law 256 = .ok (.iaload, 1) := by decide +kernel
theorem dL_law_257 : decode cL_law 257 = .ok (.invokevirtual 44, 3) := by decide +kernel
theorem dL_law_260 : decode cL_law 260 = .ok (.aload_n 2, 1) := by decide +kernel
theorem dL_law_261 : decode cL_law 261 = .ok (.aload_n 0, 1) := by decide +kernel
theorem dL_law_262 : decode cL_law 262 = .ok (.iload_n 3, 1) := by decide +kernel
theorem dL_law_263 : decode cL_law 263 = .ok (.iconst 1, 1) := by decide +kernel
theorem dL_law_264 : decode cL_law 264 = .ok (.iadd, 1) := by decide +kernel
theorem dL_law_265 : decode cL_law 265 = .ok (.iaload, 1) := by decide +kernel
theorem dL_law_266 : decode cL_law 266 = .ok (.invokevirtual 48, 3) := by decide +kernel
theorem dL_law_269 : decode cL_law 269 = .ok (.if_icmp .eq 54, 3) := by decide +kernel
theorem dL_law_272 : decode cL_law 272 = .ok (.iconst 0, 1) := by decide +kernel
theorem dL_law_273 : decode cL_law 273 = .ok (.ireturn, 1) := by decide +kernel
theorem dL_law_274 : decode cL_law 274 = .ok (.aload_n 1, 1) := by decide +kernel
theorem dL_law_275 : decode cL_law 275 = .ok (.aload_n 0, 1) := by decide +kernel
theorem dL_law_276 : decode cL_law 276 = .ok (.iload_n 3, 1) := by decide +kernel
theorem dL_law_277 : decode cL_law 277 = .ok (.iconst 1, 1) := by decide +kernel
theorem dL_law_278 : decode cL_law 278 = .ok (.iadd, 1) := by decide +kernel
theorem dL_law_279 : decode cL_law 279 = .ok (.iaload, 1) := by decide +kernel
theorem dL_law_280 : decode cL_law 280 = .ok (.invokevirtual 49, 3) := by decide +kernel
theorem dL_law_283 : decode cL_law 283 = .ok (.aload_n 2, 1) := by decide +kernel
theorem dL_law_284 : decode cL_law 284 = .ok (.aload_n 0, 1) := by decide +kernel
theorem dL_law_285 : decode cL_law 285 = .ok (.iload_n 3, 1) := by decide +kernel
theorem dL_law_286 : decode cL_law 286 = .ok (.iconst 1, 1) := by decide +kernel
theorem dL_law_287 : decode cL_law 287 = .ok (.iadd, 1) := by decide +kernel
theorem dL_law_288 : decode cL_law 288 = .ok (.iaload, 1) := by decide +kernel
theorem dL_law_289 : decode cL_law 289 = .ok (.invokevirtual 53, 3) := by decide +kernel
theorem dL_law_292 : decode cL_law 292 = .ok (.if_icmp .eq 31, 3) := by decide +kernel
theorem dL_law_295 : decode cL_law 295 = .ok (.iconst 0, 1) := by decide +kernel
theorem dL_law_296 : decode cL_law 296 = .ok (.ireturn, 1) := by decide +kernel
theorem dL_law_297 : decode cL_law 297 = .ok (.aload_n 1, 1) := by decide +kernel
theorem dL_law_298 : decode cL_law 298 = .ok (.invokevirtual 54, 3) := by decide +kernel
theorem dL_law_301 : decode cL_law 301 = .ok (.aload_n 2, 1) := by decide +kernel
theorem dL_law_302 : decode cL_law 302 = .ok (.invokevirtual 57, 3) := by decide +kernel
theorem dL_law_305 : decode cL_law 305 = .ok (.if_icmp .eq 18, 3) := by decide +kernel
theorem dL_law_308 : decode cL_law 308 = .ok (.iconst 0, 1) := by decide +kernel
theorem dL_law_309 : decode cL_law 309 = .ok (.ireturn, 1) := by decide +kernel
theorem dL_law_310 : decode cL_law 310 = .ok (.aload_n 1, 1) := by decide +kernel
theorem dL_law_311 : decode cL_law 311 = .ok (.invokevirtual 58, 3) := by decide +kernel
theorem dL_law_314 : decode cL_law 314 = .ok (.aload_n 2, 1) := by decide +kernel
theorem dL_law_315 : decode cL_law 315 = .ok (.invokevirtual 61, 3) := by decide +kernel
theorem dL_law_318 : decode cL_law 318 = .ok (.if_icmp .eq 5, 3) := by decide +kernel
theorem dL_law_321 : decode cL_law 321 = .ok (.iconst 0, 1) := by decide +kernel
theorem dL_law_322 : decode cL_law 322 = .ok (.ireturn, 1) := by decide +kernel
theorem dL_law_323 : decode cL_law 323 = .ok (.iinc 3 4, 3) := by decide +kernel
theorem dL_law_326 : decode cL_law 326 = .ok (.goto (-308), 3) := by decide +kernel
theorem dL_law_329 : decode cL_law 329 = .ok (.iconst 1, 1) := by decide +kernel
theorem dL_law_330 : decode cL_law 330 = .ok (.ireturn, 1) := by decide +kernel
end
section
/-! THE LAYER: what a walk carries (the fixed things X, the cells ws, pc, locals lv, stack st), and a row an instruction -/
set_option maxRecDepth 100000
abbrev zw_St : Type := Nat → Nat → Int32
/-- the state u with x at place i of its array k -/
def zw_up (u : zw_St) (k i : Nat) (x : Int32) : zw_St := fun a => if a = k then upd (u k) i x else u a
abbrev zw_cl : List vw_C := [(RX0, TX0, 16), (RX1, TX1, 12)]
abbrev zw_ty (cI cZ : ClassId) : List (ClassId × FieldType) := [(cI, .int), (cZ, .boolean)]
abbrev zw_X := Program × Launch × Env × Room × State × MethodId × Array Value × List Frame × Method × Code × (Nat → Prop) × va_G
def zw_L (ls : Array Slot) (nL : Nat) (lv : List (Option Value)) : Prop := ls.size = nL ∧ lv_wf ls ∧ ∀ (i : Nat) (v : Value), lv[i]? = some (some v) → ls[i]? = some (.val v) ∧ v.category = 1
def zw_prs : Nat → List (Option Value) → List (Nat × Value)
  | _, [] => []
  | i, none :: r => zw_prs (i + 1) r
  | i, some v :: r => (i, v) :: zw_prs (i + 1) r
theorem zw_prs_at (w : Value) : ∀ (lv : List (Option Value)) (i j : Nat), lv[j]? = some (some w) → (i + j, w) ∈ zw_prs i lv
  | [], i, j, h => by simp at h
  | none :: r, i, 0, h => by simp at h
  | some v :: r, i, 0, h => by
    simp at h
    subst h
    simp [zw_prs]
  | none :: r, i, j + 1, h => by
    have h1 := zw_prs_at w r (i + 1) j (by simpa using h)
    rw [show i + (j + 1) = i + 1 + j by omega]
    exact h1
  | some v :: r, i, j + 1, h => by
    have h1 := zw_prs_at w r (i + 1) j (by simpa using h)
    rw [show i + (j + 1) = i + 1 + j by omega]
    exact List.mem_cons_of_mem _ h1
theorem zw_prs_of : ∀ (lv : List (Option Value)) (i : Nat) (q : Nat × Value), q ∈ zw_prs i lv → ∃ j, q.1 = i + j ∧ lv[j]? = some (some q.2)
  | [], i, q, h => by simp [zw_prs] at h
  | none :: r, i, q, h => by
    obtain ⟨j, h1, h2⟩ := zw_prs_of r (i + 1) q h
    exact ⟨j + 1, by omega, by simpa using h2⟩
  | some v :: r, i, q, h => by
    rcases List.mem_cons.mp h with h | h
    · exact ⟨0, by rw [h]; rfl, by rw [h]; rfl⟩
    · obtain ⟨j, h1, h2⟩ := zw_prs_of r (i + 1) q h
      exact ⟨j + 1, by omega, by simpa using h2⟩
theorem zw_L.has {ls : Array Slot} {nL : Nat} {lv : List (Option Value)} (h : zw_L ls nL lv) : lv_has ls nL (zw_prs 0 lv) := by
  refine ⟨h.1, h.2.1, fun q hq => ?_⟩
  obtain ⟨j, e, hj⟩ := zw_prs_of lv 0 q hq
  rw [e, Nat.zero_add]
  exact (h.2.2 j q.2 hj).1
theorem zw_L.set {ls ls' : Array Slot} {nL : Nat} {lv : List (Option Value)} {i : Nat} {v : Value} (h : zw_L ls nL lv) (hc : v.category = 1) (h' : lv_has ls' nL ((i, v) :: (zw_prs 0 lv).filter (fun q => !(q.1 == i) && !(q.1 + 1 == i && q.2.category == 2)))) : zw_L ls' nL (lv.set i (some v)) := by
  refine ⟨h'.1, h'.2.1, fun j w hj => ?_⟩
  by_cases e : j = i
  · subst e
    have hl : j < (lv.set j (some v)).length := (List.getElem?_eq_some_iff.mp hj).1
    rw [List.length_set] at hl
    rw [List.getElem?_set_self hl] at hj
    cases hj
    exact ⟨h'.2.2 (j, v) List.mem_cons_self, hc⟩
  · rw [List.getElem?_set_ne (Ne.symm e)] at hj
    obtain ⟨g1, g2⟩ := h.2.2 j w hj
    have hm : (j, w) ∈ zw_prs 0 lv := by
      have h1 := zw_prs_at w lv 0 j hj
      rw [Nat.zero_add] at h1
      exact h1
    refine ⟨h'.2.2 (j, w) (List.mem_cons_of_mem _ (List.mem_filter.mpr ⟨hm, ?_⟩)), g2⟩
    simp [e, g2]
theorem zw_L.forget {ls : Array Slot} {nL : Nat} {lv : List (Option Value)} (i : Nat) (h : zw_L ls nL lv) : zw_L ls nL (lv.set i none) := by
  refine ⟨h.1, h.2.1, fun j w hj => ?_⟩
  by_cases e : j = i
  · subst e
    have hl : j < (lv.set j none).length := (List.getElem?_eq_some_iff.mp hj).1
    rw [List.length_set] at hl
    rw [List.getElem?_set_self hl] at hj
    cases hj
  · rw [List.getElem?_set_ne (Ne.symm e)] at hj
    exact h.2.2 j w hj
def zw_G (X : zw_X) (nL : Nat) (Q : State → Prop) (cs sl : Nat) (ws : va_W) (pc : Nat) (lv : List (Option Value)) (st : List Value) : Prop :=
  match X with
  | (p, l, e, R, s, m, args, below, meth, c, A, D) => ∀ (H : Heap) (locs : List Loc) (ls : Array Slot), va_P D zw_cl ws H → va_D A ws → va_S A s.heap H locs → zw_L ls nL lv → W p l e R s m args below meth c H locs cs sl Q (F0 m pc ls st)
def zw_Ok (X : zw_X) (R0 : Room) (cc : ByteArray) (nL : Nat) (own : String) (cI cZ : ClassId) (rt : Option FieldType) : Prop :=
  match X with
  | (p, l, e, R, s, m, args, below, meth, c, A, D) => R = R0 ∧ p.tables.exec = Jvm.exec ∧ c.code = cc ∧ c.maxLocals = nL ∧ s.vm.findClass own = some m.cls ∧ (∀ w ∈ lw_all, w.before args s = true) ∧ (∀ q : Nat, s.heap.size ≤ q → A q) ∧ va_K D zw_cl (zw_ty cI cZ) s ∧ meth.sig.returnType = rt ∧ meth.locks = false
def zw_B (D : va_G) (wf : zw_St → va_W) (cI cZ : ClassId) (A : Nat → Prop) (u : zw_St) (t : State) : Prop := va_P D zw_cl (wf u) t.heap ∧ va_K D zw_cl (zw_ty cI cZ) t ∧ va_D A (wf u)
def zw_Qi (X : zw_X) (wf : zw_St → va_W) (cI cZ : ClassId) (post : Int32 → zw_St → Prop) : State → Prop :=
  match X with
  | (p, l, e, R, s, m, args, below, meth, c, A, D) => MQ below (va_Qi post (zw_B D wf cI cZ A) A) args s 0 0 A
def zw_Qv (X : zw_X) (wf : zw_St → va_W) (cI cZ : ClassId) (post : zw_St → Prop) : State → Prop :=
  match X with
  | (p, l, e, R, s, m, args, below, meth, c, A, D) => MQ below (va_Qv post (zw_B D wf cI cZ A) A) args s 0 0 A
/-- a contract over the cells wf u, with an int for its answer -/
def zw_Mi (l : Launch) (y : MethodName) (cc : ByteArray) (nL : Nat) (rt : Option FieldType) (fr lo : Nat) (D : va_G) (wf : zw_St → va_W) (cI cZ : ClassId) (av : List Value) (u : zw_St) (post : Int32 → zw_St → Prop) : Prop :=
  ∀ sz : Nat, Met l y (ws_ y cc nL rt) ({ frames := fr, cells := 0, slots := 0, locals := lo }) (va_Pc av (fun U => U.heap.size = sz ∧ va_P D zw_cl (wf u) U.heap ∧ va_K D zw_cl (zw_ty cI cZ) U ∧ va_D (fun _ => True) (wf u))) (va_Qi post (zw_B D wf cI cZ (va_A (wf u) sz)) (va_A (wf u) sz)) 0 0 (va_A (wf u) sz)
def zw_Mv (l : Launch) (y : MethodName) (cc : ByteArray) (nL : Nat) (rt : Option FieldType) (fr lo : Nat) (D : va_G) (wf : zw_St → va_W) (cI cZ : ClassId) (av : List Value) (u : zw_St) (post : zw_St → Prop) : Prop :=
  ∀ sz : Nat, Met l y (ws_ y cc nL rt) ({ frames := fr, cells := 0, slots := 0, locals := lo }) (va_Pc av (fun U => U.heap.size = sz ∧ va_P D zw_cl (wf u) U.heap ∧ va_K D zw_cl (zw_ty cI cZ) U ∧ va_D (fun _ => True) (wf u))) (va_Qv post (zw_B D wf cI cZ (va_A (wf u) sz)) (va_A (wf u) sz)) 0 0 (va_A (wf u) sz)
theorem zw_sl : ∀ (av : List Value), (∀ v ∈ av, v.category = 1) → (lg_sl av).length = av.length
  | [], _ => rfl
  | v :: r, h => by
    have h1 := zw_sl r (fun w hw => h w (List.mem_cons_of_mem _ hw))
    have h2 := h v List.mem_cons_self
    unfold lg_sl at h1 ⊢
    simp [h2, h1]
theorem zw_args (w : Value) : ∀ (av : List Value) (b i : Nat), (∀ v ∈ av, v.category = 1) → av[i]? = some w → (b + i, w) ∈ lv_args b av
  | [], b, i, _, h => by simp at h
  | v :: r, b, 0, _, h => by
    simp at h
    subst h
    simp [lv_args]
  | v :: r, b, i + 1, hc, h => by
    have h2 := hc v List.mem_cons_self
    have h1 := zw_args w r (b + 1) i (fun w hw => hc w (List.mem_cons_of_mem _ hw)) (by simpa using h)
    rw [show b + (i + 1) = b + 1 + i by omega]
    simp only [lv_args, h2]
    exact List.mem_cons_of_mem _ h1
theorem zw_entry (av : List Value) (nL : Nat) (hav : ∀ v ∈ av, v.category = 1) (hn : av.length ≤ nL) : zw_L ((lg_sl av ++ List.replicate (nL - (lg_sl av).length) Slot.unset).toArray) nL (av.map some ++ List.replicate (nL - av.length) none) := by
  have h := lv_entry av (n := nL) (by rw [zw_sl av hav]; exact hn)
  refine ⟨h.1, h.2.1, fun i v hi => ?_⟩
  by_cases hl : i < av.length
  · rw [List.getElem?_append_left (by simpa using hl), List.getElem?_map] at hi
    cases hq : av[i]? with
    | none => rw [hq] at hi; cases hi
    | some w =>
      rw [hq] at hi
      cases hi
      have h1 := zw_args v av 0 i hav hq
      rw [Nat.zero_add] at h1
      exact ⟨h.2.2 (i, v) h1, hav v (List.mem_of_getElem? hq)⟩
  · rw [List.getElem?_append_right (by simpa using hl)] at hi
    have h1 := List.mem_of_getElem? hi
    have h2 := List.eq_of_mem_replicate h1
    cases h2
theorem zw_Mi_of {y : MethodName} {cc : ByteArray} {nL : Nat} {rt : Option FieldType} {fr lo : Nat} {wf : zw_St → va_W} {cI cZ : ClassId} {av : List Value} {u : zw_St} {post : Int32 → zw_St → Prop} (hy : plainName y.cls = true) (hav : ∀ v ∈ av, v.category = 1) (hn : av.length ≤ nL)
    (h : ∀ X : zw_X, zw_Ok X ({ frames := fr, cells := 0, slots := 0, locals := lo }) cc nL y.cls cI cZ rt → zw_G X nL (zw_Qi X wf cI cZ post) 0 0 (wf u) 0 (av.map some ++ List.replicate (nL - av.length) none) []) (l : Launch) (D : va_G) : zw_Mi l y cc nL rt fr lo D wf cI cZ av u post := by
  intro sz
  refine Met.ofW (cc := cc) (maxL := nL) (ret := rt) hy rfl ?_
  intro p e s m args below meth c s₁ B hml hv
  obtain ⟨rfl, hsz, hP, hK, hD0⟩ := hv
  have hts := atoms_spec (ws := ws_ y cc nL rt) B.pre
  have hts : ∀ w ∈ lw_all, w.before _ s = true := fun w h => hts w (List.mem_cons_of_mem _ h)
  have hown : s.vm.findClass y.cls = some m.cls := findClass_of_methodNamed B.named
  subst hsz
  have hD := hD0.self (sz := s.heap.size)
  have hA : ∀ q : Nat, s.heap.size ≤ q → va_A (wf u) s.heap.size q := fun q h => Or.inr h
  rw [lg_entry_eq]
  exact h (p, l, e, _, s, m, av.toArray, below, meth, c, va_A (wf u) s.heap.size, D) ⟨rfl, B.exec, B.bytes, hml, hown, hts, hA, hK, B.returns, B.notSynchronized⟩ s.heap [] _ hP hD va_S.rf (zw_entry av nL hav hn)
theorem zw_Mv_of {y : MethodName} {cc : ByteArray} {nL : Nat} {rt : Option FieldType} {fr lo : Nat} {wf : zw_St → va_W} {cI cZ : ClassId} {av : List Value} {u : zw_St} {post : zw_St → Prop} (hy : plainName y.cls = true) (hav : ∀ v ∈ av, v.category = 1) (hn : av.length ≤ nL)
    (h : ∀ X : zw_X, zw_Ok X ({ frames := fr, cells := 0, slots := 0, locals := lo }) cc nL y.cls cI cZ rt → zw_G X nL (zw_Qv X wf cI cZ post) 0 0 (wf u) 0 (av.map some ++ List.replicate (nL - av.length) none) []) (l : Launch) (D : va_G) : zw_Mv l y cc nL rt fr lo D wf cI cZ av u post := by
  intro sz
  refine Met.ofW (cc := cc) (maxL := nL) (ret := rt) hy rfl ?_
  intro p e s m args below meth c s₁ B hml hv
  obtain ⟨rfl, hsz, hP, hK, hD0⟩ := hv
  have hts := atoms_spec (ws := ws_ y cc nL rt) B.pre
  have hts : ∀ w ∈ lw_all, w.before _ s = true := fun w h => hts w (List.mem_cons_of_mem _ h)
  have hown : s.vm.findClass y.cls = some m.cls := findClass_of_methodNamed B.named
  subst hsz
  have hD := hD0.self (sz := s.heap.size)
  have hA : ∀ q : Nat, s.heap.size ≤ q → va_A (wf u) s.heap.size q := fun q h => Or.inr h
  rw [lg_entry_eq]
  exact h (p, l, e, _, s, m, av.toArray, below, meth, c, va_A (wf u) s.heap.size, D) ⟨rfl, B.exec, B.bytes, hml, hown, hts, hA, hK, B.returns, B.notSynchronized⟩ s.heap [] _ hP hD va_S.rf (zw_entry av nL hav hn)
/-! two lists of cells side by side -/
theorem zw_Pl {D : va_G} {cl : List vw_C} {w1 w2 : va_W} {H : Heap} (h : va_P D cl (w1 ++ w2) H) : va_P D cl w1 H := fun k q hk => h k q (by rw [List.getElem?_append_left (List.getElem?_eq_some_iff.mp hk).1]; exact hk)
theorem zw_Pr {D : va_G} {cl : List vw_C} {w1 w2 : va_W} {H : Heap} (h : va_P D cl (w1 ++ w2) H) : va_P D cl w2 H := fun k q hk => h (w1.length + k) q (by rw [List.getElem?_append_right (Nat.le_add_right _ _), Nat.add_sub_cancel_left]; exact hk)
theorem zw_Dl {A : Nat → Prop} {w1 w2 : va_W} (h : va_D A (w1 ++ w2)) : va_D A w1 := by
  have e : ∀ (k : Nat) (q : Nat × va_E), w1[k]? = some q → (w1 ++ w2)[k]? = some q := fun k q hk => by rw [List.getElem?_append_left (List.getElem?_eq_some_iff.mp hk).1]; exact hk
  exact ⟨fun i j p q hi hj hpq => h.1 i j p q (e i p hi) (e j q hj) hpq, fun k q hk => h.2 k q (e k q hk)⟩
theorem zw_Dr {A : Nat → Prop} {w1 w2 : va_W} (h : va_D A (w1 ++ w2)) : va_D A w2 := by
  have e : ∀ (k : Nat) (q : Nat × va_E), w2[k]? = some q → (w1 ++ w2)[w1.length + k]? = some q := fun k q hk => by rw [List.getElem?_append_right (Nat.le_add_right _ _), Nat.add_sub_cancel_left]; exact hk
  exact ⟨fun i j p q hi hj hpq => by have := h.1 _ _ p q (e i p hi) (e j q hj) hpq; omega, fun k q hk => h.2 _ q (e k q hk)⟩
theorem zw_Dx {A : Nat → Prop} {w1 w2 : va_W} (h : va_D A (w1 ++ w2)) : ∀ (i j : Nat) (p q : Nat × va_E), w1[i]? = some p → w2[j]? = some q → p.1 ≠ q.1 := by
  intro i j p q hi hj hpq
  have l1 := (List.getElem?_eq_some_iff.mp hi).1
  have e1 : (w1 ++ w2)[i]? = some p := by rw [List.getElem?_append_left l1]; exact hi
  have e2 : (w1 ++ w2)[w1.length + j]? = some q := by rw [List.getElem?_append_right (Nat.le_add_right _ _), Nat.add_sub_cancel_left]; exact hj
  have := h.1 _ _ p q e1 e2 hpq
  omega
theorem zw_swap {X : zw_X} {nL : Nat} {Q : State → Prop} {cs sl : Nat} {w1 w2 : va_W} {pc : Nat} {lv : List (Option Value)} {st : List Value} (k : zw_G X nL Q cs sl (w2 ++ w1) pc lv st) : zw_G X nL Q cs sl (w1 ++ w2) pc lv st := by
  obtain ⟨p, l, e, R, s, m, args, below, meth, c, A, D⟩ := X
  intro H locs ls hP hD hS hl
  exact k H locs ls (va_P.app (zw_Pr hP) (zw_Pl hP)) (va_D.app (zw_Dr hD) (zw_Dl hD) (fun i j p q hi hj e => zw_Dx hD j i q p hj hi e.symm)) hS hl
section ZW
variable {X : zw_X} {R0 : Room} {cc : ByteArray} {nL : Nat} {own : String} {cI cZ : ClassId} {rt : Option FieldType} {Q : State → Prop} {cs sl : Nat} {ws : va_W} {pc : Nat} {lv : List (Option Value)} {st : List Value}
/-- fewer locals -/
theorem zw_forget (i : Nat) (k : zw_G X nL Q cs sl ws pc (lv.set i none) st) : zw_G X nL Q cs sl ws pc lv st := by
  obtain ⟨p, l, e, R, s, m, args, below, meth, c, A, D⟩ := X
  intro H locs ls hP hD hS hl
  exact k H locs ls hP hD hS (hl.forget i)
/-- other names for the same -/
theorem zw_top {x y : Int32} (h : x = y) (k : zw_G X nL Q cs sl ws pc lv (.int y :: st)) : zw_G X nL Q cs sl ws pc lv (.int x :: st) := by
  rw [h]
  exact k
theorem zw_loc (i : Nat) {v : Int32} {w : Int32} (hv : lv[i]? = some (some (.int v))) (h : v = w) (k : zw_G X nL Q cs sl ws pc (lv.set i (some (.int w))) st) : zw_G X nL Q cs sl ws pc lv st := by
  have e : lv.set i (some (.int w)) = lv := by
    rw [← h]
    refine List.ext_getElem? fun j => ?_
    by_cases hj : j = i
    · subst hj
      have hl := (List.getElem?_eq_some_iff.mp hv).1
      rw [List.getElem?_set_self hl, hv]
    · rw [List.getElem?_set_ne (Ne.symm hj)]
  rw [e] at k
  exact k
theorem zw_iconst (C : zw_Ok X R0 cc nL own cI cZ rt) {n : Int} {v : Int32} (hd : decode cc pc = .ok (.iconst n, 1)) (hv : Int32.ofInt n = v) (k : zw_G X nL Q cs sl ws (pc + 1) lv (.int v :: st)) : zw_G X nL Q cs sl ws pc lv st := by
  obtain ⟨p, l, e, R, s, m, args, below, meth, c, A, D⟩ := X
  obtain ⟨rfl, hx, hb, hml, hown, hts, hA, hK, hr, hlk⟩ := C
  intro H locs ls hP hD hS hl
  exact lv_iconst hx hb hd hv (k H locs ls hP hD hS hl)
theorem zw_bipush (C : zw_Ok X R0 cc nL own cI cZ rt) {n : Int} {v : Int32} (hd : decode cc pc = .ok (.bipush n, 2)) (hv : (Int8.ofInt n).toInt32 = v) (k : zw_G X nL Q cs sl ws (pc + 2) lv (.int v :: st)) : zw_G X nL Q cs sl ws pc lv st := by
  obtain ⟨p, l, e, R, s, m, args, below, meth, c, A, D⟩ := X
  obtain ⟨rfl, hx, hb, hml, hown, hts, hA, hK, hr, hlk⟩ := C
  intro H locs ls hP hD hS hl
  exact lv_bipush hx hb hd hv (k H locs ls hP hD hS hl)
theorem zw_sipush (C : zw_Ok X R0 cc nL own cI cZ rt) {n : Int} {v : Int32} (hd : decode cc pc = .ok (.sipush n, 3)) (hv : (Int16.ofInt n).toInt32 = v) (k : zw_G X nL Q cs sl ws (pc + 3) lv (.int v :: st)) : zw_G X nL Q cs sl ws pc lv st := by
  obtain ⟨p, l, e, R, s, m, args, below, meth, c, A, D⟩ := X
  obtain ⟨rfl, hx, hb, hml, hown, hts, hA, hK, hr, hlk⟩ := C
  intro H locs ls hP hD hS hl
  exact lv_sipush hx hb hd hv (k H locs ls hP hD hS hl)
theorem zw_ldc (C : zw_Ok X R0 cc nL own cI cZ rt) {index : Nat} {v : Int32} (hq : Jvm.Cond.constant own index v ∈ lw_all) (hd : decode cc pc = .ok (.ldc index, 2)) (k : zw_G X nL Q cs sl ws (pc + 2) lv (.int v :: st)) : zw_G X nL Q cs sl ws pc lv st := by
  obtain ⟨p, l, e, R, s, m, args, below, meth, c, A, D⟩ := X
  obtain ⟨rfl, hx, hb, hml, hown, hts, hA, hK, hr, hlk⟩ := C
  intro H locs ls hP hD hS hl
  exact lv_ldc hx hb hown (hts _ hq) hd (k H locs ls hP hD hS hl)
theorem zw_iload_n (C : zw_Ok X R0 cc nL own cI cZ rt) {f : Fin 4} {i : Nat} {v : Int32} (hd : decode cc pc = .ok (.iload_n f, 1)) (hi : (f : Nat) = i) (hv : lv[i]? = some (some (.int v))) (k : zw_G X nL Q cs sl ws (pc + 1) lv (.int v :: st)) : zw_G X nL Q cs sl ws pc lv st := by
  obtain ⟨p, l, e, R, s, m, args, below, meth, c, A, D⟩ := X
  obtain ⟨rfl, hx, hb, hml, hown, hts, hA, hK, hr, hlk⟩ := C
  intro H locs ls hP hD hS hl
  exact lv_iload_n hx hb hd hi (hl.2.2 i _ hv).1 (k H locs ls hP hD hS hl)
theorem zw_iload (C : zw_Ok X R0 cc nL own cI cZ rt) {i : Nat} {v : Int32} (hd : decode cc pc = .ok (.iload i, 2)) (hv : lv[i]? = some (some (.int v))) (k : zw_G X nL Q cs sl ws (pc + 2) lv (.int v :: st)) : zw_G X nL Q cs sl ws pc lv st := by
  obtain ⟨p, l, e, R, s, m, args, below, meth, c, A, D⟩ := X
  obtain ⟨rfl, hx, hb, hml, hown, hts, hA, hK, hr, hlk⟩ := C
  intro H locs ls hP hD hS hl
  exact lv_iload hx hb hd (hl.2.2 i _ hv).1 (k H locs ls hP hD hS hl)
theorem zw_aload_n (C : zw_Ok X R0 cc nL own cI cZ rt) {f : Fin 4} {i : Nat} {v : Nat} (hd : decode cc pc = .ok (.aload_n f, 1)) (hi : (f : Nat) = i) (hv : lv[i]? = some (some (.ref v))) (k : zw_G X nL Q cs sl ws (pc + 1) lv (.ref v :: st)) : zw_G X nL Q cs sl ws pc lv st := by
  obtain ⟨p, l, e, R, s, m, args, below, meth, c, A, D⟩ := X
  obtain ⟨rfl, hx, hb, hml, hown, hts, hA, hK, hr, hlk⟩ := C
  intro H locs ls hP hD hS hl
  exact lv_aload_n hx hb hd hi (hl.2.2 i _ hv).1 (k H locs ls hP hD hS hl)
theorem zw_istore_n (C : zw_Ok X R0 cc nL own cI cZ rt) {f : Fin 4} {i : Nat} {v : Int32} (hd : decode cc pc = .ok (.istore_n f, 1)) (hi : (f : Nat) = i) (hn : i < nL) (k : zw_G X nL Q cs sl ws (pc + 1) (lv.set i (some (.int v))) st) : zw_G X nL Q cs sl ws pc lv (.int v :: st) := by
  obtain ⟨p, l, e, R, s, m, args, below, meth, c, A, D⟩ := X
  obtain ⟨rfl, hx, hb, hml, hown, hts, hA, hK, hr, hlk⟩ := C
  intro H locs ls hP hD hS hl
  exact lv_istore_n hx hb hd hi hl.has hn rfl (fun ls' h' => k H locs ls' hP hD hS (hl.set rfl h'))
theorem zw_istore (C : zw_Ok X R0 cc nL own cI cZ rt) {i : Nat} {v : Int32} (hd : decode cc pc = .ok (.istore i, 2)) (hn : i < nL) (k : zw_G X nL Q cs sl ws (pc + 2) (lv.set i (some (.int v))) st) : zw_G X nL Q cs sl ws pc lv (.int v :: st) := by
  obtain ⟨p, l, e, R, s, m, args, below, meth, c, A, D⟩ := X
  obtain ⟨rfl, hx, hb, hml, hown, hts, hA, hK, hr, hlk⟩ := C
  intro H locs ls hP hD hS hl
  exact lv_istore hx hb hd hl.has hn rfl (fun ls' h' => k H locs ls' hP hD hS (hl.set rfl h'))
theorem zw_astore_n (C : zw_Ok X R0 cc nL own cI cZ rt) {f : Fin 4} {i : Nat} {v : Nat} (hd : decode cc pc = .ok (.astore_n f, 1)) (hi : (f : Nat) = i) (hn : i < nL) (k : zw_G X nL Q cs sl ws (pc + 1) (lv.set i (some (.ref v))) st) : zw_G X nL Q cs sl ws pc lv (.ref v :: st) := by
  obtain ⟨p, l, e, R, s, m, args, below, meth, c, A, D⟩ := X
  obtain ⟨rfl, hx, hb, hml, hown, hts, hA, hK, hr, hlk⟩ := C
  intro H locs ls hP hD hS hl
  exact lv_astore_n hx hb hd hi hl.has hn rfl (fun ls' h' => k H locs ls' hP hD hS (hl.set rfl h'))
theorem zw_iinc (C : zw_Ok X R0 cc nL own cI cZ rt) {i : Nat} {n : Int} {x v : Int32} (hd : decode cc pc = .ok (.iinc i n, 3)) (hv : lv[i]? = some (some (.int x))) (he : x + Int32.ofInt n = v) (hn : i < nL) (k : zw_G X nL Q cs sl ws (pc + 3) (lv.set i (some (.int v))) st) : zw_G X nL Q cs sl ws pc lv st := by
  obtain ⟨p, l, e, R, s, m, args, below, meth, c, A, D⟩ := X
  obtain ⟨rfl, hx, hb, hml, hown, hts, hA, hK, hr, hlk⟩ := C
  intro H locs ls hP hD hS hl
  have hm := zw_prs_at _ lv 0 i hv
  rw [Nat.zero_add] at hm
  obtain ⟨j, hj⟩ := List.getElem?_of_mem hm
  exact lv_iinc hx hb hd hl.has hj he hn rfl (fun ls' h' => k H locs ls' hP hD hS (hl.set rfl h'))
theorem zw_iadd (C : zw_Ok X R0 cc nL own cI cZ rt) {x y : Int32} (hd : decode cc pc = .ok (.iadd, 1)) (k : zw_G X nL Q cs sl ws (pc + 1) lv (.int (x + y) :: st)) : zw_G X nL Q cs sl ws pc lv (.int y :: .int x :: st) := by
  obtain ⟨p, l, e, R, s, m, args, below, meth, c, A, D⟩ := X
  obtain ⟨rfl, hx, hb, hml, hown, hts, hA, hK, hr, hlk⟩ := C
  intro H locs ls hP hD hS hl
  exact lv_iadd hx hb hd (k H locs ls hP hD hS hl)
theorem zw_isub (C : zw_Ok X R0 cc nL own cI cZ rt) {x y : Int32} (hd : decode cc pc = .ok (.isub, 1)) (k : zw_G X nL Q cs sl ws (pc + 1) lv (.int (x - y) :: st)) : zw_G X nL Q cs sl ws pc lv (.int y :: .int x :: st) := by
  obtain ⟨p, l, e, R, s, m, args, below, meth, c, A, D⟩ := X
  obtain ⟨rfl, hx, hb, hml, hown, hts, hA, hK, hr, hlk⟩ := C
  intro H locs ls hP hD hS hl
  exact lv_isub hx hb hd (k H locs ls hP hD hS hl)
theorem zw_imul (C : zw_Ok X R0 cc nL own cI cZ rt) {x y : Int32} (hd : decode cc pc = .ok (.imul, 1)) (k : zw_G X nL Q cs sl ws (pc + 1) lv (.int (x * y) :: st)) : zw_G X nL Q cs sl ws pc lv (.int y :: .int x :: st) := by
  obtain ⟨p, l, e, R, s, m, args, below, meth, c, A, D⟩ := X
  obtain ⟨rfl, hx, hb, hml, hown, hts, hA, hK, hr, hlk⟩ := C
  intro H locs ls hP hD hS hl
  exact lv_imul hx hb hd (k H locs ls hP hD hS hl)
theorem zw_iand (C : zw_Ok X R0 cc nL own cI cZ rt) {x y : Int32} (hd : decode cc pc = .ok (.iand, 1)) (k : zw_G X nL Q cs sl ws (pc + 1) lv (.int (x &&& y) :: st)) : zw_G X nL Q cs sl ws pc lv (.int y :: .int x :: st) := by
  obtain ⟨p, l, e, R, s, m, args, below, meth, c, A, D⟩ := X
  obtain ⟨rfl, hx, hb, hml, hown, hts, hA, hK, hr, hlk⟩ := C
  intro H locs ls hP hD hS hl
  exact lv_iand hx hb hd (k H locs ls hP hD hS hl)
theorem zw_ior (C : zw_Ok X R0 cc nL own cI cZ rt) {x y : Int32} (hd : decode cc pc = .ok (.ior, 1)) (k : zw_G X nL Q cs sl ws (pc + 1) lv (.int (x ||| y) :: st)) : zw_G X nL Q cs sl ws pc lv (.int y :: .int x :: st) := by
  obtain ⟨p, l, e, R, s, m, args, below, meth, c, A, D⟩ := X
  obtain ⟨rfl, hx, hb, hml, hown, hts, hA, hK, hr, hlk⟩ := C
  intro H locs ls hP hD hS hl
  exact lv_ior hx hb hd (k H locs ls hP hD hS hl)
theorem zw_ixor (C : zw_Ok X R0 cc nL own cI cZ rt) {x y : Int32} (hd : decode cc pc = .ok (.ixor, 1)) (k : zw_G X nL Q cs sl ws (pc + 1) lv (.int (x ^^^ y) :: st)) : zw_G X nL Q cs sl ws pc lv (.int y :: .int x :: st) := by
  obtain ⟨p, l, e, R, s, m, args, below, meth, c, A, D⟩ := X
  obtain ⟨rfl, hx, hb, hml, hown, hts, hA, hK, hr, hlk⟩ := C
  intro H locs ls hP hD hS hl
  exact lv_ixor hx hb hd (k H locs ls hP hD hS hl)
theorem zw_ishl (C : zw_Ok X R0 cc nL own cI cZ rt) {x y : Int32} (hd : decode cc pc = .ok (.ishl, 1)) (k : zw_G X nL Q cs sl ws (pc + 1) lv (.int (x <<< (y &&& 31)) :: st)) : zw_G X nL Q cs sl ws pc lv (.int y :: .int x :: st) := by
  obtain ⟨p, l, e, R, s, m, args, below, meth, c, A, D⟩ := X
  obtain ⟨rfl, hx, hb, hml, hown, hts, hA, hK, hr, hlk⟩ := C
  intro H locs ls hP hD hS hl
  exact lv_ishl hx hb hd (k H locs ls hP hD hS hl)
theorem zw_ishr (C : zw_Ok X R0 cc nL own cI cZ rt) {x y : Int32} (hd : decode cc pc = .ok (.ishr, 1)) (k : zw_G X nL Q cs sl ws (pc + 1) lv (.int (x >>> (y &&& 31)) :: st)) : zw_G X nL Q cs sl ws pc lv (.int y :: .int x :: st) := by
  obtain ⟨p, l, e, R, s, m, args, below, meth, c, A, D⟩ := X
  obtain ⟨rfl, hx, hb, hml, hown, hts, hA, hK, hr, hlk⟩ := C
  intro H locs ls hP hD hS hl
  exact lv_ishr hx hb hd (k H locs ls hP hD hS hl)
theorem zw_idiv (C : zw_Ok X R0 cc nL own cI cZ rt) {x y : Int32} (hd : decode cc pc = .ok (.idiv, 1)) (hne : ¬ y = 0) (k : zw_G X nL Q cs sl ws (pc + 1) lv (.int (x / y) :: st)) : zw_G X nL Q cs sl ws pc lv (.int y :: .int x :: st) := by
  obtain ⟨p, l, e, R, s, m, args, below, meth, c, A, D⟩ := X
  obtain ⟨rfl, hx, hb, hml, hown, hts, hA, hK, hr, hlk⟩ := C
  intro H locs ls hP hD hS hl
  exact lv_idiv hx hb hd hne (k H locs ls hP hD hS hl)
theorem zw_irem (C : zw_Ok X R0 cc nL own cI cZ rt) {x y : Int32} (hd : decode cc pc = .ok (.irem, 1)) (hne : ¬ y = 0) (k : zw_G X nL Q cs sl ws (pc + 1) lv (.int (x - x / y * y) :: st)) : zw_G X nL Q cs sl ws pc lv (.int y :: .int x :: st) := by
  obtain ⟨p, l, e, R, s, m, args, below, meth, c, A, D⟩ := X
  obtain ⟨rfl, hx, hb, hml, hown, hts, hA, hK, hr, hlk⟩ := C
  intro H locs ls hP hD hS hl
  exact lv_irem hx hb hd hne (k H locs ls hP hD hS hl)
theorem zw_dup (C : zw_Ok X R0 cc nL own cI cZ rt) {va : Value} (hd : decode cc pc = .ok (.dup, 1)) (hc : va.category = 1) (k : zw_G X nL Q cs sl ws (pc + 1) lv (va :: va :: st)) : zw_G X nL Q cs sl ws pc lv (va :: st) := by
  obtain ⟨p, l, e, R, s, m, args, below, meth, c, A, D⟩ := X
  obtain ⟨rfl, hx, hb, hml, hown, hts, hA, hK, hr, hlk⟩ := C
  intro H locs ls hP hD hS hl
  exact lv_dup hx hb hd hc (k H locs ls hP hD hS hl)
theorem zw_dup2 (C : zw_Ok X R0 cc nL own cI cZ rt) {va vb : Value} (hd : decode cc pc = .ok (.dup2, 1)) (hc : va.category = 1) (hc2 : vb.category = 1) (k : zw_G X nL Q cs sl ws (pc + 1) lv (va :: vb :: va :: vb :: st)) : zw_G X nL Q cs sl ws pc lv (va :: vb :: st) := by
  obtain ⟨p, l, e, R, s, m, args, below, meth, c, A, D⟩ := X
  obtain ⟨rfl, hx, hb, hml, hown, hts, hA, hK, hr, hlk⟩ := C
  intro H locs ls hP hD hS hl
  exact lv_dup2_11 hx hb hd hc hc2 (k H locs ls hP hD hS hl)
theorem zw_goto (C : zw_Ok X R0 cc nL own cI cZ rt) {off : Int} {tgt : Nat} (hd : decode cc pc = .ok (.goto off, 3)) (ht : (pc : Int) + off = (tgt : Int)) (k : zw_G X nL Q cs sl ws tgt lv st) : zw_G X nL Q cs sl ws pc lv st := by
  obtain ⟨p, l, e, R, s, m, args, below, meth, c, A, D⟩ := X
  obtain ⟨rfl, hx, hb, hml, hown, hts, hA, hK, hr, hlk⟩ := C
  intro H locs ls hP hD hS hl
  exact lv_goto hx hb hd ht (k H locs ls hP hD hS hl)
theorem zw_if_eq (C : zw_Ok X R0 cc nL own cI cZ rt) {x : Int32} {off : Int} {tgt : Nat} (hd : decode cc pc = .ok (.ifCond .eq off, 3)) (ht : (pc : Int) + off = (tgt : Int)) (kt : x = 0 → zw_G X nL Q cs sl ws tgt lv st) (kf : ¬ x = 0 → zw_G X nL Q cs sl ws (pc + 3) lv st) : zw_G X nL Q cs sl ws pc lv (.int x :: st) := by
  obtain ⟨p, l, e, R, s, m, args, below, meth, c, A, D⟩ := X
  obtain ⟨rfl, hx, hb, hml, hown, hts, hA, hK, hr, hlk⟩ := C
  intro H locs ls hP hD hS hl
  exact lv_if_eq hx hb hd ht (fun q => kt q H locs ls hP hD hS hl) (fun q => kf q H locs ls hP hD hS hl)
theorem zw_icmp_eq (C : zw_Ok X R0 cc nL own cI cZ rt) {x y : Int32} {off : Int} {tgt : Nat} (hd : decode cc pc = .ok (.if_icmp .eq off, 3)) (ht : (pc : Int) + off = (tgt : Int)) (kt : x = y → zw_G X nL Q cs sl ws tgt lv st) (kf : ¬ x = y → zw_G X nL Q cs sl ws (pc + 3) lv st) : zw_G X nL Q cs sl ws pc lv (.int y :: .int x :: st) := by
  obtain ⟨p, l, e, R, s, m, args, below, meth, c, A, D⟩ := X
  obtain ⟨rfl, hx, hb, hml, hown, hts, hA, hK, hr, hlk⟩ := C
  intro H locs ls hP hD hS hl
  exact lv_icmp_eq hx hb hd ht (fun q => kt q H locs ls hP hD hS hl) (fun q => kf q H locs ls hP hD hS hl)
theorem zw_if_ne (C : zw_Ok X R0 cc nL own cI cZ rt) {x : Int32} {off : Int} {tgt : Nat} (hd : decode cc pc = .ok (.ifCond .ne off, 3)) (ht : (pc : Int) + off = (tgt : Int)) (kt : ¬ x = 0 → zw_G X nL Q cs sl ws tgt lv st) (kf : x = 0 → zw_G X nL Q cs sl ws (pc + 3) lv st) : zw_G X nL Q cs sl ws pc lv (.int x :: st) := by
  obtain ⟨p, l, e, R, s, m, args, below, meth, c, A, D⟩ := X
  obtain ⟨rfl, hx, hb, hml, hown, hts, hA, hK, hr, hlk⟩ := C
  intro H locs ls hP hD hS hl
  exact lv_if_ne hx hb hd ht (fun q => kt q H locs ls hP hD hS hl) (fun q => kf q H locs ls hP hD hS hl)
theorem zw_icmp_ne (C : zw_Ok X R0 cc nL own cI cZ rt) {x y : Int32} {off : Int} {tgt : Nat} (hd : decode cc pc = .ok (.if_icmp .ne off, 3)) (ht : (pc : Int) + off = (tgt : Int)) (kt : ¬ x = y → zw_G X nL Q cs sl ws tgt lv st) (kf : x = y → zw_G X nL Q cs sl ws (pc + 3) lv st) : zw_G X nL Q cs sl ws pc lv (.int y :: .int x :: st) := by
  obtain ⟨p, l, e, R, s, m, args, below, meth, c, A, D⟩ := X
  obtain ⟨rfl, hx, hb, hml, hown, hts, hA, hK, hr, hlk⟩ := C
  intro H locs ls hP hD hS hl
  exact lv_icmp_ne hx hb hd ht (fun q => kt q H locs ls hP hD hS hl) (fun q => kf q H locs ls hP hD hS hl)
theorem zw_if_lt (C : zw_Ok X R0 cc nL own cI cZ rt) {x : Int32} {off : Int} {tgt : Nat} (hd : decode cc pc = .ok (.ifCond .lt off, 3)) (ht : (pc : Int) + off = (tgt : Int)) (kt : x < 0 → zw_G X nL Q cs sl ws tgt lv st) (kf : ¬ x < 0 → zw_G X nL Q cs sl ws (pc + 3) lv st) : zw_G X nL Q cs sl ws pc lv (.int x :: st) := by
  obtain ⟨p, l, e, R, s, m, args, below, meth, c, A, D⟩ := X
  obtain ⟨rfl, hx, hb, hml, hown, hts, hA, hK, hr, hlk⟩ := C
  intro H locs ls hP hD hS hl
  exact lv_if_lt hx hb hd ht (fun q => kt q H locs ls hP hD hS hl) (fun q => kf q H locs ls hP hD hS hl)
theorem zw_icmp_lt (C : zw_Ok X R0 cc nL own cI cZ rt) {x y : Int32} {off : Int} {tgt : Nat} (hd : decode cc pc = .ok (.if_icmp .lt off, 3)) (ht : (pc : Int) + off = (tgt : Int)) (kt : x < y → zw_G X nL Q cs sl ws tgt lv st) (kf : ¬ x < y → zw_G X nL Q cs sl ws (pc + 3) lv st) : zw_G X nL Q cs sl ws pc lv (.int y :: .int x :: st) := by
  obtain ⟨p, l, e, R, s, m, args, below, meth, c, A, D⟩ := X
  obtain ⟨rfl, hx, hb, hml, hown, hts, hA, hK, hr, hlk⟩ := C
  intro H locs ls hP hD hS hl
  exact lv_icmp_lt hx hb hd ht (fun q => kt q H locs ls hP hD hS hl) (fun q => kf q H locs ls hP hD hS hl)
theorem zw_if_ge (C : zw_Ok X R0 cc nL own cI cZ rt) {x : Int32} {off : Int} {tgt : Nat} (hd : decode cc pc = .ok (.ifCond .ge off, 3)) (ht : (pc : Int) + off = (tgt : Int)) (kt : 0 ≤ x → zw_G X nL Q cs sl ws tgt lv st) (kf : ¬ 0 ≤ x → zw_G X nL Q cs sl ws (pc + 3) lv st) : zw_G X nL Q cs sl ws pc lv (.int x :: st) := by
  obtain ⟨p, l, e, R, s, m, args, below, meth, c, A, D⟩ := X
  obtain ⟨rfl, hx, hb, hml, hown, hts, hA, hK, hr, hlk⟩ := C
  intro H locs ls hP hD hS hl
  exact lv_if_ge hx hb hd ht (fun q => kt q H locs ls hP hD hS hl) (fun q => kf q H locs ls hP hD hS hl)
theorem zw_icmp_ge (C : zw_Ok X R0 cc nL own cI cZ rt) {x y : Int32} {off : Int} {tgt : Nat} (hd : decode cc pc = .ok (.if_icmp .ge off, 3)) (ht : (pc : Int) + off = (tgt : Int)) (kt : y ≤ x → zw_G X nL Q cs sl ws tgt lv st) (kf : ¬ y ≤ x → zw_G X nL Q cs sl ws (pc + 3) lv st) : zw_G X nL Q cs sl ws pc lv (.int y :: .int x :: st) := by
  obtain ⟨p, l, e, R, s, m, args, below, meth, c, A, D⟩ := X
  obtain ⟨rfl, hx, hb, hml, hown, hts, hA, hK, hr, hlk⟩ := C
  intro H locs ls hP hD hS hl
  exact lv_icmp_ge hx hb hd ht (fun q => kt q H locs ls hP hD hS hl) (fun q => kf q H locs ls hP hD hS hl)
theorem zw_if_gt (C : zw_Ok X R0 cc nL own cI cZ rt) {x : Int32} {off : Int} {tgt : Nat} (hd : decode cc pc = .ok (.ifCond .gt off, 3)) (ht : (pc : Int) + off = (tgt : Int)) (kt : 0 < x → zw_G X nL Q cs sl ws tgt lv st) (kf : ¬ 0 < x → zw_G X nL Q cs sl ws (pc + 3) lv st) : zw_G X nL Q cs sl ws pc lv (.int x :: st) := by
  obtain ⟨p, l, e, R, s, m, args, below, meth, c, A, D⟩ := X
  obtain ⟨rfl, hx, hb, hml, hown, hts, hA, hK, hr, hlk⟩ := C
  intro H locs ls hP hD hS hl
  exact lv_if_gt hx hb hd ht (fun q => kt q H locs ls hP hD hS hl) (fun q => kf q H locs ls hP hD hS hl)
theorem zw_icmp_gt (C : zw_Ok X R0 cc nL own cI cZ rt) {x y : Int32} {off : Int} {tgt : Nat} (hd : decode cc pc = .ok (.if_icmp .gt off, 3)) (ht : (pc : Int) + off = (tgt : Int)) (kt : y < x → zw_G X nL Q cs sl ws tgt lv st) (kf : ¬ y < x → zw_G X nL Q cs sl ws (pc + 3) lv st) : zw_G X nL Q cs sl ws pc lv (.int y :: .int x :: st) := by
  obtain ⟨p, l, e, R, s, m, args, below, meth, c, A, D⟩ := X
  obtain ⟨rfl, hx, hb, hml, hown, hts, hA, hK, hr, hlk⟩ := C
  intro H locs ls hP hD hS hl
  exact lv_icmp_gt hx hb hd ht (fun q => kt q H locs ls hP hD hS hl) (fun q => kf q H locs ls hP hD hS hl)
theorem zw_if_le (C : zw_Ok X R0 cc nL own cI cZ rt) {x : Int32} {off : Int} {tgt : Nat} (hd : decode cc pc = .ok (.ifCond .le off, 3)) (ht : (pc : Int) + off = (tgt : Int)) (kt : x ≤ 0 → zw_G X nL Q cs sl ws tgt lv st) (kf : ¬ x ≤ 0 → zw_G X nL Q cs sl ws (pc + 3) lv st) : zw_G X nL Q cs sl ws pc lv (.int x :: st) := by
  obtain ⟨p, l, e, R, s, m, args, below, meth, c, A, D⟩ := X
  obtain ⟨rfl, hx, hb, hml, hown, hts, hA, hK, hr, hlk⟩ := C
  intro H locs ls hP hD hS hl
  exact lv_if_le hx hb hd ht (fun q => kt q H locs ls hP hD hS hl) (fun q => kf q H locs ls hP hD hS hl)
theorem zw_icmp_le (C : zw_Ok X R0 cc nL own cI cZ rt) {x y : Int32} {off : Int} {tgt : Nat} (hd : decode cc pc = .ok (.if_icmp .le off, 3)) (ht : (pc : Int) + off = (tgt : Int)) (kt : x ≤ y → zw_G X nL Q cs sl ws tgt lv st) (kf : ¬ x ≤ y → zw_G X nL Q cs sl ws (pc + 3) lv st) : zw_G X nL Q cs sl ws pc lv (.int y :: .int x :: st) := by
  obtain ⟨p, l, e, R, s, m, args, below, meth, c, A, D⟩ := X
  obtain ⟨rfl, hx, hb, hml, hown, hts, hA, hK, hr, hlk⟩ := C
  intro H locs ls hP hD hS hl
  exact lv_icmp_le hx hb hd ht (fun q => kt q H locs ls hP hD hS hl) (fun q => kf q H locs ls hP hD hS hl)
theorem zw_get (C : zw_Ok X R0 cc nL own cI cZ rt) {ci q0 f N index a : Nat} {Cn : String} {T : u_T} {fs : List Value} {v : Value} (hin : ∀ w ∈ u_ws Cn T N, w ∈ lw_all) (he : ws[q0]? = some (a, .inr (ci, fs))) (hc : zw_cl[ci]? = some (Cn, T, N)) (hf : f < N) (hq : Cond.fieldLink own index Cn (T f).2.1 (T f).2.2.1 ∈ lw_all) (hs : (T f).1 = Cn) (hv : fs[f]? = some v) (hd : decode cc pc = .ok (.getfield index, 3)) (k : zw_G X nL Q cs sl ws (pc + 3) lv (v :: st)) : zw_G X nL Q cs sl ws pc lv (.ref a :: st) := by
  obtain ⟨p, l, e, R, s, m, args, below, meth, c, A, D⟩ := X
  obtain ⟨rfl, hx, hb, hml, hown, hts, hA, hK, hr, hlk⟩ := C
  intro H locs ls hP hD hS hl
  exact va_get (D := D) (ci := ci) (v := v) (C := Cn) (T := T) (N := N) hx hb hts hin hown hK hP q0 he hc f hf (hts _ hq) (fun _ h9 => by rw [hs] at h9; exact h9) hv hd (k H locs ls hP hD hS hl)
theorem zw_put (C : zw_Ok X R0 cc nL own cI cZ rt) {ci q0 f N index a : Nat} {Cn : String} {T : u_T} {fs : List Value} {v : Value} {ty0 : Nat → FieldType} {ty : FieldType} {ws' : va_W} (hin : ∀ w ∈ u_ws Cn T N, w ∈ lw_all) (hty : ∀ k, k < N → parseFieldDescriptor (T k).2.2.1 = some (ty0 k)) (hnm : ∀ a, a < N → ∀ b, b < N → a ≠ b → (T a).2.1 ≠ (T b).2.1) (he : ws[q0]? = some (a, .inr (ci, fs))) (hc : zw_cl[ci]? = some (Cn, T, N)) (hf : f < N) (hq : Cond.fieldLink own index Cn (T f).2.1 (T f).2.2.1 ∈ lw_all) (hs : (T f).1 = Cn) (hfin : (T f).2.2.2 = false) (hp : parseFieldDescriptor (T f).2.2.1 = some ty) (hn : narrow ty v = v) (hfit : fits ty v = true) (hlen : f < fs.length) (hw : ws.set q0 (a, .inr (ci, fs.set f v)) = ws') (hd : decode cc pc = .ok (.putfield index, 3)) (k : zw_G X nL Q cs sl ws' (pc + 3) lv st) : zw_G X nL Q cs sl ws pc lv (v :: .ref a :: st) := by
  obtain ⟨p, l, e, R, s, m, args, below, meth, c, A, D⟩ := X
  obtain ⟨rfl, hx, hb, hml, hown, hts, hA, hK, hr, hlk⟩ := C
  intro H locs ls hP hD hS hl
  subst hw
  exact va_put (D := D) (ci := ci) (v := v) (ty := ty) (C := Cn) (T := T) (N := N) hx hb hts hin ty0 hty hnm hown hK hP hD hS q0 he hc f hf (hts _ hq) (fun _ h9 => by rw [hs] at h9; exact h9) hfin hp hn hfit hlen hd (fun H1 locs1 hP1 hD1 hS1 => k H1 locs1 ls hP1 hD1 hS1 hl)
theorem zw_putF (C : zw_Ok X R0 cc nL own cI cZ rt) {ci q0 f N index a : Nat} {T : u_T} {fs : List Value} {v : Value} {ty0 : Nat → FieldType} {ty : FieldType} {ws' : va_W} (hi : X.2.2.2.2.2.2.2.2.1.name = "<init>") (hin : ∀ w ∈ u_ws own T N, w ∈ lw_all) (hty : ∀ k, k < N → parseFieldDescriptor (T k).2.2.1 = some (ty0 k)) (hnm : ∀ a, a < N → ∀ b, b < N → a ≠ b → (T a).2.1 ≠ (T b).2.1) (he : ws[q0]? = some (a, .inr (ci, fs))) (hc : zw_cl[ci]? = some (own, T, N)) (hf : f < N) (hq : Cond.fieldLink own index own (T f).2.1 (T f).2.2.1 ∈ lw_all) (hs : (T f).1 = own) (hfin : (T f).2.2.2 = true) (hp : parseFieldDescriptor (T f).2.2.1 = some ty) (hn : narrow ty v = v) (hfit : fits ty v = true) (hlen : f < fs.length) (hw : ws.set q0 (a, .inr (ci, fs.set f v)) = ws') (hd : decode cc pc = .ok (.putfield index, 3)) (k : zw_G X nL Q cs sl ws' (pc + 3) lv st) : zw_G X nL Q cs sl ws pc lv (v :: .ref a :: st) := by
  obtain ⟨p, l, e, R, s, m, args, below, meth, c, A, D⟩ := X
  obtain ⟨rfl, hx, hb, hml, hown, hts, hA, hK, hr, hlk⟩ := C
  intro H locs ls hP hD hS hl
  subst hw
  exact va_putF (D := D) (ci := ci) (v := v) (ty := ty) (C := own) (T := T) (N := N) hx hb hts hin ty0 hty hnm hown hK hP hD hS q0 he hc f hf (hts _ hq) (fun _ h9 => by rw [hs] at h9; exact h9) hfin hi hs hp hn hfit hlen hd (fun H1 locs1 hP1 hD1 hS1 => k H1 locs1 ls hP1 hD1 hS1 hl)
theorem zw_ild (C : zw_Ok X R0 cc nL own cI cZ rt) {q0 n a j : Nat} {g : Nat → Int32} {i : Int32} (ha : ws[q0]? = some (a, .inl (cI, n, .inl g))) (hn : n < 1000) (hi : i = nI j) (hj : j < n) (hd : decode cc pc = .ok (.iaload, 1)) (k : zw_G X nL Q cs sl ws (pc + 1) lv (.int (g j) :: st)) : zw_G X nL Q cs sl ws pc lv (.int i :: .ref a :: st) := by
  obtain ⟨p, l, e, R, s, m, args, below, meth, c, A, D⟩ := X
  obtain ⟨rfl, hx, hb, hml, hown, hts, hA, hK, hr, hlk⟩ := C
  intro H locs ls hP hD hS hl
  subst hi
  refine va_iald hx hb hK hP q0 0 ha rfl (vp_in_nI hj (by omega)) hd ?_
  rw [nI_clamp (by omega)]
  exact k H locs ls hP hD hS hl
theorem zw_zld (C : zw_Ok X R0 cc nL own cI cZ rt) {q0 n a j : Nat} {g : Nat → Int32} {i : Int32} (ha : ws[q0]? = some (a, .inl (cZ, n, .inl g))) (hn : n < 1000) (hi : i = nI j) (hj : j < n) (hd : decode cc pc = .ok (.baload, 1)) (k : zw_G X nL Q cs sl ws (pc + 1) lv (.int (g j) :: st)) : zw_G X nL Q cs sl ws pc lv (.int i :: .ref a :: st) := by
  obtain ⟨p, l, e, R, s, m, args, below, meth, c, A, D⟩ := X
  obtain ⟨rfl, hx, hb, hml, hown, hts, hA, hK, hr, hlk⟩ := C
  intro H locs ls hP hD hS hl
  subst hi
  refine va_zald hx hb hK hP q0 1 ha rfl (vp_in_nI hj (by omega)) hd ?_
  rw [nI_clamp (by omega)]
  exact k H locs ls hP hD hS hl
theorem zw_ist (C : zw_Ok X R0 cc nL own cI cZ rt) {q0 n a j : Nat} {g : Nat → Int32} {i x : Int32} {ws' : va_W} (ha : ws[q0]? = some (a, .inl (cI, n, .inl g))) (hn : n < 1000) (hi : i = nI j) (hj : j < n) (hw : ws.set q0 (a, .inl (cI, n, .inl (upd g j x))) = ws') (hd : decode cc pc = .ok (.iastore, 1)) (k : zw_G X nL Q cs sl ws' (pc + 1) lv st) : zw_G X nL Q cs sl ws pc lv (.int x :: .int i :: .ref a :: st) := by
  obtain ⟨p, l, e, R, s, m, args, below, meth, c, A, D⟩ := X
  obtain ⟨rfl, hx, hb, hml, hown, hts, hA, hK, hr, hlk⟩ := C
  intro H locs ls hP hD hS hl
  subst hi
  subst hw
  refine va_iast hx hb hK hP hD hS q0 0 ha rfl (vp_in_nI hj (by omega)) hd (fun H1 locs1 hP1 hD1 hS1 => ?_)
  rw [nI_clamp (by omega)] at hP1 hD1
  exact k H1 locs1 ls hP1 hD1 hS1 hl
theorem zw_zst (C : zw_Ok X R0 cc nL own cI cZ rt) {q0 n a j : Nat} {g : Nat → Int32} {i x : Int32} {ws' : va_W} (ha : ws[q0]? = some (a, .inl (cZ, n, .inl g))) (hn : n < 1000) (hx0 : vp_nar .boolean x = x) (hi : i = nI j) (hj : j < n) (hw : ws.set q0 (a, .inl (cZ, n, .inl (upd g j x))) = ws') (hd : decode cc pc = .ok (.bastore, 1)) (k : zw_G X nL Q cs sl ws' (pc + 1) lv st) : zw_G X nL Q cs sl ws pc lv (.int x :: .int i :: .ref a :: st) := by
  obtain ⟨p, l, e, R, s, m, args, below, meth, c, A, D⟩ := X
  obtain ⟨rfl, hx, hb, hml, hown, hts, hA, hK, hr, hlk⟩ := C
  intro H locs ls hP hD hS hl
  subst hi
  subst hw
  refine va_zast hx hb hK hP hD hS q0 1 ha rfl (vp_in_nI hj (by omega)) hd (fun H1 locs1 hP1 hD1 hS1 => ?_)
  rw [nI_clamp (by omega), hx0] at hP1 hD1
  exact k H1 locs1 ls hP1 hD1 hS1 hl
theorem zw_newI (C : zw_Ok X R0 cc nL own cI cZ rt) {n : Int32} {N : Nat} (hi : n = nI N) (hN : N < 1000) (hcs : cs + 1 ≤ R0.cells) (hsl : sl + N ≤ R0.slots) (hd : decode cc pc = .ok (.newarray .int, 2)) (k : ∀ q : Nat, zw_G X nL Q (cs + 1) (sl + N) (ws ++ [(q, .inl (cI, N, .inl (fun _ => 0)))]) (pc + 2) lv (.ref q :: st)) : zw_G X nL Q cs sl ws pc lv (.int n :: st) := by
  obtain ⟨p, l, e, R, s, m, args, below, meth, c, A, D⟩ := X
  obtain ⟨rfl, hx, hb, hml, hown, hts, hA, hK, hr, hlk⟩ := C
  intro H locs ls hP hD hS hl
  subst hi
  have h9 : componentBytes .int ≤ 8 := by decide
  have hbt : N * componentBytes .int ≤ 536870912 := Nat.le_trans (Nat.mul_le_mul (Nat.le_of_lt hN) h9) (by decide)
  refine va_newa (atype := .int) (ty := .int) (a0 := (N, .inl (fun _ => 0))) hx hb (hts _ q79) rfl hK hP hD hS hA (fun cA => rfl) (nI_pos (by omega)) (nI_clamp (by omega)) hbt hcs hsl hd (fun q cA H1 hK1 hP1 hD1 hS1 => ?_)
  have e : cA = cI := by
    have h1 := (hK1.2 2 (cA, .int) rfl).2
    have h2 := (hK1.2 0 (cI, .int) rfl).2
    exact Option.some.inj (h1.symm.trans h2)
  subst e
  exact k q H1 locs ls hP1 hD1 hS1 hl
theorem zw_newZ (C : zw_Ok X R0 cc nL own cI cZ rt) {n : Int32} {N : Nat} (hi : n = nI N) (hN : N < 1000) (hcs : cs + 1 ≤ R0.cells) (hsl : sl + N ≤ R0.slots) (hd : decode cc pc = .ok (.newarray .boolean, 2)) (k : ∀ q : Nat, zw_G X nL Q (cs + 1) (sl + N) (ws ++ [(q, .inl (cZ, N, .inl (fun _ => 0)))]) (pc + 2) lv (.ref q :: st)) : zw_G X nL Q cs sl ws pc lv (.int n :: st) := by
  obtain ⟨p, l, e, R, s, m, args, below, meth, c, A, D⟩ := X
  obtain ⟨rfl, hx, hb, hml, hown, hts, hA, hK, hr, hlk⟩ := C
  intro H locs ls hP hD hS hl
  subst hi
  have h9 : componentBytes .boolean ≤ 8 := by decide
  have hbt : N * componentBytes .boolean ≤ 536870912 := Nat.le_trans (Nat.mul_le_mul (Nat.le_of_lt hN) h9) (by decide)
  refine va_newa (atype := .boolean) (ty := .boolean) (a0 := (N, .inl (fun _ => 0))) hx hb (hts _ q80) rfl hK hP hD hS hA (fun cA => rfl) (nI_pos (by omega)) (nI_clamp (by omega)) hbt hcs hsl hd (fun q cA H1 hK1 hP1 hD1 hS1 => ?_)
  have e : cA = cZ := by
    have h1 := (hK1.2 2 (cA, .boolean) rfl).2
    have h2 := (hK1.2 1 (cZ, .boolean) rfl).2
    exact Option.some.inj (h1.symm.trans h2)
  subst e
  exact k q H1 locs ls hP1 hD1 hS1 hl
theorem zw_iret {ty : FieldType} (C : zw_Ok X R0 cc nL own cI cZ (some ty)) {v : Int32} {wf : zw_St → va_W} {u : zw_St} {post : Int32 → zw_St → Prop} (hn : narrow ty (.int v) = .int v) (hd : decode cc pc = .ok (.ireturn, 1)) (hp : post v u) : zw_G X nL (zw_Qi X wf cI cZ post) 0 0 (wf u) pc lv [.int v] := by
  obtain ⟨p, l, e, R, s, m, args, below, meth, c, A, D⟩ := X
  obtain ⟨rfl, hx, hb, hml, hown, hts, hA, hK, hr, hlk⟩ := C
  intro H locs ls hP hD hS hl
  exact W.zret (v := v) hx hb hr hn (fun t ht hW => ⟨⟨v, u, rfl, hp, by rw [ht]; exact hP, va_K.moved hW.alike hK, hD⟩, hS.F ht⟩) hS.2.2 hd (hlocks := hlk)
theorem zw_vret (C : zw_Ok X R0 cc nL own cI cZ none) {wf : zw_St → va_W} {u : zw_St} {post : zw_St → Prop} (hd : decode cc pc = .ok (.return_, 1)) (hp : post u) : zw_G X nL (zw_Qv X wf cI cZ post) 0 0 (wf u) pc lv [] := by
  obtain ⟨p, l, e, R, s, m, args, below, meth, c, A, D⟩ := X
  obtain ⟨rfl, hx, hb, hml, hown, hts, hA, hK, hr, hlk⟩ := C
  intro H locs ls hP hD hS hl
  exact W.vret hx hb hr (fun t ht hW => ⟨⟨u, rfl, hp, by rw [ht]; exact hP, va_K.moved hW.alike hK, hD⟩, hS.F ht⟩) hS.2.2 hd (hlocks := hlk)
theorem zw_calli (C : zw_Ok X R0 cc nL own cI cZ rt) {y : MethodName} {cy : ByteArray} {ny fr lo idx b q0 ci N : Nat} {rty : Option FieldType} {wf : zw_St → va_W} {u : zw_St} {As rest : List Value} {Cn : String} {T : u_T} {fs : List Value} {post : Int32 → zw_St → Prop} (hM : ∀ (l : Launch) (D : va_G), zw_Mi l y cy ny rty fr lo D wf cI cZ (.ref b :: As) u post) (hg : GoodIn lw_all (wsV own idx Cn y (ws_ y cy ny rty))) {n : Nat} (hln : As.length = n) (hd0 : y.cls = Cn ∧ y.cls ≠ "java/lang/invoke/MethodHandle" ∧ y.cls ≠ "java/lang/invoke/VarHandle" ∧ (parseMethodDescriptor y.desc).map (fun d => d.parameters.length) = some n) (hR : fr + 1 ≤ R0.frames ∧ 8 + (ny + 11) + lo ≤ R0.locals) (he : (wf u)[q0]? = some (b, .inr (ci, fs))) (hc : zw_cl[ci]? = some (Cn, T, N)) (hst : st = As.reverse ++ .ref b :: rest) (hrest : (rest.map fun v => v.category).sum ≤ 8) (hcs : cs ≤ R0.cells ∧ sl ≤ R0.slots) (hd : decode cc pc = .ok (.invokevirtual idx, 3)) (k : ∀ (r : Int32) (u' : zw_St), post r u' → zw_G X nL Q cs sl (wf u') (pc + 3) lv (.int r :: rest)) : zw_G X nL Q cs sl (wf u) pc lv st := by
  obtain ⟨p, l, e, R, s, m, args, below, meth, c, A, D⟩ := X
  obtain ⟨rfl, hx, hb, hml, hown, hts, hA, hK, hr, hlk⟩ := C
  intro H locs ls hP hD hS hl
  subst hst
  have hF : ∀ q, va_A (wf u) H.size q → A q := by
    intro q h
    rcases h with ⟨k', e', h⟩ | h
    · exact hD.2 k' (q, e') h
    · exact hA q (Nat.le_trans hS.1 h)
  refine va_calli (va_runV (As := As) (rest := rest) ⟨hx, hb, hml, hown, hts⟩ (hM l D H.size) (cwV n hts hg rfl rfl rfl hd0 hR) ⟨fun a U g mk q => by obtain ⟨q0, q1, qP, qK, qD⟩ := q; exact ⟨q0, q1, qP, va_K.moved (u := U) (U := U.calling g mk a) (Vm.Alike.refl U.vm) qK, qD⟩, va_recv hK hP (ci := ci) (q0 := q0) hc he, fun U hU hW => ⟨rfl, by rw [hU], by rw [hU]; exact hP, va_K.moved hW.alike hK, hD.weaken (fun _ _ _ _ => trivial)⟩⟩ rfl hln hl.1 rfl (lv_room hrest) hd hcs) hS (fun q _ h => hF q h) hF (fun r u' t H1 locs1 ht hvm hw1 hB hz1 hk1 hS1 => ?_)
  obtain ⟨hP1, hK1, hD1⟩ := hB
  rw [ht] at hP1
  exact k r u' hw1 H1 locs1 ls hP1 (hD1.weaken (fun k q _ h => hF q.1 h)) hS1 hl
theorem zw_callsi (C : zw_Ok X R0 cc nL own cI cZ rt) {y : MethodName} {cy : ByteArray} {ny fr lo idx : Nat} {rty : Option FieldType} {wf : zw_St → va_W} {u : zw_St} {As rest : List Value} {post : Int32 → zw_St → Prop} (hM : ∀ (l : Launch) (D : va_G), zw_Mi l y cy ny rty fr lo D wf cI cZ As u post) (hg : GoodIn lw_all (va_wsS own idx y (ws_ y cy ny rty))) {n : Nat} (hln : As.length = n) (hd0 : y.cls ≠ "java/lang/invoke/MethodHandle" ∧ y.cls ≠ "java/lang/invoke/VarHandle" ∧ (parseMethodDescriptor y.desc).map (fun d => d.parameters.length) = some n) (hR : fr + 1 ≤ R0.frames ∧ 8 + (ny + 11) + lo ≤ R0.locals) (hst : st = As.reverse ++ rest) (hrest : (rest.map fun v => v.category).sum ≤ 8) (hcs : cs ≤ R0.cells ∧ sl ≤ R0.slots) (hd : decode cc pc = .ok (.invokestatic idx, 3)) (k : ∀ (r : Int32) (u' : zw_St), post r u' → zw_G X nL Q cs sl (wf u') (pc + 3) lv (.int r :: rest)) : zw_G X nL Q cs sl (wf u) pc lv st := by
  obtain ⟨p, l, e, R, s, m, args, below, meth, c, A, D⟩ := X
  obtain ⟨rfl, hx, hb, hml, hown, hts, hA, hK, hr, hlk⟩ := C
  intro H locs ls hP hD hS hl
  subst hst
  have hF : ∀ q, va_A (wf u) H.size q → A q := by
    intro q h
    rcases h with ⟨k', e', h⟩ | h
    · exact hD.2 k' (q, e') h
    · exact hA q (Nat.le_trans hS.1 h)
  refine va_calli (va_runS (As := As) (rest := rest) ⟨hx, hb, hml, hown, hts⟩ (hM l D H.size) (va_cwS n hts hg rfl rfl rfl hd0 hR) ⟨fun a U g mk q => by obtain ⟨q0, q1, qP, qK, qD⟩ := q; exact ⟨q0, q1, qP, va_K.moved (u := U) (U := U.calling g mk a) (Vm.Alike.refl U.vm) qK, qD⟩, fun U hU hW => ⟨rfl, by rw [hU], by rw [hU]; exact hP, va_K.moved hW.alike hK, hD.weaken (fun _ _ _ _ => trivial)⟩⟩ rfl hln hl.1 rfl (lv_room hrest) hd hcs) hS (fun q _ h => hF q h) hF (fun r u' t H1 locs1 ht hvm hw1 hB hz1 hk1 hS1 => ?_)
  obtain ⟨hP1, hK1, hD1⟩ := hB
  rw [ht] at hP1
  exact k r u' hw1 H1 locs1 ls hP1 (hD1.weaken (fun k q _ h => hF q.1 h)) hS1 hl
theorem zw_callLi (C : zw_Ok X R0 cc nL own cI cZ rt) {y : MethodName} {cy : ByteArray} {ny fr lo idx b q0 ci N : Nat} {rty : Option FieldType} {wf : zw_St → va_W} {u : zw_St} {As rest : List Value} {Cn : String} {T : u_T} {fs : List Value} {w2 : va_W} {post : Int32 → zw_St → Prop} (hM : ∀ (l : Launch) (D : va_G), zw_Mi l y cy ny rty fr lo D wf cI cZ (.ref b :: As) u post) (hg : GoodIn lw_all (wsV own idx Cn y (ws_ y cy ny rty))) {n : Nat} (hln : As.length = n) (hd0 : y.cls = Cn ∧ y.cls ≠ "java/lang/invoke/MethodHandle" ∧ y.cls ≠ "java/lang/invoke/VarHandle" ∧ (parseMethodDescriptor y.desc).map (fun d => d.parameters.length) = some n) (hR : fr + 1 ≤ R0.frames ∧ 8 + (ny + 11) + lo ≤ R0.locals) (he : (wf u)[q0]? = some (b, .inr (ci, fs))) (hc : zw_cl[ci]? = some (Cn, T, N)) (hst : st = As.reverse ++ .ref b :: rest) (hrest : (rest.map fun v => v.category).sum ≤ 8) (hcs : cs ≤ R0.cells ∧ sl ≤ R0.slots) (hd : decode cc pc = .ok (.invokevirtual idx, 3)) (k : ∀ (r : Int32) (u' : zw_St), post r u' → zw_G X nL Q cs sl (wf u' ++ w2) (pc + 3) lv (.int r :: rest)) : zw_G X nL Q cs sl (wf u ++ w2) pc lv st := by
  obtain ⟨p, l, e, R, s, m, args, below, meth, c, A, D⟩ := X
  obtain ⟨rfl, hx, hb, hml, hown, hts, hA, hK, hr, hlk⟩ := C
  intro H locs ls hP hD hS hl
  subst hst
  have hPw := hP
  have hDw := hD
  have hP := zw_Pl hPw
  have hD := zw_Dl hDw
  have hF : ∀ q, va_A (wf u) H.size q → A q := by
    intro q h
    rcases h with ⟨k', e', h⟩ | h
    · exact hD.2 k' (q, e') h
    · exact hA q (Nat.le_trans hS.1 h)
  refine va_calli (va_runV (As := As) (rest := rest) ⟨hx, hb, hml, hown, hts⟩ (hM l D H.size) (cwV n hts hg rfl rfl rfl hd0 hR) ⟨fun a U g mk q => by obtain ⟨q0, q1, qP, qK, qD⟩ := q; exact ⟨q0, q1, qP, va_K.moved (u := U) (U := U.calling g mk a) (Vm.Alike.refl U.vm) qK, qD⟩, va_recv hK hP (ci := ci) (q0 := q0) hc he, fun U hU hW => ⟨rfl, by rw [hU], by rw [hU]; exact hP, va_K.moved hW.alike hK, hD.weaken (fun _ _ _ _ => trivial)⟩⟩ rfl hln hl.1 rfl (lv_room hrest) hd hcs) hS (fun q _ h => hF q h) hF (fun r u' t H1 locs1 ht hvm hw1 hB hz1 hk1 hS1 => ?_)
  obtain ⟨hP1, hK1, hD1⟩ := hB
  rw [ht] at hP1
  have hn : ∀ (k : Nat) (q : Nat × va_E), w2[k]? = some q → q.1 < H.size ∧ ¬ va_A (wf u) H.size q.1 := by
    intro k' q hq
    have h1 := ((zw_Pr hPw) k' q hq).lt
    refine ⟨h1, fun h => ?_⟩
    rcases h with ⟨k2, e', h⟩ | h
    · exact zw_Dx hDw k2 k' (q.1, e') q h hq rfl
    · omega
  exact k r u' hw1 H1 locs1 ls (va_P.app hP1 ((zw_Pr hPw).kept (fun k' q hq => hk1 q.1 (hn k' q hq).1 (hn k' q hq).2))) (va_D.app (hD1.weaken (fun k q _ h => hF q.1 h)) (zw_Dr hDw) (fun i j x y hx1 hy1 hxy => (hn j y hy1).2 (by rw [← hxy]; exact hD1.2 i x hx1))) hS1 hl
theorem zw_callv (C : zw_Ok X R0 cc nL own cI cZ rt) {y : MethodName} {cy : ByteArray} {ny fr lo idx b q0 ci N : Nat} {rty : Option FieldType} {wf : zw_St → va_W} {u : zw_St} {As rest : List Value} {Cn : String} {T : u_T} {fs : List Value} {post : zw_St → Prop} (hM : ∀ (l : Launch) (D : va_G), zw_Mv l y cy ny rty fr lo D wf cI cZ (.ref b :: As) u post) (hg : GoodIn lw_all (wsV own idx Cn y (ws_ y cy ny rty))) {n : Nat} (hln : As.length = n) (hd0 : y.cls = Cn ∧ y.cls ≠ "java/lang/invoke/MethodHandle" ∧ y.cls ≠ "java/lang/invoke/VarHandle" ∧ (parseMethodDescriptor y.desc).map (fun d => d.parameters.length) = some n) (hR : fr + 1 ≤ R0.frames ∧ 8 + (ny + 11) + lo ≤ R0.locals) (he : (wf u)[q0]? = some (b, .inr (ci, fs))) (hc : zw_cl[ci]? = some (Cn, T, N)) (hst : st = As.reverse ++ .ref b :: rest) (hrest : (rest.map fun v => v.category).sum ≤ 8) (hcs : cs ≤ R0.cells ∧ sl ≤ R0.slots) (hd : decode cc pc = .ok (.invokevirtual idx, 3)) (k : ∀ (u' : zw_St), post u' → zw_G X nL Q cs sl (wf u') (pc + 3) lv rest) : zw_G X nL Q cs sl (wf u) pc lv st := by
  obtain ⟨p, l, e, R, s, m, args, below, meth, c, A, D⟩ := X
  obtain ⟨rfl, hx, hb, hml, hown, hts, hA, hK, hr, hlk⟩ := C
  intro H locs ls hP hD hS hl
  subst hst
  have hF : ∀ q, va_A (wf u) H.size q → A q := by
    intro q h
    rcases h with ⟨k', e', h⟩ | h
    · exact hD.2 k' (q, e') h
    · exact hA q (Nat.le_trans hS.1 h)
  refine va_callv (va_runV (As := As) (rest := rest) ⟨hx, hb, hml, hown, hts⟩ (hM l D H.size) (cwV n hts hg rfl rfl rfl hd0 hR) ⟨fun a U g mk q => by obtain ⟨q0, q1, qP, qK, qD⟩ := q; exact ⟨q0, q1, qP, va_K.moved (u := U) (U := U.calling g mk a) (Vm.Alike.refl U.vm) qK, qD⟩, va_recv hK hP (ci := ci) (q0 := q0) hc he, fun U hU hW => ⟨rfl, by rw [hU], by rw [hU]; exact hP, va_K.moved hW.alike hK, hD.weaken (fun _ _ _ _ => trivial)⟩⟩ rfl hln hl.1 rfl (lv_room hrest) hd hcs) hS (fun q _ h => hF q h) hF (fun u' t H1 locs1 ht hvm hw1 hB hz1 hk1 hS1 => ?_)
  obtain ⟨hP1, hK1, hD1⟩ := hB
  rw [ht] at hP1
  exact k u' hw1 H1 locs1 ls hP1 (hD1.weaken (fun k q _ h => hF q.1 h)) hS1 hl
theorem zw_callLv (C : zw_Ok X R0 cc nL own cI cZ rt) {y : MethodName} {cy : ByteArray} {ny fr lo idx b q0 ci N : Nat} {rty : Option FieldType} {wf : zw_St → va_W} {u : zw_St} {As rest : List Value} {Cn : String} {T : u_T} {fs : List Value} {w2 : va_W} {post : zw_St → Prop} (hM : ∀ (l : Launch) (D : va_G), zw_Mv l y cy ny rty fr lo D wf cI cZ (.ref b :: As) u post) (hg : GoodIn lw_all (wsV own idx Cn y (ws_ y cy ny rty))) {n : Nat} (hln : As.length = n) (hd0 : y.cls = Cn ∧ y.cls ≠ "java/lang/invoke/MethodHandle" ∧ y.cls ≠ "java/lang/invoke/VarHandle" ∧ (parseMethodDescriptor y.desc).map (fun d => d.parameters.length) = some n) (hR : fr + 1 ≤ R0.frames ∧ 8 + (ny + 11) + lo ≤ R0.locals) (he : (wf u)[q0]? = some (b, .inr (ci, fs))) (hc : zw_cl[ci]? = some (Cn, T, N)) (hst : st = As.reverse ++ .ref b :: rest) (hrest : (rest.map fun v => v.category).sum ≤ 8) (hcs : cs ≤ R0.cells ∧ sl ≤ R0.slots) (hd : decode cc pc = .ok (.invokevirtual idx, 3)) (k : ∀ (u' : zw_St), post u' → zw_G X nL Q cs sl (wf u' ++ w2) (pc + 3) lv rest) : zw_G X nL Q cs sl (wf u ++ w2) pc lv st := by
  obtain ⟨p, l, e, R, s, m, args, below, meth, c, A, D⟩ := X
  obtain ⟨rfl, hx, hb, hml, hown, hts, hA, hK, hr, hlk⟩ := C
  intro H locs ls hP hD hS hl
  subst hst
  have hPw := hP
  have hDw := hD
  have hP := zw_Pl hPw
  have hD := zw_Dl hDw
  have hF : ∀ q, va_A (wf u) H.size q → A q := by
    intro q h
    rcases h with ⟨k', e', h⟩ | h
    · exact hD.2 k' (q, e') h
    · exact hA q (Nat.le_trans hS.1 h)
  refine va_callv (va_runV (As := As) (rest := rest) ⟨hx, hb, hml, hown, hts⟩ (hM l D H.size) (cwV n hts hg rfl rfl rfl hd0 hR) ⟨fun a U g mk q => by obtain ⟨q0, q1, qP, qK, qD⟩ := q; exact ⟨q0, q1, qP, va_K.moved (u := U) (U := U.calling g mk a) (Vm.Alike.refl U.vm) qK, qD⟩, va_recv hK hP (ci := ci) (q0 := q0) hc he, fun U hU hW => ⟨rfl, by rw [hU], by rw [hU]; exact hP, va_K.moved hW.alike hK, hD.weaken (fun _ _ _ _ => trivial)⟩⟩ rfl hln hl.1 rfl (lv_room hrest) hd hcs) hS (fun q _ h => hF q h) hF (fun u' t H1 locs1 ht hvm hw1 hB hz1 hk1 hS1 => ?_)
  obtain ⟨hP1, hK1, hD1⟩ := hB
  rw [ht] at hP1
  have hn : ∀ (k : Nat) (q : Nat × va_E), w2[k]? = some q → q.1 < H.size ∧ ¬ va_A (wf u) H.size q.1 := by
    intro k' q hq
    have h1 := ((zw_Pr hPw) k' q hq).lt
    refine ⟨h1, fun h => ?_⟩
    rcases h with ⟨k2, e', h⟩ | h
    · exact zw_Dx hDw k2 k' (q.1, e') q h hq rfl
    · omega
  exact k u' hw1 H1 locs1 ls (va_P.app hP1 ((zw_Pr hPw).kept (fun k' q hq => hk1 q.1 (hn k' q hq).1 (hn k' q hq).2))) (va_D.app (hD1.weaken (fun k q _ h => hF q.1 h)) (zw_Dr hDw) (fun i j x y hx1 hy1 hxy => (hn j y hy1).2 (by rw [← hxy]; exact hD1.2 i x hx1))) hS1 hl
end ZW
end
section
/-! THE CELLS OF THE TWO CLASSES -/
set_option maxRecDepth 100000
/-- the cells of a LineageWorlds in the state u: 0 facts, 1 from, 2 to, 3 label, 4 chance, 5 conditions, 6 wantLabel, 7 wantFrom, 8 wantTo, 9 tried, 10 bound, 11 value, 12 ready, 13 match, 14 yes, 15 folded -/
def zx_w (h0 : Nat) (ad : Nat → Nat) (cI cZ : ClassId) (u : zw_St) : va_W := [(h0, .inr (0, [.int (u 0 0), .ref (ad 1), .ref (ad 2), .ref (ad 3), .ref (ad 4), .int (u 5 0), .ref (ad 6), .ref (ad 7), .ref (ad 8), .ref (ad 9), .ref (ad 10), .ref (ad 11), .int (u 12 0), .ref (ad 13), .ref (ad 14), .ref (ad 15)])), (ad 1, .inl (cI, 9, .inl (u 1))), (ad 2, .inl (cI, 9, .inl (u 2))), (ad 3, .inl (cI, 9, .inl (u 3))), (ad 4, .inl (cI, 9, .inl (u 4))), (ad 6, .inl (cI, 4, .inl (u 6))), (ad 7, .inl (cI, 4, .inl (u 7))), (ad 8, .inl (cI, 4, .inl (u 8))), (ad 9, .inl (cI, 5, .inl (u 9))), (ad 10, .inl (cI, 5, .inl (u 10))), (ad 11, .inl (cI, 3, .inl (u 11))), (ad 13, .inl (cZ, 512, .inl (u 13))), (ad 14, .inl (cZ, 512, .inl (u 14))), (ad 15, .inl (cI, 512, .inl (u 15)))]
section ZX
variable {X : zw_X} {R0 : Room} {cc : ByteArray} {nL : Nat} {cI cZ : ClassId} {rt : Option FieldType} {Q : State → Prop} {cs sl : Nat} {pc : Nat} {lv : List (Option Value)} {st : List Value} {h0 : Nat} {ad : Nat → Nat} {u : zw_St}
theorem zx_get_facts (C : zw_Ok X R0 cc nL RX0 cI cZ rt) (hd : decode cc pc = .ok (.getfield 54, 3)) (k : zw_G X nL Q cs sl (zx_w h0 ad cI cZ u) (pc + 3) lv (.int (u 0 0) :: st)) : zw_G X nL Q cs sl (zx_w h0 ad cI cZ u) pc lv (.ref h0 :: st) := zw_get (ci := 0) (q0 := 0) (f := 0) C in_X0 rfl rfl (by decide) q30 rfl rfl hd k
theorem zx_set_facts {x : Int32} : (zx_w h0 ad cI cZ u).set 0 (h0, .inr (0, ([.int (u 0 0), .ref (ad 1), .ref (ad 2), .ref (ad 3), .ref (ad 4), .int (u 5 0), .ref (ad 6), .ref (ad 7), .ref (ad 8), .ref (ad 9), .ref (ad 10), .ref (ad 11), .int (u 12 0), .ref (ad 13), .ref (ad 14), .ref (ad 15)] : List Value).set 0 (.int x))) = zx_w h0 ad cI cZ (zw_up u 0 0 x) := rfl
theorem zx_put_facts (C : zw_Ok X R0 cc nL RX0 cI cZ rt) {x : Int32} (hd : decode cc pc = .ok (.putfield 54, 3)) (k : zw_G X nL Q cs sl (zx_w h0 ad cI cZ (zw_up u 0 0 x)) (pc + 3) lv st) : zw_G X nL Q cs sl (zx_w h0 ad cI cZ u) pc lv (.int x :: .ref h0 :: st) := zw_put (ci := 0) (q0 := 0) (f := 0) (ty := .int) C in_X0 tyX0_ok nmX0 rfl rfl (by decide) q30 rfl rfl (by decide +kernel) rfl rfl (Nat.le_of_ble_eq_true rfl) zx_set_facts hd k
theorem zx_get_from (C : zw_Ok X R0 cc nL RX0 cI cZ rt) (hd : decode cc pc = .ok (.getfield 7, 3)) (k : zw_G X nL Q cs sl (zx_w h0 ad cI cZ u) (pc + 3) lv (.ref (ad 1) :: st)) : zw_G X nL Q cs sl (zx_w h0 ad cI cZ u) pc lv (.ref h0 :: st) := zw_get (ci := 0) (q0 := 0) (f := 1) C in_X0 rfl rfl (by decide) q31 rfl rfl hd k
theorem zx_ld_from (C : zw_Ok X R0 cc nL RX0 cI cZ rt) {i : Int32} {j : Nat} (hd : decode cc pc = .ok (.iaload, 1)) (hi : i = nI j) (hj : j < 9) (k : zw_G X nL Q cs sl (zx_w h0 ad cI cZ u) (pc + 1) lv (.int (u 1 j) :: st)) : zw_G X nL Q cs sl (zx_w h0 ad cI cZ u) pc lv (.int i :: .ref (ad 1) :: st) := zw_ild (q0 := 1) C rfl (by decide) hi hj hd k
theorem zx_set_from {x : Int32} {j : Nat} : (zx_w h0 ad cI cZ u).set 1 (ad 1, .inl (cI, 9, .inl (upd (u 1) j x))) = zx_w h0 ad cI cZ (zw_up u 1 j x) := rfl
theorem zx_st_from (C : zw_Ok X R0 cc nL RX0 cI cZ rt) {i x : Int32} {j : Nat} (hd : decode cc pc = .ok (.iastore, 1)) (hi : i = nI j) (hj : j < 9) (k : zw_G X nL Q cs sl (zx_w h0 ad cI cZ (zw_up u 1 j x)) (pc + 1) lv st) : zw_G X nL Q cs sl (zx_w h0 ad cI cZ u) pc lv (.int x :: .int i :: .ref (ad 1) :: st) := zw_ist (q0 := 1) C rfl (by decide) hi hj zx_set_from hd k
theorem zx_get_to (C : zw_Ok X R0 cc nL RX0 cI cZ rt) (hd : decode cc pc = .ok (.getfield 13, 3)) (k : zw_G X nL Q cs sl (zx_w h0 ad cI cZ u) (pc + 3) lv (.ref (ad 2) :: st)) : zw_G X nL Q cs sl (zx_w h0 ad cI cZ u) pc lv (.ref h0 :: st) := zw_get (ci := 0) (q0 := 0) (f := 2) C in_X0 rfl rfl (by decide) q32 rfl rfl hd k
theorem zx_ld_to (C : zw_Ok X R0 cc nL RX0 cI cZ rt) {i : Int32} {j : Nat} (hd : decode cc pc = .ok (.iaload, 1)) (hi : i = nI j) (hj : j < 9) (k : zw_G X nL Q cs sl (zx_w h0 ad cI cZ u) (pc + 1) lv (.int (u 2 j) :: st)) : zw_G X nL Q cs sl (zx_w h0 ad cI cZ u) pc lv (.int i :: .ref (ad 2) :: st) := zw_ild (q0 := 2) C rfl (by decide) hi hj hd k
theorem zx_set_to {x : Int32} {j : Nat} : (zx_w h0 ad cI cZ u).set 2 (ad 2, .inl (cI, 9, .inl (upd (u 2) j x))) = zx_w h0 ad cI cZ (zw_up u 2 j x) := rfl
theorem zx_st_to (C : zw_Ok X R0 cc nL RX0 cI cZ rt) {i x : Int32} {j : Nat} (hd : decode cc pc = .ok (.iastore, 1)) (hi : i = nI j) (hj : j < 9) (k : zw_G X nL Q cs sl (zx_w h0 ad cI cZ (zw_up u 2 j x)) (pc + 1) lv st) : zw_G X nL Q cs sl (zx_w h0 ad cI cZ u) pc lv (.int x :: .int i :: .ref (ad 2) :: st) := zw_ist (q0 := 2) C rfl (by decide) hi hj zx_set_to hd k
theorem zx_get_label (C : zw_Ok X R0 cc nL RX0 cI cZ rt) (hd : decode cc pc = .ok (.getfield 16, 3)) (k : zw_G X nL Q cs sl (zx_w h0 ad cI cZ u) (pc + 3) lv (.ref (ad 3) :: st)) : zw_G X nL Q cs sl (zx_w h0 ad cI cZ u) pc lv (.ref h0 :: st) := zw_get (ci := 0) (q0 := 0) (f := 3) C in_X0 rfl rfl (by decide) q33 rfl rfl hd k
theorem zx_ld_label (C : zw_Ok X R0 cc nL RX0 cI cZ rt) {i : Int32} {j : Nat} (hd : decode cc pc = .ok (.iaload, 1)) (hi : i = nI j) (hj : j < 9) (k : zw_G X nL Q cs sl (zx_w h0 ad cI cZ u) (pc + 1) lv (.int (u 3 j) :: st)) : zw_G X nL Q cs sl (zx_w h0 ad cI cZ u) pc lv (.int i :: .ref (ad 3) :: st) := zw_ild (q0 := 3) C rfl (by decide) hi hj hd k
theorem zx_set_label {x : Int32} {j : Nat} : (zx_w h0 ad cI cZ u).set 3 (ad 3, .inl (cI, 9, .inl (upd (u 3) j x))) = zx_w h0 ad cI cZ (zw_up u 3 j x) := rfl
theorem zx_st_label (C : zw_Ok X R0 cc nL RX0 cI cZ rt) {i x : Int32} {j : Nat} (hd : decode cc pc = .ok (.iastore, 1)) (hi : i = nI j) (hj : j < 9) (k : zw_G X nL Q cs sl (zx_w h0 ad cI cZ (zw_up u 3 j x)) (pc + 1) lv st) : zw_G X nL Q cs sl (zx_w h0 ad cI cZ u) pc lv (.int x :: .int i :: .ref (ad 3) :: st) := zw_ist (q0 := 3) C rfl (by decide) hi hj zx_set_label hd k
theorem zx_get_chance (C : zw_Ok X R0 cc nL RX0 cI cZ rt) (hd : decode cc pc = .ok (.getfield 19, 3)) (k : zw_G X nL Q cs sl (zx_w h0 ad cI cZ u) (pc + 3) lv (.ref (ad 4) :: st)) : zw_G X nL Q cs sl (zx_w h0 ad cI cZ u) pc lv (.ref h0 :: st) := zw_get (ci := 0) (q0 := 0) (f := 4) C in_X0 rfl rfl (by decide) q34 rfl rfl hd k
theorem zx_ld_chance (C : zw_Ok X R0 cc nL RX0 cI cZ rt) {i : Int32} {j : Nat} (hd : decode cc pc = .ok (.iaload, 1)) (hi : i = nI j) (hj : j < 9) (k : zw_G X nL Q cs sl (zx_w h0 ad cI cZ u) (pc + 1) lv (.int (u 4 j) :: st)) : zw_G X nL Q cs sl (zx_w h0 ad cI cZ u) pc lv (.int i :: .ref (ad 4) :: st) := zw_ild (q0 := 4) C rfl (by decide) hi hj hd k
theorem zx_set_chance {x : Int32} {j : Nat} : (zx_w h0 ad cI cZ u).set 4 (ad 4, .inl (cI, 9, .inl (upd (u 4) j x))) = zx_w h0 ad cI cZ (zw_up u 4 j x) := rfl
theorem zx_st_chance (C : zw_Ok X R0 cc nL RX0 cI cZ rt) {i x : Int32} {j : Nat} (hd : decode cc pc = .ok (.iastore, 1)) (hi : i = nI j) (hj : j < 9) (k : zw_G X nL Q cs sl (zx_w h0 ad cI cZ (zw_up u 4 j x)) (pc + 1) lv st) : zw_G X nL Q cs sl (zx_w h0 ad cI cZ u) pc lv (.int x :: .int i :: .ref (ad 4) :: st) := zw_ist (q0 := 4) C rfl (by decide) hi hj zx_set_chance hd k
theorem zx_get_conditions (C : zw_Ok X R0 cc nL RX0 cI cZ rt) (hd : decode cc pc = .ok (.getfield 65, 3)) (k : zw_G X nL Q cs sl (zx_w h0 ad cI cZ u) (pc + 3) lv (.int (u 5 0) :: st)) : zw_G X nL Q cs sl (zx_w h0 ad cI cZ u) pc lv (.ref h0 :: st) := zw_get (ci := 0) (q0 := 0) (f := 5) C in_X0 rfl rfl (by decide) q35 rfl rfl hd k
theorem zx_set_conditions {x : Int32} : (zx_w h0 ad cI cZ u).set 0 (h0, .inr (0, ([.int (u 0 0), .ref (ad 1), .ref (ad 2), .ref (ad 3), .ref (ad 4), .int (u 5 0), .ref (ad 6), .ref (ad 7), .ref (ad 8), .ref (ad 9), .ref (ad 10), .ref (ad 11), .int (u 12 0), .ref (ad 13), .ref (ad 14), .ref (ad 15)] : List Value).set 5 (.int x))) = zx_w h0 ad cI cZ (zw_up u 5 0 x) := rfl
theorem zx_put_conditions (C : zw_Ok X R0 cc nL RX0 cI cZ rt) {x : Int32} (hd : decode cc pc = .ok (.putfield 65, 3)) (k : zw_G X nL Q cs sl (zx_w h0 ad cI cZ (zw_up u 5 0 x)) (pc + 3) lv st) : zw_G X nL Q cs sl (zx_w h0 ad cI cZ u) pc lv (.int x :: .ref h0 :: st) := zw_put (ci := 0) (q0 := 0) (f := 5) (ty := .int) C in_X0 tyX0_ok nmX0 rfl rfl (by decide) q35 rfl rfl (by decide +kernel) rfl rfl (Nat.le_of_ble_eq_true rfl) zx_set_conditions hd k
theorem zx_get_wantLabel (C : zw_Ok X R0 cc nL RX0 cI cZ rt) (hd : decode cc pc = .ok (.getfield 22, 3)) (k : zw_G X nL Q cs sl (zx_w h0 ad cI cZ u) (pc + 3) lv (.ref (ad 6) :: st)) : zw_G X nL Q cs sl (zx_w h0 ad cI cZ u) pc lv (.ref h0 :: st) := zw_get (ci := 0) (q0 := 0) (f := 6) C in_X0 rfl rfl (by decide) q36 rfl rfl hd k
theorem zx_ld_wantLabel (C : zw_Ok X R0 cc nL RX0 cI cZ rt) {i : Int32} {j : Nat} (hd : decode cc pc = .ok (.iaload, 1)) (hi : i = nI j) (hj : j < 4) (k : zw_G X nL Q cs sl (zx_w h0 ad cI cZ u) (pc + 1) lv (.int (u 6 j) :: st)) : zw_G X nL Q cs sl (zx_w h0 ad cI cZ u) pc lv (.int i :: .ref (ad 6) :: st) := zw_ild (q0 := 5) C rfl (by decide) hi hj hd k
theorem zx_set_wantLabel {x : Int32} {j : Nat} : (zx_w h0 ad cI cZ u).set 5 (ad 6, .inl (cI, 4, .inl (upd (u 6) j x))) = zx_w h0 ad cI cZ (zw_up u 6 j x) := rfl
theorem zx_st_wantLabel (C : zw_Ok X R0 cc nL RX0 cI cZ rt) {i x : Int32} {j : Nat} (hd : decode cc pc = .ok (.iastore, 1)) (hi : i = nI j) (hj : j < 4) (k : zw_G X nL Q cs sl (zx_w h0 ad cI cZ (zw_up u 6 j x)) (pc + 1) lv st) : zw_G X nL Q cs sl (zx_w h0 ad cI cZ u) pc lv (.int x :: .int i :: .ref (ad 6) :: st) := zw_ist (q0 := 5) C rfl (by decide) hi hj zx_set_wantLabel hd k
theorem zx_get_wantFrom (C : zw_Ok X R0 cc nL RX0 cI cZ rt) (hd : decode cc pc = .ok (.getfield 25, 3)) (k : zw_G X nL Q cs sl (zx_w h0 ad cI cZ u) (pc + 3) lv (.ref (ad 7) :: st)) : zw_G X nL Q cs sl (zx_w h0 ad cI cZ u) pc lv (.ref h0 :: st) := zw_get (ci := 0) (q0 := 0) (f := 7) C in_X0 rfl rfl (by decide) q37 rfl rfl hd k
theorem zx_ld_wantFrom (C : zw_Ok X R0 cc nL RX0 cI cZ rt) {i : Int32} {j : Nat} (hd : decode cc pc = .ok (.iaload, 1)) (hi : i = nI j) (hj : j < 4) (k : zw_G X nL Q cs sl (zx_w h0 ad cI cZ u) (pc + 1) lv (.int (u 7 j) :: st)) : zw_G X nL Q cs sl (zx_w h0 ad cI cZ u) pc lv (.int i :: .ref (ad 7) :: st) := zw_ild (q0 := 6) C rfl (by decide) hi hj hd k
theorem zx_set_wantFrom {x : Int32} {j : Nat} : (zx_w h0 ad cI cZ u).set 6 (ad 7, .inl (cI, 4, .inl (upd (u 7) j x))) = zx_w h0 ad cI cZ (zw_up u 7 j x) := rfl
theorem zx_st_wantFrom (C : zw_Ok X R0 cc nL RX0 cI cZ rt) {i x : Int32} {j : Nat} (hd : decode cc pc = .ok (.iastore, 1)) (hi : i = nI j) (hj : j < 4) (k : zw_G X nL Q cs sl (zx_w h0 ad cI cZ (zw_up u 7 j x)) (pc + 1) lv st) : zw_G X nL Q cs sl (zx_w h0 ad cI cZ u) pc lv (.int x :: .int i :: .ref (ad 7) :: st) := zw_ist (q0 := 6) C rfl (by decide) hi hj zx_set_wantFrom hd k
theorem zx_get_wantTo (C : zw_Ok X R0 cc nL RX0 cI cZ rt) (hd : decode cc pc = .ok (.getfield 28, 3)) (k : zw_G X nL Q cs sl (zx_w h0 ad cI cZ u) (pc + 3) lv (.ref (ad 8) :: st)) : zw_G X nL Q cs sl (zx_w h0 ad cI cZ u) pc lv (.ref h0 :: st) := zw_get (ci := 0) (q0 := 0) (f := 8) C in_X0 rfl rfl (by decide) q38 rfl rfl hd k
theorem zx_ld_wantTo (C : zw_Ok X R0 cc nL RX0 cI cZ rt) {i : Int32} {j : Nat} (hd : decode cc pc = .ok (.iaload, 1)) (hi : i = nI j) (hj : j < 4) (k : zw_G X nL Q cs sl (zx_w h0 ad cI cZ u) (pc + 1) lv (.int (u 8 j) :: st)) : zw_G X nL Q cs sl (zx_w h0 ad cI cZ u) pc lv (.int i :: .ref (ad 8) :: st) := zw_ild (q0 := 7) C rfl (by decide) hi hj hd k
theorem zx_set_wantTo {x : Int32} {j : Nat} : (zx_w h0 ad cI cZ u).set 7 (ad 8, .inl (cI, 4, .inl (upd (u 8) j x))) = zx_w h0 ad cI cZ (zw_up u 8 j x) := rfl
theorem zx_st_wantTo (C : zw_Ok X R0 cc nL RX0 cI cZ rt) {i x : Int32} {j : Nat} (hd : decode cc pc = .ok (.iastore, 1)) (hi : i = nI j) (hj : j < 4) (k : zw_G X nL Q cs sl (zx_w h0 ad cI cZ (zw_up u 8 j x)) (pc + 1) lv st) : zw_G X nL Q cs sl (zx_w h0 ad cI cZ u) pc lv (.int x :: .int i :: .ref (ad 8) :: st) := zw_ist (q0 := 7) C rfl (by decide) hi hj zx_set_wantTo hd k
theorem zx_get_tried (C : zw_Ok X R0 cc nL RX0 cI cZ rt) (hd : decode cc pc = .ok (.getfield 31, 3)) (k : zw_G X nL Q cs sl (zx_w h0 ad cI cZ u) (pc + 3) lv (.ref (ad 9) :: st)) : zw_G X nL Q cs sl (zx_w h0 ad cI cZ u) pc lv (.ref h0 :: st) := zw_get (ci := 0) (q0 := 0) (f := 9) C in_X0 rfl rfl (by decide) q39 rfl rfl hd k
theorem zx_ld_tried (C : zw_Ok X R0 cc nL RX0 cI cZ rt) {i : Int32} {j : Nat} (hd : decode cc pc = .ok (.iaload, 1)) (hi : i = nI j) (hj : j < 5) (k : zw_G X nL Q cs sl (zx_w h0 ad cI cZ u) (pc + 1) lv (.int (u 9 j) :: st)) : zw_G X nL Q cs sl (zx_w h0 ad cI cZ u) pc lv (.int i :: .ref (ad 9) :: st) := zw_ild (q0 := 8) C rfl (by decide) hi hj hd k
theorem zx_set_tried {x : Int32} {j : Nat} : (zx_w h0 ad cI cZ u).set 8 (ad 9, .inl (cI, 5, .inl (upd (u 9) j x))) = zx_w h0 ad cI cZ (zw_up u 9 j x) := rfl
theorem zx_st_tried (C : zw_Ok X R0 cc nL RX0 cI cZ rt) {i x : Int32} {j : Nat} (hd : decode cc pc = .ok (.iastore, 1)) (hi : i = nI j) (hj : j < 5) (k : zw_G X nL Q cs sl (zx_w h0 ad cI cZ (zw_up u 9 j x)) (pc + 1) lv st) : zw_G X nL Q cs sl (zx_w h0 ad cI cZ u) pc lv (.int x :: .int i :: .ref (ad 9) :: st) := zw_ist (q0 := 8) C rfl (by decide) hi hj zx_set_tried hd k
theorem zx_get_bound (C : zw_Ok X R0 cc nL RX0 cI cZ rt) (hd : decode cc pc = .ok (.getfield 34, 3)) (k : zw_G X nL Q cs sl (zx_w h0 ad cI cZ u) (pc + 3) lv (.ref (ad 10) :: st)) : zw_G X nL Q cs sl (zx_w h0 ad cI cZ u) pc lv (.ref h0 :: st) := zw_get (ci := 0) (q0 := 0) (f := 10) C in_X0 rfl rfl (by decide) q40 rfl rfl hd k
theorem zx_ld_bound (C : zw_Ok X R0 cc nL RX0 cI cZ rt) {i : Int32} {j : Nat} (hd : decode cc pc = .ok (.iaload, 1)) (hi : i = nI j) (hj : j < 5) (k : zw_G X nL Q cs sl (zx_w h0 ad cI cZ u) (pc + 1) lv (.int (u 10 j) :: st)) : zw_G X nL Q cs sl (zx_w h0 ad cI cZ u) pc lv (.int i :: .ref (ad 10) :: st) := zw_ild (q0 := 9) C rfl (by decide) hi hj hd k
theorem zx_set_bound {x : Int32} {j : Nat} : (zx_w h0 ad cI cZ u).set 9 (ad 10, .inl (cI, 5, .inl (upd (u 10) j x))) = zx_w h0 ad cI cZ (zw_up u 10 j x) := rfl
theorem zx_st_bound (C : zw_Ok X R0 cc nL RX0 cI cZ rt) {i x : Int32} {j : Nat} (hd : decode cc pc = .ok (.iastore, 1)) (hi : i = nI j) (hj : j < 5) (k : zw_G X nL Q cs sl (zx_w h0 ad cI cZ (zw_up u 10 j x)) (pc + 1) lv st) : zw_G X nL Q cs sl (zx_w h0 ad cI cZ u) pc lv (.int x :: .int i :: .ref (ad 10) :: st) := zw_ist (q0 := 9) C rfl (by decide) hi hj zx_set_bound hd k
theorem zx_get_value (C : zw_Ok X R0 cc nL RX0 cI cZ rt) (hd : decode cc pc = .ok (.getfield 37, 3)) (k : zw_G X nL Q cs sl (zx_w h0 ad cI cZ u) (pc + 3) lv (.ref (ad 11) :: st)) : zw_G X nL Q cs sl (zx_w h0 ad cI cZ u) pc lv (.ref h0 :: st) := zw_get (ci := 0) (q0 := 0) (f := 11) C in_X0 rfl rfl (by decide) q41 rfl rfl hd k
theorem zx_ld_value (C : zw_Ok X R0 cc nL RX0 cI cZ rt) {i : Int32} {j : Nat} (hd : decode cc pc = .ok (.iaload, 1)) (hi : i = nI j) (hj : j < 3) (k : zw_G X nL Q cs sl (zx_w h0 ad cI cZ u) (pc + 1) lv (.int (u 11 j) :: st)) : zw_G X nL Q cs sl (zx_w h0 ad cI cZ u) pc lv (.int i :: .ref (ad 11) :: st) := zw_ild (q0 := 10) C rfl (by decide) hi hj hd k
theorem zx_set_value {x : Int32} {j : Nat} : (zx_w h0 ad cI cZ u).set 10 (ad 11, .inl (cI, 3, .inl (upd (u 11) j x))) = zx_w h0 ad cI cZ (zw_up u 11 j x) := rfl
theorem zx_st_value (C : zw_Ok X R0 cc nL RX0 cI cZ rt) {i x : Int32} {j : Nat} (hd : decode cc pc = .ok (.iastore, 1)) (hi : i = nI j) (hj : j < 3) (k : zw_G X nL Q cs sl (zx_w h0 ad cI cZ (zw_up u 11 j x)) (pc + 1) lv st) : zw_G X nL Q cs sl (zx_w h0 ad cI cZ u) pc lv (.int x :: .int i :: .ref (ad 11) :: st) := zw_ist (q0 := 10) C rfl (by decide) hi hj zx_set_value hd k
theorem zx_get_ready (C : zw_Ok X R0 cc nL RX0 cI cZ rt) (hd : decode cc pc = .ok (.getfield 50, 3)) (k : zw_G X nL Q cs sl (zx_w h0 ad cI cZ u) (pc + 3) lv (.int (u 12 0) :: st)) : zw_G X nL Q cs sl (zx_w h0 ad cI cZ u) pc lv (.ref h0 :: st) := zw_get (ci := 0) (q0 := 0) (f := 12) C in_X0 rfl rfl (by decide) q42 rfl rfl hd k
theorem zx_set_ready {x : Int32} : (zx_w h0 ad cI cZ u).set 0 (h0, .inr (0, ([.int (u 0 0), .ref (ad 1), .ref (ad 2), .ref (ad 3), .ref (ad 4), .int (u 5 0), .ref (ad 6), .ref (ad 7), .ref (ad 8), .ref (ad 9), .ref (ad 10), .ref (ad 11), .int (u 12 0), .ref (ad 13), .ref (ad 14), .ref (ad 15)] : List Value).set 12 (.int x))) = zx_w h0 ad cI cZ (zw_up u 12 0 x) := rfl
theorem zx_put_ready (C : zw_Ok X R0 cc nL RX0 cI cZ rt) {x : Int32} (hn : narrow .boolean (.int x) = .int x) (hf : fits .boolean (.int x) = true) (hd : decode cc pc = .ok (.putfield 50, 3)) (k : zw_G X nL Q cs sl (zx_w h0 ad cI cZ (zw_up u 12 0 x)) (pc + 3) lv st) : zw_G X nL Q cs sl (zx_w h0 ad cI cZ u) pc lv (.int x :: .ref h0 :: st) := zw_put (ci := 0) (q0 := 0) (f := 12) (ty := .boolean) C in_X0 tyX0_ok nmX0 rfl rfl (by decide) q42 rfl rfl (by decide +kernel) hn hf (Nat.le_of_ble_eq_true rfl) zx_set_ready hd k
theorem zx_get_match (C : zw_Ok X R0 cc nL RX0 cI cZ rt) (hd : decode cc pc = .ok (.getfield 40, 3)) (k : zw_G X nL Q cs sl (zx_w h0 ad cI cZ u) (pc + 3) lv (.ref (ad 13) :: st)) : zw_G X nL Q cs sl (zx_w h0 ad cI cZ u) pc lv (.ref h0 :: st) := zw_get (ci := 0) (q0 := 0) (f := 13) C in_X0 rfl rfl (by decide) q43 rfl rfl hd k
theorem zx_ld_match (C : zw_Ok X R0 cc nL RX0 cI cZ rt) {i : Int32} {j : Nat} (hd : decode cc pc = .ok (.baload, 1)) (hi : i = nI j) (hj : j < 512) (k : zw_G X nL Q cs sl (zx_w h0 ad cI cZ u) (pc + 1) lv (.int (u 13 j) :: st)) : zw_G X nL Q cs sl (zx_w h0 ad cI cZ u) pc lv (.int i :: .ref (ad 13) :: st) := zw_zld (q0 := 11) C rfl (by decide) hi hj hd k
theorem zx_set_match {x : Int32} {j : Nat} : (zx_w h0 ad cI cZ u).set 11 (ad 13, .inl (cZ, 512, .inl (upd (u 13) j x))) = zx_w h0 ad cI cZ (zw_up u 13 j x) := rfl
theorem zx_st_match (C : zw_Ok X R0 cc nL RX0 cI cZ rt) {i x : Int32} {j : Nat} (hd : decode cc pc = .ok (.bastore, 1)) (hx0 : vp_nar .boolean x = x) (hi : i = nI j) (hj : j < 512) (k : zw_G X nL Q cs sl (zx_w h0 ad cI cZ (zw_up u 13 j x)) (pc + 1) lv st) : zw_G X nL Q cs sl (zx_w h0 ad cI cZ u) pc lv (.int x :: .int i :: .ref (ad 13) :: st) := zw_zst (q0 := 11) C rfl (by decide) hx0 hi hj zx_set_match hd k
theorem zx_get_yes (C : zw_Ok X R0 cc nL RX0 cI cZ rt) (hd : decode cc pc = .ok (.getfield 44, 3)) (k : zw_G X nL Q cs sl (zx_w h0 ad cI cZ u) (pc + 3) lv (.ref (ad 14) :: st)) : zw_G X nL Q cs sl (zx_w h0 ad cI cZ u) pc lv (.ref h0 :: st) := zw_get (ci := 0) (q0 := 0) (f := 14) C in_X0 rfl rfl (by decide) q44 rfl rfl hd k
theorem zx_ld_yes (C : zw_Ok X R0 cc nL RX0 cI cZ rt) {i : Int32} {j : Nat} (hd : decode cc pc = .ok (.baload, 1)) (hi : i = nI j) (hj : j < 512) (k : zw_G X nL Q cs sl (zx_w h0 ad cI cZ u) (pc + 1) lv (.int (u 14 j) :: st)) : zw_G X nL Q cs sl (zx_w h0 ad cI cZ u) pc lv (.int i :: .ref (ad 14) :: st) := zw_zld (q0 := 12) C rfl (by decide) hi hj hd k
theorem zx_set_yes {x : Int32} {j : Nat} : (zx_w h0 ad cI cZ u).set 12 (ad 14, .inl (cZ, 512, .inl (upd (u 14) j x))) = zx_w h0 ad cI cZ (zw_up u 14 j x) := rfl
theorem zx_st_yes (C : zw_Ok X R0 cc nL RX0 cI cZ rt) {i x : Int32} {j : Nat} (hd : decode cc pc = .ok (.bastore, 1)) (hx0 : vp_nar .boolean x = x) (hi : i = nI j) (hj : j < 512) (k : zw_G X nL Q cs sl (zx_w h0 ad cI cZ (zw_up u 14 j x)) (pc + 1) lv st) : zw_G X nL Q cs sl (zx_w h0 ad cI cZ u) pc lv (.int x :: .int i :: .ref (ad 14) :: st) := zw_zst (q0 := 12) C rfl (by decide) hx0 hi hj zx_set_yes hd k
theorem zx_get_folded (C : zw_Ok X R0 cc nL RX0 cI cZ rt) (hd : decode cc pc = .ok (.getfield 47, 3)) (k : zw_G X nL Q cs sl (zx_w h0 ad cI cZ u) (pc + 3) lv (.ref (ad 15) :: st)) : zw_G X nL Q cs sl (zx_w h0 ad cI cZ u) pc lv (.ref h0 :: st) := zw_get (ci := 0) (q0 := 0) (f := 15) C in_X0 rfl rfl (by decide) q45 rfl rfl hd k
theorem zx_ld_folded (C : zw_Ok X R0 cc nL RX0 cI cZ rt) {i : Int32} {j : Nat} (hd : decode cc pc = .ok (.iaload, 1)) (hi : i = nI j) (hj : j < 512) (k : zw_G X nL Q cs sl (zx_w h0 ad cI cZ u) (pc + 1) lv (.int (u 15 j) :: st)) : zw_G X nL Q cs sl (zx_w h0 ad cI cZ u) pc lv (.int i :: .ref (ad 15) :: st) := zw_ild (q0 := 13) C rfl (by decide) hi hj hd k
theorem zx_set_folded {x : Int32} {j : Nat} : (zx_w h0 ad cI cZ u).set 13 (ad 15, .inl (cI, 512, .inl (upd (u 15) j x))) = zx_w h0 ad cI cZ (zw_up u 15 j x) := rfl
theorem zx_st_folded (C : zw_Ok X R0 cc nL RX0 cI cZ rt) {i x : Int32} {j : Nat} (hd : decode cc pc = .ok (.iastore, 1)) (hi : i = nI j) (hj : j < 512) (k : zw_G X nL Q cs sl (zx_w h0 ad cI cZ (zw_up u 15 j x)) (pc + 1) lv st) : zw_G X nL Q cs sl (zx_w h0 ad cI cZ u) pc lv (.int x :: .int i :: .ref (ad 15) :: st) := zw_ist (q0 := 13) C rfl (by decide) hi hj zx_set_folded hd k
end ZX
/-- the cells of a LineageWorldsModel in the state u: 0 tails, 1 heads, 2 labels, 3 numbers, 4 facts, 5 askedLabel, 6 askedFrom, 7 askedTo, 8 conditions, 9 makes, 10 yes, 11 known -/
def zy_w (h0 : Nat) (ad : Nat → Nat) (cI cZ : ClassId) (u : zw_St) : va_W := [(h0, .inr (1, [.ref (ad 0), .ref (ad 1), .ref (ad 2), .ref (ad 3), .int (u 4 0), .ref (ad 5), .ref (ad 6), .ref (ad 7), .int (u 8 0), .ref (ad 9), .ref (ad 10), .int (u 11 0)])), (ad 0, .inl (cI, 9, .inl (u 0))), (ad 1, .inl (cI, 9, .inl (u 1))), (ad 2, .inl (cI, 9, .inl (u 2))), (ad 3, .inl (cI, 9, .inl (u 3))), (ad 5, .inl (cI, 4, .inl (u 5))), (ad 6, .inl (cI, 4, .inl (u 6))), (ad 7, .inl (cI, 4, .inl (u 7))), (ad 9, .inl (cI, 4, .inl (u 9))), (ad 10, .inl (cZ, 512, .inl (u 10)))]
section ZY
variable {X : zw_X} {R0 : Room} {cc : ByteArray} {nL : Nat} {cI cZ : ClassId} {rt : Option FieldType} {Q : State → Prop} {cs sl : Nat} {pc : Nat} {lv : List (Option Value)} {st : List Value} {h0 : Nat} {ad : Nat → Nat} {u : zw_St}
theorem zy_get_tails (C : zw_Ok X R0 cc nL RX1 cI cZ rt) (hd : decode cc pc = .ok (.getfield 7, 3)) (k : zw_G X nL Q cs sl (zy_w h0 ad cI cZ u) (pc + 3) lv (.ref (ad 0) :: st)) : zw_G X nL Q cs sl (zy_w h0 ad cI cZ u) pc lv (.ref h0 :: st) := zw_get (ci := 1) (q0 := 0) (f := 0) C in_X1 rfl rfl (by decide) q174 rfl rfl hd k
theorem zy_ld_tails (C : zw_Ok X R0 cc nL RX1 cI cZ rt) {i : Int32} {j : Nat} (hd : decode cc pc = .ok (.iaload, 1)) (hi : i = nI j) (hj : j < 9) (k : zw_G X nL Q cs sl (zy_w h0 ad cI cZ u) (pc + 1) lv (.int (u 0 j) :: st)) : zw_G X nL Q cs sl (zy_w h0 ad cI cZ u) pc lv (.int i :: .ref (ad 0) :: st) := zw_ild (q0 := 1) C rfl (by decide) hi hj hd k
theorem zy_set_tails {x : Int32} {j : Nat} : (zy_w h0 ad cI cZ u).set 1 (ad 0, .inl (cI, 9, .inl (upd (u 0) j x))) = zy_w h0 ad cI cZ (zw_up u 0 j x) := rfl
theorem zy_st_tails (C : zw_Ok X R0 cc nL RX1 cI cZ rt) {i x : Int32} {j : Nat} (hd : decode cc pc = .ok (.iastore, 1)) (hi : i = nI j) (hj : j < 9) (k : zw_G X nL Q cs sl (zy_w h0 ad cI cZ (zw_up u 0 j x)) (pc + 1) lv st) : zw_G X nL Q cs sl (zy_w h0 ad cI cZ u) pc lv (.int x :: .int i :: .ref (ad 0) :: st) := zw_ist (q0 := 1) C rfl (by decide) hi hj zy_set_tails hd k
theorem zy_get_heads (C : zw_Ok X R0 cc nL RX1 cI cZ rt) (hd : decode cc pc = .ok (.getfield 13, 3)) (k : zw_G X nL Q cs sl (zy_w h0 ad cI cZ u) (pc + 3) lv (.ref (ad 1) :: st)) : zw_G X nL Q cs sl (zy_w h0 ad cI cZ u) pc lv (.ref h0 :: st) := zw_get (ci := 1) (q0 := 0) (f := 1) C in_X1 rfl rfl (by decide) q175 rfl rfl hd k
theorem zy_ld_heads (C : zw_Ok X R0 cc nL RX1 cI cZ rt) {i : Int32} {j : Nat} (hd : decode cc pc = .ok (.iaload, 1)) (hi : i = nI j) (hj : j < 9) (k : zw_G X nL Q cs sl (zy_w h0 ad cI cZ u) (pc + 1) lv (.int (u 1 j) :: st)) : zw_G X nL Q cs sl (zy_w h0 ad cI cZ u) pc lv (.int i :: .ref (ad 1) :: st) := zw_ild (q0 := 2) C rfl (by decide) hi hj hd k
theorem zy_set_heads {x : Int32} {j : Nat} : (zy_w h0 ad cI cZ u).set 2 (ad 1, .inl (cI, 9, .inl (upd (u 1) j x))) = zy_w h0 ad cI cZ (zw_up u 1 j x) := rfl
theorem zy_st_heads (C : zw_Ok X R0 cc nL RX1 cI cZ rt) {i x : Int32} {j : Nat} (hd : decode cc pc = .ok (.iastore, 1)) (hi : i = nI j) (hj : j < 9) (k : zw_G X nL Q cs sl (zy_w h0 ad cI cZ (zw_up u 1 j x)) (pc + 1) lv st) : zw_G X nL Q cs sl (zy_w h0 ad cI cZ u) pc lv (.int x :: .int i :: .ref (ad 1) :: st) := zw_ist (q0 := 2) C rfl (by decide) hi hj zy_set_heads hd k
theorem zy_get_labels (C : zw_Ok X R0 cc nL RX1 cI cZ rt) (hd : decode cc pc = .ok (.getfield 16, 3)) (k : zw_G X nL Q cs sl (zy_w h0 ad cI cZ u) (pc + 3) lv (.ref (ad 2) :: st)) : zw_G X nL Q cs sl (zy_w h0 ad cI cZ u) pc lv (.ref h0 :: st) := zw_get (ci := 1) (q0 := 0) (f := 2) C in_X1 rfl rfl (by decide) q176 rfl rfl hd k
theorem zy_ld_labels (C : zw_Ok X R0 cc nL RX1 cI cZ rt) {i : Int32} {j : Nat} (hd : decode cc pc = .ok (.iaload, 1)) (hi : i = nI j) (hj : j < 9) (k : zw_G X nL Q cs sl (zy_w h0 ad cI cZ u) (pc + 1) lv (.int (u 2 j) :: st)) : zw_G X nL Q cs sl (zy_w h0 ad cI cZ u) pc lv (.int i :: .ref (ad 2) :: st) := zw_ild (q0 := 3) C rfl (by decide) hi hj hd k
theorem zy_set_labels {x : Int32} {j : Nat} : (zy_w h0 ad cI cZ u).set 3 (ad 2, .inl (cI, 9, .inl (upd (u 2) j x))) = zy_w h0 ad cI cZ (zw_up u 2 j x) := rfl
theorem zy_st_labels (C : zw_Ok X R0 cc nL RX1 cI cZ rt) {i x : Int32} {j : Nat} (hd : decode cc pc = .ok (.iastore, 1)) (hi : i = nI j) (hj : j < 9) (k : zw_G X nL Q cs sl (zy_w h0 ad cI cZ (zw_up u 2 j x)) (pc + 1) lv st) : zw_G X nL Q cs sl (zy_w h0 ad cI cZ u) pc lv (.int x :: .int i :: .ref (ad 2) :: st) := zw_ist (q0 := 3) C rfl (by decide) hi hj zy_set_labels hd k
theorem zy_get_numbers (C : zw_Ok X R0 cc nL RX1 cI cZ rt) (hd : decode cc pc = .ok (.getfield 19, 3)) (k : zw_G X nL Q cs sl (zy_w h0 ad cI cZ u) (pc + 3) lv (.ref (ad 3) :: st)) : zw_G X nL Q cs sl (zy_w h0 ad cI cZ u) pc lv (.ref h0 :: st) := zw_get (ci := 1) (q0 := 0) (f := 3) C in_X1 rfl rfl (by decide) q177 rfl rfl hd k
theorem zy_ld_numbers (C : zw_Ok X R0 cc nL RX1 cI cZ rt) {i : Int32} {j : Nat} (hd : decode cc pc = .ok (.iaload, 1)) (hi : i = nI j) (hj : j < 9) (k : zw_G X nL Q cs sl (zy_w h0 ad cI cZ u) (pc + 1) lv (.int (u 3 j) :: st)) : zw_G X nL Q cs sl (zy_w h0 ad cI cZ u) pc lv (.int i :: .ref (ad 3) :: st) := zw_ild (q0 := 4) C rfl (by decide) hi hj hd k
theorem zy_set_numbers {x : Int32} {j : Nat} : (zy_w h0 ad cI cZ u).set 4 (ad 3, .inl (cI, 9, .inl (upd (u 3) j x))) = zy_w h0 ad cI cZ (zw_up u 3 j x) := rfl
theorem zy_st_numbers (C : zw_Ok X R0 cc nL RX1 cI cZ rt) {i x : Int32} {j : Nat} (hd : decode cc pc = .ok (.iastore, 1)) (hi : i = nI j) (hj : j < 9) (k : zw_G X nL Q cs sl (zy_w h0 ad cI cZ (zw_up u 3 j x)) (pc + 1) lv st) : zw_G X nL Q cs sl (zy_w h0 ad cI cZ u) pc lv (.int x :: .int i :: .ref (ad 3) :: st) := zw_ist (q0 := 4) C rfl (by decide) hi hj zy_set_numbers hd k
theorem zy_get_facts (C : zw_Ok X R0 cc nL RX1 cI cZ rt) (hd : decode cc pc = .ok (.getfield 38, 3)) (k : zw_G X nL Q cs sl (zy_w h0 ad cI cZ u) (pc + 3) lv (.int (u 4 0) :: st)) : zw_G X nL Q cs sl (zy_w h0 ad cI cZ u) pc lv (.ref h0 :: st) := zw_get (ci := 1) (q0 := 0) (f := 4) C in_X1 rfl rfl (by decide) q178 rfl rfl hd k
theorem zy_set_facts {x : Int32} : (zy_w h0 ad cI cZ u).set 0 (h0, .inr (1, ([.ref (ad 0), .ref (ad 1), .ref (ad 2), .ref (ad 3), .int (u 4 0), .ref (ad 5), .ref (ad 6), .ref (ad 7), .int (u 8 0), .ref (ad 9), .ref (ad 10), .int (u 11 0)] : List Value).set 4 (.int x))) = zy_w h0 ad cI cZ (zw_up u 4 0 x) := rfl
theorem zy_put_facts (C : zw_Ok X R0 cc nL RX1 cI cZ rt) {x : Int32} (hd : decode cc pc = .ok (.putfield 38, 3)) (k : zw_G X nL Q cs sl (zy_w h0 ad cI cZ (zw_up u 4 0 x)) (pc + 3) lv st) : zw_G X nL Q cs sl (zy_w h0 ad cI cZ u) pc lv (.int x :: .ref h0 :: st) := zw_put (ci := 1) (q0 := 0) (f := 4) (ty := .int) C in_X1 tyX1_ok nmX1 rfl rfl (by decide) q178 rfl rfl (by decide +kernel) rfl rfl (Nat.le_of_ble_eq_true rfl) zy_set_facts hd k
theorem zy_get_askedLabel (C : zw_Ok X R0 cc nL RX1 cI cZ rt) (hd : decode cc pc = .ok (.getfield 22, 3)) (k : zw_G X nL Q cs sl (zy_w h0 ad cI cZ u) (pc + 3) lv (.ref (ad 5) :: st)) : zw_G X nL Q cs sl (zy_w h0 ad cI cZ u) pc lv (.ref h0 :: st) := zw_get (ci := 1) (q0 := 0) (f := 5) C in_X1 rfl rfl (by decide) q179 rfl rfl hd k
theorem zy_ld_askedLabel (C : zw_Ok X R0 cc nL RX1 cI cZ rt) {i : Int32} {j : Nat} (hd : decode cc pc = .ok (.iaload, 1)) (hi : i = nI j) (hj : j < 4) (k : zw_G X nL Q cs sl (zy_w h0 ad cI cZ u) (pc + 1) lv (.int (u 5 j) :: st)) : zw_G X nL Q cs sl (zy_w h0 ad cI cZ u) pc lv (.int i :: .ref (ad 5) :: st) := zw_ild (q0 := 5) C rfl (by decide) hi hj hd k
theorem zy_set_askedLabel {x : Int32} {j : Nat} : (zy_w h0 ad cI cZ u).set 5 (ad 5, .inl (cI, 4, .inl (upd (u 5) j x))) = zy_w h0 ad cI cZ (zw_up u 5 j x) := rfl
theorem zy_st_askedLabel (C : zw_Ok X R0 cc nL RX1 cI cZ rt) {i x : Int32} {j : Nat} (hd : decode cc pc = .ok (.iastore, 1)) (hi : i = nI j) (hj : j < 4) (k : zw_G X nL Q cs sl (zy_w h0 ad cI cZ (zw_up u 5 j x)) (pc + 1) lv st) : zw_G X nL Q cs sl (zy_w h0 ad cI cZ u) pc lv (.int x :: .int i :: .ref (ad 5) :: st) := zw_ist (q0 := 5) C rfl (by decide) hi hj zy_set_askedLabel hd k
theorem zy_get_askedFrom (C : zw_Ok X R0 cc nL RX1 cI cZ rt) (hd : decode cc pc = .ok (.getfield 25, 3)) (k : zw_G X nL Q cs sl (zy_w h0 ad cI cZ u) (pc + 3) lv (.ref (ad 6) :: st)) : zw_G X nL Q cs sl (zy_w h0 ad cI cZ u) pc lv (.ref h0 :: st) := zw_get (ci := 1) (q0 := 0) (f := 6) C in_X1 rfl rfl (by decide) q180 rfl rfl hd k
theorem zy_ld_askedFrom (C : zw_Ok X R0 cc nL RX1 cI cZ rt) {i : Int32} {j : Nat} (hd : decode cc pc = .ok (.iaload, 1)) (hi : i = nI j) (hj : j < 4) (k : zw_G X nL Q cs sl (zy_w h0 ad cI cZ u) (pc + 1) lv (.int (u 6 j) :: st)) : zw_G X nL Q cs sl (zy_w h0 ad cI cZ u) pc lv (.int i :: .ref (ad 6) :: st) := zw_ild (q0 := 6) C rfl (by decide) hi hj hd k
theorem zy_set_askedFrom {x : Int32} {j : Nat} : (zy_w h0 ad cI cZ u).set 6 (ad 6, .inl (cI, 4, .inl (upd (u 6) j x))) = zy_w h0 ad cI cZ (zw_up u 6 j x) := rfl
theorem zy_st_askedFrom (C : zw_Ok X R0 cc nL RX1 cI cZ rt) {i x : Int32} {j : Nat} (hd : decode cc pc = .ok (.iastore, 1)) (hi : i = nI j) (hj : j < 4) (k : zw_G X nL Q cs sl (zy_w h0 ad cI cZ (zw_up u 6 j x)) (pc + 1) lv st) : zw_G X nL Q cs sl (zy_w h0 ad cI cZ u) pc lv (.int x :: .int i :: .ref (ad 6) :: st) := zw_ist (q0 := 6) C rfl (by decide) hi hj zy_set_askedFrom hd k
theorem zy_get_askedTo (C : zw_Ok X R0 cc nL RX1 cI cZ rt) (hd : decode cc pc = .ok (.getfield 28, 3)) (k : zw_G X nL Q cs sl (zy_w h0 ad cI cZ u) (pc + 3) lv (.ref (ad 7) :: st)) : zw_G X nL Q cs sl (zy_w h0 ad cI cZ u) pc lv (.ref h0 :: st) := zw_get (ci := 1) (q0 := 0) (f := 7) C in_X1 rfl rfl (by decide) q181 rfl rfl hd k
theorem zy_ld_askedTo (C : zw_Ok X R0 cc nL RX1 cI cZ rt) {i : Int32} {j : Nat} (hd : decode cc pc = .ok (.iaload, 1)) (hi : i = nI j) (hj : j < 4) (k : zw_G X nL Q cs sl (zy_w h0 ad cI cZ u) (pc + 1) lv (.int (u 7 j) :: st)) : zw_G X nL Q cs sl (zy_w h0 ad cI cZ u) pc lv (.int i :: .ref (ad 7) :: st) := zw_ild (q0 := 7) C rfl (by decide) hi hj hd k
theorem zy_set_askedTo {x : Int32} {j : Nat} : (zy_w h0 ad cI cZ u).set 7 (ad 7, .inl (cI, 4, .inl (upd (u 7) j x))) = zy_w h0 ad cI cZ (zw_up u 7 j x) := rfl
theorem zy_st_askedTo (C : zw_Ok X R0 cc nL RX1 cI cZ rt) {i x : Int32} {j : Nat} (hd : decode cc pc = .ok (.iastore, 1)) (hi : i = nI j) (hj : j < 4) (k : zw_G X nL Q cs sl (zy_w h0 ad cI cZ (zw_up u 7 j x)) (pc + 1) lv st) : zw_G X nL Q cs sl (zy_w h0 ad cI cZ u) pc lv (.int x :: .int i :: .ref (ad 7) :: st) := zw_ist (q0 := 7) C rfl (by decide) hi hj zy_set_askedTo hd k
theorem zy_get_conditions (C : zw_Ok X R0 cc nL RX1 cI cZ rt) (hd : decode cc pc = .ok (.getfield 53, 3)) (k : zw_G X nL Q cs sl (zy_w h0 ad cI cZ u) (pc + 3) lv (.int (u 8 0) :: st)) : zw_G X nL Q cs sl (zy_w h0 ad cI cZ u) pc lv (.ref h0 :: st) := zw_get (ci := 1) (q0 := 0) (f := 8) C in_X1 rfl rfl (by decide) q182 rfl rfl hd k
theorem zy_set_conditions {x : Int32} : (zy_w h0 ad cI cZ u).set 0 (h0, .inr (1, ([.ref (ad 0), .ref (ad 1), .ref (ad 2), .ref (ad 3), .int (u 4 0), .ref (ad 5), .ref (ad 6), .ref (ad 7), .int (u 8 0), .ref (ad 9), .ref (ad 10), .int (u 11 0)] : List Value).set 8 (.int x))) = zy_w h0 ad cI cZ (zw_up u 8 0 x) := rfl
theorem zy_put_conditions (C : zw_Ok X R0 cc nL RX1 cI cZ rt) {x : Int32} (hd : decode cc pc = .ok (.putfield 53, 3)) (k : zw_G X nL Q cs sl (zy_w h0 ad cI cZ (zw_up u 8 0 x)) (pc + 3) lv st) : zw_G X nL Q cs sl (zy_w h0 ad cI cZ u) pc lv (.int x :: .ref h0 :: st) := zw_put (ci := 1) (q0 := 0) (f := 8) (ty := .int) C in_X1 tyX1_ok nmX1 rfl rfl (by decide) q182 rfl rfl (by decide +kernel) rfl rfl (Nat.le_of_ble_eq_true rfl) zy_set_conditions hd k
theorem zy_get_makes (C : zw_Ok X R0 cc nL RX1 cI cZ rt) (hd : decode cc pc = .ok (.getfield 31, 3)) (k : zw_G X nL Q cs sl (zy_w h0 ad cI cZ u) (pc + 3) lv (.ref (ad 9) :: st)) : zw_G X nL Q cs sl (zy_w h0 ad cI cZ u) pc lv (.ref h0 :: st) := zw_get (ci := 1) (q0 := 0) (f := 9) C in_X1 rfl rfl (by decide) q183 rfl rfl hd k
theorem zy_ld_makes (C : zw_Ok X R0 cc nL RX1 cI cZ rt) {i : Int32} {j : Nat} (hd : decode cc pc = .ok (.iaload, 1)) (hi : i = nI j) (hj : j < 4) (k : zw_G X nL Q cs sl (zy_w h0 ad cI cZ u) (pc + 1) lv (.int (u 9 j) :: st)) : zw_G X nL Q cs sl (zy_w h0 ad cI cZ u) pc lv (.int i :: .ref (ad 9) :: st) := zw_ild (q0 := 8) C rfl (by decide) hi hj hd k
theorem zy_set_makes {x : Int32} {j : Nat} : (zy_w h0 ad cI cZ u).set 8 (ad 9, .inl (cI, 4, .inl (upd (u 9) j x))) = zy_w h0 ad cI cZ (zw_up u 9 j x) := rfl
theorem zy_st_makes (C : zw_Ok X R0 cc nL RX1 cI cZ rt) {i x : Int32} {j : Nat} (hd : decode cc pc = .ok (.iastore, 1)) (hi : i = nI j) (hj : j < 4) (k : zw_G X nL Q cs sl (zy_w h0 ad cI cZ (zw_up u 9 j x)) (pc + 1) lv st) : zw_G X nL Q cs sl (zy_w h0 ad cI cZ u) pc lv (.int x :: .int i :: .ref (ad 9) :: st) := zw_ist (q0 := 8) C rfl (by decide) hi hj zy_set_makes hd k
theorem zy_get_yes (C : zw_Ok X R0 cc nL RX1 cI cZ rt) (hd : decode cc pc = .ok (.getfield 34, 3)) (k : zw_G X nL Q cs sl (zy_w h0 ad cI cZ u) (pc + 3) lv (.ref (ad 10) :: st)) : zw_G X nL Q cs sl (zy_w h0 ad cI cZ u) pc lv (.ref h0 :: st) := zw_get (ci := 1) (q0 := 0) (f := 10) C in_X1 rfl rfl (by decide) q184 rfl rfl hd k
theorem zy_ld_yes (C : zw_Ok X R0 cc nL RX1 cI cZ rt) {i : Int32} {j : Nat} (hd : decode cc pc = .ok (.baload, 1)) (hi : i = nI j) (hj : j < 512) (k : zw_G X nL Q cs sl (zy_w h0 ad cI cZ u) (pc + 1) lv (.int (u 10 j) :: st)) : zw_G X nL Q cs sl (zy_w h0 ad cI cZ u) pc lv (.int i :: .ref (ad 10) :: st) := zw_zld (q0 := 9) C rfl (by decide) hi hj hd k
theorem zy_set_yes {x : Int32} {j : Nat} : (zy_w h0 ad cI cZ u).set 9 (ad 10, .inl (cZ, 512, .inl (upd (u 10) j x))) = zy_w h0 ad cI cZ (zw_up u 10 j x) := rfl
theorem zy_st_yes (C : zw_Ok X R0 cc nL RX1 cI cZ rt) {i x : Int32} {j : Nat} (hd : decode cc pc = .ok (.bastore, 1)) (hx0 : vp_nar .boolean x = x) (hi : i = nI j) (hj : j < 512) (k : zw_G X nL Q cs sl (zy_w h0 ad cI cZ (zw_up u 10 j x)) (pc + 1) lv st) : zw_G X nL Q cs sl (zy_w h0 ad cI cZ u) pc lv (.int x :: .int i :: .ref (ad 10) :: st) := zw_zst (q0 := 9) C rfl (by decide) hx0 hi hj zy_set_yes hd k
theorem zy_get_known (C : zw_Ok X R0 cc nL RX1 cI cZ rt) (hd : decode cc pc = .ok (.getfield 42, 3)) (k : zw_G X nL Q cs sl (zy_w h0 ad cI cZ u) (pc + 3) lv (.int (u 11 0) :: st)) : zw_G X nL Q cs sl (zy_w h0 ad cI cZ u) pc lv (.ref h0 :: st) := zw_get (ci := 1) (q0 := 0) (f := 11) C in_X1 rfl rfl (by decide) q185 rfl rfl hd k
theorem zy_set_known {x : Int32} : (zy_w h0 ad cI cZ u).set 0 (h0, .inr (1, ([.ref (ad 0), .ref (ad 1), .ref (ad 2), .ref (ad 3), .int (u 4 0), .ref (ad 5), .ref (ad 6), .ref (ad 7), .int (u 8 0), .ref (ad 9), .ref (ad 10), .int (u 11 0)] : List Value).set 11 (.int x))) = zy_w h0 ad cI cZ (zw_up u 11 0 x) := rfl
theorem zy_put_known (C : zw_Ok X R0 cc nL RX1 cI cZ rt) {x : Int32} (hn : narrow .boolean (.int x) = .int x) (hf : fits .boolean (.int x) = true) (hd : decode cc pc = .ok (.putfield 42, 3)) (k : zw_G X nL Q cs sl (zy_w h0 ad cI cZ (zw_up u 11 0 x)) (pc + 3) lv st) : zw_G X nL Q cs sl (zy_w h0 ad cI cZ u) pc lv (.int x :: .ref h0 :: st) := zw_put (ci := 1) (q0 := 0) (f := 11) (ty := .boolean) C in_X1 tyX1_ok nmX1 rfl rfl (by decide) q185 rfl rfl (by decide +kernel) hn hf (Nat.le_of_ble_eq_true rfl) zy_set_known hd k
end ZY
end
section
/-! PLAIN LAWS: no program in sight -/
set_option maxRecDepth 100000
/-! ### a proposition as an int -/
noncomputable def zw_b (P : Prop) : Int32 := @ite Int32 P (Classical.propDecidable P) 1 0
theorem zw_b1 {P : Prop} (h : P) : zw_b P = 1 := by
  unfold zw_b
  exact if_pos h
theorem zw_b0 {P : Prop} (h : ¬ P) : zw_b P = 0 := by
  unfold zw_b
  exact if_neg h
theorem zw_bc {P Q : Prop} (h : P ↔ Q) : zw_b P = zw_b Q := by rw [propext h]
theorem zw_10 : ¬ (1 : Int32) = 0 := by decide
theorem zw_01 : ¬ (0 : Int32) = 1 := by decide
theorem zw_b_1 {P : Prop} : zw_b P = 1 ↔ P := ⟨fun h => Classical.byContradiction fun n => by rw [zw_b0 n] at h; exact zw_01 h, zw_b1⟩
theorem zw_b_0 {P : Prop} : zw_b P = 0 ↔ ¬ P := ⟨fun h p => by rw [zw_b1 p] at h; exact zw_10 h, zw_b0⟩
theorem zw_b_n {P : Prop} (h : ¬ zw_b P = 0) : P := Classical.byContradiction fun n => h (zw_b0 n)
theorem zw_b_nar {P : Prop} : narrow .boolean (.int (zw_b P)) = .int (zw_b P) := by
  by_cases h : P
  · rw [zw_b1 h]; rfl
  · rw [zw_b0 h]; rfl
/-! ### order -/
theorem zw_nlt {a b : Int32} (h : ¬ a < b) : b ≤ a := by
  rw [Int32.lt_iff_toInt_lt] at h
  rw [Int32.le_iff_toInt_le]
  omega
theorem zw_nle {a b : Int32} (h : ¬ a ≤ b) : b < a := by
  rw [Int32.le_iff_toInt_le] at h
  rw [Int32.lt_iff_toInt_lt]
  omega
theorem zw_lnle {a b : Int32} (h : a < b) : ¬ b ≤ a := by
  rw [Int32.lt_iff_toInt_lt] at h
  rw [Int32.le_iff_toInt_le]
  omega
theorem zw_lenl {a b : Int32} (h : a ≤ b) : ¬ b < a := by
  rw [Int32.le_iff_toInt_le] at h
  rw [Int32.lt_iff_toInt_lt]
  omega
theorem zw_56 (a : Int32) : 5 < a ↔ 6 ≤ a := by
  rw [Int32.le_iff_toInt_le, Int32.lt_iff_toInt_lt]
  have h1 : (5 : Int32).toInt = 5 := by decide
  have h2 : (6 : Int32).toInt = 6 := by decide
  omega
theorem zw_0 : (0 : Int32) = nI 0 := nI_0.symm
/-! ### bits of small numbers -/
theorem zw_shl : ∀ f, f < 20 → (1 : Int32) <<< (nI f &&& 31) = nI (2 ^ f) := by decide +kernel
set_option maxRecDepth 1000000 in
theorem zw_bit : ∀ s, s < 512 → ∀ f, f < 9 → (nI s >>> (nI f &&& 31)) &&& 1 = if s.testBit f = true then 1 else 0 := by decide +kernel
set_option maxRecDepth 1000000 in
theorem zw_clr : ∀ s, s < 512 → ∀ f, f < 9 → s.testBit f = true → nI s &&& (nI (2 ^ f) ^^^ (-1)) = nI (s ^^^ 2 ^ f) := by decide +kernel
theorem zw_bit1 {s f : Nat} (hs : s < 512) (hf : f < 9) (h : s.testBit f = true) : (nI s >>> (nI f &&& 31)) &&& 1 = 1 := by
  rw [zw_bit s hs f hf, if_pos h]
theorem zw_bit0 {s f : Nat} (hs : s < 512) (hf : f < 9) (h : ¬ s.testBit f = true) : (nI s >>> (nI f &&& 31)) &&& 1 = 0 := by
  rw [zw_bit s hs f hf, if_neg h]
theorem zw_and (a b : Nat) : nI a &&& nI b = nI (a &&& b) := by
  apply Int32.toBitVec_inj.1
  show BitVec.ofNat 32 a &&& BitVec.ofNat 32 b = BitVec.ofNat 32 (a &&& b)
  apply BitVec.eq_of_getLsbD_eq
  intro i hi
  simp [hi]
theorem zw_or (a b : Nat) : nI a ||| nI b = nI (a ||| b) := by
  apply Int32.toBitVec_inj.1
  show BitVec.ofNat 32 a ||| BitVec.ofNat 32 b = BitVec.ofNat 32 (a ||| b)
  apply BitVec.eq_of_getLsbD_eq
  intro i hi
  simp [hi]
theorem zw_xor (a b : Nat) : nI a ^^^ nI b = nI (a ^^^ b) := by
  apply Int32.toBitVec_inj.1
  show BitVec.ofNat 32 a ^^^ BitVec.ofNat 32 b = BitVec.ofNat 32 (a ^^^ b)
  apply BitVec.eq_of_getLsbD_eq
  intro i hi
  simp [hi]
theorem zw_p2 {n : Nat} (h : n ≤ 9) : 2 ^ n ≤ 512 := by
  have := Nat.pow_le_pow_right (n := 2) (by decide) h
  exact this
theorem zw_tb_lt {n s f : Nat} (hs : s < 2 ^ n) (h : s.testBit f = true) : f < n := by
  rcases Nat.lt_or_ge f n with q | q
  · exact q
  · have h1 : s < 2 ^ f := Nat.lt_of_lt_of_le hs (Nat.pow_le_pow_right (by decide) q)
    rw [Nat.testBit_lt_two_pow h1] at h
    cases h
theorem zw_tb2 (f i : Nat) : (2 ^ f).testBit i = decide (f = i) := Nat.testBit_two_pow
theorem zw_tbx (s f i : Nat) : (s ^^^ 2 ^ f).testBit i = (s.testBit i ^^ decide (f = i)) := by
  rw [Nat.testBit_xor, zw_tb2]
theorem zw_xlt {n s f : Nat} (hs : s < 2 ^ n) (hf : f < n) : s ^^^ 2 ^ f < 2 ^ n := Nat.xor_lt_two_pow hs (Nat.pow_lt_pow_right (by decide) hf)
theorem zw_olt {n s f : Nat} (hs : s < 2 ^ n) (hf : f < n) : s ||| 2 ^ f < 2 ^ n := Nat.or_lt_two_pow hs (Nat.pow_lt_pow_right (by decide) hf)
set_option maxRecDepth 1000000 in
theorem zw_xdn : ∀ s, s < 512 → ∀ f, f < 9 → s.testBit f = true → s ^^^ 2 ^ f < s := by decide +kernel
/-! ### the state -/
theorem zw_up_s {u : zw_St} {k i : Nat} {x : Int32} : zw_up u k i x k = upd (u k) i x := by simp [zw_up]
theorem zw_up_n {u : zw_St} {k i a : Nat} {x : Int32} (h : a ≠ k) : zw_up u k i x a = u a := by simp [zw_up, h]
theorem zw_upd_s {f : Nat → Int32} {k : Nat} {x : Int32} : upd f k x k = x := by simp [upd]
theorem zw_upd_n {f : Nat → Int32} {k a : Nat} {x : Int32} (h : a ≠ k) : upd f k x a = f a := by simp [upd, h]
theorem zw_upd_a {f : Nat → Int32} {k a : Nat} {x : Int32} : upd f k x a = if a = k then x else f a := rfl
/-! ### what a question asks -/
/-- the node that a place of a condition is -/
def zw_ev (g : Nat → Int32) (x : Int32) : Int32 := if x < 8 then g x.toNatClampNeg else x - 8
/-- a place that a condition may have -/
def zw_pl (x : Int32) : Prop := ∃ j : Nat, x = nI j ∧ (j < 3 ∨ (8 ≤ j ∧ j < 14))
theorem zw_ev_v {g : Nat → Int32} {j : Nat} (h : j < 3) : zw_ev g (nI j) = g j := by
  unfold zw_ev
  rw [if_pos, nI_clamp (by omega)]
  exact (nI_ltI (a := j) (b := 8) (by omega) (by omega)).mpr (by omega)
theorem zw_ev_c {g : Nat → Int32} {j : Nat} (h : 8 ≤ j) (h2 : j < 14) : zw_ev g (nI j) = nI j - 8 := by
  unfold zw_ev
  rw [if_neg]
  intro q
  have := (nI_ltI (a := j) (b := 8) (by omega) (by omega)).mp q
  omega
theorem zw_ev_c' {g : Nat → Int32} {x : Int32} (h : ¬ x < 8) : zw_ev g x = x - 8 := if_neg h
theorem zw_ev_congr {g g' : Nat → Int32} {x : Int32} (hx : zw_pl x) (h : ∀ v, v < 3 → g v = g' v) : zw_ev g x = zw_ev g' x := by
  obtain ⟨j, rfl, h1 | h1⟩ := hx
  · rw [zw_ev_v h1, zw_ev_v h1, h j h1]
  · rw [zw_ev_c h1.1 h1.2, zw_ev_c h1.1 h1.2]
/-- fact f makes condition c hold for the values g. Places of u: 1 from, 2 to, 3 label, 6 wantLabel, 7 wantFrom, 8 wantTo -/
def zw_mt (u : zw_St) (g : Nat → Int32) (c f : Nat) : Prop := u 3 f = u 6 c ∧ u 1 f = zw_ev g (u 7 c) ∧ u 2 f = zw_ev g (u 8 c)
/-- values of the three variables -/
def zw_in (g : Nat → Int32) : Prop := ∀ v, v < 3 → ∃ j : Nat, j < 6 ∧ g v = nI j
theorem zw_in0 : zw_in (fun _ => 0) := fun _ _ => ⟨0, by omega, zw_0⟩
/-- the world w of n facts answers yes to k conditions -/
def zw_yes (u : zw_St) (n k w : Nat) : Prop := ∃ g, zw_in g ∧ ∀ c, c < k → ∃ f, f < n ∧ w.testBit f = true ∧ zw_mt u g c f
def zw_ors (t : Nat → Nat) : Nat → Nat
  | 0 => 0
  | k + 1 => zw_ors t k ||| 2 ^ t k
theorem zw_ors_congr {t t' : Nat → Nat} : ∀ {k : Nat}, (∀ c, c < k → t c = t' c) → zw_ors t k = zw_ors t' k
  | 0, _ => rfl
  | k + 1, h => by
    show zw_ors t k ||| 2 ^ t k = zw_ors t' k ||| 2 ^ t' k
    rw [zw_ors_congr (fun c hc => h c (by omega)), h k (by omega)]
theorem zw_ors_tb {t : Nat → Nat} {i : Nat} : ∀ {k : Nat}, (zw_ors t k).testBit i = true ↔ ∃ c, c < k ∧ t c = i
  | 0 => by simp [zw_ors]
  | k + 1 => by
    show (zw_ors t k ||| 2 ^ t k).testBit i = true ↔ _
    rw [Nat.testBit_or, Bool.or_eq_true, zw_ors_tb, zw_tb2, decide_eq_true_eq]
    constructor
    · rintro (⟨c, h1, h2⟩ | h)
      · exact ⟨c, by omega, h2⟩
      · exact ⟨k, by omega, h⟩
    · rintro ⟨c, h1, h2⟩
      by_cases e : c = k
      · subst e
        exact Or.inr h2
      · exact Or.inl ⟨c, by omega, h2⟩
theorem zw_ors_lt {t : Nat → Nat} {n : Nat} : ∀ {k : Nat}, (∀ c, c < k → t c < n) → zw_ors t k < 2 ^ n
  | 0, _ => Nat.two_pow_pos n
  | k + 1, h => zw_olt (zw_ors_lt (fun c hc => h c (by omega))) (h k (by omega))
/-- the facts of a match -/
def zw_M (u : zw_St) (n k m : Nat) : Prop := ∃ (t : Nat → Nat) (g : Nat → Int32), zw_in g ∧ (∀ c, c < k → t c < n ∧ zw_mt u g c (t c)) ∧ m = zw_ors t k
theorem zw_M_lt {u : zw_St} {n k m : Nat} (h : zw_M u n k m) : m < 2 ^ n := by
  obtain ⟨t, g, -, h1, rfl⟩ := h
  exact zw_ors_lt (fun c hc => (h1 c hc).1)
def zw_sb (m s : Nat) : Prop := ∀ i, m.testBit i = true → s.testBit i = true
/-- the worlds above the sets of P -/
def zw_ab (P : Nat → Prop) (s : Nat) : Prop := ∃ m, P m ∧ zw_sb m s
theorem zw_yes_ab {u : zw_St} {n k s : Nat} : zw_yes u n k s ↔ zw_ab (zw_M u n k) s := by
  constructor
  · rintro ⟨g, hg, h⟩
    have h1 : ∀ c, ∃ f, c < k → f < n ∧ s.testBit f = true ∧ zw_mt u g c f := by
      intro c
      by_cases hc : c < k
      · obtain ⟨f, hf⟩ := h c hc
        exact ⟨f, fun _ => hf⟩
      · exact ⟨0, fun q => absurd q hc⟩
    refine ⟨zw_ors (fun c => Classical.choose (h1 c)) k, ⟨fun c => Classical.choose (h1 c), g, hg, fun c hc => ⟨(Classical.choose_spec (h1 c) hc).1, (Classical.choose_spec (h1 c) hc).2.2⟩, rfl⟩, ?_⟩
    intro i hi
    obtain ⟨c, hc, rfl⟩ := zw_ors_tb.mp hi
    exact (Classical.choose_spec (h1 c) hc).2.1
  · rintro ⟨m, ⟨t, g, hg, h, rfl⟩, hs⟩
    exact ⟨g, hg, fun c hc => ⟨t c, (h c hc).1, hs _ (zw_ors_tb.mpr ⟨c, hc, rfl⟩), (h c hc).2⟩⟩
theorem zw_ab_step {P : Nat → Prop} {n s : Nat} (hs : s < 2 ^ n) : zw_ab P s ↔ P s ∨ ∃ f, f < n ∧ s.testBit f = true ∧ zw_ab P (s ^^^ 2 ^ f) := by
  constructor
  · rintro ⟨m, hm, h⟩
    by_cases q : ∃ f, s.testBit f = true ∧ ¬ m.testBit f = true
    · obtain ⟨f, h1, h2⟩ := q
      refine Or.inr ⟨f, zw_tb_lt hs h1, h1, m, hm, fun i hi => ?_⟩
      have e : ¬ f = i := fun e => h2 (by rw [e]; exact hi)
      rw [zw_tbx, h i hi]
      simp [e]
    · refine Or.inl ?_
      have e : m = s := by
        apply Nat.eq_of_testBit_eq
        intro i
        by_cases h1 : s.testBit i = true
        · by_cases h2 : m.testBit i = true
          · rw [h1, h2]
          · exact absurd ⟨i, h1, h2⟩ q
        · by_cases h2 : m.testBit i = true
          · exact absurd (h i h2) h1
          · simp only [Bool.not_eq_true] at h1 h2
            rw [h1, h2]
      rw [← e]
      exact hm
  · rintro (h | ⟨f, -, h1, m, hm, h⟩)
    · exact ⟨s, h, fun _ q => q⟩
    · refine ⟨m, hm, fun i hi => ?_⟩
      have h2 := h i hi
      rw [zw_tbx] at h2
      by_cases e : f = i
      · rw [← e]
        exact h1
      · simpa [e] using h2
theorem zw_mt_congr {u u' : zw_St} {g : Nat → Int32} {c f : Nat} (h1 : u' 1 = u 1) (h2 : u' 2 = u 2) (h3 : u' 3 = u 3) (h6 : u' 6 = u 6) (h7 : u' 7 = u 7) (h8 : u' 8 = u 8) : zw_mt u' g c f ↔ zw_mt u g c f := by
  unfold zw_mt
  rw [h1, h2, h3, h6, h7, h8]
theorem zw_yes_congr {u u' : zw_St} {n k w : Nat} (h1 : u' 1 = u 1) (h2 : u' 2 = u 2) (h3 : u' 3 = u 3) (h6 : u' 6 = u 6) (h7 : u' 7 = u 7) (h8 : u' 8 = u 8) : zw_yes u' n k w ↔ zw_yes u n k w := by
  unfold zw_yes zw_mt
  rw [h1, h2, h3, h6, h7, h8]
theorem zw_M_congr {u u' : zw_St} {n k w : Nat} (h1 : u' 1 = u 1) (h2 : u' 2 = u 2) (h3 : u' 3 = u 3) (h6 : u' 6 = u 6) (h7 : u' 7 = u 7) (h8 : u' 8 = u 8) : zw_M u' n k w ↔ zw_M u n k w := by
  unfold zw_M zw_mt
  rw [h1, h2, h3, h6, h7, h8]
/-! ### the search -/
/-- g keeps to what is bound in B -/
def zw_su (B g : Nat → Int32) : Prop := ∀ v, v < 3 → ¬ B v = -1 → g v = B v
/-- matches that agree with t ahead of level j and take a fact from f0 on there -/
def zw_new (u : zw_St) (n k j f0 : Nat) (t : Nat → Nat) (s : Nat) : Prop := ∃ (t' : Nat → Nat) (g : Nat → Int32), zw_in g ∧ (∀ c, c < j → t' c = t c) ∧ f0 ≤ t' j ∧ (∀ c, c < k → t' c < n ∧ zw_mt u g c (t' c)) ∧ s = zw_ors t' k
def zw_ut (t : Nat → Nat) (j f : Nat) : Nat → Nat := fun c => if c = j then f else t c
theorem zw_new_M {u : zw_St} {n k s : Nat} {t : Nat → Nat} : zw_new u n k 0 0 t s ↔ zw_M u n k s := by
  constructor
  · rintro ⟨t', g, h1, -, -, h2, h3⟩
    exact ⟨t', g, h1, h2, h3⟩
  · rintro ⟨t', g, h1, h2, h3⟩
    exact ⟨t', g, h1, fun c hc => absurd hc (by omega), Nat.zero_le _, h2, h3⟩
theorem zw_new_no {u : zw_St} {n k j f0 s : Nat} {t : Nat → Nat} {B : Nat → Int32} (hB : ∀ g, zw_su B g ↔ ∀ c, c < j → zw_mt u g c (t c)) (hno : ∀ f, f0 ≤ f → f < n → ∀ g, zw_su B g → ¬ zw_mt u g j f) (hj : j < k) : ¬ zw_new u n k j f0 t s := by
  rintro ⟨t', g, -, h1, h2, h3, -⟩
  exact hno (t' j) h2 (h3 j hj).1 g ((hB g).mpr (fun c hc => by rw [← h1 c hc]; exact (h3 c (by omega)).2)) (h3 j hj).2
theorem zw_new_split {u : zw_St} {n k j f0 f s : Nat} {t : Nat → Nat} {B : Nat → Int32} (hB : ∀ g, zw_su B g ↔ ∀ c, c < j → zw_mt u g c (t c)) (hf : f0 ≤ f) (hno : ∀ f', f0 ≤ f' → f' < f → ∀ g, zw_su B g → ¬ zw_mt u g j f') (hj : j < k) : zw_new u n k j f0 t s ↔ zw_new u n k j (f + 1) t s ∨ zw_new u n k (j + 1) 0 (zw_ut t j f) s := by
  constructor
  · rintro ⟨t', g, h0, h1, h2, h3, h4⟩
    by_cases q : t' j < f
    · exact absurd (h3 j hj).2 (hno (t' j) h2 q g ((hB g).mpr (fun c hc => by rw [← h1 c hc]; exact (h3 c (by omega)).2)))
    · by_cases e : t' j = f
      · refine Or.inr ⟨t', g, h0, fun c hc => ?_, Nat.zero_le _, h3, h4⟩
        by_cases e2 : c = j
        · rw [e2, e]
          simp [zw_ut]
        · rw [h1 c (by omega)]
          simp [zw_ut, e2]
      · exact Or.inl ⟨t', g, h0, h1, by omega, h3, h4⟩
  · rintro (⟨t', g, h0, h1, h2, h3, h4⟩ | ⟨t', g, h0, h1, h2, h3, h4⟩)
    · exact ⟨t', g, h0, h1, by omega, h3, h4⟩
    · refine ⟨t', g, h0, fun c hc => ?_, ?_, h3, h4⟩
      · rw [h1 c (by omega)]
        simp [zw_ut, show ¬ c = j by omega]
      · rw [h1 j (by omega)]
        simp [zw_ut, hf]
theorem zw_new_end {u : zw_St} {n k s : Nat} {t : Nat → Nat} (ht : ∀ c, c < k → t c < n) (hg : ∃ g, zw_in g ∧ ∀ c, c < k → zw_mt u g c (t c)) : zw_new u n k k 0 t s ↔ s = zw_ors t k := by
  constructor
  · rintro ⟨t', g, -, h1, -, -, h4⟩
    rw [h4]
    exact zw_ors_congr h1
  · intro h
    obtain ⟨g, h0, h1⟩ := hg
    exact ⟨t, g, h0, fun _ _ => rfl, Nat.zero_le _, fun c hc => ⟨ht c hc, h1 c hc⟩, h⟩
/-- values for what is bound: each free variable is 0 -/
theorem zw_fill {B : Nat → Int32} (h : ∀ v, v < 3 → B v = -1 ∨ ∃ j : Nat, j < 6 ∧ B v = nI j) : ∃ g, zw_in g ∧ zw_su B g := by
  refine ⟨fun v => if B v = -1 then 0 else B v, fun v hv => ?_, fun v hv hb => if_neg hb⟩
  by_cases e : B v = -1
  · exact ⟨0, by omega, by show (if B v = -1 then (0 : Int32) else B v) = nI 0; rw [if_pos e]; exact zw_0⟩
  · rcases h v hv with q | ⟨j, h1, h2⟩
    · exact absurd q e
    · exact ⟨j, h1, by show (if B v = -1 then (0 : Int32) else B v) = nI j; rw [if_neg e]; exact h2⟩
/-- how many times a search of r levels takes a step, at most -/
def zw_T (n : Nat) : Nat → Nat
  | 0 => 0
  | r + 1 => n * (1 + zw_T n r) + 1
theorem zw_T_le : ∀ n, n < 10 → ∀ r, r < 5 → zw_T n r ≤ 8200 := by decide +kernel
/-! ### sums -/
def zw_sum (f : Nat → Int32) : Nat → Int32
  | 0 => 0
  | n + 1 => zw_sum f n + f n
theorem zw_sum_congr {f g : Nat → Int32} : ∀ {n : Nat}, (∀ i, i < n → f i = g i) → zw_sum f n = zw_sum g n
  | 0, _ => rfl
  | n + 1, h => by
    show zw_sum f n + f n = zw_sum g n + g n
    rw [zw_sum_congr (fun i hi => h i (by omega)), h n (by omega)]
theorem zw_sum_app {f : Nat → Int32} {a : Nat} : ∀ {b : Nat}, zw_sum f (a + b) = zw_sum f a + zw_sum (fun i => f (a + i)) b
  | 0 => by
    show zw_sum f a = zw_sum f a + 0
    rw [Int32.add_zero]
  | b + 1 => by
    show zw_sum f (a + b) + f (a + b) = zw_sum f a + (zw_sum (fun i => f (a + i)) b + f (a + b))
    rw [zw_sum_app, Int32.add_assoc]
theorem zw_sum_add {f g : Nat → Int32} : ∀ {n : Nat}, zw_sum f n + zw_sum g n = zw_sum (fun i => f i + g i) n
  | 0 => by
    show (0 : Int32) + 0 = 0
    decide
  | n + 1 => by
    show zw_sum f n + f n + (zw_sum g n + g n) = zw_sum (fun i => f i + g i) n + (f n + g n)
    rw [← zw_sum_add]
    grind
/-- the weight of a world, by its first n facts; ch: their numbers -/
def zw_wt (ch : Nat → Int32) (s : Nat) : Nat → Int32
  | 0 => 1
  | i + 1 => zw_wt ch s i * (if s.testBit i = true then ch i else 4 - ch i)
theorem zw_wt_congr {ch : Nat → Int32} {s s' : Nat} : ∀ {n : Nat}, (∀ i, i < n → s.testBit i = s'.testBit i) → zw_wt ch s n = zw_wt ch s' n
  | 0, _ => rfl
  | n + 1, h => by
    show zw_wt ch s n * (if s.testBit n = true then ch n else 4 - ch n) = zw_wt ch s' n * (if s'.testBit n = true then ch n else 4 - ch n)
    rw [zw_wt_congr (fun i hi => h i (by omega)), h n (by omega)]
/-- one fact folded away -/
theorem zw_fold1 {ch old new : Nat → Int32} {f : Nat} (h : ∀ s, s < 2 ^ f → new s = old s * (4 - ch f) + old (s + 2 ^ f) * ch f) : zw_sum (fun s => new s * zw_wt ch s f) (2 ^ f) = zw_sum (fun s => old s * zw_wt ch s (f + 1)) (2 ^ (f + 1)) := by
  rw [Nat.pow_succ, Nat.mul_two, zw_sum_app, zw_sum_add]
  apply zw_sum_congr
  intro i hi
  have h1 : i.testBit f = false := Nat.testBit_lt_two_pow hi
  have h2 : (2 ^ f + i).testBit f = true := by
    rw [Nat.testBit_two_pow_add_eq, h1]
    rfl
  have h3 : zw_wt ch (2 ^ f + i) f = zw_wt ch i f := zw_wt_congr (fun a ha => Nat.testBit_two_pow_add_gt ha i)
  show new i * zw_wt ch i f = old i * (zw_wt ch i f * (if i.testBit f = true then ch f else 4 - ch f)) + old (2 ^ f + i) * (zw_wt ch (2 ^ f + i) f * (if (2 ^ f + i).testBit f = true then ch f else 4 - ch f))
  rw [h3, h1, h2, h i hi, Nat.add_comm i (2 ^ f)]
  simp only [Bool.false_eq_true, if_false, if_true]
  grind
theorem zw_fold0 {ch old : Nat → Int32} : zw_sum (fun s => old s * zw_wt ch s 0) (2 ^ 0) = old 0 := by
  show (0 : Int32) + old 0 * 1 = old 0
  grind
/-! ### least -/
def zw_cnt (s : Nat) : Nat → Nat
  | 0 => 0
  | i + 1 => zw_cnt s i + (if s.testBit i = true then 1 else 0)
theorem zw_cnt_le (s : Nat) : ∀ i, zw_cnt s i ≤ i
  | 0 => Nat.le_refl 0
  | i + 1 => by
    have := zw_cnt_le s i
    show zw_cnt s i + (if s.testBit i = true then 1 else 0) ≤ i + 1
    split <;> omega
theorem zw_cnt_sb {m s : Nat} (h : zw_sb m s) : ∀ i, zw_cnt m i ≤ zw_cnt s i
  | 0 => Nat.le_refl 0
  | i + 1 => by
    have h1 := zw_cnt_sb h i
    show zw_cnt m i + (if m.testBit i = true then 1 else 0) ≤ zw_cnt s i + (if s.testBit i = true then 1 else 0)
    by_cases q : m.testBit i = true
    · rw [if_pos q, if_pos (h i q)]
      omega
    · rw [if_neg q]
      omega
theorem zw_cnt_ext {s n : Nat} (hs : s < 2 ^ n) : ∀ d, zw_cnt s (n + d) = zw_cnt s n
  | 0 => rfl
  | d + 1 => by
    show zw_cnt s (n + d) + (if s.testBit (n + d) = true then 1 else 0) = zw_cnt s n
    rw [if_neg (fun q => by have := zw_tb_lt hs q; omega), zw_cnt_ext hs d]
    rfl
theorem zw_cnt_9 {s n : Nat} (hs : s < 2 ^ n) (hn : n ≤ 9) : zw_cnt s 9 = zw_cnt s n := by
  have h := zw_cnt_ext hs (9 - n)
  rw [show n + (9 - n) = 9 by omega] at h
  exact h
/-- r is the least c of the sets below N with P, -4 if there is none -/
def zw_min (P : Nat → Prop) (N : Nat) (c : Nat → Nat) (r : Int32) : Prop := ((∀ s, s < N → ¬ P s) ∧ r = -4) ∨ ∃ s, s < N ∧ P s ∧ r = nI (c s) ∧ ∀ s', s' < N → P s' → c s ≤ c s'
theorem zw_min_eq {P Q : Nat → Prop} {N : Nat} {c : Nat → Nat} {r r' : Int32} (h : zw_min P N c r) (h' : zw_min Q N c r') (h1 : ∀ s, s < N → P s → Q s) (h2 : ∀ s, s < N → Q s → ∃ m, m < N ∧ P m ∧ c m ≤ c s) : r = r' := by
  rcases h with ⟨a1, a2⟩ | ⟨s, a1, a2, a3, a4⟩
  · rcases h' with ⟨b1, b2⟩ | ⟨s', b1, b2, b3, b4⟩
    · rw [a2, b2]
    · obtain ⟨m, m1, m2, -⟩ := h2 s' b1 b2
      exact absurd m2 (a1 m m1)
  · rcases h' with ⟨b1, b2⟩ | ⟨s', b1, b2, b3, b4⟩
    · exact absurd (h1 s a1 a2) (b1 s a1)
    · obtain ⟨m, m1, m2, m3⟩ := h2 s' b1 b2
      have e1 := a4 m m1 m2
      have e2 := b4 s a1 (h1 s a1 a2)
      rw [a3, b3, show c s = c s' by omega]
theorem zw_min_0 {P : Nat → Prop} {c : Nat → Nat} : zw_min P 0 c (-4) := Or.inl ⟨fun s hs => absurd hs (by omega), rfl⟩
theorem zw_m4 : (-4 : Int32) < 0 := by decide
theorem zw_min_no {P : Nat → Prop} {N : Nat} {c : Nat → Nat} {r : Int32} (h : zw_min P N c r) (hn : ¬ P N) : zw_min P (N + 1) c r := by
  rcases h with ⟨a1, a2⟩ | ⟨s, a1, a2, a3, a4⟩
  · refine Or.inl ⟨fun s hs => ?_, a2⟩
    by_cases e : s = N
    · rw [e]; exact hn
    · exact a1 s (by omega)
  · refine Or.inr ⟨s, by omega, a2, a3, fun s' h1 h2 => ?_⟩
    by_cases e : s' = N
    · rw [e] at h2; exact absurd h2 hn
    · exact a4 s' (by omega) h2
/-- the new one is taken -/
theorem zw_min_new {P : Nat → Prop} {N : Nat} {c : Nat → Nat} {r : Int32} (hc : ∀ s, c s ≤ 9) (h : zw_min P N c r) (hp : P N) (hl : r < 0 ∨ nI (c N) < r) : zw_min P (N + 1) c (nI (c N)) := by
  refine Or.inr ⟨N, by omega, hp, rfl, fun s' h1 h2 => ?_⟩
  by_cases e : s' = N
  · rw [e]; exact Nat.le_refl _
  · rcases h with ⟨a1, a2⟩ | ⟨s, a1, a2, a3, a4⟩
    · exact absurd h2 (a1 s' (by omega))
    · have e2 := a4 s' (by omega) h2
      have b1 := hc s
      have b2 := hc N
      rw [a3] at hl
      rcases hl with q | q
      · exact absurd q (nI_pos (by omega))
      · have := (nI_ltI (by omega) (by omega)).mp q
        omega
/-- the new one isn't less -/
theorem zw_min_old {P : Nat → Prop} {N : Nat} {c : Nat → Nat} {r : Int32} (hc : ∀ s, c s ≤ 9) (h : zw_min P N c r) (h1 : ¬ r < 0) (h2 : r ≤ nI (c N)) : zw_min P (N + 1) c r := by
  rcases h with ⟨a1, a2⟩ | ⟨s, a1, a2, a3, a4⟩
  · rw [a2] at h1
    exact absurd zw_m4 h1
  · refine Or.inr ⟨s, by omega, a2, a3, fun s' g1 g2 => ?_⟩
    by_cases e : s' = N
    · rw [a3] at h2
      have b1 := hc s
      have b2 := hc N
      have := (nI_leI (by omega) (by omega)).mp h2
      rw [e]; exact this
    · exact a4 s' (by omega) g2
/-! ### a fact that matters -/
theorem zw_matters {P : Nat → Prop} {n f : Nat} (hf : f < n) : (∃ s, s < 2 ^ n ∧ ¬ (P s ↔ P (s ||| 2 ^ f))) ↔ ∃ s, s < 2 ^ n ∧ ¬ (P s ↔ P (s ^^^ 2 ^ f)) := by
  have key : ∀ s, ¬ s.testBit f = true → s ||| 2 ^ f = s ^^^ 2 ^ f := by
    intro s h
    apply Nat.eq_of_testBit_eq
    intro i
    rw [Nat.testBit_or, zw_tbx, zw_tb2]
    by_cases e : f = i
    · subst e
      simp only [Bool.not_eq_true] at h
      simp [h]
    · simp [e]
  have key2 : ∀ s, s.testBit f = true → s ||| 2 ^ f = s := by
    intro s h
    apply Nat.eq_of_testBit_eq
    intro i
    rw [Nat.testBit_or, zw_tb2]
    by_cases e : f = i
    · subst e
      simp [h]
    · simp [e]
  have key3 : ∀ s, s.testBit f = true → ¬ (s ^^^ 2 ^ f).testBit f = true := by
    intro s h
    rw [zw_tbx, h]
    simp
  have key4 : ∀ s, (s ^^^ 2 ^ f) ^^^ 2 ^ f = s := by
    intro s
    rw [Nat.xor_assoc, Nat.xor_self, Nat.xor_zero]
  constructor
  · rintro ⟨s, hs, h⟩
    by_cases b : s.testBit f = true
    · rw [key2 s b] at h
      exact absurd Iff.rfl h
    · rw [key s b] at h
      exact ⟨s, hs, h⟩
  · rintro ⟨s, hs, h⟩
    by_cases b : s.testBit f = true
    · refine ⟨s ^^^ 2 ^ f, zw_xlt hs hf, ?_⟩
      rw [key _ (key3 s b), key4]
      exact fun q => h q.symm
    · refine ⟨s, hs, ?_⟩
      rw [key s b]
      exact h
end
section
/-! LineageWorlds: facts and conditions -/
set_option maxRecDepth 100000
def zw_isF (N : Nat) (f : Int32) : Prop := ∃ j : Nat, j < N ∧ f = nI j
def zw_cn (e : Int32) : Prop := (6 : Int32) ≤ e &&& 7 ∨ (6 : Int32) ≤ (e >>> (3 &&& 31)) &&& 7
def zw_cm (n : Int32) : Prop := n < 1 ∨ 4 < n
theorem zw_isF_no {N : Nat} {f : Int32} (hN : N < 1000) (h : f < 0 ∨ nI N ≤ f) : ¬ zw_isF N f := by
  rintro ⟨j, hj, rfl⟩
  rcases h with h | h
  · exact nI_pos (by omega) h
  · have := (nI_leI (by omega) (by omega)).mp h
    omega
theorem zw_isF_yes {N : Nat} {f : Int32} (hN : N < 1000) (h1 : ¬ f < 0) (h2 : f < nI N) : zw_isF N f := by
  rcases pk_ix f (n := N) (by omega) with q | q | q
  · exact absurd q h1
  · exact absurd h2 (zw_lenl q)
  · exact q
theorem zw_pl_no {x : Int32} (h : x < 0 ∨ (2 < x ∧ x < 8) ∨ 14 ≤ x) : ¬ zw_pl x := by
  rintro ⟨j, rfl, hj⟩
  rcases h with h | ⟨h, h2⟩ | h
  · exact nI_pos (by omega) h
  · have h3 := (nI_ltI (a := 2) (b := j) (by omega) (by omega)).mp h
    have h4 := (nI_ltI (a := j) (b := 8) (by omega) (by omega)).mp h2
    omega
  · have h3 := (nI_leI (a := 14) (b := j) (by omega) (by omega)).mp h
    omega
theorem zw_pl_yes {x : Int32} (h : ¬ x < 0) (h1 : x ≤ 2 ∨ 8 ≤ x) (h2 : x < 14) : zw_pl x := by
  obtain ⟨j, hj, rfl⟩ := nI_of h
  refine ⟨j, rfl, ?_⟩
  have h4 := (nI_ltI (a := j) (b := 14) (by omega) (by omega)).mp h2
  rcases h1 with h1 | h1
  · have h3 := (nI_leI (a := j) (b := 2) (by omega) (by omega)).mp h1
    omega
  · have h3 := (nI_leI (a := 8) (b := j) (by omega) (by omega)).mp h1
    omega
theorem zxm_noFact {h0 : Nat} {ad : Nat → Nat} {cI cZ : ClassId} {u : zw_St} (f : Int32) {N : Nat} (hN : u 0 0 = nI N) (hN9 : N ≤ 9) (l : Launch) (D : va_G) : zw_Mi l yX0_noFact cX0_noFact 2 (some .boolean) 0 0 D (zx_w h0 ad cI cZ) cI cZ [.ref h0, .int f] u (fun r u' => u' = u ∧ r = zw_b (¬ zw_isF N f)) := by
  refine zw_Mi_of (by decide) (by simp [Value.category]) (Nat.le_of_ble_eq_true rfl) (fun X C => ?_) l D
  have C : zw_Ok X ({ frames := 0, cells := 0, slots := 0, locals := 0 } : Room) cX0_noFact 2 RX0 cI cZ (some .boolean) := C
  show zw_G X 2 _ 0 0 _ 0 [some (.ref h0), some (.int f)] []
  refine zw_iload_n (i := 1) C dX0_noFact_0 rfl rfl ?_
  refine zw_if_lt (tgt := 12) C dX0_noFact_1 (by decide) (fun c1 => ?_) (fun c1 => ?_)
  · refine zw_iconst (v := 1) C dX0_noFact_12 (by decide) ?_
    refine zw_goto (tgt := 17) C dX0_noFact_13 (by decide) ?_
    refine zw_iret C rfl dX0_noFact_17 ?_
    exact ⟨rfl, (zw_b1 (zw_isF_no (by omega) (Or.inl c1))).symm⟩
  · refine zw_iload_n (i := 1) C dX0_noFact_4 rfl rfl ?_
    refine zw_aload_n (i := 0) C dX0_noFact_5 rfl rfl ?_
    refine zx_get_facts C dX0_noFact_6 ?_
    refine zw_top hN ?_
    refine zw_icmp_lt (tgt := 16) C dX0_noFact_9 (by decide) (fun c9 => ?_) (fun c9 => ?_)
    · refine zw_iconst (v := 0) C dX0_noFact_16 (by decide) ?_
      refine zw_iret C rfl dX0_noFact_17 ?_
      exact ⟨rfl, (zw_b0 (fun q => q (zw_isF_yes (by omega) c1 c9))).symm⟩
    · refine zw_iconst (v := 1) C dX0_noFact_12 (by decide) ?_
      refine zw_goto (tgt := 17) C dX0_noFact_13 (by decide) ?_
      refine zw_iret C rfl dX0_noFact_17 ?_
      exact ⟨rfl, (zw_b1 (zw_isF_no (by omega) (Or.inr (zw_nlt c9)))).symm⟩
theorem zxm_badPlace {h0 : Nat} {ad : Nat → Nat} {cI cZ : ClassId} {u : zw_St} (x : Int32)  (l : Launch) (D : va_G) : zw_Mi l yX0_badPlace cX0_badPlace 1 (some .boolean) 0 0 D (zx_w h0 ad cI cZ) cI cZ [.int x] u (fun r u' => u' = u ∧ r = zw_b (¬ zw_pl x)) := by
  refine zw_Mi_of (by decide) (by simp [Value.category]) (Nat.le_of_ble_eq_true rfl) (fun X C => ?_) l D
  have C : zw_Ok X ({ frames := 0, cells := 0, slots := 0, locals := 0 } : Room) cX0_badPlace 1 RX0 cI cZ (some .boolean) := C
  show zw_G X 1 _ 0 0 _ 0 [some (.int x)] []
  refine zw_iload_n (i := 0) C dX0_badPlace_0 rfl rfl ?_
  refine zw_if_lt (tgt := 21) C dX0_badPlace_1 (by decide) (fun c1 => ?_) (fun c1 => ?_)
  · refine zw_iconst (v := 1) C dX0_badPlace_21 (by decide) ?_
    refine zw_goto (tgt := 26) C dX0_badPlace_22 (by decide) ?_
    refine zw_iret C rfl dX0_badPlace_26 ?_
    exact ⟨rfl, (zw_b1 (zw_pl_no (Or.inl c1))).symm⟩
  · have done : ∀ (h1 : x ≤ 2 ∨ 8 ≤ x), zw_G X 1 (zw_Qi X (zx_w h0 ad cI cZ) cI cZ (fun r u' => u' = u ∧ r = zw_b (¬ zw_pl x))) 0 0 (zx_w h0 ad cI cZ u) 15 [some (.int x)] [] := by
      intro h1
      refine zw_iload_n (i := 0) C dX0_badPlace_15 rfl rfl ?_
      refine zw_bipush (v := 14) C dX0_badPlace_16 (by decide) ?_
      refine zw_icmp_lt (tgt := 25) C dX0_badPlace_18 (by decide) (fun c18 => ?_) (fun c18 => ?_)
      · refine zw_iconst (v := 0) C dX0_badPlace_25 (by decide) ?_
        refine zw_iret C rfl dX0_badPlace_26 ?_
        exact ⟨rfl, (zw_b0 (fun q => q (zw_pl_yes c1 h1 c18))).symm⟩
      · refine zw_iconst (v := 1) C dX0_badPlace_21 (by decide) ?_
        refine zw_goto (tgt := 26) C dX0_badPlace_22 (by decide) ?_
        refine zw_iret C rfl dX0_badPlace_26 ?_
        exact ⟨rfl, (zw_b1 (zw_pl_no (Or.inr (Or.inr (zw_nlt c18))))).symm⟩
    refine zw_iload_n (i := 0) C dX0_badPlace_4 rfl rfl ?_
    refine zw_iconst (v := 2) C dX0_badPlace_5 (by decide) ?_
    refine zw_icmp_le (tgt := 15) C dX0_badPlace_6 (by decide) (fun c6 => ?_) (fun c6 => ?_)
    · exact done (Or.inl c6)
    · refine zw_iload_n (i := 0) C dX0_badPlace_9 rfl rfl ?_
      refine zw_bipush (v := 8) C dX0_badPlace_10 (by decide) ?_
      refine zw_icmp_lt (tgt := 21) C dX0_badPlace_12 (by decide) (fun c12 => ?_) (fun c12 => ?_)
      · refine zw_iconst (v := 1) C dX0_badPlace_21 (by decide) ?_
        refine zw_goto (tgt := 26) C dX0_badPlace_22 (by decide) ?_
        refine zw_iret C rfl dX0_badPlace_26 ?_
        exact ⟨rfl, (zw_b1 (zw_pl_no (Or.inr (Or.inl ⟨zw_nle c6, c12⟩)))).symm⟩
      · exact done (Or.inr (zw_nlt c12))
/-- the state behind a new fact -/
def zx_fact (u : zw_St) (N : Nat) (e n : Int32) : zw_St := zw_up (zw_up (zw_up (zw_up (zw_up (zw_up u 1 N (e &&& 7)) 2 N ((e >>> (3 &&& 31)) &&& 7)) 3 N ((e >>> (6 &&& 31)) &&& 1)) 4 N n) 0 0 (nI (N + 1))) 12 0 0
theorem zxm_fact {h0 : Nat} {ad : Nat → Nat} {cI cZ : ClassId} {u : zw_St} (e : Int32) (n : Int32) {N : Nat} (hN : u 0 0 = nI N) (hN9 : N ≤ 9) (l : Launch) (D : va_G) : zw_Mi l yX0_fact cX0_fact 5 (some .int) 0 0 D (zx_w h0 ad cI cZ) cI cZ [.ref h0, .int e, .int n] u (fun r u' => (zw_cn e ∧ r = -1 ∧ u' = u) ∨ (¬ zw_cn e ∧ zw_cm n ∧ r = -2 ∧ u' = u) ∨ (¬ zw_cn e ∧ ¬ zw_cm n ∧ N = 9 ∧ r = -3 ∧ u' = u) ∨ (¬ zw_cn e ∧ ¬ zw_cm n ∧ N < 9 ∧ r = nI N ∧ u' = zx_fact u N e n)) := by
  refine zw_Mi_of (by decide) (by simp [Value.category]) (Nat.le_of_ble_eq_true rfl) (fun X C => ?_) l D
  have C : zw_Ok X ({ frames := 0, cells := 0, slots := 0, locals := 0 } : Room) cX0_fact 5 RX0 cI cZ (some .int) := C
  show zw_G X 5 _ 0 0 _ 0 [some (.ref h0), some (.int e), some (.int n), none, none] []
  refine zw_iload_n (i := 1) C dX0_fact_0 rfl rfl ?_
  refine zw_bipush (v := 7) C dX0_fact_1 (by decide) ?_
  refine zw_iand C dX0_fact_3 ?_
  refine zw_istore_n (i := 3) C dX0_fact_4 rfl (by decide) ?_
  refine zw_iload_n (i := 1) C dX0_fact_5 rfl rfl ?_
  refine zw_iconst (v := 3) C dX0_fact_6 (by decide) ?_
  refine zw_ishr C dX0_fact_7 ?_
  refine zw_bipush (v := 7) C dX0_fact_8 (by decide) ?_
  refine zw_iand C dX0_fact_10 ?_
  refine zw_istore C dX0_fact_11 (by decide) ?_
  refine zw_iload_n (i := 3) C dX0_fact_13 rfl rfl ?_
  refine zw_bipush (v := 6) C dX0_fact_14 (by decide) ?_
  refine zw_icmp_ge (tgt := 26) C dX0_fact_16 (by decide) (fun c16 => ?_) (fun c16 => ?_)
  · refine zw_iconst (v := -1) C dX0_fact_26 (by decide) ?_
    refine zw_iret C rfl dX0_fact_27 ?_
    exact Or.inl ⟨Or.inl c16, rfl, rfl⟩
  · refine zw_iload C dX0_fact_19 rfl ?_
    refine zw_bipush (v := 6) C dX0_fact_21 (by decide) ?_
    refine zw_icmp_lt (tgt := 28) C dX0_fact_23 (by decide) (fun c23 => ?_) (fun c23 => ?_)
    · have hc : ¬ zw_cn e := fun q => q.elim c16 (zw_lnle c23)
      have bad : zw_cm n → zw_G X 5 (zw_Qi X (zx_w h0 ad cI cZ) cI cZ (fun r u' => (zw_cn e ∧ r = -1 ∧ u' = u) ∨ (¬ zw_cn e ∧ zw_cm n ∧ r = -2 ∧ u' = u) ∨ (¬ zw_cn e ∧ ¬ zw_cm n ∧ N = 9 ∧ r = -3 ∧ u' = u) ∨ (¬ zw_cn e ∧ ¬ zw_cm n ∧ N < 9 ∧ r = nI N ∧ u' = zx_fact u N e n))) 0 0 (zx_w h0 ad cI cZ u) 38 [some (.ref h0), some (.int e), some (.int n), some (.int (e &&& 7)), some (.int ((e >>> (3 &&& 31)) &&& 7))] [] := by
        intro q
        refine zw_bipush (v := -2) C dX0_fact_38 (by decide) ?_
        refine zw_iret C rfl dX0_fact_40 ?_
        exact Or.inr (Or.inl ⟨hc, q, rfl, rfl⟩)
      refine zw_iload_n (i := 2) C dX0_fact_28 rfl rfl ?_
      refine zw_iconst (v := 1) C dX0_fact_29 (by decide) ?_
      refine zw_icmp_lt (tgt := 38) C dX0_fact_30 (by decide) (fun c30 => ?_) (fun c30 => ?_)
      · exact bad (Or.inl c30)
      · refine zw_iload_n (i := 2) C dX0_fact_33 rfl rfl ?_
        refine zw_iconst (v := 4) C dX0_fact_34 (by decide) ?_
        refine zw_icmp_le (tgt := 41) C dX0_fact_35 (by decide) (fun c35 => ?_) (fun c35 => ?_)
        · have hm : ¬ zw_cm n := fun q => q.elim c30 (zw_lenl c35)
          refine zw_aload_n (i := 0) C dX0_fact_41 rfl rfl ?_
          refine zx_get_facts C dX0_fact_42 ?_
          refine zw_top hN ?_
          refine zw_bipush (v := 9) C dX0_fact_45 (by decide) ?_
          refine zw_icmp_lt (tgt := 53) C dX0_fact_47 (by decide) (fun c47 => ?_) (fun c47 => ?_)
          · have h9 : N < 9 := (nI_ltI (a := N) (b := 9) (by omega) (by omega)).mp c47
            refine zw_aload_n (i := 0) C dX0_fact_53 rfl rfl ?_
            refine zx_get_from C dX0_fact_54 ?_
            refine zw_aload_n (i := 0) C dX0_fact_57 rfl rfl ?_
            refine zx_get_facts C dX0_fact_58 ?_
            refine zw_iload_n (i := 3) C dX0_fact_61 rfl rfl ?_
            refine zx_st_from C dX0_fact_62 (hN) (h9) ?_
            refine zw_aload_n (i := 0) C dX0_fact_63 rfl rfl ?_
            refine zx_get_to C dX0_fact_64 ?_
            refine zw_aload_n (i := 0) C dX0_fact_67 rfl rfl ?_
            refine zx_get_facts C dX0_fact_68 ?_
            refine zw_iload C dX0_fact_71 rfl ?_
            refine zx_st_to C dX0_fact_73 (hN) (h9) ?_
            refine zw_aload_n (i := 0) C dX0_fact_74 rfl rfl ?_
            refine zx_get_label C dX0_fact_75 ?_
            refine zw_aload_n (i := 0) C dX0_fact_78 rfl rfl ?_
            refine zx_get_facts C dX0_fact_79 ?_
            refine zw_iload_n (i := 1) C dX0_fact_82 rfl rfl ?_
            refine zw_bipush (v := 6) C dX0_fact_83 (by decide) ?_
            refine zw_ishr C dX0_fact_85 ?_
            refine zw_iconst (v := 1) C dX0_fact_86 (by decide) ?_
            refine zw_iand C dX0_fact_87 ?_
            refine zx_st_label C dX0_fact_88 (hN) (h9) ?_
            refine zw_aload_n (i := 0) C dX0_fact_89 rfl rfl ?_
            refine zx_get_chance C dX0_fact_90 ?_
            refine zw_aload_n (i := 0) C dX0_fact_93 rfl rfl ?_
            refine zx_get_facts C dX0_fact_94 ?_
            refine zw_iload_n (i := 2) C dX0_fact_97 rfl rfl ?_
            refine zx_st_chance C dX0_fact_98 (hN) (h9) ?_
            refine zw_aload_n (i := 0) C dX0_fact_99 rfl rfl ?_
            refine zw_dup C dX0_fact_100 rfl ?_
            refine zx_get_facts C dX0_fact_101 ?_
            refine zw_iconst (v := 1) C dX0_fact_104 (by decide) ?_
            refine zw_iadd C dX0_fact_105 ?_
            refine zw_top (y := nI (N + 1)) (by rw [← nI_1]; exact congrArg (· + 1) hN) ?_
            refine zx_put_facts C dX0_fact_106 ?_
            refine zw_aload_n (i := 0) C dX0_fact_109 rfl rfl ?_
            refine zw_iconst (v := 0) C dX0_fact_110 (by decide) ?_
            refine zx_put_ready C rfl rfl dX0_fact_111 ?_
            refine zw_aload_n (i := 0) C dX0_fact_114 rfl rfl ?_
            refine zx_get_facts C dX0_fact_115 ?_
            refine zw_iconst (v := 1) C dX0_fact_118 (by decide) ?_
            refine zw_isub C dX0_fact_119 ?_
            refine zw_top (y := nI N) (nI_pred N) ?_
            refine zw_iret C rfl dX0_fact_120 ?_
            exact Or.inr (Or.inr (Or.inr ⟨hc, hm, h9, rfl, rfl⟩))
          · refine zw_bipush (v := -3) C dX0_fact_50 (by decide) ?_
            refine zw_iret C rfl dX0_fact_52 ?_
            have h9 := zw_nlt c47
            have h9 := (nI_leI (a := 9) (b := N) (by omega) (by omega)).mp h9
            exact Or.inr (Or.inr (Or.inl ⟨hc, hm, by omega, rfl, rfl⟩))
        · exact bad (Or.inr (zw_nle c35))
    · refine zw_iconst (v := -1) C dX0_fact_26 (by decide) ?_
      refine zw_iret C rfl dX0_fact_27 ?_
      exact Or.inl ⟨Or.inr (zw_nlt c23), rfl, rfl⟩
theorem zxm_likely {h0 : Nat} {ad : Nat → Nat} {cI cZ : ClassId} {u : zw_St} (f : Int32) (n : Int32) {N : Nat} (hN : u 0 0 = nI N) (hN9 : N ≤ 9) (l : Launch) (D : va_G) : zw_Mi l yX0_likely cX0_likely 4 (some .int) 1 21 D (zx_w h0 ad cI cZ) cI cZ [.ref h0, .int f, .int n] u (fun r u' => (¬ zw_isF N f ∧ r = -4 ∧ u' = u) ∨ (zw_isF N f ∧ zw_cm n ∧ r = -2 ∧ u' = u) ∨ (¬ zw_cm n ∧ ∃ j : Nat, j < N ∧ f = nI j ∧ r = u 4 j ∧ u' = zw_up u 4 j n)) := by
  refine zw_Mi_of (by decide) (by simp [Value.category]) (Nat.le_of_ble_eq_true rfl) (fun X C => ?_) l D
  have C : zw_Ok X ({ frames := 1, cells := 0, slots := 0, locals := 21 } : Room) cX0_likely 4 RX0 cI cZ (some .int) := C
  show zw_G X 4 _ 0 0 _ 0 [some (.ref h0), some (.int f), some (.int n), none] []
  refine zw_aload_n (i := 0) C dX0_likely_0 rfl rfl ?_
  refine zw_iload_n (i := 1) C dX0_likely_1 rfl rfl ?_
  refine zw_calli (q0 := 0) (n := 1) C (fun l D => zxm_noFact f hN hN9 l D) (lw_V q89 q91 qs0 q20 q92) rfl (by decide +kernel) ⟨Nat.le_of_ble_eq_true rfl, Nat.le_of_ble_eq_true rfl⟩ rfl rfl rfl (Nat.le_of_ble_eq_true rfl) ⟨Nat.le_of_ble_eq_true rfl, Nat.le_of_ble_eq_true rfl⟩ dX0_likely_2 (fun r1 u1 h1 => ?_)
  obtain ⟨rfl, rfl⟩ := h1
  refine zw_if_eq (tgt := 11) C dX0_likely_5 (by decide) (fun c5 => ?_) (fun c5 => ?_)
  · have hf : zw_isF N f := Classical.byContradiction fun q => zw_b_0.mp c5 q
    have bad : zw_cm n → zw_G X 4 (zw_Qi X (zx_w h0 ad cI cZ) cI cZ (fun r u' => (¬ zw_isF N f ∧ r = -4 ∧ u' = u1) ∨ (zw_isF N f ∧ zw_cm n ∧ r = -2 ∧ u' = u1) ∨ (¬ zw_cm n ∧ ∃ j : Nat, j < N ∧ f = nI j ∧ r = u1 4 j ∧ u' = zw_up u1 4 j n))) 0 0 (zx_w h0 ad cI cZ u1) 21 [some (.ref h0), some (.int f), some (.int n), none] [] := by
      intro q
      refine zw_bipush (v := -2) C dX0_likely_21 (by decide) ?_
      refine zw_iret C rfl dX0_likely_23 ?_
      exact Or.inr (Or.inl ⟨hf, q, rfl, rfl⟩)
    refine zw_iload_n (i := 2) C dX0_likely_11 rfl rfl ?_
    refine zw_iconst (v := 1) C dX0_likely_12 (by decide) ?_
    refine zw_icmp_lt (tgt := 21) C dX0_likely_13 (by decide) (fun c13 => ?_) (fun c13 => ?_)
    · exact bad (Or.inl c13)
    · refine zw_iload_n (i := 2) C dX0_likely_16 rfl rfl ?_
      refine zw_iconst (v := 4) C dX0_likely_17 (by decide) ?_
      refine zw_icmp_le (tgt := 24) C dX0_likely_18 (by decide) (fun c18 => ?_) (fun c18 => ?_)
      · have hm : ¬ zw_cm n := fun q => q.elim c13 (zw_lenl c18)
        obtain ⟨j, hj, ej⟩ := hf
        refine zw_aload_n (i := 0) C dX0_likely_24 rfl rfl ?_
        refine zx_get_chance C dX0_likely_25 ?_
        refine zw_iload_n (i := 1) C dX0_likely_28 rfl rfl ?_
        refine zx_ld_chance C dX0_likely_29 (ej) (by omega) ?_
        refine zw_istore_n (i := 3) C dX0_likely_30 rfl (by decide) ?_
        refine zw_aload_n (i := 0) C dX0_likely_31 rfl rfl ?_
        refine zx_get_chance C dX0_likely_32 ?_
        refine zw_iload_n (i := 1) C dX0_likely_35 rfl rfl ?_
        refine zw_iload_n (i := 2) C dX0_likely_36 rfl rfl ?_
        refine zx_st_chance C dX0_likely_37 (ej) (by omega) ?_
        refine zw_iload_n (i := 3) C dX0_likely_38 rfl rfl ?_
        refine zw_iret C rfl dX0_likely_39 ?_
        exact Or.inr (Or.inr ⟨hm, j, hj, ej, rfl, rfl⟩)
      · exact bad (Or.inr (zw_nle c18))
  · refine zw_bipush (v := -4) C dX0_likely_8 (by decide) ?_
    refine zw_iret C rfl dX0_likely_10 ?_
    exact Or.inl ⟨zw_b_n c5, rfl, rfl⟩
/-- the state behind a new condition -/
def zx_cond (u : zw_St) (K : Nat) (a x y : Int32) : zw_St := zw_up (zw_up (zw_up (zw_up (zw_up u 6 K (a &&& 1)) 7 K x) 8 K y) 5 0 (nI (K + 1))) 12 0 0
theorem zxm_condition {h0 : Nat} {ad : Nat → Nat} {cI cZ : ClassId} {u : zw_St} (a : Int32) (x : Int32) (y : Int32) {K : Nat} (hK : u 5 0 = nI K) (hK4 : K ≤ 4) (l : Launch) (D : va_G) : zw_Mi l yX0_condition cX0_condition 4 (some .int) 1 20 D (zx_w h0 ad cI cZ) cI cZ [.ref h0, .int a, .int x, .int y] u (fun r u' => (¬ (zw_pl x ∧ zw_pl y) ∧ r = -1 ∧ u' = u) ∨ (zw_pl x ∧ zw_pl y ∧ K = 4 ∧ r = -3 ∧ u' = u) ∨ (zw_pl x ∧ zw_pl y ∧ K < 4 ∧ r = nI (K + 1) ∧ u' = zx_cond u K a x y)) := by
  refine zw_Mi_of (by decide) (by simp [Value.category]) (Nat.le_of_ble_eq_true rfl) (fun X C => ?_) l D
  have C : zw_Ok X ({ frames := 1, cells := 0, slots := 0, locals := 20 } : Room) cX0_condition 4 RX0 cI cZ (some .int) := C
  show zw_G X 4 _ 0 0 _ 0 [some (.ref h0), some (.int a), some (.int x), some (.int y)] []
  refine zw_iload_n (i := 2) C dX0_condition_0 rfl rfl ?_
  refine zw_callsi (n := 1) C (fun l D => zxm_badPlace x l D) (lw_S q97 q98 q20 q99) rfl (by decide +kernel) ⟨Nat.le_of_ble_eq_true rfl, Nat.le_of_ble_eq_true rfl⟩ rfl (Nat.le_of_ble_eq_true rfl) ⟨Nat.le_of_ble_eq_true rfl, Nat.le_of_ble_eq_true rfl⟩ dX0_condition_1 (fun r1 u1 h1 => ?_)
  obtain ⟨rfl, rfl⟩ := h1
  refine zw_if_ne (tgt := 14) C dX0_condition_4 (by decide) (fun c4 => ?_) (fun c4 => ?_)
  · refine zw_iconst (v := -1) C dX0_condition_14 (by decide) ?_
    refine zw_iret C rfl dX0_condition_15 ?_
    exact Or.inl ⟨fun q => zw_b_n c4 q.1, rfl, rfl⟩
  · have hx : zw_pl x := Classical.byContradiction fun q => zw_b_0.mp c4 q
    refine zw_iload_n (i := 3) C dX0_condition_7 rfl rfl ?_
    refine zw_callsi (n := 1) C (fun l D => zxm_badPlace y l D) (lw_S q97 q98 q20 q99) rfl (by decide +kernel) ⟨Nat.le_of_ble_eq_true rfl, Nat.le_of_ble_eq_true rfl⟩ rfl (Nat.le_of_ble_eq_true rfl) ⟨Nat.le_of_ble_eq_true rfl, Nat.le_of_ble_eq_true rfl⟩ dX0_condition_8 (fun r2 u2 h2 => ?_)
    obtain ⟨rfl, rfl⟩ := h2
    refine zw_if_eq (tgt := 16) C dX0_condition_11 (by decide) (fun c11 => ?_) (fun c11 => ?_)
    · have hy : zw_pl y := Classical.byContradiction fun q => zw_b_0.mp c11 q
      refine zw_aload_n (i := 0) C dX0_condition_16 rfl rfl ?_
      refine zx_get_conditions C dX0_condition_17 ?_
      refine zw_top hK ?_
      refine zw_iconst (v := 4) C dX0_condition_20 (by decide) ?_
      refine zw_icmp_lt (tgt := 27) C dX0_condition_21 (by decide) (fun c21 => ?_) (fun c21 => ?_)
      · have h4 : K < 4 := (nI_ltI (a := K) (b := 4) (by omega) (by omega)).mp c21
        refine zw_aload_n (i := 0) C dX0_condition_27 rfl rfl ?_
        refine zx_get_wantLabel C dX0_condition_28 ?_
        refine zw_aload_n (i := 0) C dX0_condition_31 rfl rfl ?_
        refine zx_get_conditions C dX0_condition_32 ?_
        refine zw_iload_n (i := 1) C dX0_condition_35 rfl rfl ?_
        refine zw_iconst (v := 1) C dX0_condition_36 (by decide) ?_
        refine zw_iand C dX0_condition_37 ?_
        refine zx_st_wantLabel C dX0_condition_38 (hK) (h4) ?_
        refine zw_aload_n (i := 0) C dX0_condition_39 rfl rfl ?_
        refine zx_get_wantFrom C dX0_condition_40 ?_
        refine zw_aload_n (i := 0) C dX0_condition_43 rfl rfl ?_
        refine zx_get_conditions C dX0_condition_44 ?_
        refine zw_iload_n (i := 2) C dX0_condition_47 rfl rfl ?_
        refine zx_st_wantFrom C dX0_condition_48 (hK) (h4) ?_
        refine zw_aload_n (i := 0) C dX0_condition_49 rfl rfl ?_
        refine zx_get_wantTo C dX0_condition_50 ?_
        refine zw_aload_n (i := 0) C dX0_condition_53 rfl rfl ?_
        refine zx_get_conditions C dX0_condition_54 ?_
        refine zw_iload_n (i := 3) C dX0_condition_57 rfl rfl ?_
        refine zx_st_wantTo C dX0_condition_58 (hK) (h4) ?_
        refine zw_aload_n (i := 0) C dX0_condition_59 rfl rfl ?_
        refine zw_dup C dX0_condition_60 rfl ?_
        refine zx_get_conditions C dX0_condition_61 ?_
        refine zw_iconst (v := 1) C dX0_condition_64 (by decide) ?_
        refine zw_iadd C dX0_condition_65 ?_
        refine zw_top (y := nI (K + 1)) (by rw [← nI_1]; exact congrArg (· + 1) hK) ?_
        refine zx_put_conditions C dX0_condition_66 ?_
        refine zw_aload_n (i := 0) C dX0_condition_69 rfl rfl ?_
        refine zw_iconst (v := 0) C dX0_condition_70 (by decide) ?_
        refine zx_put_ready C rfl rfl dX0_condition_71 ?_
        refine zw_aload_n (i := 0) C dX0_condition_74 rfl rfl ?_
        refine zx_get_conditions C dX0_condition_75 ?_
        refine zw_iret C rfl dX0_condition_78 ?_
        exact Or.inr (Or.inr ⟨hx, hy, h4, rfl, rfl⟩)
      · refine zw_bipush (v := -3) C dX0_condition_24 (by decide) ?_
        refine zw_iret C rfl dX0_condition_26 ?_
        have h9 := zw_nlt c21
        have h9 := (nI_leI (a := 4) (b := K) (by omega) (by omega)).mp h9
        exact Or.inr (Or.inl ⟨hx, hy, by omega, rfl, rfl⟩)
    · refine zw_iconst (v := -1) C dX0_condition_14 (by decide) ?_
      refine zw_iret C rfl dX0_condition_15 ?_
      exact Or.inl ⟨fun q => zw_b_n c11 q.2, rfl, rfl⟩
theorem zxm_ask {h0 : Nat} {ad : Nat → Nat} {cI cZ : ClassId} {u : zw_St}  (l : Launch) (D : va_G) : zw_Mv l yX0_ask cX0_ask 1 none 0 0 D (zx_w h0 ad cI cZ) cI cZ [.ref h0] u (fun u' => u' = zw_up (zw_up u 5 0 0) 12 0 0) := by
  refine zw_Mv_of (by decide) (by simp [Value.category]) (Nat.le_of_ble_eq_true rfl) (fun X C => ?_) l D
  have C : zw_Ok X ({ frames := 0, cells := 0, slots := 0, locals := 0 } : Room) cX0_ask 1 RX0 cI cZ none := C
  show zw_G X 1 _ 0 0 _ 0 [some (.ref h0)] []
  refine zw_aload_n (i := 0) C dX0_ask_0 rfl rfl ?_
  refine zw_iconst (v := 0) C dX0_ask_1 (by decide) ?_
  refine zx_put_conditions C dX0_ask_2 ?_
  refine zw_aload_n (i := 0) C dX0_ask_5 rfl rfl ?_
  refine zw_iconst (v := 0) C dX0_ask_6 (by decide) ?_
  refine zx_put_ready C rfl rfl dX0_ask_7 ?_
  refine zw_vret C dX0_ask_10 ?_
  rfl
theorem zxm_drop {h0 : Nat} {ad : Nat → Nat} {cI cZ : ClassId} {u : zw_St} {N : Nat} (hN : u 0 0 = nI N) (hN9 : N ≤ 9) (l : Launch) (D : va_G) : zw_Mi l yX0_drop cX0_drop 1 (some .int) 0 0 D (zx_w h0 ad cI cZ) cI cZ [.ref h0] u (fun r u' => (N = 0 ∧ r = -4 ∧ u' = u) ∨ (∃ N' : Nat, N = N' + 1 ∧ r = nI N' ∧ u' = zw_up (zw_up u 0 0 (nI N')) 12 0 0)) := by
  refine zw_Mi_of (by decide) (by simp [Value.category]) (Nat.le_of_ble_eq_true rfl) (fun X C => ?_) l D
  have C : zw_Ok X ({ frames := 0, cells := 0, slots := 0, locals := 0 } : Room) cX0_drop 1 RX0 cI cZ (some .int) := C
  show zw_G X 1 _ 0 0 _ 0 [some (.ref h0)] []
  refine zw_aload_n (i := 0) C dX0_drop_0 rfl rfl ?_
  refine zx_get_facts C dX0_drop_1 ?_
  refine zw_top hN ?_
  refine zw_if_ne (tgt := 10) C dX0_drop_4 (by decide) (fun c4 => ?_) (fun c4 => ?_)
  · obtain ⟨N', rfl⟩ : ∃ N', N = N' + 1 := by
      cases N with
      | zero => exact absurd nI_0 c4
      | succ n => exact ⟨n, rfl⟩
    refine zw_aload_n (i := 0) C dX0_drop_10 rfl rfl ?_
    refine zw_dup C dX0_drop_11 rfl ?_
    refine zx_get_facts C dX0_drop_12 ?_
    refine zw_iconst (v := 1) C dX0_drop_15 (by decide) ?_
    refine zw_isub C dX0_drop_16 ?_
    refine zw_top (y := nI N') (by rw [hN]; exact nI_pred N') ?_
    refine zx_put_facts C dX0_drop_17 ?_
    refine zw_aload_n (i := 0) C dX0_drop_20 rfl rfl ?_
    refine zw_iconst (v := 0) C dX0_drop_21 (by decide) ?_
    refine zx_put_ready C rfl rfl dX0_drop_22 ?_
    refine zw_aload_n (i := 0) C dX0_drop_25 rfl rfl ?_
    refine zx_get_facts C dX0_drop_26 ?_
    refine zw_iret C rfl dX0_drop_29 ?_
    exact Or.inr ⟨N', rfl, rfl, rfl⟩
  · refine zw_bipush (v := -4) C dX0_drop_7 (by decide) ?_
    refine zw_iret C rfl dX0_drop_9 ?_
    refine Or.inl ⟨?_, rfl, rfl⟩
    exact (nI_eq (a := N) (b := 0) (by omega) (by omega)).mp c4
theorem zxm_all {h0 : Nat} {ad : Nat → Nat} {cI cZ : ClassId} {u : zw_St} {N : Nat} (hN : u 0 0 = nI N) (hN9 : N ≤ 9) (l : Launch) (D : va_G) : zw_Mi l yX0_all cX0_all 1 (some .int) 0 0 D (zx_w h0 ad cI cZ) cI cZ [.ref h0] u (fun r u' => u' = u ∧ r = nI (4 ^ N)) := by
  refine zw_Mi_of (by decide) (by simp [Value.category]) (Nat.le_of_ble_eq_true rfl) (fun X C => ?_) l D
  have C : zw_Ok X ({ frames := 0, cells := 0, slots := 0, locals := 0 } : Room) cX0_all 1 RX0 cI cZ (some .int) := C
  show zw_G X 1 _ 0 0 _ 0 [some (.ref h0)] []
  refine zw_iconst (v := 1) C dX0_all_0 (by decide) ?_
  refine zw_iconst (v := 2) C dX0_all_1 (by decide) ?_
  refine zw_aload_n (i := 0) C dX0_all_2 rfl rfl ?_
  refine zx_get_facts C dX0_all_3 ?_
  refine zw_top hN ?_
  refine zw_imul C dX0_all_6 ?_
  refine zw_ishl C dX0_all_7 ?_
  refine zw_top (y := nI (4 ^ N)) ?_ ?_
  · rw [show (2 : Int32) * nI N = nI (2 * N) from pk_mul 2 N, zw_shl (2 * N) (by omega), Nat.pow_mul]
  · refine zw_iret C rfl dX0_all_8 ?_
    exact ⟨rfl, rfl⟩
end
section
/-! LineageWorlds: matching, a level -/
set_option maxRecDepth 100000
/-- what holds of facts and question -/
def zw_D (u : zw_St) (n k : Nat) : Prop := n ≤ 9 ∧ k ≤ 4 ∧ u 0 0 = nI n ∧ u 5 0 = nI k ∧ (∀ i, i < n → ∃ a : Nat, a < 6 ∧ u 1 i = nI a) ∧ (∀ i, i < n → ∃ a : Nat, a < 6 ∧ u 2 i = nI a) ∧ (∀ c, c < k → zw_pl (u 7 c)) ∧ (∀ c, c < k → zw_pl (u 8 c))
/-- facts and question are the same -/
def zw_kp (u u' : zw_St) : Prop := ∀ a, a ≤ 8 → u' a = u a
theorem zw_kp.rf {u : zw_St} : zw_kp u u := fun _ _ => rfl
theorem zw_kp.tr {u v w : zw_St} (h : zw_kp u v) (h' : zw_kp v w) : zw_kp u w := fun a ha => (h' a ha).trans (h a ha)
theorem zw_kp.up {u v : zw_St} {k i : Nat} {x : Int32} (h : zw_kp u v) (hk : 9 ≤ k) : zw_kp u (zw_up v k i x) := fun a ha => by
  rw [zw_up_n (by omega)]
  exact h a ha
theorem zw_kp.D {u v : zw_St} {n k : Nat} (h : zw_kp u v) (hD : zw_D u n k) : zw_D v n k := by
  unfold zw_D
  rw [h 0 (by decide), h 1 (by decide), h 2 (by decide), h 5 (by decide), h 7 (by decide), h 8 (by decide)]
  exact hD
theorem zw_kp.mt {u v : zw_St} {g : Nat → Int32} {c f : Nat} (h : zw_kp u v) : zw_mt v g c f ↔ zw_mt u g c f := zw_mt_congr (h 1 (by decide)) (h 2 (by decide)) (h 3 (by decide)) (h 6 (by decide)) (h 7 (by decide)) (h 8 (by decide))
theorem zw_kp.yes {u v : zw_St} {n k w : Nat} (h : zw_kp u v) : zw_yes v n k w ↔ zw_yes u n k w := zw_yes_congr (h 1 (by decide)) (h 2 (by decide)) (h 3 (by decide)) (h 6 (by decide)) (h 7 (by decide)) (h 8 (by decide))
theorem zw_kp.M {u v : zw_St} {n k w : Nat} (h : zw_kp u v) : zw_M v n k w ↔ zw_M u n k w := zw_M_congr (h 1 (by decide)) (h 2 (by decide)) (h 3 (by decide)) (h 6 (by decide)) (h 7 (by decide)) (h 8 (by decide))
/-- freeing the variables of M in B gives B0 -/
def zw_rel (B0 B : Nat → Int32) (M : Nat) : Prop := ∀ v, v < 3 → (if M.testBit v = true then -1 else B v) = B0 v
def zw_rg (B : Nat → Int32) : Prop := ∀ v, v < 3 → B v = -1 ∨ ∃ j : Nat, j < 6 ∧ B v = nI j
theorem zw_rel0 {B : Nat → Int32} : zw_rel B B 0 := fun v _ => by rw [Nat.zero_testBit]; rfl
theorem zw_rel_congr {B0 B B' : Nat → Int32} {M : Nat} (h : zw_rel B0 B M) (e : ∀ v, v < 3 → B' v = B v) : zw_rel B0 B' M := fun v hv => by rw [e v hv]; exact h v hv
theorem zw_su_congr {B B' g : Nat → Int32} (e : ∀ v, v < 3 → B' v = B v) : zw_su B' g ↔ zw_su B g := by
  constructor
  · intro h v hv hb
    rw [← e v hv]
    exact h v hv (by rw [e v hv]; exact hb)
  · intro h v hv hb
    rw [e v hv] at hb ⊢
    exact h v hv hb
theorem zw_nm1 {j : Nat} (h : j < 100) : ¬ nI j = -1 := by
  intro q
  have h1 : (nI j).toInt = (j : Int) := nI_toInt (by omega)
  rw [q] at h1
  have h2 : (-1 : Int32).toInt = -1 := by decide
  omega
theorem zw_bind {B g : Nat → Int32} {j : Nat} {nd : Int32} (hj : j < 3) (hb : B j = -1) (hn : ¬ nd = -1) : zw_su (upd B j nd) g ↔ zw_su B g ∧ zw_ev g (nI j) = nd := by
  rw [zw_ev_v hj]
  constructor
  · intro h
    refine ⟨fun v hv q => ?_, ?_⟩
    · have e : v ≠ j := fun e => q (by rw [e]; exact hb)
      have := h v hv (by rw [zw_upd_n e]; exact q)
      rw [zw_upd_n e] at this
      exact this
    · have := h j hj (by rw [zw_upd_s]; exact hn)
      rw [zw_upd_s] at this
      exact this
  · rintro ⟨h1, h2⟩ v hv q
    by_cases e : v = j
    · rw [e, zw_upd_s]
      exact h2
    · rw [zw_upd_n e] at q ⊢
      exact h1 v hv q
theorem zw_rel_bind {B0 B : Nat → Int32} {j M : Nat} {nd : Int32} (h : zw_rel B0 B M) (hj : j < 3) (hb : B j = -1) : zw_rel B0 (upd B j nd) (M ||| 2 ^ j) := by
  intro v hv
  have h1 := h v hv
  rw [Nat.testBit_or, zw_tb2]
  by_cases e : v = j
  · subst e
    rw [hb] at h1
    simp only [decide_true, Bool.or_true, if_true]
    rw [← h1]
    split <;> rfl
  · rw [zw_upd_n e]
    simp only [show ¬ j = v from fun q => e q.symm, decide_false, Bool.or_false]
    exact h1
theorem zxm_fits {h0 : Nat} {ad : Nat → Nat} {cI cZ : ClassId} {u : zw_St} (a : Int32) (x : Int32) (nd : Int32) {L M d : Nat} {B0 : Nat → Int32} (ea : a = nI L) (hL : L < 5) (hx : zw_pl x) (ed : nd = nI d) (hd : d < 6) (hM : M < 8) (hb : u 10 L = nI M) (hr : zw_rel B0 (u 11) M) (hg : zw_rg (u 11)) (l : Launch) (D : va_G) : zw_Mi l yX0_fits cX0_fits 4 (some .boolean) 0 0 D (zx_w h0 ad cI cZ) cI cZ [.ref h0, .int a, .int x, .int nd] u (fun r u' => (∀ a, a ≠ 10 → a ≠ 11 → u' a = u a) ∧ (∀ a, a ≠ L → u' 10 a = u 10 a) ∧ (∃ M' : Nat, M' < 8 ∧ u' 10 L = nI M' ∧ zw_rel B0 (u' 11) M') ∧ zw_rg (u' 11) ∧ ((r = 1 ∧ ∀ g, zw_su (u' 11) g ↔ zw_su (u 11) g ∧ zw_ev g x = nd) ∨ (r = 0 ∧ ∀ g, zw_su (u 11) g → ¬ zw_ev g x = nd))) := by
  refine zw_Mi_of (by decide) (by simp [Value.category]) (Nat.le_of_ble_eq_true rfl) (fun X C => ?_) l D
  have C : zw_Ok X ({ frames := 0, cells := 0, slots := 0, locals := 0 } : Room) cX0_fits 4 RX0 cI cZ (some .boolean) := C
  show zw_G X 4 _ 0 0 _ 0 [some (.ref h0), some (.int a), some (.int x), some (.int nd)] []
  refine zw_iload_n (i := 2) C dX0_fits_0 rfl rfl ?_
  refine zw_bipush (v := 8) C dX0_fits_1 (by decide) ?_
  refine zw_icmp_lt (tgt := 20) C dX0_fits_3 (by decide) (fun c3 => ?_) (fun c3 => ?_)
  · obtain ⟨j, rfl, hj⟩ := hx
    have h8 := (nI_ltI (a := j) (b := 8) (by omega) (by omega)).mp c3
    have hj : j < 3 := by omega
    refine zw_aload_n (i := 0) C dX0_fits_20 rfl rfl ?_
    refine zx_get_value C dX0_fits_21 ?_
    refine zw_iload_n (i := 2) C dX0_fits_24 rfl rfl ?_
    refine zx_ld_value C dX0_fits_25 (rfl) (hj) ?_
    refine zw_iconst (v := -1) C dX0_fits_26 (by decide) ?_
    refine zw_icmp_eq (tgt := 46) C dX0_fits_27 (by decide) (fun c27 => ?_) (fun c27 => ?_)
    · refine zw_aload_n (i := 0) C dX0_fits_46 rfl rfl ?_
      refine zx_get_value C dX0_fits_47 ?_
      refine zw_iload_n (i := 2) C dX0_fits_50 rfl rfl ?_
      refine zw_iload_n (i := 3) C dX0_fits_51 rfl rfl ?_
      refine zx_st_value C dX0_fits_52 (rfl) (hj) ?_
      refine zw_aload_n (i := 0) C dX0_fits_53 rfl rfl ?_
      refine zx_get_bound C dX0_fits_54 ?_
      refine zw_iload_n (i := 1) C dX0_fits_57 rfl rfl ?_
      refine zw_dup2 C dX0_fits_58 rfl rfl ?_
      refine zx_ld_bound C dX0_fits_59 (ea) (hL) ?_
      refine zw_top hb ?_
      refine zw_iconst (v := 1) C dX0_fits_60 (by decide) ?_
      refine zw_iload_n (i := 2) C dX0_fits_61 rfl rfl ?_
      refine zw_ishl C dX0_fits_62 ?_
      refine zw_top (zw_shl j (by omega)) ?_
      refine zw_ior C dX0_fits_63 ?_
      refine zw_top (zw_or M (2 ^ j)) ?_
      refine zx_st_bound C dX0_fits_64 (ea) (hL) ?_
      refine zw_iconst (v := 1) C dX0_fits_65 (by decide) ?_
      refine zw_iret C rfl dX0_fits_66 ?_
      refine ⟨fun b h1 h2 => by rw [zw_up_n h1, zw_up_n h2], fun b h1 => by rw [zw_up_s, zw_upd_n h1, zw_up_n (by decide)], ⟨M ||| 2 ^ j, ?_, by rw [zw_up_s, zw_upd_s], ?_⟩, ?_, Or.inl ⟨rfl, fun g => ?_⟩⟩
      · exact Nat.or_lt_two_pow (n := 3) hM (Nat.pow_lt_pow_right (by decide) hj)
      · rw [zw_up_n (by decide), zw_up_s]
        exact zw_rel_bind hr hj c27
      · rw [zw_up_n (by decide), zw_up_s]
        intro v hv
        by_cases e : v = j
        · rw [e, zw_upd_s]
          exact Or.inr ⟨d, hd, ed⟩
        · rw [zw_upd_n e]
          exact hg v hv
      · rw [zw_up_n (by decide), zw_up_s]
        exact zw_bind hj c27 (by rw [ed]; exact zw_nm1 (by omega))
    · refine zw_aload_n (i := 0) C dX0_fits_30 rfl rfl ?_
      refine zx_get_value C dX0_fits_31 ?_
      refine zw_iload_n (i := 2) C dX0_fits_34 rfl rfl ?_
      refine zx_ld_value C dX0_fits_35 (rfl) (hj) ?_
      refine zw_iload_n (i := 3) C dX0_fits_36 rfl rfl ?_
      refine zw_icmp_ne (tgt := 44) C dX0_fits_37 (by decide) (fun c37 => ?_) (fun c37 => ?_)
      · refine zw_iconst (v := 0) C dX0_fits_44 (by decide) ?_
        refine zw_iret C rfl dX0_fits_45 ?_
        refine ⟨fun _ _ _ => rfl, fun _ _ => rfl, ⟨M, hM, hb, hr⟩, hg, Or.inr ⟨rfl, fun g h1 h2 => c37 ?_⟩⟩
        rw [zw_ev_v hj] at h2
        rw [← h2]
        exact (h1 j hj c27).symm
      · refine zw_iconst (v := 1) C dX0_fits_40 (by decide) ?_
        refine zw_goto (tgt := 45) C dX0_fits_41 (by decide) ?_
        refine zw_iret C rfl dX0_fits_45 ?_
        refine ⟨fun _ _ _ => rfl, fun _ _ => rfl, ⟨M, hM, hb, hr⟩, hg, Or.inl ⟨rfl, fun g => ⟨fun h => ⟨h, ?_⟩, fun h => h.1⟩⟩⟩
        rw [zw_ev_v hj, h j hj c27]
        exact c37
  · refine zw_iload_n (i := 2) C dX0_fits_6 rfl rfl ?_
    refine zw_bipush (v := 8) C dX0_fits_7 (by decide) ?_
    refine zw_isub C dX0_fits_9 ?_
    refine zw_iload_n (i := 3) C dX0_fits_10 rfl rfl ?_
    refine zw_icmp_ne (tgt := 18) C dX0_fits_11 (by decide) (fun c11 => ?_) (fun c11 => ?_)
    · refine zw_iconst (v := 0) C dX0_fits_18 (by decide) ?_
      refine zw_iret C rfl dX0_fits_19 ?_
      refine ⟨fun _ _ _ => rfl, fun _ _ => rfl, ⟨M, hM, hb, hr⟩, hg, Or.inr ⟨rfl, fun g h1 h2 => c11 ?_⟩⟩
      rw [zw_ev_c' c3] at h2
      exact h2
    · refine zw_iconst (v := 1) C dX0_fits_14 (by decide) ?_
      refine zw_goto (tgt := 19) C dX0_fits_15 (by decide) ?_
      refine zw_iret C rfl dX0_fits_19 ?_
      refine ⟨fun _ _ _ => rfl, fun _ _ => rfl, ⟨M, hM, hb, hr⟩, hg, Or.inl ⟨rfl, fun g => ⟨fun h => ⟨h, ?_⟩, fun h => h.1⟩⟩⟩
      rw [zw_ev_c' c3]
      exact c11
theorem zxl_release {X : zw_X} {h0 : Nat} {ad : Nat → Nat} {cI cZ : ClassId} {Q : State → Prop} (C : zw_Ok X ({ frames := 0, cells := 0, slots := 0, locals := 0 } : Room) cX0_release 3 RX0 cI cZ none) {L M : Nat} {u0 : zw_St} (hL : L < 5) (hM : M < 8) (hu : u0 10 L = nI M) (K : ∀ u : zw_St, (∀ a, a < 3 → u 11 a = if M.testBit a = true then -1 else u0 11 a) → (∀ a, a ≠ 11 → u a = u0 a) → zw_G X 3 Q 0 0 (zx_w h0 ad cI cZ u) 34 [some (.ref h0), some (.int (nI L)), none] []) : ∀ (d v : Nat) (u : zw_St), v + d = 3 → (∀ a, a < 3 → u 11 a = if a < v ∧ M.testBit a = true then -1 else u0 11 a) → (∀ a, a ≠ 11 → u a = u0 a) → zw_G X 3 Q 0 0 (zx_w h0 ad cI cZ u) 2 [some (.ref h0), some (.int (nI L)), some (.int (nI v))] [] := by
  intro d
  induction d with
  | zero =>
    intro v u hv h1 h2
    refine zw_iload_n (i := 2) C dX0_release_2 rfl rfl ?_
    refine zw_iconst (v := 3) C dX0_release_3 (by decide) ?_
    refine zw_icmp_ge (tgt := 34) C dX0_release_4 (by decide) (fun c4 => ?_) (fun c4 => ?_)
    · refine zw_forget 2 ?_
      refine K u (fun a ha => ?_) h2
      rw [h1 a ha]
      simp [show a < v by omega]
    · have e : v = 3 := by omega
      subst e
      exact absurd (Int32.le_refl _) c4
  | succ d ih =>
    intro v u hv h1 h2
    have hv3 : v < 3 := by omega
    refine zw_iload_n (i := 2) C dX0_release_2 rfl rfl ?_
    refine zw_iconst (v := 3) C dX0_release_3 (by decide) ?_
    refine zw_icmp_ge (tgt := 34) C dX0_release_4 (by decide) (fun c4 => ?_) (fun c4 => ?_)
    · have := (nI_leI (a := 3) (b := v) (by omega) (by omega)).mp c4
      omega
    · refine zw_aload_n (i := 0) C dX0_release_7 rfl rfl ?_
      refine zx_get_bound C dX0_release_8 ?_
      refine zw_iload_n (i := 1) C dX0_release_11 rfl rfl ?_
      refine zx_ld_bound C dX0_release_12 (rfl) (hL) ?_
      refine zw_top (y := nI M) (by rw [h2 10 (by decide)]; exact hu) ?_
      refine zw_iload_n (i := 2) C dX0_release_13 rfl rfl ?_
      refine zw_ishr C dX0_release_14 ?_
      refine zw_iconst (v := 1) C dX0_release_15 (by decide) ?_
      refine zw_iand C dX0_release_16 ?_
      refine zw_iconst (v := 1) C dX0_release_17 (by decide) ?_
      refine zw_icmp_ne (tgt := 28) C dX0_release_18 (by decide) (fun c18 => ?_) (fun c18 => ?_)
      · refine zw_iinc (v := nI (v + 1)) C dX0_release_28 rfl (nI_1 v) (by decide) ?_
        refine zw_goto (tgt := 2) C dX0_release_31 (by decide) ?_
        refine ih (v + 1) u (by omega) (fun a ha => ?_) h2
        rw [h1 a ha]
        by_cases e : a = v
        · subst e
          have hb : ¬ M.testBit a = true := fun q => c18 (zw_bit1 (by omega) (by omega) q)
          simp [hb]
        · simp [show a < v + 1 ↔ a < v by omega]
      · refine zw_aload_n (i := 0) C dX0_release_21 rfl rfl ?_
        refine zx_get_value C dX0_release_22 ?_
        refine zw_iload_n (i := 2) C dX0_release_25 rfl rfl ?_
        refine zw_iconst (v := -1) C dX0_release_26 (by decide) ?_
        refine zx_st_value C dX0_release_27 (rfl) (hv3) ?_
        refine zw_iinc (v := nI (v + 1)) C dX0_release_28 rfl (nI_1 v) (by decide) ?_
        refine zw_goto (tgt := 2) C dX0_release_31 (by decide) ?_
        have hb : M.testBit v = true := Classical.byContradiction fun q => by
          rw [zw_bit0 (by omega) (by omega) q] at c18
          exact zw_01 c18
        refine ih (v + 1) _ (by omega) (fun a ha => ?_) (fun a ha => by rw [zw_up_n ha]; exact h2 a ha)
        rw [zw_up_s]
        by_cases e : a = v
        · subst e
          rw [zw_upd_s]
          simp [hb]
        · rw [zw_upd_n e, h1 a ha]
          simp [show a < v + 1 ↔ a < v by omega]
theorem zxm_release {h0 : Nat} {ad : Nat → Nat} {cI cZ : ClassId} {u : zw_St} (a : Int32) {L M : Nat} (ea : a = nI L) (hL : L < 5) (hM : M < 8) (hu : u 10 L = nI M) (l : Launch) (D : va_G) : zw_Mv l yX0_release cX0_release 3 none 0 0 D (zx_w h0 ad cI cZ) cI cZ [.ref h0, .int a] u (fun u' => (∀ v, v < 3 → u' 11 v = if M.testBit v = true then -1 else u 11 v) ∧ u' 10 L = nI 0 ∧ (∀ b, b ≠ L → u' 10 b = u 10 b) ∧ ∀ b, b ≠ 10 → b ≠ 11 → u' b = u b) := by
  refine zw_Mv_of (by decide) (by simp [Value.category]) (Nat.le_of_ble_eq_true rfl) (fun X C => ?_) l D
  have C : zw_Ok X ({ frames := 0, cells := 0, slots := 0, locals := 0 } : Room) cX0_release 3 RX0 cI cZ none := C
  show zw_G X 3 _ 0 0 _ 0 [some (.ref h0), some (.int a), none] []
  subst ea
  refine zw_iconst (v := 0) C dX0_release_0 (by decide) ?_
  refine zw_istore_n (i := 2) C dX0_release_1 rfl (by decide) ?_
  refine zxl_release C hL hM hu (fun u1 h1 h2 => ?_) 3 0 u (by omega) (fun a ha => by simp) (fun _ _ => rfl)
  refine zw_aload_n (i := 0) C dX0_release_34 rfl rfl ?_
  refine zx_get_bound C dX0_release_35 ?_
  refine zw_iload_n (i := 1) C dX0_release_38 rfl rfl ?_
  refine zw_iconst (v := 0) C dX0_release_39 (by decide) ?_
  refine zx_st_bound C dX0_release_40 (rfl) (hL) ?_
  refine zw_vret C dX0_release_41 ?_
  refine ⟨fun v hv => by rw [zw_up_n (by decide)]; exact h1 v hv, by rw [zw_up_s, zw_upd_s]; exact zw_0, fun b hb => by rw [zw_up_s, zw_upd_n hb, h2 10 (by decide)], fun b h3 h4 => by rw [zw_up_n h3]; exact h2 b h4⟩
theorem zxl_facts {X : zw_X} {h0 : Nat} {ad : Nat → Nat} {cI cZ : ClassId} {Q : State → Prop} (C : zw_Ok X ({ frames := 0, cells := 0, slots := 0, locals := 0 } : Room) cX0_factsOfMatch 3 RX0 cI cZ (some .int)) {n k : Nat} {u : zw_St} {t : Nat → Nat} (hn : n ≤ 9) (hk : k ≤ 4) (hu : u 5 0 = nI k) (ht : ∀ c, c < k → u 9 c = nI (t c) ∧ t c < n) (K : zw_G X 3 Q 0 0 (zx_w h0 ad cI cZ u) 29 [some (.ref h0), some (.int (nI (zw_ors t k))), none] []) : ∀ (d c : Nat), c + d = k → zw_G X 3 Q 0 0 (zx_w h0 ad cI cZ u) 4 [some (.ref h0), some (.int (nI (zw_ors t c))), some (.int (nI c))] [] := by
  intro d
  induction d with
  | zero =>
    intro c hc
    have e : c = k := by omega
    subst e
    refine zw_iload_n (i := 2) C dX0_factsOfMatch_4 rfl rfl ?_
    refine zw_aload_n (i := 0) C dX0_factsOfMatch_5 rfl rfl ?_
    refine zx_get_conditions C dX0_factsOfMatch_6 ?_
    refine zw_top hu ?_
    refine zw_icmp_ge (tgt := 29) C dX0_factsOfMatch_9 (by decide) (fun c9 => ?_) (fun c9 => ?_)
    · refine zw_forget 2 ?_
      exact K
    · exact absurd (Int32.le_refl _) c9
  | succ d ih =>
    intro c hc
    refine zw_iload_n (i := 2) C dX0_factsOfMatch_4 rfl rfl ?_
    refine zw_aload_n (i := 0) C dX0_factsOfMatch_5 rfl rfl ?_
    refine zx_get_conditions C dX0_factsOfMatch_6 ?_
    refine zw_top hu ?_
    refine zw_icmp_ge (tgt := 29) C dX0_factsOfMatch_9 (by decide) (fun c9 => ?_) (fun c9 => ?_)
    · have := (nI_leI (a := k) (b := c) (by omega) (by omega)).mp c9
      omega
    · refine zw_iload_n (i := 1) C dX0_factsOfMatch_12 rfl rfl ?_
      refine zw_iconst (v := 1) C dX0_factsOfMatch_13 (by decide) ?_
      refine zw_aload_n (i := 0) C dX0_factsOfMatch_14 rfl rfl ?_
      refine zx_get_tried C dX0_factsOfMatch_15 ?_
      refine zw_iload_n (i := 2) C dX0_factsOfMatch_18 rfl rfl ?_
      refine zx_ld_tried C dX0_factsOfMatch_19 (rfl) (by omega) ?_
      refine zw_top (ht c (by omega)).1 ?_
      refine zw_ishl C dX0_factsOfMatch_20 ?_
      refine zw_top (zw_shl (t c) (by have := (ht c (by omega)).2; omega)) ?_
      refine zw_ior C dX0_factsOfMatch_21 ?_
      refine zw_top (zw_or _ _) ?_
      refine zw_istore_n (i := 1) C dX0_factsOfMatch_22 rfl (by decide) ?_
      refine zw_iinc (v := nI (c + 1)) C dX0_factsOfMatch_23 rfl (nI_1 c) (by decide) ?_
      refine zw_goto (tgt := 4) C dX0_factsOfMatch_26 (by decide) ?_
      exact ih (c + 1) (by omega)
theorem zxm_factsOfMatch {h0 : Nat} {ad : Nat → Nat} {cI cZ : ClassId} {u : zw_St} {n k : Nat} {t : Nat → Nat} (hn : n ≤ 9) (hk : k ≤ 4) (hu : u 5 0 = nI k) (ht : ∀ c, c < k → u 9 c = nI (t c) ∧ t c < n) (l : Launch) (D : va_G) : zw_Mi l yX0_factsOfMatch cX0_factsOfMatch 3 (some .int) 0 0 D (zx_w h0 ad cI cZ) cI cZ [.ref h0] u (fun r u' => u' = u ∧ r = nI (zw_ors t k)) := by
  refine zw_Mi_of (by decide) (by simp [Value.category]) (Nat.le_of_ble_eq_true rfl) (fun X C => ?_) l D
  have C : zw_Ok X ({ frames := 0, cells := 0, slots := 0, locals := 0 } : Room) cX0_factsOfMatch 3 RX0 cI cZ (some .int) := C
  show zw_G X 3 _ 0 0 _ 0 [some (.ref h0), none, none] []
  refine zw_iconst (v := 0) C dX0_factsOfMatch_0 (by decide) ?_
  refine zw_istore_n (i := 1) C dX0_factsOfMatch_1 rfl (by decide) ?_
  refine zw_iconst (v := 0) C dX0_factsOfMatch_2 (by decide) ?_
  refine zw_istore_n (i := 2) C dX0_factsOfMatch_3 rfl (by decide) ?_
  refine zxl_facts C hn hk hu ht ?_ k 0 (by omega)
  refine zw_iload_n (i := 1) C dX0_factsOfMatch_29 rfl rfl ?_
  refine zw_iret C rfl dX0_factsOfMatch_30 ?_
  exact ⟨rfl, rfl⟩
end
section
/-! LineageWorlds: advance -/
set_option maxRecDepth 100000
/-- since u0 only level L of tried and bound, and the values, have changed -/
def zw_as (u0 w : zw_St) (L : Nat) : Prop := zw_kp u0 w ∧ (∀ a, 12 ≤ a → w a = u0 a) ∧ (∀ a, a ≠ L → w 9 a = u0 9 a) ∧ (∀ a, a ≠ L → w 10 a = u0 10 a)
theorem zw_as.rf {u : zw_St} {L : Nat} : zw_as u u L := ⟨zw_kp.rf, fun _ _ => rfl, fun _ _ => rfl, fun _ _ => rfl⟩
theorem zw_as.up9 {u w : zw_St} {L : Nat} {x : Int32} (h : zw_as u w L) : zw_as u (zw_up w 9 L x) L := ⟨h.1.up (by decide), fun a ha => by rw [zw_up_n (by omega)]; exact h.2.1 a ha, fun a ha => by rw [zw_up_s, zw_upd_n ha]; exact h.2.2.1 a ha, fun a ha => by rw [zw_up_n (by decide)]; exact h.2.2.2 a ha⟩
theorem zw_as.to {u w w' : zw_St} {L : Nat} (h : zw_as u w L) (h1 : ∀ a, a ≠ 10 → a ≠ 11 → w' a = w a) (h2 : ∀ a, a ≠ L → w' 10 a = w 10 a) : zw_as u w' L := ⟨fun a ha => by rw [h1 a (by omega) (by omega)]; exact h.1 a ha, fun a ha => by rw [h1 a (by omega) (by omega)]; exact h.2.1 a ha, fun a ha => by rw [h1 9 (by decide) (by decide)]; exact h.2.2.1 a ha, fun a ha => by rw [h2 a ha]; exact h.2.2.2 a ha⟩
/-- the facts of [f0, f) don't fit at level L with B0 -/
def zw_nf (u0 : zw_St) (L : Nat) (B0 : Nat → Int32) (f0 f : Nat) : Prop := ∀ f', f0 ≤ f' → f' < f → ∀ g, zw_su B0 g → ¬ zw_mt u0 g L f'
/-- what advance does -/
def zw_ap (u0 : zw_St) (n L f0 : Nat) (B0 : Nat → Int32) (r : Int32) (w : zw_St) : Prop := zw_as u0 w L ∧ ((r = 0 ∧ (∀ v, v < 3 → w 11 v = B0 v) ∧ zw_nf u0 L B0 f0 n) ∨ (r = 1 ∧ ∃ f M : Nat, f0 ≤ f ∧ f < n ∧ w 9 L = nI f ∧ M < 8 ∧ w 10 L = nI M ∧ zw_rel B0 (w 11) M ∧ zw_rg (w 11) ∧ zw_nf u0 L B0 f0 f ∧ ∀ g, zw_su (w 11) g ↔ zw_su B0 g ∧ zw_mt u0 g L f))
theorem zxl_advance {X : zw_X} {h0 : Nat} {ad : Nat → Nat} {cI cZ : ClassId} {Q : State → Prop} (C : zw_Ok X ({ frames := 1, cells := 0, slots := 0, locals := 23 } : Room) cX0_advance 4 RX0 cI cZ (some .boolean)) {n k L f0 : Nat} {B0 : Nat → Int32} {u0 : zw_St} (hD : zw_D u0 n k) (hL : L < k) (hg : zw_rg B0) (K0 : ∀ w, zw_ap u0 n L f0 B0 0 w → zw_G X 4 Q 0 0 (zx_w h0 ad cI cZ w) 101 [some (.ref h0), some (.int (nI L)), none, none] []) (K1 : ∀ w, zw_ap u0 n L f0 B0 1 w → zw_G X 4 Q 0 0 (zx_w h0 ad cI cZ w) 88 [some (.ref h0), some (.int (nI L)), none, none] []) : ∀ (d f : Nat) (w : zw_St), f + d = n → f0 ≤ f → zw_as u0 w L → w 10 L = nI 0 → (∀ v, v < 3 → w 11 v = B0 v) → zw_nf u0 L B0 f0 f → zw_G X 4 Q 0 0 (zx_w h0 ad cI cZ w) 14 [some (.ref h0), some (.int (nI L)), some (.int (nI f)), none] [] := by
  have hn9 := hD.1
  have hk4 := hD.2.1
  intro d
  induction d with
  | zero =>
    intro f w hf hf0 hs hb hv hno
    have e : f = n := by omega
    subst e
    refine zw_iload_n (i := 2) C dX0_advance_14 rfl rfl ?_
    refine zw_aload_n (i := 0) C dX0_advance_15 rfl rfl ?_
    refine zx_get_facts C dX0_advance_16 ?_
    refine zw_top (y := nI f) (by rw [hs.1 0 (by decide)]; exact hD.2.2.1) ?_
    refine zw_icmp_ge (tgt := 101) C dX0_advance_19 (by decide) (fun c19 => ?_) (fun c19 => ?_)
    · refine zw_forget 2 ?_
      exact K0 w ⟨hs, Or.inl ⟨rfl, hv, hno⟩⟩
    · exact absurd (Int32.le_refl _) c19
  | succ d ih =>
    intro f w hf hf0 hs hb hv hno
    have hfn : f < n := by omega
    have hDw := hs.1.D hD
    refine zw_iload_n (i := 2) C dX0_advance_14 rfl rfl ?_
    refine zw_aload_n (i := 0) C dX0_advance_15 rfl rfl ?_
    refine zx_get_facts C dX0_advance_16 ?_
    refine zw_top (y := nI n) (by rw [hs.1 0 (by decide)]; exact hD.2.2.1) ?_
    refine zw_icmp_ge (tgt := 101) C dX0_advance_19 (by decide) (fun c19 => ?_) (fun c19 => ?_)
    · have := (nI_leI (a := n) (b := f) (by omega) (by omega)).mp c19
      omega
    · refine zw_aload_n (i := 0) C dX0_advance_22 rfl rfl ?_
      refine zx_get_tried C dX0_advance_23 ?_
      refine zw_iload_n (i := 1) C dX0_advance_26 rfl rfl ?_
      refine zw_iload_n (i := 2) C dX0_advance_27 rfl rfl ?_
      refine zx_st_tried C dX0_advance_28 (rfl) (by omega) ?_
      refine zw_aload_n (i := 0) C dX0_advance_29 rfl rfl ?_
      refine zx_get_label C dX0_advance_30 ?_
      refine zw_iload_n (i := 2) C dX0_advance_33 rfl rfl ?_
      refine zx_ld_label C dX0_advance_34 (rfl) (by omega) ?_
      refine zw_aload_n (i := 0) C dX0_advance_35 rfl rfl ?_
      refine zx_get_wantLabel C dX0_advance_36 ?_
      refine zw_iload_n (i := 1) C dX0_advance_39 rfl rfl ?_
      refine zx_ld_wantLabel C dX0_advance_40 (rfl) (by omega) ?_
      refine zw_icmp_ne (tgt := 95) C dX0_advance_41 (by decide) (fun c41 => ?_) (fun c41 => ?_)
      · have hs1 : zw_as u0 (zw_up w 9 L (nI f)) L := hs.up9
        refine zw_iinc (v := nI (f + 1)) C dX0_advance_95 rfl (nI_1 f) (by decide) ?_
        refine zw_goto (tgt := 14) C dX0_advance_98 (by decide) ?_
        refine ih (f + 1) _ (by omega) (by omega) hs1 (by rw [zw_up_n (by decide)]; exact hb) (fun v hv3 => by rw [zw_up_n (by decide)]; exact hv v hv3) ?_
        intro f' h1 h2 g hg1 hm
        by_cases e : f' = f
        · subst e
          exact c41 ((hs1.1.mt (g := g)).mpr hm).1
        · exact hno f' h1 (by omega) g hg1 hm
      · have hs1 : zw_as u0 (zw_up w 9 L (nI f)) L := hs.up9
        have hb1 : zw_up w 9 L (nI f) 10 L = nI 0 := by rw [zw_up_n (by decide)]; exact hb
        have hv1 : ∀ v, v < 3 → zw_up w 9 L (nI f) 11 v = B0 v := fun v hv3 => by rw [zw_up_n (by decide)]; exact hv v hv3
        have ht1 : zw_up w 9 L (nI f) 9 L = nI f := by rw [zw_up_s, zw_upd_s]
        generalize zw_up w 9 L (nI f) = w1 at *
        have hD1 := hs1.1.D hD
        obtain ⟨d1, hd1, ed1⟩ := hD1.2.2.2.2.1 f hfn
        obtain ⟨d2, hd2, ed2⟩ := hD1.2.2.2.2.2.1 f hfn
        have hp1 := hD1.2.2.2.2.2.2.1 L hL
        have hp2 := hD1.2.2.2.2.2.2.2 L hL
        have hlab : u0 3 f = u0 6 L := by
          rw [← hs1.1 3 (by decide), ← hs1.1 6 (by decide)]
          exact c41
        have fail : ∀ (w2 : zw_St) (M2 : Nat) (x3 : Int32), zw_as u0 w2 L → M2 < 8 → w2 10 L = nI M2 → zw_rel B0 (w2 11) M2 → (∀ g, zw_su B0 g → ¬ zw_mt u0 g L f) → zw_G X 4 Q 0 0 (zx_w h0 ad cI cZ w2) 90 [some (.ref h0), some (.int (nI L)), some (.int (nI f)), some (.int x3)] [] := by
          intro w2 M2 x3 hs2 hM2 hb2 hr2 hno2
          refine zw_aload_n (i := 0) C dX0_advance_90 rfl rfl ?_
          refine zw_iload_n (i := 1) C dX0_advance_91 rfl rfl ?_
          refine zw_callv (q0 := 0) (n := 1) C (fun l D => zxm_release (nI L) rfl (by omega) hM2 hb2 l D) (lw_V q125 q127 qs4 q20 q128) rfl (by decide +kernel) ⟨Nat.le_of_ble_eq_true rfl, Nat.le_of_ble_eq_true rfl⟩ rfl rfl rfl (Nat.le_of_ble_eq_true rfl) ⟨Nat.le_of_ble_eq_true rfl, Nat.le_of_ble_eq_true rfl⟩ dX0_advance_92 (fun u3 h3 => ?_)
          obtain ⟨r1, r2, r3, r4⟩ := h3
          refine zw_iinc (v := nI (f + 1)) C dX0_advance_95 rfl (nI_1 f) (by decide) ?_
          refine zw_goto (tgt := 14) C dX0_advance_98 (by decide) ?_
          refine zw_forget 3 ?_
          refine ih (f + 1) u3 (by omega) (by omega) (hs2.to r4 r3) r2 (fun v hv3 => by rw [r1 v hv3]; exact hr2 v hv3) ?_
          intro f' h1 h2 g hg1 hm
          by_cases e : f' = f
          · subst e
            exact hno2 g hg1 hm
          · exact hno f' h1 (by omega) g hg1 hm
        have hr1 : zw_rel B0 (w1 11) 0 := zw_rel_congr zw_rel0 hv1
        have hg1 : zw_rg (w1 11) := fun v hv3 => by rw [hv1 v hv3]; exact hg v hv3
        refine zw_aload_n (i := 0) C dX0_advance_44 rfl rfl ?_
        refine zw_iload_n (i := 1) C dX0_advance_45 rfl rfl ?_
        refine zw_aload_n (i := 0) C dX0_advance_46 rfl rfl ?_
        refine zx_get_wantFrom C dX0_advance_47 ?_
        refine zw_iload_n (i := 1) C dX0_advance_50 rfl rfl ?_
        refine zx_ld_wantFrom C dX0_advance_51 (rfl) (by omega) ?_
        refine zw_aload_n (i := 0) C dX0_advance_52 rfl rfl ?_
        refine zx_get_from C dX0_advance_53 ?_
        refine zw_iload_n (i := 2) C dX0_advance_56 rfl rfl ?_
        refine zx_ld_from C dX0_advance_57 (rfl) (by omega) ?_
        refine zw_calli (q0 := 0) (n := 3) C (fun l D => zxm_fits (nI L) (w1 7 L) (w1 1 f) rfl (by omega) hp1 ed1 hd1 (by decide) hb1 hr1 hg1 l D) (lw_V q129 q131 qs5 q20 q132) rfl (by decide +kernel) ⟨Nat.le_of_ble_eq_true rfl, Nat.le_of_ble_eq_true rfl⟩ rfl rfl rfl (Nat.le_of_ble_eq_true rfl) ⟨Nat.le_of_ble_eq_true rfl, Nat.le_of_ble_eq_true rfl⟩ dX0_advance_58 (fun r2 w2 h2 => ?_)
        obtain ⟨a1, a2, ⟨M2, hM2, hb2, hr2⟩, hg2, a3⟩ := h2
        have hs2 : zw_as u0 w2 L := hs1.to a1 a2
        rcases a3 with ⟨rfl, a3⟩ | ⟨rfl, a3⟩
        · refine zw_istore_n (i := 3) C dX0_advance_61 rfl (by decide) ?_
          refine zw_iload_n (i := 3) C dX0_advance_62 rfl rfl ?_
          refine zw_if_eq (tgt := 84) C dX0_advance_63 (by decide) (fun c63 => ?_) (fun c63 => ?_)
          · exact absurd c63 zw_10
          · refine zw_aload_n (i := 0) C dX0_advance_66 rfl rfl ?_
            refine zw_iload_n (i := 1) C dX0_advance_67 rfl rfl ?_
            refine zw_aload_n (i := 0) C dX0_advance_68 rfl rfl ?_
            refine zx_get_wantTo C dX0_advance_69 ?_
            refine zw_iload_n (i := 1) C dX0_advance_72 rfl rfl ?_
            refine zx_ld_wantTo C dX0_advance_73 (rfl) (by omega) ?_
            refine zw_aload_n (i := 0) C dX0_advance_74 rfl rfl ?_
            refine zx_get_to C dX0_advance_75 ?_
            refine zw_iload_n (i := 2) C dX0_advance_78 rfl rfl ?_
            refine zx_ld_to C dX0_advance_79 (rfl) (by omega) ?_
            refine zw_calli (q0 := 0) (n := 3) C (fun l D => zxm_fits (nI L) (w2 8 L) (w2 2 f) rfl (by omega) (by rw [a1 8 (by decide) (by decide)]; exact hp2) (by rw [a1 2 (by decide) (by decide)]; exact ed2) hd2 hM2 hb2 hr2 hg2 l D) (lw_V q129 q131 qs5 q20 q132) rfl (by decide +kernel) ⟨Nat.le_of_ble_eq_true rfl, Nat.le_of_ble_eq_true rfl⟩ rfl rfl rfl (Nat.le_of_ble_eq_true rfl) ⟨Nat.le_of_ble_eq_true rfl, Nat.le_of_ble_eq_true rfl⟩ dX0_advance_80 (fun r3 w3 h3 => ?_)
            obtain ⟨b1, b2, ⟨M3, hM3, hb3, hr3⟩, hg3, b3⟩ := h3
            have hs3 : zw_as u0 w3 L := hs2.to b1 b2
            rcases b3 with ⟨rfl, b3⟩ | ⟨rfl, b3⟩
            · refine zw_istore_n (i := 3) C dX0_advance_83 rfl (by decide) ?_
              refine zw_iload_n (i := 3) C dX0_advance_84 rfl rfl ?_
              refine zw_if_eq (tgt := 90) C dX0_advance_85 (by decide) (fun c85 => ?_) (fun c85 => ?_)
              · exact absurd c85 zw_10
              · refine zw_forget 2 ?_
                refine zw_forget 3 ?_
                refine K1 w3 ⟨hs3, Or.inr ⟨rfl, f, M3, hf0, hfn, ?_, hM3, hb3, hr3, hg3, hno, fun g => ?_⟩⟩
                · rw [b1 9 (by decide) (by decide), a1 9 (by decide) (by decide)]
                  exact ht1
                · rw [b3 g, a3 g, zw_su_congr hv1, a1 8 (by decide) (by decide), a1 2 (by decide) (by decide), hs1.1 7 (by decide), hs1.1 1 (by decide), hs1.1 8 (by decide), hs1.1 2 (by decide)]
                  constructor
                  · rintro ⟨⟨g1, g2⟩, g3⟩
                    exact ⟨g1, hlab, g2.symm, g3.symm⟩
                  · rintro ⟨g1, g2, g3, g4⟩
                    exact ⟨⟨g1, g3.symm⟩, g4.symm⟩
            · refine zw_istore_n (i := 3) C dX0_advance_83 rfl (by decide) ?_
              refine zw_iload_n (i := 3) C dX0_advance_84 rfl rfl ?_
              refine zw_if_eq (tgt := 90) C dX0_advance_85 (by decide) (fun c85 => ?_) (fun c85 => ?_)
              · refine fail w3 M3 0 hs3 hM3 hb3 hr3 (fun g g1 g2 => ?_)
                refine b3 g ((a3 g).mpr ⟨(zw_su_congr hv1).mpr g1, ?_⟩) ?_
                · rw [hs1.1 7 (by decide), hs1.1 1 (by decide)]
                  exact g2.2.1.symm
                · rw [a1 8 (by decide) (by decide), a1 2 (by decide) (by decide), hs1.1 8 (by decide), hs1.1 2 (by decide)]
                  exact g2.2.2.symm
              · exact absurd rfl c85
        · refine zw_istore_n (i := 3) C dX0_advance_61 rfl (by decide) ?_
          refine zw_iload_n (i := 3) C dX0_advance_62 rfl rfl ?_
          refine zw_if_eq (tgt := 84) C dX0_advance_63 (by decide) (fun c63 => ?_) (fun c63 => ?_)
          · refine zw_iload_n (i := 3) C dX0_advance_84 rfl rfl ?_
            refine zw_if_eq (tgt := 90) C dX0_advance_85 (by decide) (fun c85 => ?_) (fun c85 => ?_)
            · refine fail w2 M2 0 hs2 hM2 hb2 hr2 (fun g g1 g2 => ?_)
              refine a3 g ((zw_su_congr hv1).mpr g1) ?_
              rw [hs1.1 7 (by decide), hs1.1 1 (by decide)]
              exact g2.2.1.symm
            · exact absurd rfl c85
          · exact absurd rfl c63
theorem zxm_advance {h0 : Nat} {ad : Nat → Nat} {cI cZ : ClassId} {u : zw_St} (a : Int32) {n k L f0 M : Nat} {B0 : Nat → Int32} (ea : a = nI L) (hD : zw_D u n k) (hL : L < k) (hf : u 9 L + 1 = nI f0) (hf0 : f0 ≤ n) (hM : M < 8) (hb : u 10 L = nI M) (hr : zw_rel B0 (u 11) M) (hg : zw_rg B0) (l : Launch) (D : va_G) : zw_Mi l yX0_advance cX0_advance 4 (some .boolean) 1 23 D (zx_w h0 ad cI cZ) cI cZ [.ref h0, .int a] u (fun r u' => zw_ap u n L f0 B0 r u') := by
  refine zw_Mi_of (by decide) (by simp [Value.category]) (Nat.le_of_ble_eq_true rfl) (fun X C => ?_) l D
  have C : zw_Ok X ({ frames := 1, cells := 0, slots := 0, locals := 23 } : Room) cX0_advance 4 RX0 cI cZ (some .boolean) := C
  show zw_G X 4 _ 0 0 _ 0 [some (.ref h0), some (.int a), none, none] []
  subst ea
  have hk4 := hD.2.1
  refine zw_aload_n (i := 0) C dX0_advance_0 rfl rfl ?_
  refine zw_iload_n (i := 1) C dX0_advance_1 rfl rfl ?_
  refine zw_callv (q0 := 0) (n := 1) C (fun l D => zxm_release (nI L) rfl (by omega) hM hb l D) (lw_V q125 q127 qs4 q20 q128) rfl (by decide +kernel) ⟨Nat.le_of_ble_eq_true rfl, Nat.le_of_ble_eq_true rfl⟩ rfl rfl rfl (Nat.le_of_ble_eq_true rfl) ⟨Nat.le_of_ble_eq_true rfl, Nat.le_of_ble_eq_true rfl⟩ dX0_advance_2 (fun u1 h1 => ?_)
  obtain ⟨r1, r2, r3, r4⟩ := h1
  have hs1 : zw_as u u1 L := zw_as.rf.to r4 r3
  refine zw_aload_n (i := 0) C dX0_advance_5 rfl rfl ?_
  refine zx_get_tried C dX0_advance_6 ?_
  refine zw_iload_n (i := 1) C dX0_advance_9 rfl rfl ?_
  refine zx_ld_tried C dX0_advance_10 (rfl) (by omega) ?_
  refine zw_iconst (v := 1) C dX0_advance_11 (by decide) ?_
  refine zw_iadd C dX0_advance_12 ?_
  refine zw_top (y := nI f0) (by rw [r4 9 (by decide) (by decide)]; exact hf) ?_
  refine zw_istore_n (i := 2) C dX0_advance_13 rfl (by decide) ?_
  refine zxl_advance C hD hL hg (fun w h => ?_) (fun w h => ?_) (n - f0) f0 u1 (by omega) (Nat.le_refl _) hs1 r2 (fun v hv => by rw [r1 v hv]; exact hr v hv) (fun f' h1 h2 => absurd h2 (by omega))
  · refine zw_iconst (v := 0) C dX0_advance_101 (by decide) ?_
    refine zw_iret C rfl dX0_advance_102 ?_
    exact h
  · refine zw_iconst (v := 1) C dX0_advance_88 (by decide) ?_
    refine zw_iret C rfl dX0_advance_89 ?_
    exact h
end
section
/-! LineageWorlds: findMatches -/
set_option maxRecDepth 100000
theorem zw_dec (x : Int32) : x + Int32.ofInt (-1) = x - 1 := by
  rw [Int32.sub_eq_add_neg]
  rfl
theorem zxl_adv {X : zw_X} {h0 : Nat} {ad : Nat → Nat} {cI cZ : ClassId} {Q : State → Prop} (C : zw_Ok X ({ frames := 2, cells := 0, slots := 0, locals := 46 } : Room) cX0_findMatches 4 RX0 cI cZ none) {n k j f0 σ M : Nat} {B : Nat → Int32} {u : zw_St} (hD : zw_D u n k) (hj : j < k) (hσ : σ + 1 ≤ 40000) (hf : u 9 j + 1 = nI f0) (hf0 : f0 ≤ n) (hM : M < 8) (hb : u 10 j = nI M) (hr : zw_rel B (u 11) M) (hg : zw_rg B) (Kf : ∀ w, zw_ap u n j f0 B 0 w → zw_G X 4 Q 0 0 (zx_w h0 ad cI cZ w) 75 [some (.ref h0), some (.int (nI j - 1)), some (.int (nI (σ + 1))), none] []) (Ks : ∀ w, zw_ap u n j f0 B 1 w → zw_G X 4 Q 0 0 (zx_w h0 ad cI cZ w) 101 [some (.ref h0), some (.int (nI j)), some (.int (nI σ)), none] []) : zw_G X 4 Q 0 0 (zx_w h0 ad cI cZ u) 75 [some (.ref h0), some (.int (nI j)), some (.int (nI σ)), none] [] := by
  have hk4 := hD.2.1
  refine zw_iload_n (i := 2) C dX0_findMatches_75 rfl rfl ?_
  refine zw_ldc C q120 dX0_findMatches_76 ?_
  refine zw_icmp_ge (tgt := 147) C dX0_findMatches_78 (by decide) (fun c78 => ?_) (fun c78 => ?_)
  · have := (nI_leI (a := 40000) (b := σ) (by omega) (by omega)).mp c78
    omega
  · refine zw_iload_n (i := 1) C dX0_findMatches_81 rfl rfl ?_
    refine zw_if_lt (tgt := 147) C dX0_findMatches_82 (by decide) (fun c82 => ?_) (fun c82 => ?_)
    · exact absurd c82 (nI_pos (by omega))
    · refine zw_aload_n (i := 0) C dX0_findMatches_85 rfl rfl ?_
      refine zw_iload_n (i := 1) C dX0_findMatches_86 rfl rfl ?_
      refine zw_calli (q0 := 0) (n := 1) C (fun l D => zxm_advance (nI j) rfl hD hj hf hf0 hM hb hr hg l D) (lw_V q121 q123 qs3 q20 q124) rfl (by decide +kernel) ⟨Nat.le_of_ble_eq_true rfl, Nat.le_of_ble_eq_true rfl⟩ rfl rfl rfl (Nat.le_of_ble_eq_true rfl) ⟨Nat.le_of_ble_eq_true rfl, Nat.le_of_ble_eq_true rfl⟩ dX0_findMatches_87 (fun r1 w h => ?_)
      have h' := h
      rcases h.2 with ⟨rfl, -⟩ | ⟨rfl, -⟩
      · refine zw_istore_n (i := 3) C dX0_findMatches_90 rfl (by decide) ?_
        refine zw_iload_n (i := 3) C dX0_findMatches_91 rfl rfl ?_
        refine zw_if_ne (tgt := 101) C dX0_findMatches_92 (by decide) (fun c92 => ?_) (fun c92 => ?_)
        · exact absurd rfl c92
        · refine zw_iinc (v := nI j - 1) C dX0_findMatches_95 rfl (zw_dec _) (by decide) ?_
          refine zw_goto (tgt := 141) C dX0_findMatches_98 (by decide) ?_
          refine zw_iinc (v := nI (σ + 1)) C dX0_findMatches_141 rfl (nI_1 σ) (by decide) ?_
          refine zw_goto (tgt := 75) C dX0_findMatches_144 (by decide) ?_
          refine zw_forget 3 ?_
          exact Kf w h'
      · refine zw_istore_n (i := 3) C dX0_findMatches_90 rfl (by decide) ?_
        refine zw_iload_n (i := 3) C dX0_findMatches_91 rfl rfl ?_
        refine zw_if_ne (tgt := 101) C dX0_findMatches_92 (by decide) (fun c92 => ?_) (fun c92 => ?_)
        · refine zw_forget 3 ?_
          exact Ks w h'
        · exact absurd c92 zw_10
theorem zxl_leaf {X : zw_X} {h0 : Nat} {ad : Nat → Nat} {cI cZ : ClassId} {Q : State → Prop} (C : zw_Ok X ({ frames := 2, cells := 0, slots := 0, locals := 46 } : Room) cX0_findMatches 4 RX0 cI cZ none) {n k j σ : Nat} {t : Nat → Nat} {w : zw_St} (hD : zw_D w n k) (hj : j + 1 = k) (ht : ∀ c, c < k → w 9 c = nI (t c) ∧ t c < n) (K : zw_G X 4 Q 0 0 (zx_w h0 ad cI cZ (zw_up w 13 (zw_ors t k) 1)) 75 [some (.ref h0), some (.int (nI j)), some (.int (nI (σ + 1))), none] []) : zw_G X 4 Q 0 0 (zx_w h0 ad cI cZ w) 101 [some (.ref h0), some (.int (nI j)), some (.int (nI σ)), none] [] := by
  have hn9 := hD.1
  have hk4 := hD.2.1
  have hlt : zw_ors t k < 512 := Nat.lt_of_lt_of_le (zw_ors_lt (n := n) (fun c hc => (ht c hc).2)) (zw_p2 hn9)
  refine zw_iload_n (i := 1) C dX0_findMatches_101 rfl rfl ?_
  refine zw_iconst (v := 1) C dX0_findMatches_102 (by decide) ?_
  refine zw_iadd C dX0_findMatches_103 ?_
  refine zw_top (y := nI k) (by rw [← hj]; exact nI_1 j) ?_
  refine zw_aload_n (i := 0) C dX0_findMatches_104 rfl rfl ?_
  refine zx_get_conditions C dX0_findMatches_105 ?_
  refine zw_top (y := nI k) hD.2.2.2.1 ?_
  refine zw_icmp_ne (tgt := 124) C dX0_findMatches_108 (by decide) (fun c108 => ?_) (fun c108 => ?_)
  · exact absurd rfl c108
  · refine zw_aload_n (i := 0) C dX0_findMatches_111 rfl rfl ?_
    refine zx_get_match C dX0_findMatches_112 ?_
    refine zw_aload_n (i := 0) C dX0_findMatches_115 rfl rfl ?_
    refine zw_calli (q0 := 0) (n := 0) C (fun l D => zxm_factsOfMatch hn9 hk4 hD.2.2.2.1 ht l D) (lw_V q133 q135 qs6 q20 q136) rfl (by decide +kernel) ⟨Nat.le_of_ble_eq_true rfl, Nat.le_of_ble_eq_true rfl⟩ rfl rfl rfl (Nat.le_of_ble_eq_true rfl) ⟨Nat.le_of_ble_eq_true rfl, Nat.le_of_ble_eq_true rfl⟩ dX0_findMatches_116 (fun r1 w1 h1 => ?_)
    obtain ⟨rfl, rfl⟩ := h1
    refine zw_iconst (v := 1) C dX0_findMatches_119 (by decide) ?_
    refine zx_st_match C dX0_findMatches_120 rfl (rfl) (hlt) ?_
    refine zw_goto (tgt := 141) C dX0_findMatches_121 (by decide) ?_
    refine zw_iinc (v := nI (σ + 1)) C dX0_findMatches_141 rfl (nI_1 σ) (by decide) ?_
    refine zw_goto (tgt := 75) C dX0_findMatches_144 (by decide) ?_
    exact K
theorem zxl_desc {X : zw_X} {h0 : Nat} {ad : Nat → Nat} {cI cZ : ClassId} {Q : State → Prop} (C : zw_Ok X ({ frames := 2, cells := 0, slots := 0, locals := 46 } : Room) cX0_findMatches 4 RX0 cI cZ none) {n k j σ : Nat} {w : zw_St} (hD : zw_D w n k) (hj : j + 1 < k) (K : zw_G X 4 Q 0 0 (zx_w h0 ad cI cZ (zw_up (zw_up w 9 (j + 1) (-1)) 10 (j + 1) 0)) 75 [some (.ref h0), some (.int (nI (j + 1))), some (.int (nI (σ + 1))), none] []) : zw_G X 4 Q 0 0 (zx_w h0 ad cI cZ w) 101 [some (.ref h0), some (.int (nI j)), some (.int (nI σ)), none] [] := by
  have hn9 := hD.1
  have hk4 := hD.2.1
  refine zw_iload_n (i := 1) C dX0_findMatches_101 rfl rfl ?_
  refine zw_iconst (v := 1) C dX0_findMatches_102 (by decide) ?_
  refine zw_iadd C dX0_findMatches_103 ?_
  refine zw_top (y := nI (j + 1)) (nI_1 j) ?_
  refine zw_aload_n (i := 0) C dX0_findMatches_104 rfl rfl ?_
  refine zx_get_conditions C dX0_findMatches_105 ?_
  refine zw_top (y := nI k) hD.2.2.2.1 ?_
  refine zw_icmp_ne (tgt := 124) C dX0_findMatches_108 (by decide) (fun c108 => ?_) (fun c108 => ?_)
  · refine zw_iinc (v := nI (j + 1)) C dX0_findMatches_124 rfl (nI_1 j) (by decide) ?_
    refine zw_aload_n (i := 0) C dX0_findMatches_127 rfl rfl ?_
    refine zx_get_tried C dX0_findMatches_128 ?_
    refine zw_iload_n (i := 1) C dX0_findMatches_131 rfl rfl ?_
    refine zw_iconst (v := -1) C dX0_findMatches_132 (by decide) ?_
    refine zx_st_tried C dX0_findMatches_133 (rfl) (by omega) ?_
    refine zw_aload_n (i := 0) C dX0_findMatches_134 rfl rfl ?_
    refine zx_get_bound C dX0_findMatches_135 ?_
    refine zw_iload_n (i := 1) C dX0_findMatches_138 rfl rfl ?_
    refine zw_iconst (v := 0) C dX0_findMatches_139 (by decide) ?_
    refine zx_st_bound C dX0_findMatches_140 (rfl) (by omega) ?_
    refine zw_iinc (v := nI (σ + 1)) C dX0_findMatches_141 rfl (nI_1 σ) (by decide) ?_
    refine zw_goto (tgt := 75) C dX0_findMatches_144 (by decide) ?_
    exact K
  · have := (nI_eq (a := j + 1) (b := k) (by omega) (by omega)).mp c108
    omega
/-- the same but for the search's own -/
def zw_ss (u0 u : zw_St) : Prop := zw_kp u0 u ∧ ∀ a, a = 12 ∨ 14 ≤ a → u a = u0 a
theorem zw_ss.as {u0 u w : zw_St} {L : Nat} (h : zw_ss u0 u) (h' : zw_as u w L) : zw_ss u0 w := ⟨h.1.tr h'.1, fun a ha => by rw [h'.2.1 a (by omega)]; exact h.2 a ha⟩
theorem zw_ss.up {u0 u : zw_St} {k i : Nat} {x : Int32} (h : zw_ss u0 u) (hk : 9 ≤ k) (h12 : k ≠ 12) (h13 : k ≤ 13) : zw_ss u0 (zw_up u k i x) := ⟨h.1.up hk, fun a ha => by rw [zw_up_n (by omega)]; exact h.2 a ha⟩
set_option maxHeartbeats 4000000 in
/-- the search from level j on, r levels below it: at its end all matches that agree with t ahead of j and take a fact from f0 on there are marked -/
theorem zxl_search {X : zw_X} {h0 : Nat} {ad : Nat → Nat} {cI cZ : ClassId} {Q : State → Prop} (C : zw_Ok X ({ frames := 2, cells := 0, slots := 0, locals := 46 } : Room) cX0_findMatches 4 RX0 cI cZ none) {n k : Nat} {u0 : zw_St} (hD : zw_D u0 n k) : ∀ (r d j f0 σ M : Nat) (t : Nat → Nat) (B : Nat → Int32) (P : Nat → Prop) (u : zw_St), j + r + 1 = k → n ≤ f0 + d → f0 ≤ n → zw_ss u0 u → (∀ c, c < j → u 9 c = nI (t c) ∧ t c < n) → u 9 j + 1 = nI f0 → M < 8 → u 10 j = nI M → zw_rel B (u 11) M → zw_rg B → (∀ g, zw_su B g ↔ ∀ c, c < j → zw_mt u0 g c (t c)) → (∀ s, s < 512 → u 13 s = zw_b (P s)) → σ + d * (1 + zw_T n r) + 1 ≤ 40000 → (∀ (u' : zw_St) (σ' : Nat), zw_ss u0 u' → (∀ c, c < j → u' 9 c = u 9 c) → (∀ c, c < j → u' 10 c = u 10 c) → (∀ v, v < 3 → u' 11 v = B v) → (∀ s, s < 512 → u' 13 s = zw_b (P s ∨ zw_new u0 n k j f0 t s)) → σ' ≤ σ + d * (1 + zw_T n r) + 1 → zw_G X 4 Q 0 0 (zx_w h0 ad cI cZ u') 75 [some (.ref h0), some (.int (nI j - 1)), some (.int (nI σ')), none] []) → zw_G X 4 Q 0 0 (zx_w h0 ad cI cZ u) 75 [some (.ref h0), some (.int (nI j)), some (.int (nI σ)), none] [] := by
  intro r
  induction r with
  | zero =>
    intro d
    induction d with
    | zero =>
      intro j f0 σ M t B P u hjk hfd hf0 hs ht hf hM hb hr hg hB hP hσ K
      refine zxl_adv C (hs.1.D hD) (by omega) (by omega) hf hf0 hM hb hr hg (fun w h => ?_) (fun w h => ?_)
      · obtain ⟨h1, h2⟩ := h
        rcases h2 with ⟨-, h3, h4⟩ | ⟨h3, -⟩
        · refine K w (σ + 1) (hs.as h1) (fun c hc => h1.2.2.1 c (by omega)) (fun c hc => h1.2.2.2 c (by omega)) h3 (fun s hs5 => ?_) (by omega)
          rw [h1.2.1 13 (by decide), hP s hs5]
          refine zw_bc ⟨Or.inl, fun q => q.elim id (fun q => absurd q (zw_new_no hB (fun f a1 a2 g a3 a4 => h4 f a1 a2 g a3 (hs.1.mt.mpr a4)) (by omega)))⟩
        · exact absurd h3 zw_01
      · obtain ⟨h1, h2⟩ := h
        rcases h2 with ⟨h3, -⟩ | ⟨-, f, M', a1, a2, -⟩
        · exact absurd h3 zw_10
        · omega
    | succ d ihd =>
      intro j f0 σ M t B P u hjk hfd hf0 hs ht hf hM hb hr hg hB hP hσ K
      have hσ' : (d + 1) * (1 + zw_T n 0) = d * (1 + zw_T n 0) + (1 + zw_T n 0) := Nat.succ_mul _ _
      refine zxl_adv C (hs.1.D hD) (by omega) (by omega) hf hf0 hM hb hr hg (fun w h => ?_) (fun w h => ?_)
      · obtain ⟨h1, h2⟩ := h
        rcases h2 with ⟨-, h3, h4⟩ | ⟨h3, -⟩
        · refine K w (σ + 1) (hs.as h1) (fun c hc => h1.2.2.1 c (by omega)) (fun c hc => h1.2.2.2 c (by omega)) h3 (fun s hs5 => ?_) (by omega)
          rw [h1.2.1 13 (by decide), hP s hs5]
          refine zw_bc ⟨Or.inl, fun q => q.elim id (fun q => absurd q (zw_new_no hB (fun f a1 a2 g a3 a4 => h4 f a1 a2 g a3 (hs.1.mt.mpr a4)) (by omega)))⟩
        · exact absurd h3 zw_01
      · obtain ⟨h1, h2⟩ := h
        rcases h2 with ⟨h3, -⟩ | ⟨-, f, M', a1, a2, a3, a4, a5, a6, a7, a8, a9⟩
        · exact absurd h3 zw_10
        · have hs1 := hs.as h1
          have ht1 : ∀ c, c < k → w 9 c = nI (zw_ut t j f c) ∧ zw_ut t j f c < n := by
            intro c hc
            by_cases e : c = j
            · subst e
              simp only [zw_ut, if_true]
              exact ⟨a3, a2⟩
            · simp only [zw_ut, if_neg e]
              rw [h1.2.2.1 c e]
              exact ht c (by omega)
          have hB1 : ∀ g, zw_su (w 11) g ↔ ∀ c, c < k → zw_mt u0 g c (zw_ut t j f c) := by
            intro g
            rw [a9 g, hB g, hs.1.mt]
            constructor
            · rintro ⟨b1, b2⟩ c hc
              by_cases e : c = j
              · subst e
                simp only [zw_ut, if_true]
                exact b2
              · simp only [zw_ut, if_neg e]
                exact b1 c (by omega)
            · intro b
              refine ⟨fun c hc => ?_, ?_⟩
              · have := b c (by omega)
                simp only [zw_ut, if_neg (show ¬ c = j by omega)] at this
                exact this
              · have := b j (by omega)
                simp only [zw_ut, if_true] at this
                exact this
          have hend : ∀ s, zw_new u0 n k (j + 1) 0 (zw_ut t j f) s ↔ s = zw_ors (zw_ut t j f) k := by
            intro s
            rw [show j + 1 = k by omega]
            obtain ⟨g, g1, g2⟩ := zw_fill a7
            exact zw_new_end (fun c hc => (ht1 c hc).2) ⟨g, g1, (hB1 g).mp g2⟩
          have hno : ∀ f', f0 ≤ f' → f' < f → ∀ g, zw_su B g → ¬ zw_mt u0 g j f' := fun f' b1 b2 g b3 b4 => a8 f' b1 b2 g b3 (hs.1.mt.mpr b4)
          refine zxl_leaf C (hs1.1.D hD) (by omega) ht1 ?_
          refine ihd j (f + 1) (σ + 1) M' t B (fun s => P s ∨ s = zw_ors (zw_ut t j f) k) _ hjk (by omega) (by omega) (hs1.up (by decide) (by decide) (by decide)) (fun c hc => ?_) ?_ a4 ?_ ?_ hg hB (fun s hs5 => ?_) (by omega) (fun u' σ' b1 b2 b3 b4 b5 b6 => ?_)
          · rw [zw_up_n (by decide), h1.2.2.1 c (by omega)]
            exact ht c hc
          · rw [zw_up_n (by decide), a3]
            exact nI_1 f
          · rw [zw_up_n (by decide)]
            exact a5
          · rw [zw_up_n (by decide)]
            exact a6
          · rw [zw_up_s]
            by_cases e : s = zw_ors (zw_ut t j f) k
            · rw [e, zw_upd_s, zw_b1 (Or.inr rfl)]
            · rw [zw_upd_n e, h1.2.1 13 (by decide), hP s hs5]
              exact zw_bc ⟨Or.inl, fun q => q.elim id (fun q => absurd q e)⟩
          · refine K u' σ' b1 (fun c hc => ?_) (fun c hc => ?_) b4 (fun s hs5 => ?_) (by omega)
            · rw [b2 c hc, zw_up_n (by decide)]
              exact h1.2.2.1 c (by omega)
            · rw [b3 c hc, zw_up_n (by decide)]
              exact h1.2.2.2 c (by omega)
            · rw [b5 s hs5]
              refine zw_bc ?_
              rw [zw_new_split hB a1 hno (by omega), hend s, or_assoc, or_comm (a := zw_new u0 n k j (f + 1) t s)]
  | succ r ihr =>
    intro d
    induction d with
    | zero =>
      intro j f0 σ M t B P u hjk hfd hf0 hs ht hf hM hb hr hg hB hP hσ K
      refine zxl_adv C (hs.1.D hD) (by omega) (by omega) hf hf0 hM hb hr hg (fun w h => ?_) (fun w h => ?_)
      · obtain ⟨h1, h2⟩ := h
        rcases h2 with ⟨-, h3, h4⟩ | ⟨h3, -⟩
        · refine K w (σ + 1) (hs.as h1) (fun c hc => h1.2.2.1 c (by omega)) (fun c hc => h1.2.2.2 c (by omega)) h3 (fun s hs5 => ?_) (by omega)
          rw [h1.2.1 13 (by decide), hP s hs5]
          refine zw_bc ⟨Or.inl, fun q => q.elim id (fun q => absurd q (zw_new_no hB (fun f a1 a2 g a3 a4 => h4 f a1 a2 g a3 (hs.1.mt.mpr a4)) (by omega)))⟩
        · exact absurd h3 zw_01
      · obtain ⟨h1, h2⟩ := h
        rcases h2 with ⟨h3, -⟩ | ⟨-, f, M', a1, a2, -⟩
        · exact absurd h3 zw_10
        · omega
    | succ d ihd =>
      intro j f0 σ M t B P u hjk hfd hf0 hs ht hf hM hb hr hg hB hP hσ K
      have hσ' : (d + 1) * (1 + zw_T n (r + 1)) = d * (1 + zw_T n (r + 1)) + (1 + zw_T n (r + 1)) := Nat.succ_mul _ _
      have hT : zw_T n (r + 1) = n * (1 + zw_T n r) + 1 := rfl
      refine zxl_adv C (hs.1.D hD) (by omega) (by omega) hf hf0 hM hb hr hg (fun w h => ?_) (fun w h => ?_)
      · obtain ⟨h1, h2⟩ := h
        rcases h2 with ⟨-, h3, h4⟩ | ⟨h3, -⟩
        · refine K w (σ + 1) (hs.as h1) (fun c hc => h1.2.2.1 c (by omega)) (fun c hc => h1.2.2.2 c (by omega)) h3 (fun s hs5 => ?_) (by omega)
          rw [h1.2.1 13 (by decide), hP s hs5]
          refine zw_bc ⟨Or.inl, fun q => q.elim id (fun q => absurd q (zw_new_no hB (fun f a1 a2 g a3 a4 => h4 f a1 a2 g a3 (hs.1.mt.mpr a4)) (by omega)))⟩
        · exact absurd h3 zw_01
      · obtain ⟨h1, h2⟩ := h
        rcases h2 with ⟨h3, -⟩ | ⟨-, f, M', a1, a2, a3, a4, a5, a6, a7, a8, a9⟩
        · exact absurd h3 zw_10
        · have hs1 := hs.as h1
          have ht1 : ∀ c, c < j + 1 → w 9 c = nI (zw_ut t j f c) ∧ zw_ut t j f c < n := by
            intro c hc
            by_cases e : c = j
            · subst e
              simp only [zw_ut, if_true]
              exact ⟨a3, a2⟩
            · simp only [zw_ut, if_neg e]
              rw [h1.2.2.1 c e]
              exact ht c (by omega)
          have hB1 : ∀ g, zw_su (w 11) g ↔ ∀ c, c < j + 1 → zw_mt u0 g c (zw_ut t j f c) := by
            intro g
            rw [a9 g, hB g, hs.1.mt]
            constructor
            · rintro ⟨b1, b2⟩ c hc
              by_cases e : c = j
              · subst e
                simp only [zw_ut, if_true]
                exact b2
              · simp only [zw_ut, if_neg e]
                exact b1 c (by omega)
            · intro b
              refine ⟨fun c hc => ?_, ?_⟩
              · have := b c (by omega)
                simp only [zw_ut, if_neg (show ¬ c = j by omega)] at this
                exact this
              · have := b j (by omega)
                simp only [zw_ut, if_true] at this
                exact this
          have hno : ∀ f', f0 ≤ f' → f' < f → ∀ g, zw_su B g → ¬ zw_mt u0 g j f' := fun f' b1 b2 g b3 b4 => a8 f' b1 b2 g b3 (hs.1.mt.mpr b4)
          refine zxl_desc C (hs1.1.D hD) (by omega) ?_
          refine ihr n (j + 1) 0 (σ + 1) 0 (zw_ut t j f) (w 11) P _ (by omega) (by omega) (by omega) ((hs1.up (by decide) (by decide) (by decide)).up (by decide) (by decide) (by decide)) (fun c hc => ?_) ?_ (by decide) ?_ ?_ a7 hB1 (fun s hs5 => ?_) (by omega) (fun u' σ' b1 b2 b3 b4 b5 b6 => ?_)
          · rw [zw_up_n (by decide), zw_up_s, zw_upd_n (by omega)]
            exact ht1 c hc
          · rw [zw_up_n (by decide), zw_up_s, zw_upd_s]
            rfl
          · rw [zw_up_s, zw_upd_s]
            exact zw_0
          · rw [zw_up_n (by decide), zw_up_n (by decide)]
            exact zw_rel0
          · rw [zw_up_n (by decide), zw_up_n (by decide), h1.2.1 13 (by decide)]
            exact hP s hs5
          · refine zw_loc 1 rfl (nI_pred j) ?_
            have c9 : ∀ c, c < j + 1 → u' 9 c = w 9 c := fun c hc => by
              rw [b2 c hc, zw_up_n (by decide), zw_up_s, zw_upd_n (by omega)]
            have c10 : ∀ c, c < j + 1 → u' 10 c = w 10 c := fun c hc => by
              rw [b3 c hc, zw_up_s, zw_upd_n (by omega), zw_up_n (by decide)]
            refine ihd j (f + 1) σ' M' t B (fun s => P s ∨ zw_new u0 n k (j + 1) 0 (zw_ut t j f) s) u' hjk (by omega) (by omega) b1 (fun c hc => ?_) ?_ a4 ?_ (zw_rel_congr a6 b4) hg hB b5 (by omega) (fun u2 σ2 d1 d2 d3 d4 d5 d6 => ?_)
            · rw [c9 c (by omega), h1.2.2.1 c (by omega)]
              exact ht c hc
            · rw [c9 j (by omega), a3]
              exact nI_1 f
            · rw [c10 j (by omega)]
              exact a5
            · refine K u2 σ2 d1 (fun c hc => ?_) (fun c hc => ?_) d4 (fun s hs5 => ?_) (by omega)
              · rw [d2 c hc, c9 c (by omega)]
                exact h1.2.2.1 c (by omega)
              · rw [d3 c hc, c10 c (by omega)]
                exact h1.2.2.2 c (by omega)
              · rw [d5 s hs5]
                refine zw_bc ?_
                rw [zw_new_split hB a1 hno (by omega), or_assoc, or_comm (a := zw_new u0 n k j (f + 1) t s)]
end
section
/-! LineageWorlds: findMatches whole, yesBelow, prepare -/
set_option maxRecDepth 100000
theorem zxl_fm1 {X : zw_X} {h0 : Nat} {ad : Nat → Nat} {cI cZ : ClassId} {Q : State → Prop} (C : zw_Ok X ({ frames := 2, cells := 0, slots := 0, locals := 46 } : Room) cX0_findMatches 4 RX0 cI cZ none) {u0 : zw_St} (K : ∀ w, zw_ss u0 w → (∀ a, a < 512 → w 13 a = 0) → zw_G X 4 Q 0 0 (zx_w h0 ad cI cZ w) 22 [some (.ref h0), none, none, none] []) : ∀ (d s : Nat) (w : zw_St), s + d = 512 → zw_ss u0 w → (∀ a, a < s → w 13 a = 0) → zw_G X 4 Q 0 0 (zx_w h0 ad cI cZ w) 2 [some (.ref h0), some (.int (nI s)), none, none] [] := by
  intro d
  induction d with
  | zero =>
    intro s w hd hs h
    refine zw_iload_n (i := 1) C dX0_findMatches_2 rfl rfl ?_
    refine zw_sipush (v := 512) C dX0_findMatches_3 (by decide) ?_
    refine zw_icmp_ge (tgt := 22) C dX0_findMatches_6 (by decide) (fun c6 => ?_) (fun c6 => ?_)
    · refine zw_forget 1 ?_
      exact K w hs (fun a ha => h a (by omega))
    · exact absurd ((nI_leI (a := 512) (b := s) (by omega) (by omega)).mpr (by omega)) c6
  | succ d ih =>
    intro s w hd hs h
    refine zw_iload_n (i := 1) C dX0_findMatches_2 rfl rfl ?_
    refine zw_sipush (v := 512) C dX0_findMatches_3 (by decide) ?_
    refine zw_icmp_ge (tgt := 22) C dX0_findMatches_6 (by decide) (fun c6 => ?_) (fun c6 => ?_)
    · have := (nI_leI (a := 512) (b := s) (by omega) (by omega)).mp c6
      omega
    · refine zw_aload_n (i := 0) C dX0_findMatches_9 rfl rfl ?_
      refine zx_get_match C dX0_findMatches_10 ?_
      refine zw_iload_n (i := 1) C dX0_findMatches_13 rfl rfl ?_
      refine zw_iconst (v := 0) C dX0_findMatches_14 (by decide) ?_
      refine zx_st_match C dX0_findMatches_15 rfl (rfl) (by omega) ?_
      refine zw_iinc (v := nI (s + 1)) C dX0_findMatches_16 rfl (nI_1 s) (by decide) ?_
      refine zw_goto (tgt := 2) C dX0_findMatches_19 (by decide) ?_
      refine ih (s + 1) _ (by omega) (hs.up (by decide) (by decide) (by decide)) (fun a ha => ?_)
      rw [zw_up_s]
      by_cases e : a = s
      · rw [e, zw_upd_s]
      · rw [zw_upd_n e]
        exact h a (by omega)
theorem zxl_fm2 {X : zw_X} {h0 : Nat} {ad : Nat → Nat} {cI cZ : ClassId} {Q : State → Prop} (C : zw_Ok X ({ frames := 2, cells := 0, slots := 0, locals := 46 } : Room) cX0_findMatches 4 RX0 cI cZ none) {u0 : zw_St} (K : ∀ w, zw_ss u0 w → (∀ a, a < 512 → w 13 a = 0) → (∀ a, a < 3 → w 11 a = -1) → zw_G X 4 Q 0 0 (zx_w h0 ad cI cZ w) 42 [some (.ref h0), none, none, none] []) : ∀ (d s : Nat) (w : zw_St), s + d = 3 → zw_ss u0 w → (∀ a, a < 512 → w 13 a = 0) → (∀ a, a < s → w 11 a = -1) → zw_G X 4 Q 0 0 (zx_w h0 ad cI cZ w) 24 [some (.ref h0), some (.int (nI s)), none, none] [] := by
  intro d
  induction d with
  | zero =>
    intro s w hd hs h0 h
    refine zw_iload_n (i := 1) C dX0_findMatches_24 rfl rfl ?_
    refine zw_iconst (v := 3) C dX0_findMatches_25 (by decide) ?_
    refine zw_icmp_ge (tgt := 42) C dX0_findMatches_26 (by decide) (fun c26 => ?_) (fun c26 => ?_)
    · refine zw_forget 1 ?_
      exact K w hs h0 (fun a ha => h a (by omega))
    · exact absurd ((nI_leI (a := 3) (b := s) (by omega) (by omega)).mpr (by omega)) c26
  | succ d ih =>
    intro s w hd hs h0 h
    refine zw_iload_n (i := 1) C dX0_findMatches_24 rfl rfl ?_
    refine zw_iconst (v := 3) C dX0_findMatches_25 (by decide) ?_
    refine zw_icmp_ge (tgt := 42) C dX0_findMatches_26 (by decide) (fun c26 => ?_) (fun c26 => ?_)
    · have := (nI_leI (a := 3) (b := s) (by omega) (by omega)).mp c26
      omega
    · refine zw_aload_n (i := 0) C dX0_findMatches_29 rfl rfl ?_
      refine zx_get_value C dX0_findMatches_30 ?_
      refine zw_iload_n (i := 1) C dX0_findMatches_33 rfl rfl ?_
      refine zw_iconst (v := -1) C dX0_findMatches_34 (by decide) ?_
      refine zx_st_value C dX0_findMatches_35 (rfl) (by omega) ?_
      refine zw_iinc (v := nI (s + 1)) C dX0_findMatches_36 rfl (nI_1 s) (by decide) ?_
      refine zw_goto (tgt := 24) C dX0_findMatches_39 (by decide) ?_
      refine ih (s + 1) _ (by omega) (hs.up (by decide) (by decide) (by decide)) (fun a ha => by rw [zw_up_n (by decide)]; exact h0 a ha) (fun a ha => ?_)
      rw [zw_up_s]
      by_cases e : a = s
      · rw [e, zw_upd_s]
      · rw [zw_upd_n e]
        exact h a (by omega)
theorem zw_ss.rf {u : zw_St} : zw_ss u u := ⟨zw_kp.rf, fun _ _ => rfl⟩
theorem zw_M0 {u : zw_St} {n s : Nat} : zw_M u n 0 s ↔ s = 0 := by
  constructor
  · rintro ⟨t, g, -, -, h⟩
    exact h
  · intro h
    exact ⟨fun _ => 0, fun _ => 0, zw_in0, fun c hc => absurd hc (by omega), h⟩
theorem zxm_findMatches {h0 : Nat} {ad : Nat → Nat} {cI cZ : ClassId} {u : zw_St} {n k : Nat} (hD : zw_D u n k) (l : Launch) (D : va_G) : zw_Mv l yX0_findMatches cX0_findMatches 4 none 2 46 D (zx_w h0 ad cI cZ) cI cZ [.ref h0] u (fun u' => zw_ss u u' ∧ ∀ s, s < 512 → u' 13 s = zw_b (zw_M u n k s)) := by
  refine zw_Mv_of (by decide) (by simp [Value.category]) (Nat.le_of_ble_eq_true rfl) (fun X C => ?_) l D
  have C : zw_Ok X ({ frames := 2, cells := 0, slots := 0, locals := 46 } : Room) cX0_findMatches 4 RX0 cI cZ none := C
  show zw_G X 4 _ 0 0 _ 0 [some (.ref h0), none, none, none] []
  have hn9 := hD.1
  have hk4 := hD.2.1
  refine zw_iconst (v := 0) C dX0_findMatches_0 (by decide) ?_
  refine zw_istore_n (i := 1) C dX0_findMatches_1 rfl (by decide) ?_
  refine zxl_fm1 C (u0 := u) (fun w1 hs1 hm1 => ?_) 512 0 u (by omega) zw_ss.rf (fun a ha => absurd ha (by omega))
  refine zw_iconst (v := 0) C dX0_findMatches_22 (by decide) ?_
  refine zw_istore_n (i := 1) C dX0_findMatches_23 rfl (by decide) ?_
  refine zxl_fm2 C (u0 := u) (fun w hs hm hv => ?_) 3 0 w1 (by omega) hs1 hm1 (fun a ha => absurd ha (by omega))
  refine zw_aload_n (i := 0) C dX0_findMatches_42 rfl rfl ?_
  refine zx_get_conditions C dX0_findMatches_43 ?_
  refine zw_top (y := nI k) (by rw [hs.1 5 (by decide)]; exact hD.2.2.2.1) ?_
  refine zw_if_ne (tgt := 57) C dX0_findMatches_46 (by decide) (fun c46 => ?_) (fun c46 => ?_)
  · have hk0 : 0 < k := Nat.pos_of_ne_zero (fun e => c46 (by rw [e]; exact nI_0))
    refine zw_iconst (v := 0) C dX0_findMatches_57 (by decide) ?_
    refine zw_istore_n (i := 1) C dX0_findMatches_58 rfl (by decide) ?_
    refine zw_aload_n (i := 0) C dX0_findMatches_59 rfl rfl ?_
    refine zx_get_tried C dX0_findMatches_60 ?_
    refine zw_iconst (v := 0) C dX0_findMatches_63 (by decide) ?_
    refine zw_iconst (v := -1) C dX0_findMatches_64 (by decide) ?_
    refine zx_st_tried C dX0_findMatches_65 (zw_0) (by omega) ?_
    refine zw_aload_n (i := 0) C dX0_findMatches_66 rfl rfl ?_
    refine zx_get_bound C dX0_findMatches_67 ?_
    refine zw_iconst (v := 0) C dX0_findMatches_70 (by decide) ?_
    refine zw_iconst (v := 0) C dX0_findMatches_71 (by decide) ?_
    refine zx_st_bound C dX0_findMatches_72 (zw_0) (by omega) ?_
    refine zw_iconst (v := 0) C dX0_findMatches_73 (by decide) ?_
    refine zw_istore_n (i := 2) C dX0_findMatches_74 rfl (by decide) ?_
    have hT : zw_T n k ≤ 8200 := zw_T_le n (by omega) k (by omega)
    have hT1 : zw_T n k = n * (1 + zw_T n (k - 1)) + 1 := by
      rw [show zw_T n k = zw_T n (k - 1 + 1) by rw [Nat.sub_add_cancel hk0]]
      rfl
    refine zw_loc 1 rfl (show (0 : Int32) = nI 0 from zw_0) ?_
    refine zw_loc 2 rfl (show (0 : Int32) = nI 0 from zw_0) ?_
    refine zxl_search C hD (k - 1) n 0 0 0 0 (fun _ => 0) (fun _ => -1) (fun _ => False) _ (by omega) (by omega) (by omega) ((hs.up (by decide) (by decide) (by decide)).up (by decide) (by decide) (by decide)) (fun c hc => absurd hc (by omega)) ?_ (by decide) ?_ ?_ (fun v hv => Or.inl rfl) (fun g => ⟨fun _ c hc => absurd hc (by omega), fun _ v hv q => absurd rfl q⟩) (fun s hs5 => ?_) (by omega) (fun u' σ' b1 b2 b3 b4 b5 b6 => ?_)
    · rw [zw_up_n (by decide), zw_up_s, zw_upd_s]
      rfl
    · rw [zw_up_s, zw_upd_s]
      exact zw_0
    · rw [zw_up_n (by decide), zw_up_n (by decide)]
      exact zw_rel_congr zw_rel0 hv
    · rw [zw_up_n (by decide), zw_up_n (by decide), hm s hs5, zw_b0 id]
    · have fin : zw_ss u u' ∧ ∀ s, s < 512 → u' 13 s = zw_b (zw_M u n k s) := by
        refine ⟨b1, fun s hs5 => ?_⟩
        rw [b5 s hs5]
        exact zw_bc (by rw [zw_new_M]; exact ⟨fun q => q.elim False.elim id, Or.inr⟩)
      refine zw_iload_n (i := 2) C dX0_findMatches_75 rfl rfl ?_
      refine zw_ldc C q120 dX0_findMatches_76 ?_
      refine zw_icmp_ge (tgt := 147) C dX0_findMatches_78 (by decide) (fun c78 => ?_) (fun c78 => ?_)
      · refine zw_vret C dX0_findMatches_147 ?_
        exact fin
      · refine zw_iload_n (i := 1) C dX0_findMatches_81 rfl rfl ?_
        refine zw_if_lt (tgt := 147) C dX0_findMatches_82 (by decide) (fun c82 => ?_) (fun c82 => ?_)
        · refine zw_vret C dX0_findMatches_147 ?_
          exact fin
        · exact absurd (by decide) c82
  · have hk0 : k = 0 := (nI_eq (a := k) (b := 0) (by omega) (by omega)).mp c46
    refine zw_aload_n (i := 0) C dX0_findMatches_49 rfl rfl ?_
    refine zx_get_match C dX0_findMatches_50 ?_
    refine zw_iconst (v := 0) C dX0_findMatches_53 (by decide) ?_
    refine zw_iconst (v := 1) C dX0_findMatches_54 (by decide) ?_
    refine zx_st_match C dX0_findMatches_55 rfl (zw_0) (by omega) ?_
    refine zw_vret C dX0_findMatches_56 ?_
    refine ⟨hs.up (by decide) (by decide) (by decide), fun s hs5 => ?_⟩
    rw [zw_up_s, hk0]
    by_cases e : s = 0
    · rw [e, zw_upd_s, zw_b1 (zw_M0.mpr rfl)]
    · rw [zw_upd_n e, hm s hs5, zw_b0 (fun q => e (zw_M0.mp q))]
theorem zxl_yesBelow {X : zw_X} {h0 : Nat} {ad : Nat → Nat} {cI cZ : ClassId} {Q : State → Prop} (C : zw_Ok X ({ frames := 0, cells := 0, slots := 0, locals := 0 } : Room) cX0_yesBelow 3 RX0 cI cZ (some .boolean)) {n s : Nat} {u : zw_St} (hn9 : n ≤ 9) (hu : u 0 0 = nI n) (hs : s < 2 ^ n) (K0 : (¬ ∃ f, f < n ∧ s.testBit f = true ∧ ¬ u 14 (s ^^^ 2 ^ f) = 0) → zw_G X 3 Q 0 0 (zx_w h0 ad cI cZ u) 42 [some (.ref h0), some (.int (nI s)), none] []) (K1 : (∃ f, f < n ∧ s.testBit f = true ∧ ¬ u 14 (s ^^^ 2 ^ f) = 0) → zw_G X 3 Q 0 0 (zx_w h0 ad cI cZ u) 34 [some (.ref h0), some (.int (nI s)), none] []) : ∀ (d f : Nat), f + d = n → (∀ f', f' < f → ¬ (s.testBit f' = true ∧ ¬ u 14 (s ^^^ 2 ^ f') = 0)) → zw_G X 3 Q 0 0 (zx_w h0 ad cI cZ u) 2 [some (.ref h0), some (.int (nI s)), some (.int (nI f))] [] := by
  have hs5 : s < 512 := Nat.lt_of_lt_of_le hs (zw_p2 hn9)
  intro d
  induction d with
  | zero =>
    intro f hf h
    refine zw_iload_n (i := 2) C dX0_yesBelow_2 rfl rfl ?_
    refine zw_aload_n (i := 0) C dX0_yesBelow_3 rfl rfl ?_
    refine zx_get_facts C dX0_yesBelow_4 ?_
    refine zw_top hu ?_
    refine zw_icmp_ge (tgt := 42) C dX0_yesBelow_7 (by decide) (fun c7 => ?_) (fun c7 => ?_)
    · refine zw_forget 2 ?_
      exact K0 (fun ⟨f', h1, h2⟩ => h f' (by omega) h2)
    · exact absurd ((nI_leI (a := n) (b := f) (by omega) (by omega)).mpr (by omega)) c7
  | succ d ih =>
    intro f hf h
    have hfn : f < n := by omega
    have go : ¬ (s.testBit f = true ∧ ¬ u 14 (s ^^^ 2 ^ f) = 0) → zw_G X 3 Q 0 0 (zx_w h0 ad cI cZ u) 36 [some (.ref h0), some (.int (nI s)), some (.int (nI f))] [] := by
      intro q
      refine zw_iinc (v := nI (f + 1)) C dX0_yesBelow_36 rfl (nI_1 f) (by decide) ?_
      refine zw_goto (tgt := 2) C dX0_yesBelow_39 (by decide) ?_
      refine ih (f + 1) (by omega) (fun f' hf' => ?_)
      by_cases e : f' = f
      · rw [e]; exact q
      · exact h f' (by omega)
    refine zw_iload_n (i := 2) C dX0_yesBelow_2 rfl rfl ?_
    refine zw_aload_n (i := 0) C dX0_yesBelow_3 rfl rfl ?_
    refine zx_get_facts C dX0_yesBelow_4 ?_
    refine zw_top hu ?_
    refine zw_icmp_ge (tgt := 42) C dX0_yesBelow_7 (by decide) (fun c7 => ?_) (fun c7 => ?_)
    · have := (nI_leI (a := n) (b := f) (by omega) (by omega)).mp c7
      omega
    · refine zw_iload_n (i := 1) C dX0_yesBelow_10 rfl rfl ?_
      refine zw_iload_n (i := 2) C dX0_yesBelow_11 rfl rfl ?_
      refine zw_ishr C dX0_yesBelow_12 ?_
      refine zw_iconst (v := 1) C dX0_yesBelow_13 (by decide) ?_
      refine zw_iand C dX0_yesBelow_14 ?_
      refine zw_iconst (v := 1) C dX0_yesBelow_15 (by decide) ?_
      refine zw_icmp_ne (tgt := 36) C dX0_yesBelow_16 (by decide) (fun c16 => ?_) (fun c16 => ?_)
      · exact go (fun q => c16 (zw_bit1 hs5 (by omega) q.1))
      · have hb : s.testBit f = true := Classical.byContradiction fun q => by
          rw [zw_bit0 hs5 (by omega) q] at c16
          exact zw_01 c16
        refine zw_aload_n (i := 0) C dX0_yesBelow_19 rfl rfl ?_
        refine zx_get_yes C dX0_yesBelow_20 ?_
        refine zw_iload_n (i := 1) C dX0_yesBelow_23 rfl rfl ?_
        refine zw_iconst (v := 1) C dX0_yesBelow_24 (by decide) ?_
        refine zw_iload_n (i := 2) C dX0_yesBelow_25 rfl rfl ?_
        refine zw_ishl C dX0_yesBelow_26 ?_
        refine zw_top (zw_shl f (by omega)) ?_
        refine zw_iconst (v := -1) C dX0_yesBelow_27 (by decide) ?_
        refine zw_ixor C dX0_yesBelow_28 ?_
        refine zw_iand C dX0_yesBelow_29 ?_
        refine zw_top (zw_clr s hs5 f (by omega) hb) ?_
        refine zx_ld_yes C dX0_yesBelow_30 (rfl) (Nat.lt_of_lt_of_le (zw_xlt hs hfn) (zw_p2 hn9)) ?_
        refine zw_if_eq (tgt := 36) C dX0_yesBelow_31 (by decide) (fun c31 => ?_) (fun c31 => ?_)
        · exact go (fun q => q.2 c31)
        · refine zw_forget 2 ?_
          exact K1 ⟨f, hfn, hb, c31⟩
theorem zxm_yesBelow {h0 : Nat} {ad : Nat → Nat} {cI cZ : ClassId} {u : zw_St} (a : Int32) {n s : Nat} (ea : a = nI s) (hn9 : n ≤ 9) (hu : u 0 0 = nI n) (hs : s < 2 ^ n) (l : Launch) (D : va_G) : zw_Mi l yX0_yesBelow cX0_yesBelow 3 (some .boolean) 0 0 D (zx_w h0 ad cI cZ) cI cZ [.ref h0, .int a] u (fun r u' => u' = u ∧ r = zw_b (∃ f, f < n ∧ s.testBit f = true ∧ ¬ u 14 (s ^^^ 2 ^ f) = 0)) := by
  refine zw_Mi_of (by decide) (by simp [Value.category]) (Nat.le_of_ble_eq_true rfl) (fun X C => ?_) l D
  have C : zw_Ok X ({ frames := 0, cells := 0, slots := 0, locals := 0 } : Room) cX0_yesBelow 3 RX0 cI cZ (some .boolean) := C
  show zw_G X 3 _ 0 0 _ 0 [some (.ref h0), some (.int a), none] []
  subst ea
  refine zw_iconst (v := 0) C dX0_yesBelow_0 (by decide) ?_
  refine zw_istore_n (i := 2) C dX0_yesBelow_1 rfl (by decide) ?_
  refine zxl_yesBelow C hn9 hu hs (fun q => ?_) (fun q => ?_) n 0 (by omega) (fun f' hf' => absurd hf' (by omega))
  · refine zw_iconst (v := 0) C dX0_yesBelow_42 (by decide) ?_
    refine zw_iret C rfl dX0_yesBelow_43 ?_
    exact ⟨rfl, (zw_b0 q).symm⟩
  · refine zw_iconst (v := 1) C dX0_yesBelow_34 (by decide) ?_
    refine zw_iret C rfl dX0_yesBelow_35 ?_
    exact ⟨rfl, (zw_b1 q).symm⟩
/-- matches and worlds are as the question has them -/
def zw_dn (u : zw_St) (n k : Nat) : Prop := (∀ s, s < 512 → u 13 s = zw_b (zw_M u n k s)) ∧ ∀ s, s < 2 ^ n → u 14 s = zw_b (zw_yes u n k s)
def zw_rd (u : zw_St) (n k : Nat) : Prop := u 12 0 = 0 ∨ (u 12 0 = 1 ∧ zw_dn u n k)
/-- behind a question -/
def zw_qp (u : zw_St) (n k : Nat) (u' : zw_St) : Prop := zw_kp u u' ∧ u' 12 0 = 1 ∧ zw_dn u' n k
theorem zw_yes_step {u : zw_St} {n k s : Nat} (hs : s < 2 ^ n) : zw_yes u n k s ↔ zw_M u n k s ∨ ∃ f, f < n ∧ s.testBit f = true ∧ zw_yes u n k (s ^^^ 2 ^ f) := by
  rw [zw_yes_ab, zw_ab_step hs]
  constructor
  · rintro (h | ⟨f, h1, h2, h3⟩)
    · exact Or.inl h
    · exact Or.inr ⟨f, h1, h2, zw_yes_ab.mpr h3⟩
  · rintro (h | ⟨f, h1, h2, h3⟩)
    · exact Or.inl h
    · exact Or.inr ⟨f, h1, h2, zw_yes_ab.mp h3⟩
theorem zxl_prepare {X : zw_X} {h0 : Nat} {ad : Nat → Nat} {cI cZ : ClassId} {Q : State → Prop} (C : zw_Ok X ({ frames := 3, cells := 0, slots := 0, locals := 69 } : Room) cX0_prepare 3 RX0 cI cZ none) {n k : Nat} {u : zw_St} (hD : zw_D u n k) (K : ∀ w, zw_kp u w → w 12 0 = 1 → (∀ a, a < 512 → w 13 a = zw_b (zw_M u n k a)) → (∀ a, a < 2 ^ n → w 14 a = zw_b (zw_yes u n k a)) → zw_G X 3 Q 0 0 (zx_w h0 ad cI cZ w) 65 [some (.ref h0), none, none] []) : ∀ (d s : Nat) (w : zw_St), s + d = 2 ^ n → zw_kp u w → w 12 0 = 1 → (∀ a, a < 512 → w 13 a = zw_b (zw_M u n k a)) → (∀ a, a < s → w 14 a = zw_b (zw_yes u n k a)) → zw_G X 3 Q 0 0 (zx_w h0 ad cI cZ w) 19 [some (.ref h0), some (.int (nI s)), none] [] := by
  have hn9 := hD.1
  have hp := zw_p2 hn9
  intro d
  induction d with
  | zero =>
    intro s w hd hk h12 h13 h14
    refine zw_iload_n (i := 1) C dX0_prepare_19 rfl rfl ?_
    refine zw_iconst (v := 1) C dX0_prepare_20 (by decide) ?_
    refine zw_aload_n (i := 0) C dX0_prepare_21 rfl rfl ?_
    refine zx_get_facts C dX0_prepare_22 ?_
    refine zw_top (y := nI n) (by rw [hk 0 (by decide)]; exact hD.2.2.1) ?_
    refine zw_ishl C dX0_prepare_25 ?_
    refine zw_top (zw_shl n (by omega)) ?_
    refine zw_icmp_ge (tgt := 65) C dX0_prepare_26 (by decide) (fun c26 => ?_) (fun c26 => ?_)
    · refine zw_forget 1 ?_
      exact K w hk h12 h13 (fun a ha => h14 a (by omega))
    · exact absurd ((nI_leI (a := 2 ^ n) (b := s) (by omega) (by omega)).mpr (by omega)) c26
  | succ d ih =>
    intro s w hd hk h12 h13 h14
    have hs : s < 2 ^ n := by omega
    have hu : w 0 0 = nI n := by rw [hk 0 (by decide)]; exact hD.2.2.1
    have next : ∀ x, x = zw_b (zw_yes u n k s) → zw_G X 3 Q 0 0 (zx_w h0 ad cI cZ (zw_up w 14 s x)) 19 [some (.ref h0), some (.int (nI (s + 1))), none] [] := by
      intro x hx
      refine ih (s + 1) _ (by omega) (hk.up (by decide)) (by rw [zw_up_n (by decide)]; exact h12) (fun a ha => by rw [zw_up_n (by decide)]; exact h13 a ha) (fun a ha => ?_)
      rw [zw_up_s]
      by_cases e : a = s
      · rw [e, zw_upd_s]
        exact hx
      · rw [zw_upd_n e]
        exact h14 a (by omega)
    refine zw_iload_n (i := 1) C dX0_prepare_19 rfl rfl ?_
    refine zw_iconst (v := 1) C dX0_prepare_20 (by decide) ?_
    refine zw_aload_n (i := 0) C dX0_prepare_21 rfl rfl ?_
    refine zx_get_facts C dX0_prepare_22 ?_
    refine zw_top hu ?_
    refine zw_ishl C dX0_prepare_25 ?_
    refine zw_top (zw_shl n (by omega)) ?_
    refine zw_icmp_ge (tgt := 65) C dX0_prepare_26 (by decide) (fun c26 => ?_) (fun c26 => ?_)
    · have := (nI_leI (a := 2 ^ n) (b := s) (by omega) (by omega)).mp c26
      omega
    · refine zw_aload_n (i := 0) C dX0_prepare_29 rfl rfl ?_
      refine zw_iload_n (i := 1) C dX0_prepare_30 rfl rfl ?_
      refine zw_calli (q0 := 0) (n := 1) C (fun l D => zxm_yesBelow (nI s) rfl hn9 hu hs l D) (lw_V q137 q139 qs7 q20 q140) rfl (by decide +kernel) ⟨Nat.le_of_ble_eq_true rfl, Nat.le_of_ble_eq_true rfl⟩ rfl rfl rfl (Nat.le_of_ble_eq_true rfl) ⟨Nat.le_of_ble_eq_true rfl, Nat.le_of_ble_eq_true rfl⟩ dX0_prepare_31 (fun r1 u1 h1 => ?_)
      obtain ⟨rfl, rfl⟩ := h1
      have hbel : (∃ f, f < n ∧ s.testBit f = true ∧ ¬ u1 14 (s ^^^ 2 ^ f) = 0) ↔ ∃ f, f < n ∧ s.testBit f = true ∧ zw_yes u n k (s ^^^ 2 ^ f) := by
        constructor
        · rintro ⟨f, a1, a2, a3⟩
          refine ⟨f, a1, a2, ?_⟩
          rw [h14 _ (zw_xdn s (by omega) f (by omega) a2)] at a3
          exact zw_b_n a3
        · rintro ⟨f, a1, a2, a3⟩
          refine ⟨f, a1, a2, ?_⟩
          rw [h14 _ (zw_xdn s (by omega) f (by omega) a2), zw_b1 a3]
          exact zw_10
      refine zw_istore_n (i := 2) C dX0_prepare_34 rfl (by decide) ?_
      refine zw_aload_n (i := 0) C dX0_prepare_35 rfl rfl ?_
      refine zx_get_yes C dX0_prepare_36 ?_
      refine zw_iload_n (i := 1) C dX0_prepare_39 rfl rfl ?_
      refine zw_aload_n (i := 0) C dX0_prepare_40 rfl rfl ?_
      refine zx_get_match C dX0_prepare_41 ?_
      refine zw_iload_n (i := 1) C dX0_prepare_44 rfl rfl ?_
      refine zx_ld_match C dX0_prepare_45 (rfl) (by omega) ?_
      refine zw_if_ne (tgt := 53) C dX0_prepare_46 (by decide) (fun c46 => ?_) (fun c46 => ?_)
      · refine zw_iconst (v := 1) C dX0_prepare_53 (by decide) ?_
        refine zw_goto (tgt := 58) C dX0_prepare_54 (by decide) ?_
        refine zx_st_yes C dX0_prepare_58 rfl (rfl) (by omega) ?_
        refine zw_iinc (v := nI (s + 1)) C dX0_prepare_59 rfl (nI_1 s) (by decide) ?_
        refine zw_goto (tgt := 19) C dX0_prepare_62 (by decide) ?_
        refine zw_forget 2 ?_
        refine next 1 (zw_b1 ?_).symm
        rw [h13 s (by omega)] at c46
        exact (zw_yes_step hs).mpr (Or.inl (zw_b_n c46))
      · rw [h13 s (by omega)] at c46
        refine zw_iload_n (i := 2) C dX0_prepare_49 rfl rfl ?_
        refine zw_if_eq (tgt := 57) C dX0_prepare_50 (by decide) (fun c50 => ?_) (fun c50 => ?_)
        · refine zw_iconst (v := 0) C dX0_prepare_57 (by decide) ?_
          refine zx_st_yes C dX0_prepare_58 rfl (rfl) (by omega) ?_
          refine zw_iinc (v := nI (s + 1)) C dX0_prepare_59 rfl (nI_1 s) (by decide) ?_
          refine zw_goto (tgt := 19) C dX0_prepare_62 (by decide) ?_
          refine zw_forget 2 ?_
          refine next 0 (zw_b0 (fun q => ?_)).symm
          rcases (zw_yes_step hs).mp q with q | q
          · exact zw_b_0.mp c46 q
          · exact zw_b_0.mp c50 (hbel.mpr q)
        · refine zw_iconst (v := 1) C dX0_prepare_53 (by decide) ?_
          refine zw_goto (tgt := 58) C dX0_prepare_54 (by decide) ?_
          refine zx_st_yes C dX0_prepare_58 rfl (rfl) (by omega) ?_
          refine zw_iinc (v := nI (s + 1)) C dX0_prepare_59 rfl (nI_1 s) (by decide) ?_
          refine zw_goto (tgt := 19) C dX0_prepare_62 (by decide) ?_
          refine zw_forget 2 ?_
          refine next 1 (zw_b1 ?_).symm
          exact (zw_yes_step hs).mpr (Or.inr (hbel.mp (zw_b_n c50)))
theorem zxm_prepare {h0 : Nat} {ad : Nat → Nat} {cI cZ : ClassId} {u : zw_St} {n k : Nat} (hD : zw_D u n k) (hR : zw_rd u n k) (l : Launch) (D : va_G) : zw_Mv l yX0_prepare cX0_prepare 3 none 3 69 D (zx_w h0 ad cI cZ) cI cZ [.ref h0] u (fun u' => zw_qp u n k u') := by
  refine zw_Mv_of (by decide) (by simp [Value.category]) (Nat.le_of_ble_eq_true rfl) (fun X C => ?_) l D
  have C : zw_Ok X ({ frames := 3, cells := 0, slots := 0, locals := 69 } : Room) cX0_prepare 3 RX0 cI cZ none := C
  show zw_G X 3 _ 0 0 _ 0 [some (.ref h0), none, none] []
  refine zw_aload_n (i := 0) C dX0_prepare_0 rfl rfl ?_
  refine zx_get_ready C dX0_prepare_1 ?_
  refine zw_if_eq (tgt := 8) C dX0_prepare_4 (by decide) (fun c4 => ?_) (fun c4 => ?_)
  · refine zw_aload_n (i := 0) C dX0_prepare_8 rfl rfl ?_
    refine zw_iconst (v := 1) C dX0_prepare_9 (by decide) ?_
    refine zx_put_ready C rfl rfl dX0_prepare_10 ?_
    have hk1 : zw_kp u (zw_up u 12 0 1) := zw_kp.rf.up (by decide)
    refine zw_aload_n (i := 0) C dX0_prepare_13 rfl rfl ?_
    refine zw_callv (q0 := 0) (n := 0) C (fun l D => zxm_findMatches (hk1.D hD) l D) (lw_V q116 q118 qs2 q20 q119) rfl (by decide +kernel) ⟨Nat.le_of_ble_eq_true rfl, Nat.le_of_ble_eq_true rfl⟩ rfl rfl rfl (Nat.le_of_ble_eq_true rfl) ⟨Nat.le_of_ble_eq_true rfl, Nat.le_of_ble_eq_true rfl⟩ dX0_prepare_14 (fun u2 h2 => ?_)
    obtain ⟨g1, g2⟩ := h2
    refine zw_iconst (v := 0) C dX0_prepare_17 (by decide) ?_
    refine zw_istore_n (i := 1) C dX0_prepare_18 rfl (by decide) ?_
    refine zxl_prepare C hD (fun w a1 a2 a3 a4 => ?_) (2 ^ n) 0 u2 (by omega) (hk1.tr g1.1) (by rw [g1.2 12 (Or.inl rfl), zw_up_s, zw_upd_s]) (fun a ha => by rw [g2 a ha]; exact zw_bc hk1.M) (fun a ha => absurd ha (by omega))
    refine zw_vret C dX0_prepare_65 ?_
    exact ⟨a1, a2, fun s hs => by rw [a3 s hs]; exact zw_bc a1.M.symm, fun s hs => by rw [a4 s hs]; exact zw_bc a1.yes.symm⟩
  · refine zw_vret C dX0_prepare_7 ?_
    rcases hR with q | q
    · exact absurd q c4
    · exact ⟨zw_kp.rf, q.1, q.2⟩
end
section
/-! LineageWorlds: fold, and the questions -/
set_option maxRecDepth 100000
theorem zxl_fold1 {X : zw_X} {h0 : Nat} {ad : Nat → Nat} {cI cZ : ClassId} {Q : State → Prop} (C : zw_Ok X ({ frames := 0, cells := 0, slots := 0, locals := 0 } : Room) cX0_fold 5 RX0 cI cZ (some .int)) {n m : Nat} {u : zw_St} {P : Nat → Prop} (hn9 : n ≤ 9) (hm : m < 512) (hu : u 0 0 = nI n) (hy : ∀ s, s < 2 ^ n → u 14 s = zw_b (P s)) (K : ∀ w, (∀ a, a ≠ 15 → w a = u a) → (∀ a, a < 2 ^ n → w 15 a = zw_b (P a ∧ a &&& m = m)) → zw_G X 5 Q 0 0 (zx_w h0 ad cI cZ w) 45 [some (.ref h0), some (.int (nI m)), none, none, none] []) : ∀ (d s : Nat) (w : zw_St), s + d = 2 ^ n → (∀ a, a ≠ 15 → w a = u a) → (∀ a, a < s → w 15 a = zw_b (P a ∧ a &&& m = m)) → zw_G X 5 Q 0 0 (zx_w h0 ad cI cZ w) 2 [some (.ref h0), some (.int (nI m)), some (.int (nI s)), none, none] [] := by
  have hp := zw_p2 hn9
  intro d
  induction d with
  | zero =>
    intro s w hd hk h
    refine zw_iload_n (i := 2) C dX0_fold_2 rfl rfl ?_
    refine zw_iconst (v := 1) C dX0_fold_3 (by decide) ?_
    refine zw_aload_n (i := 0) C dX0_fold_4 rfl rfl ?_
    refine zx_get_facts C dX0_fold_5 ?_
    refine zw_top (y := nI n) (by rw [hk 0 (by decide)]; exact hu) ?_
    refine zw_ishl C dX0_fold_8 ?_
    refine zw_top (zw_shl n (by omega)) ?_
    refine zw_icmp_ge (tgt := 45) C dX0_fold_9 (by decide) (fun c9 => ?_) (fun c9 => ?_)
    · refine zw_forget 2 ?_
      exact K w hk (fun a ha => h a (by omega))
    · exact absurd ((nI_leI (a := 2 ^ n) (b := s) (by omega) (by omega)).mpr (by omega)) c9
  | succ d ih =>
    intro s w hd hk h
    have hs : s < 2 ^ n := by omega
    have next : ∀ x, x = zw_b (P s ∧ s &&& m = m) → zw_G X 5 Q 0 0 (zx_w h0 ad cI cZ (zw_up w 15 s x)) 2 [some (.ref h0), some (.int (nI m)), some (.int (nI (s + 1))), none, none] [] := by
      intro x hx
      refine ih (s + 1) _ (by omega) (fun a ha => by rw [zw_up_n ha]; exact hk a ha) (fun a ha => ?_)
      rw [zw_up_s]
      by_cases e : a = s
      · rw [e, zw_upd_s]
        exact hx
      · rw [zw_upd_n e]
        exact h a (by omega)
    refine zw_iload_n (i := 2) C dX0_fold_2 rfl rfl ?_
    refine zw_iconst (v := 1) C dX0_fold_3 (by decide) ?_
    refine zw_aload_n (i := 0) C dX0_fold_4 rfl rfl ?_
    refine zx_get_facts C dX0_fold_5 ?_
    refine zw_top (y := nI n) (by rw [hk 0 (by decide)]; exact hu) ?_
    refine zw_ishl C dX0_fold_8 ?_
    refine zw_top (zw_shl n (by omega)) ?_
    refine zw_icmp_ge (tgt := 45) C dX0_fold_9 (by decide) (fun c9 => ?_) (fun c9 => ?_)
    · have := (nI_leI (a := 2 ^ n) (b := s) (by omega) (by omega)).mp c9
      omega
    · refine zw_aload_n (i := 0) C dX0_fold_12 rfl rfl ?_
      refine zx_get_folded C dX0_fold_13 ?_
      refine zw_iload_n (i := 2) C dX0_fold_16 rfl rfl ?_
      refine zw_aload_n (i := 0) C dX0_fold_17 rfl rfl ?_
      refine zx_get_yes C dX0_fold_18 ?_
      refine zw_iload_n (i := 2) C dX0_fold_21 rfl rfl ?_
      refine zx_ld_yes C dX0_fold_22 (rfl) (by omega) ?_
      refine zw_top (y := zw_b (P s)) (by rw [hk 14 (by decide)]; exact hy s hs) ?_
      refine zw_if_eq (tgt := 37) C dX0_fold_23 (by decide) (fun c23 => ?_) (fun c23 => ?_)
      · refine zw_iconst (v := 0) C dX0_fold_37 (by decide) ?_
        refine zx_st_folded C dX0_fold_38 (rfl) (by omega) ?_
        refine zw_iinc (v := nI (s + 1)) C dX0_fold_39 rfl (nI_1 s) (by decide) ?_
        refine zw_goto (tgt := 2) C dX0_fold_42 (by decide) ?_
        exact next 0 (zw_b0 (fun q => zw_b_0.mp c23 q.1)).symm
      · refine zw_iload_n (i := 2) C dX0_fold_26 rfl rfl ?_
        refine zw_iload_n (i := 1) C dX0_fold_27 rfl rfl ?_
        refine zw_iand C dX0_fold_28 ?_
        refine zw_top (zw_and s m) ?_
        refine zw_iload_n (i := 1) C dX0_fold_29 rfl rfl ?_
        refine zw_icmp_ne (tgt := 37) C dX0_fold_30 (by decide) (fun c30 => ?_) (fun c30 => ?_)
        · refine zw_iconst (v := 0) C dX0_fold_37 (by decide) ?_
          refine zx_st_folded C dX0_fold_38 (rfl) (by omega) ?_
          refine zw_iinc (v := nI (s + 1)) C dX0_fold_39 rfl (nI_1 s) (by decide) ?_
          refine zw_goto (tgt := 2) C dX0_fold_42 (by decide) ?_
          exact next 0 (zw_b0 (fun q => c30 (by rw [q.2]))).symm
        · refine zw_iconst (v := 1) C dX0_fold_33 (by decide) ?_
          refine zw_goto (tgt := 38) C dX0_fold_34 (by decide) ?_
          refine zx_st_folded C dX0_fold_38 (rfl) (by omega) ?_
          refine zw_iinc (v := nI (s + 1)) C dX0_fold_39 rfl (nI_1 s) (by decide) ?_
          refine zw_goto (tgt := 2) C dX0_fold_42 (by decide) ?_
          refine next 1 (zw_b1 ⟨zw_b_n c23, ?_⟩).symm
          have hle : s &&& m ≤ m := Nat.and_le_right
          exact (nI_eq (by omega) (by omega)).mp c30
theorem zxl_fold3 {X : zw_X} {h0 : Nat} {ad : Nat → Nat} {cI cZ : ClassId} {Q : State → Prop} (C : zw_Ok X ({ frames := 0, cells := 0, slots := 0, locals := 0 } : Room) cX0_fold 5 RX0 cI cZ (some .int)) {F : Nat} {m : Int32} {u : zw_St} {old : Nat → Int32} (hF : F < 9) (K : ∀ w, (∀ a, a ≠ 15 → w a = u a) → (∀ a, a < 2 ^ F → w 15 a = old a * (4 - u 4 F) + old (a + 2 ^ F) * u 4 F) → zw_G X 5 Q 0 0 (zx_w h0 ad cI cZ w) 115 [some (.ref h0), some (.int m), some (.int (nI F)), none, none] []) : ∀ (d s : Nat) (w : zw_St), s + d = 2 ^ F → (∀ a, a ≠ 15 → w a = u a) → (∀ a, a < s → w 15 a = old a * (4 - u 4 F) + old (a + 2 ^ F) * u 4 F) → (∀ a, s ≤ a → w 15 a = old a) → zw_G X 5 Q 0 0 (zx_w h0 ad cI cZ w) 63 [some (.ref h0), some (.int m), some (.int (nI F)), some (.int (nI (2 ^ F))), some (.int (nI s))] [] := by
  have hp : 2 ^ F ≤ 2 ^ 8 := Nat.pow_le_pow_right (by decide) (by omega)
  intro d
  induction d with
  | zero =>
    intro s w hd hk h1 h2
    refine zw_iload C dX0_fold_63 rfl ?_
    refine zw_iload_n (i := 3) C dX0_fold_65 rfl rfl ?_
    refine zw_icmp_ge (tgt := 115) C dX0_fold_66 (by decide) (fun c66 => ?_) (fun c66 => ?_)
    · refine zw_forget 3 ?_
      refine zw_forget 4 ?_
      exact K w hk (fun a ha => h1 a (by omega))
    · exact absurd ((nI_leI (a := 2 ^ F) (b := s) (by omega) (by omega)).mpr (by omega)) c66
  | succ d ih =>
    intro s w hd hk h1 h2
    refine zw_iload C dX0_fold_63 rfl ?_
    refine zw_iload_n (i := 3) C dX0_fold_65 rfl rfl ?_
    refine zw_icmp_ge (tgt := 115) C dX0_fold_66 (by decide) (fun c66 => ?_) (fun c66 => ?_)
    · have := (nI_leI (a := 2 ^ F) (b := s) (by omega) (by omega)).mp c66
      omega
    · refine zw_aload_n (i := 0) C dX0_fold_69 rfl rfl ?_
      refine zx_get_folded C dX0_fold_70 ?_
      refine zw_iload C dX0_fold_73 rfl ?_
      refine zw_aload_n (i := 0) C dX0_fold_75 rfl rfl ?_
      refine zx_get_folded C dX0_fold_76 ?_
      refine zw_iload C dX0_fold_79 rfl ?_
      refine zx_ld_folded C dX0_fold_81 (rfl) (by omega) ?_
      refine zw_iconst (v := 4) C dX0_fold_82 (by decide) ?_
      refine zw_aload_n (i := 0) C dX0_fold_83 rfl rfl ?_
      refine zx_get_chance C dX0_fold_84 ?_
      refine zw_iload_n (i := 2) C dX0_fold_87 rfl rfl ?_
      refine zx_ld_chance C dX0_fold_88 (rfl) (by omega) ?_
      refine zw_isub C dX0_fold_89 ?_
      refine zw_imul C dX0_fold_90 ?_
      refine zw_aload_n (i := 0) C dX0_fold_91 rfl rfl ?_
      refine zx_get_folded C dX0_fold_92 ?_
      refine zw_iload C dX0_fold_95 rfl ?_
      refine zw_iload_n (i := 3) C dX0_fold_97 rfl rfl ?_
      refine zw_iadd C dX0_fold_98 ?_
      refine zw_top (nI_add s (2 ^ F)) ?_
      refine zx_ld_folded C dX0_fold_99 (rfl) (by omega) ?_
      refine zw_aload_n (i := 0) C dX0_fold_100 rfl rfl ?_
      refine zx_get_chance C dX0_fold_101 ?_
      refine zw_iload_n (i := 2) C dX0_fold_104 rfl rfl ?_
      refine zx_ld_chance C dX0_fold_105 (rfl) (by omega) ?_
      refine zw_imul C dX0_fold_106 ?_
      refine zw_iadd C dX0_fold_107 ?_
      refine zx_st_folded C dX0_fold_108 (rfl) (by omega) ?_
      refine zw_iinc (v := nI (s + 1)) C dX0_fold_109 rfl (nI_1 s) (by decide) ?_
      refine zw_goto (tgt := 63) C dX0_fold_112 (by decide) ?_
      refine ih (s + 1) _ (by omega) (fun a ha => by rw [zw_up_n ha]; exact hk a ha) (fun a ha => ?_) (fun a ha => ?_)
      · rw [zw_up_s]
        by_cases e : a = s
        · rw [e, zw_upd_s, h2 s (Nat.le_refl _), h2 (s + 2 ^ F) (by omega), hk 4 (by decide)]
        · rw [zw_upd_n e]
          exact h1 a (by omega)
      · rw [zw_up_s, zw_upd_n (by omega)]
        exact h2 a (by omega)
theorem zxl_fold2 {X : zw_X} {h0 : Nat} {ad : Nat → Nat} {cI cZ : ClassId} {Q : State → Prop} (C : zw_Ok X ({ frames := 0, cells := 0, slots := 0, locals := 0 } : Room) cX0_fold 5 RX0 cI cZ (some .int)) {T : Int32} {m : Int32} {u : zw_St} (K : ∀ w, (∀ a, a ≠ 15 → w a = u a) → w 15 0 = T → zw_G X 5 Q 0 0 (zx_w h0 ad cI cZ w) 121 [some (.ref h0), some (.int m), none, none, none] []) : ∀ (F : Nat) (w : zw_St), F ≤ 9 → (∀ a, a ≠ 15 → w a = u a) → zw_sum (fun s => w 15 s * zw_wt (u 4) s F) (2 ^ F) = T → zw_G X 5 Q 0 0 (zx_w h0 ad cI cZ w) 52 [some (.ref h0), some (.int m), some (.int (nI F - 1)), none, none] [] := by
  intro F
  induction F with
  | zero =>
    intro w hF hk h
    refine zw_iload_n (i := 2) C dX0_fold_52 rfl rfl ?_
    refine zw_if_lt (tgt := 121) C dX0_fold_53 (by decide) (fun c53 => ?_) (fun c53 => ?_)
    · refine zw_forget 2 ?_
      refine K w hk ?_
      rw [← h]
      exact zw_fold0.symm
    · exact absurd (by decide) c53
  | succ F ih =>
    intro w hF hk h
    refine zw_loc 2 rfl (nI_pred F) ?_
    refine zw_iload_n (i := 2) C dX0_fold_52 rfl rfl ?_
    refine zw_if_lt (tgt := 121) C dX0_fold_53 (by decide) (fun c53 => ?_) (fun c53 => ?_)
    · exact absurd c53 (nI_pos (by omega))
    · refine zw_iconst (v := 1) C dX0_fold_56 (by decide) ?_
      refine zw_iload_n (i := 2) C dX0_fold_57 rfl rfl ?_
      refine zw_ishl C dX0_fold_58 ?_
      refine zw_top (zw_shl F (by omega)) ?_
      refine zw_istore_n (i := 3) C dX0_fold_59 rfl (by decide) ?_
      refine zw_iconst (v := 0) C dX0_fold_60 (by decide) ?_
      refine zw_istore C dX0_fold_61 (by decide) ?_
      refine zw_loc 4 rfl (show (0 : Int32) = nI 0 from zw_0) ?_
      refine zxl_fold3 C (F := F) (u := u) (old := w 15) (by omega) (fun w1 g1 g2 => ?_) (2 ^ F) 0 w (by omega) hk (fun a ha => absurd ha (by omega)) (fun a _ => rfl)
      refine zw_iinc (v := nI F - 1) C dX0_fold_115 rfl (zw_dec _) (by decide) ?_
      refine zw_goto (tgt := 52) C dX0_fold_118 (by decide) ?_
      refine ih w1 (by omega) g1 ?_
      rw [← h]
      exact zw_fold1 g2
theorem zxm_fold {h0 : Nat} {ad : Nat → Nat} {cI cZ : ClassId} {u : zw_St} (a : Int32) {n m : Nat} {P : Nat → Prop} (ea : a = nI m) (hn9 : n ≤ 9) (hm : m < 512) (hu : u 0 0 = nI n) (hy : ∀ s, s < 2 ^ n → u 14 s = zw_b (P s)) (l : Launch) (D : va_G) : zw_Mi l yX0_fold cX0_fold 5 (some .int) 0 0 D (zx_w h0 ad cI cZ) cI cZ [.ref h0, .int a] u (fun r u' => (∀ b, b ≠ 15 → u' b = u b) ∧ r = zw_sum (fun s => zw_b (P s ∧ s &&& m = m) * zw_wt (u 4) s n) (2 ^ n)) := by
  refine zw_Mi_of (by decide) (by simp [Value.category]) (Nat.le_of_ble_eq_true rfl) (fun X C => ?_) l D
  have C : zw_Ok X ({ frames := 0, cells := 0, slots := 0, locals := 0 } : Room) cX0_fold 5 RX0 cI cZ (some .int) := C
  show zw_G X 5 _ 0 0 _ 0 [some (.ref h0), some (.int a), none, none, none] []
  subst ea
  refine zw_iconst (v := 0) C dX0_fold_0 (by decide) ?_
  refine zw_istore_n (i := 2) C dX0_fold_1 rfl (by decide) ?_
  refine zw_loc 2 rfl (show (0 : Int32) = nI 0 from zw_0) ?_
  refine zxl_fold1 C hn9 hm hu hy (fun w hk h => ?_) (2 ^ n) 0 u (by omega) (fun _ _ => rfl) (fun a ha => absurd ha (by omega))
  refine zw_aload_n (i := 0) C dX0_fold_45 rfl rfl ?_
  refine zx_get_facts C dX0_fold_46 ?_
  refine zw_top (y := nI n) (by rw [hk 0 (by decide)]; exact hu) ?_
  refine zw_iconst (v := 1) C dX0_fold_49 (by decide) ?_
  refine zw_isub C dX0_fold_50 ?_
  refine zw_istore_n (i := 2) C dX0_fold_51 rfl (by decide) ?_
  refine zxl_fold2 C (u := u) (T := zw_sum (fun s => zw_b (P s ∧ s &&& m = m) * zw_wt (u 4) s n) (2 ^ n)) (fun w2 g1 g2 => ?_) n w hn9 hk (zw_sum_congr (fun i hi => by rw [h i hi]))
  refine zw_aload_n (i := 0) C dX0_fold_121 rfl rfl ?_
  refine zx_get_folded C dX0_fold_122 ?_
  refine zw_iconst (v := 0) C dX0_fold_125 (by decide) ?_
  refine zx_ld_folded C dX0_fold_126 (zw_0) (by omega) ?_
  refine zw_iret C rfl dX0_fold_127 ?_
  exact ⟨g1, g2⟩
/-- the sum of the weights of the worlds that answer yes and have all facts of m -/
noncomputable def zw_tot (u : zw_St) (n k m : Nat) : Int32 := zw_sum (fun s => zw_b (zw_yes u n k s ∧ s &&& m = m) * zw_wt (u 4) s n) (2 ^ n)
theorem zw_qp.D {u u' : zw_St} {n k : Nat} (h : zw_qp u n k u') (hD : zw_D u n k) : zw_D u' n k := h.1.D hD
theorem zw_qp.fold {u u1 u' : zw_St} {n k : Nat} (h : zw_qp u n k u1) (h' : ∀ b, b ≠ 15 → u' b = u1 b) : zw_qp u n k u' := by
  refine ⟨fun a ha => by rw [h' a (by omega)]; exact h.1 a ha, by rw [h' 12 (by decide)]; exact h.2.1, ?_, ?_⟩
  · have hk : zw_kp u1 u' := fun a ha => h' a (by omega)
    intro s hs
    rw [h' 13 (by decide), h.2.2.1 s hs]
    exact zw_bc hk.M.symm
  · have hk : zw_kp u1 u' := fun a ha => h' a (by omega)
    intro s hs
    rw [h' 14 (by decide), h.2.2.2 s hs]
    exact zw_bc hk.yes.symm
theorem zw_tot_kp {u u1 : zw_St} {n k m : Nat} (h : zw_kp u u1) : zw_sum (fun s => zw_b (zw_yes u1 n k s ∧ s &&& m = m) * zw_wt (u1 4) s n) (2 ^ n) = zw_tot u n k m := by
  unfold zw_tot
  rw [h 4 (by decide)]
  refine zw_sum_congr (fun i _ => ?_)
  rw [zw_bc (and_congr_left' (h.yes (n := n) (k := k) (w := i)))]
theorem zxm_share {h0 : Nat} {ad : Nat → Nat} {cI cZ : ClassId} {u : zw_St} {n k : Nat} (hD : zw_D u n k) (hR : zw_rd u n k) (l : Launch) (D : va_G) : zw_Mi l yX0_share cX0_share 1 (some .int) 4 91 D (zx_w h0 ad cI cZ) cI cZ [.ref h0] u (fun r u' => zw_qp u n k u' ∧ r = zw_tot u n k 0) := by
  refine zw_Mi_of (by decide) (by simp [Value.category]) (Nat.le_of_ble_eq_true rfl) (fun X C => ?_) l D
  have C : zw_Ok X ({ frames := 4, cells := 0, slots := 0, locals := 91 } : Room) cX0_share 1 RX0 cI cZ (some .int) := C
  show zw_G X 1 _ 0 0 _ 0 [some (.ref h0)] []
  refine zw_aload_n (i := 0) C dX0_share_0 rfl rfl ?_
  refine zw_callv (q0 := 0) (n := 0) C (fun l D => zxm_prepare hD hR l D) (lw_V q112 q114 qs1 q20 q115) rfl (by decide +kernel) ⟨Nat.le_of_ble_eq_true rfl, Nat.le_of_ble_eq_true rfl⟩ rfl rfl rfl (Nat.le_of_ble_eq_true rfl) ⟨Nat.le_of_ble_eq_true rfl, Nat.le_of_ble_eq_true rfl⟩ dX0_share_1 (fun u1 h1 => ?_)
  refine zw_aload_n (i := 0) C dX0_share_4 rfl rfl ?_
  refine zw_iconst (v := 0) C dX0_share_5 (by decide) ?_
  refine zw_calli (q0 := 0) (n := 1) C (fun l D => zxm_fold 0 zw_0 hD.1 (by decide) (h1.D hD).2.2.1 h1.2.2.2 l D) (lw_V q141 q143 qs8 q20 q144) rfl (by decide +kernel) ⟨Nat.le_of_ble_eq_true rfl, Nat.le_of_ble_eq_true rfl⟩ rfl rfl rfl (Nat.le_of_ble_eq_true rfl) ⟨Nat.le_of_ble_eq_true rfl, Nat.le_of_ble_eq_true rfl⟩ dX0_share_6 (fun r2 u2 h2 => ?_)
  refine zw_iret C rfl dX0_share_9 ?_
  exact ⟨h1.fold h2.1, by rw [h2.2]; exact zw_tot_kp h1.1⟩
theorem zxm_shareWith {h0 : Nat} {ad : Nat → Nat} {cI cZ : ClassId} {u : zw_St} (f : Int32) {n k : Nat} (hD : zw_D u n k) (hR : zw_rd u n k) (l : Launch) (D : va_G) : zw_Mi l yX0_shareWith cX0_shareWith 2 (some .int) 4 91 D (zx_w h0 ad cI cZ) cI cZ [.ref h0, .int f] u (fun r u' => (¬ zw_isF n f ∧ r = -4 ∧ u' = u) ∨ ∃ j : Nat, j < n ∧ f = nI j ∧ zw_qp u n k u' ∧ r = zw_tot u n k (2 ^ j)) := by
  refine zw_Mi_of (by decide) (by simp [Value.category]) (Nat.le_of_ble_eq_true rfl) (fun X C => ?_) l D
  have C : zw_Ok X ({ frames := 4, cells := 0, slots := 0, locals := 91 } : Room) cX0_shareWith 2 RX0 cI cZ (some .int) := C
  show zw_G X 2 _ 0 0 _ 0 [some (.ref h0), some (.int f)] []
  have hn9 := hD.1
  refine zw_aload_n (i := 0) C dX0_shareWith_0 rfl rfl ?_
  refine zw_iload_n (i := 1) C dX0_shareWith_1 rfl rfl ?_
  refine zw_calli (q0 := 0) (n := 1) C (fun l D => zxm_noFact f hD.2.2.1 hD.1 l D) (lw_V q89 q91 qs0 q20 q92) rfl (by decide +kernel) ⟨Nat.le_of_ble_eq_true rfl, Nat.le_of_ble_eq_true rfl⟩ rfl rfl rfl (Nat.le_of_ble_eq_true rfl) ⟨Nat.le_of_ble_eq_true rfl, Nat.le_of_ble_eq_true rfl⟩ dX0_shareWith_2 (fun r1 u1 h1 => ?_)
  obtain ⟨rfl, rfl⟩ := h1
  refine zw_if_eq (tgt := 11) C dX0_shareWith_5 (by decide) (fun c5 => ?_) (fun c5 => ?_)
  · obtain ⟨j, hj, ej⟩ : zw_isF n f := Classical.byContradiction fun q => zw_b_0.mp c5 q
    subst ej
    refine zw_aload_n (i := 0) C dX0_shareWith_11 rfl rfl ?_
    refine zw_callv (q0 := 0) (n := 0) C (fun l D => zxm_prepare hD hR l D) (lw_V q112 q114 qs1 q20 q115) rfl (by decide +kernel) ⟨Nat.le_of_ble_eq_true rfl, Nat.le_of_ble_eq_true rfl⟩ rfl rfl rfl (Nat.le_of_ble_eq_true rfl) ⟨Nat.le_of_ble_eq_true rfl, Nat.le_of_ble_eq_true rfl⟩ dX0_shareWith_12 (fun u2 h2 => ?_)
    refine zw_aload_n (i := 0) C dX0_shareWith_15 rfl rfl ?_
    refine zw_iconst (v := 1) C dX0_shareWith_16 (by decide) ?_
    refine zw_iload_n (i := 1) C dX0_shareWith_17 rfl rfl ?_
    refine zw_ishl C dX0_shareWith_18 ?_
    refine zw_top (zw_shl j (by omega)) ?_
    refine zw_calli (q0 := 0) (n := 1) C (fun l D => zxm_fold (nI (2 ^ j)) rfl hD.1 (Nat.lt_of_lt_of_le (Nat.pow_lt_pow_right (by decide) hj) (zw_p2 hn9)) (h2.D hD).2.2.1 h2.2.2.2 l D) (lw_V q141 q143 qs8 q20 q144) rfl (by decide +kernel) ⟨Nat.le_of_ble_eq_true rfl, Nat.le_of_ble_eq_true rfl⟩ rfl rfl rfl (Nat.le_of_ble_eq_true rfl) ⟨Nat.le_of_ble_eq_true rfl, Nat.le_of_ble_eq_true rfl⟩ dX0_shareWith_19 (fun r3 u3 h3 => ?_)
    refine zw_iret C rfl dX0_shareWith_22 ?_
    exact Or.inr ⟨j, hj, rfl, h2.fold h3.1, by rw [h3.2]; exact zw_tot_kp h2.1⟩
  · refine zw_bipush (v := -4) C dX0_shareWith_8 (by decide) ?_
    refine zw_iret C rfl dX0_shareWith_10 ?_
    exact Or.inl ⟨zw_b_n c5, rfl, rfl⟩
theorem zw_b_inj {P Q : Prop} : zw_b P = zw_b Q ↔ (P ↔ Q) := by
  constructor
  · intro h
    constructor
    · intro p
      rw [zw_b1 p] at h
      exact zw_b_1.mp h.symm
    · intro q
      rw [zw_b1 q] at h
      exact zw_b_1.mp h
  · exact zw_bc
theorem zxl_matters {X : zw_X} {h0 : Nat} {ad : Nat → Nat} {cI cZ : ClassId} {Q : State → Prop} (C : zw_Ok X ({ frames := 4, cells := 0, slots := 0, locals := 91 } : Room) cX0_matters 3 RX0 cI cZ (some .boolean)) {n j : Nat} {P : Nat → Prop} {u : zw_St} (hn9 : n ≤ 9) (hj : j < n) (hu : u 0 0 = nI n) (hy : ∀ s, s < 2 ^ n → u 14 s = zw_b (P s)) (K0 : (¬ ∃ s, s < 2 ^ n ∧ ¬ (P s ↔ P (s ||| 2 ^ j))) → zw_G X 3 Q 0 0 (zx_w h0 ad cI cZ u) 53 [some (.ref h0), some (.int (nI j)), none] []) (K1 : (∃ s, s < 2 ^ n ∧ ¬ (P s ↔ P (s ||| 2 ^ j))) → zw_G X 3 Q 0 0 (zx_w h0 ad cI cZ u) 45 [some (.ref h0), some (.int (nI j)), none] []) : ∀ (d s : Nat), s + d = 2 ^ n → (∀ s', s' < s → (P s' ↔ P (s' ||| 2 ^ j))) → zw_G X 3 Q 0 0 (zx_w h0 ad cI cZ u) 16 [some (.ref h0), some (.int (nI j)), some (.int (nI s))] [] := by
  have hp := zw_p2 hn9
  intro d
  induction d with
  | zero =>
    intro s hd h
    refine zw_iload_n (i := 2) C dX0_matters_16 rfl rfl ?_
    refine zw_iconst (v := 1) C dX0_matters_17 (by decide) ?_
    refine zw_aload_n (i := 0) C dX0_matters_18 rfl rfl ?_
    refine zx_get_facts C dX0_matters_19 ?_
    refine zw_top hu ?_
    refine zw_ishl C dX0_matters_22 ?_
    refine zw_top (zw_shl n (by omega)) ?_
    refine zw_icmp_ge (tgt := 53) C dX0_matters_23 (by decide) (fun c23 => ?_) (fun c23 => ?_)
    · refine zw_forget 2 ?_
      exact K0 (fun ⟨s', h1, h2⟩ => h2 (h s' (by omega)))
    · exact absurd ((nI_leI (a := 2 ^ n) (b := s) (by omega) (by omega)).mpr (by omega)) c23
  | succ d ih =>
    intro s hd h
    have hs : s < 2 ^ n := by omega
    have ho := zw_olt hs hj
    refine zw_iload_n (i := 2) C dX0_matters_16 rfl rfl ?_
    refine zw_iconst (v := 1) C dX0_matters_17 (by decide) ?_
    refine zw_aload_n (i := 0) C dX0_matters_18 rfl rfl ?_
    refine zx_get_facts C dX0_matters_19 ?_
    refine zw_top hu ?_
    refine zw_ishl C dX0_matters_22 ?_
    refine zw_top (zw_shl n (by omega)) ?_
    refine zw_icmp_ge (tgt := 53) C dX0_matters_23 (by decide) (fun c23 => ?_) (fun c23 => ?_)
    · have := (nI_leI (a := 2 ^ n) (b := s) (by omega) (by omega)).mp c23
      omega
    · refine zw_aload_n (i := 0) C dX0_matters_26 rfl rfl ?_
      refine zx_get_yes C dX0_matters_27 ?_
      refine zw_iload_n (i := 2) C dX0_matters_30 rfl rfl ?_
      refine zx_ld_yes C dX0_matters_31 (rfl) (by omega) ?_
      refine zw_top (hy s hs) ?_
      refine zw_aload_n (i := 0) C dX0_matters_32 rfl rfl ?_
      refine zx_get_yes C dX0_matters_33 ?_
      refine zw_iload_n (i := 2) C dX0_matters_36 rfl rfl ?_
      refine zw_iconst (v := 1) C dX0_matters_37 (by decide) ?_
      refine zw_iload_n (i := 1) C dX0_matters_38 rfl rfl ?_
      refine zw_ishl C dX0_matters_39 ?_
      refine zw_top (zw_shl j (by omega)) ?_
      refine zw_ior C dX0_matters_40 ?_
      refine zw_top (zw_or s (2 ^ j)) ?_
      refine zx_ld_yes C dX0_matters_41 (rfl) (by omega) ?_
      refine zw_top (hy _ ho) ?_
      refine zw_icmp_eq (tgt := 47) C dX0_matters_42 (by decide) (fun c42 => ?_) (fun c42 => ?_)
      · refine zw_iinc (v := nI (s + 1)) C dX0_matters_47 rfl (nI_1 s) (by decide) ?_
        refine zw_goto (tgt := 16) C dX0_matters_50 (by decide) ?_
        refine ih (s + 1) (by omega) (fun s' hs' => ?_)
        by_cases e : s' = s
        · rw [e]
          exact zw_b_inj.mp c42
        · exact h s' (by omega)
      · refine zw_forget 2 ?_
        exact K1 ⟨s, hs, fun q => c42 (zw_b_inj.mpr q)⟩
theorem zxm_matters {h0 : Nat} {ad : Nat → Nat} {cI cZ : ClassId} {u : zw_St} (f : Int32) {n k : Nat} (hD : zw_D u n k) (hR : zw_rd u n k) (l : Launch) (D : va_G) : zw_Mi l yX0_matters cX0_matters 3 (some .boolean) 4 91 D (zx_w h0 ad cI cZ) cI cZ [.ref h0, .int f] u (fun r u' => (¬ zw_isF n f ∧ r = 0 ∧ u' = u) ∨ ∃ j : Nat, j < n ∧ f = nI j ∧ zw_qp u n k u' ∧ r = zw_b (∃ s, s < 2 ^ n ∧ ¬ (zw_yes u n k s ↔ zw_yes u n k (s ||| 2 ^ j)))) := by
  refine zw_Mi_of (by decide) (by simp [Value.category]) (Nat.le_of_ble_eq_true rfl) (fun X C => ?_) l D
  have C : zw_Ok X ({ frames := 4, cells := 0, slots := 0, locals := 91 } : Room) cX0_matters 3 RX0 cI cZ (some .boolean) := C
  show zw_G X 3 _ 0 0 _ 0 [some (.ref h0), some (.int f), none] []
  have hn9 := hD.1
  refine zw_aload_n (i := 0) C dX0_matters_0 rfl rfl ?_
  refine zw_iload_n (i := 1) C dX0_matters_1 rfl rfl ?_
  refine zw_calli (q0 := 0) (n := 1) C (fun l D => zxm_noFact f hD.2.2.1 hD.1 l D) (lw_V q89 q91 qs0 q20 q92) rfl (by decide +kernel) ⟨Nat.le_of_ble_eq_true rfl, Nat.le_of_ble_eq_true rfl⟩ rfl rfl rfl (Nat.le_of_ble_eq_true rfl) ⟨Nat.le_of_ble_eq_true rfl, Nat.le_of_ble_eq_true rfl⟩ dX0_matters_2 (fun r1 u1 h1 => ?_)
  obtain ⟨rfl, rfl⟩ := h1
  refine zw_if_eq (tgt := 10) C dX0_matters_5 (by decide) (fun c5 => ?_) (fun c5 => ?_)
  · obtain ⟨j, hj, ej⟩ : zw_isF n f := Classical.byContradiction fun q => zw_b_0.mp c5 q
    subst ej
    refine zw_aload_n (i := 0) C dX0_matters_10 rfl rfl ?_
    refine zw_callv (q0 := 0) (n := 0) C (fun l D => zxm_prepare hD hR l D) (lw_V q112 q114 qs1 q20 q115) rfl (by decide +kernel) ⟨Nat.le_of_ble_eq_true rfl, Nat.le_of_ble_eq_true rfl⟩ rfl rfl rfl (Nat.le_of_ble_eq_true rfl) ⟨Nat.le_of_ble_eq_true rfl, Nat.le_of_ble_eq_true rfl⟩ dX0_matters_11 (fun u2 h2 => ?_)
    refine zw_iconst (v := 0) C dX0_matters_14 (by decide) ?_
    refine zw_istore_n (i := 2) C dX0_matters_15 rfl (by decide) ?_
    refine zw_loc 2 rfl (show (0 : Int32) = nI 0 from zw_0) ?_
    refine zxl_matters C (P := zw_yes u1 n k) hD.1 hj (h2.D hD).2.2.1 (fun s hs => by rw [h2.2.2.2 s hs]; exact zw_bc h2.1.yes) (fun q => ?_) (fun q => ?_) (2 ^ n) 0 (by omega) (fun a ha => absurd ha (by omega))
    · refine zw_iconst (v := 0) C dX0_matters_53 (by decide) ?_
      refine zw_iret C rfl dX0_matters_54 ?_
      exact Or.inr ⟨j, hj, rfl, h2, (zw_b0 q).symm⟩
    · refine zw_iconst (v := 1) C dX0_matters_45 (by decide) ?_
      refine zw_iret C rfl dX0_matters_46 ?_
      exact Or.inr ⟨j, hj, rfl, h2, (zw_b1 q).symm⟩
  · refine zw_iconst (v := 0) C dX0_matters_8 (by decide) ?_
    refine zw_iret C rfl dX0_matters_9 ?_
    exact Or.inl ⟨zw_b_n c5, rfl, rfl⟩
theorem zw_cnt_bit {s i : Nat} (hs : s < 512) (hi : i < 9) : nI (zw_cnt s i) + ((nI s >>> (nI i &&& 31)) &&& 1) = nI (zw_cnt s (i + 1)) := by
  rw [zw_bit s hs i hi]
  show _ = nI (zw_cnt s i + (if s.testBit i = true then 1 else 0))
  by_cases h : s.testBit i = true
  · rw [if_pos h, if_pos h]
    exact nI_1 _
  · rw [if_neg h, if_neg h, Int32.add_zero]
    rfl
theorem zxl_ones {X : zw_X} {h0 : Nat} {ad : Nat → Nat} {cI cZ : ClassId} {Q : State → Prop} (C : zw_Ok X ({ frames := 0, cells := 0, slots := 0, locals := 0 } : Room) cX0_ones 3 RX0 cI cZ (some .int)) {s : Nat} {u : zw_St} (hs : s < 512) (K : zw_G X 3 Q 0 0 (zx_w h0 ad cI cZ u) 24 [some (.int (nI s)), some (.int (nI (zw_cnt s 9))), none] []) : ∀ (d i : Nat), i + d = 9 → zw_G X 3 Q 0 0 (zx_w h0 ad cI cZ u) 4 [some (.int (nI s)), some (.int (nI (zw_cnt s i))), some (.int (nI i))] [] := by
  intro d
  induction d with
  | zero =>
    intro i hi
    have e : i = 9 := by omega
    subst e
    refine zw_iload_n (i := 2) C dX0_ones_4 rfl rfl ?_
    refine zw_bipush (v := 9) C dX0_ones_5 (by decide) ?_
    refine zw_icmp_ge (tgt := 24) C dX0_ones_7 (by decide) (fun c7 => ?_) (fun c7 => ?_)
    · refine zw_forget 2 ?_
      exact K
    · exact absurd (Int32.le_refl _) c7
  | succ d ih =>
    intro i hi
    refine zw_iload_n (i := 2) C dX0_ones_4 rfl rfl ?_
    refine zw_bipush (v := 9) C dX0_ones_5 (by decide) ?_
    refine zw_icmp_ge (tgt := 24) C dX0_ones_7 (by decide) (fun c7 => ?_) (fun c7 => ?_)
    · have := (nI_leI (a := 9) (b := i) (by omega) (by omega)).mp c7
      omega
    · refine zw_iload_n (i := 1) C dX0_ones_10 rfl rfl ?_
      refine zw_iload_n (i := 0) C dX0_ones_11 rfl rfl ?_
      refine zw_iload_n (i := 2) C dX0_ones_12 rfl rfl ?_
      refine zw_ishr C dX0_ones_13 ?_
      refine zw_iconst (v := 1) C dX0_ones_14 (by decide) ?_
      refine zw_iand C dX0_ones_15 ?_
      refine zw_iadd C dX0_ones_16 ?_
      refine zw_top (zw_cnt_bit hs (by omega)) ?_
      refine zw_istore_n (i := 1) C dX0_ones_17 rfl (by decide) ?_
      refine zw_iinc (v := nI (i + 1)) C dX0_ones_18 rfl (nI_1 i) (by decide) ?_
      refine zw_goto (tgt := 4) C dX0_ones_21 (by decide) ?_
      exact ih (i + 1) (by omega)
theorem zxm_ones {h0 : Nat} {ad : Nat → Nat} {cI cZ : ClassId} {u : zw_St} (a : Int32) {s : Nat} (ea : a = nI s) (hs : s < 512) (l : Launch) (D : va_G) : zw_Mi l yX0_ones cX0_ones 3 (some .int) 0 0 D (zx_w h0 ad cI cZ) cI cZ [.int a] u (fun r u' => u' = u ∧ r = nI (zw_cnt s 9)) := by
  refine zw_Mi_of (by decide) (by simp [Value.category]) (Nat.le_of_ble_eq_true rfl) (fun X C => ?_) l D
  have C : zw_Ok X ({ frames := 0, cells := 0, slots := 0, locals := 0 } : Room) cX0_ones 3 RX0 cI cZ (some .int) := C
  show zw_G X 3 _ 0 0 _ 0 [some (.int a), none, none] []
  subst ea
  refine zw_iconst (v := 0) C dX0_ones_0 (by decide) ?_
  refine zw_istore_n (i := 1) C dX0_ones_1 rfl (by decide) ?_
  refine zw_iconst (v := 0) C dX0_ones_2 (by decide) ?_
  refine zw_istore_n (i := 2) C dX0_ones_3 rfl (by decide) ?_
  refine zxl_ones C hs ?_ 9 0 (by omega)
  refine zw_iload_n (i := 1) C dX0_ones_24 rfl rfl ?_
  refine zw_iret C rfl dX0_ones_25 ?_
  exact ⟨rfl, rfl⟩
theorem zxl_fewest {X : zw_X} {h0 : Nat} {ad : Nat → Nat} {cI cZ : ClassId} {Q : State → Prop} (C : zw_Ok X ({ frames := 4, cells := 0, slots := 0, locals := 91 } : Room) cX0_fewest 4 RX0 cI cZ (some .int)) {n : Nat} {P : Nat → Prop} {u : zw_St} (hn9 : n ≤ 9) (hu : u 0 0 = nI n) (hy : ∀ s, s < 512 → u 13 s = zw_b (P s)) (K : ∀ x, zw_min P (2 ^ n) (fun s => zw_cnt s 9) x → zw_G X 4 Q 0 0 (zx_w h0 ad cI cZ u) 50 [some (.ref h0), some (.int x), none, none] []) : ∀ (d s : Nat) (x : Int32), s + d = 2 ^ n → zw_min P s (fun s => zw_cnt s 9) x → zw_G X 4 Q 0 0 (zx_w h0 ad cI cZ u) 9 [some (.ref h0), some (.int x), some (.int (nI s)), none] [] := by
  have hp := zw_p2 hn9
  intro d
  induction d with
  | zero =>
    intro s x hd h
    have e : s = 2 ^ n := by omega
    refine zw_iload_n (i := 2) C dX0_fewest_9 rfl rfl ?_
    refine zw_iconst (v := 1) C dX0_fewest_10 (by decide) ?_
    refine zw_aload_n (i := 0) C dX0_fewest_11 rfl rfl ?_
    refine zx_get_facts C dX0_fewest_12 ?_
    refine zw_top hu ?_
    refine zw_ishl C dX0_fewest_15 ?_
    refine zw_top (zw_shl n (by omega)) ?_
    refine zw_icmp_ge (tgt := 50) C dX0_fewest_16 (by decide) (fun c16 => ?_) (fun c16 => ?_)
    · refine zw_forget 2 ?_
      exact K x (e ▸ h)
    · exact absurd ((nI_leI (a := 2 ^ n) (b := s) (by omega) (by omega)).mpr (by omega)) c16
  | succ d ih =>
    intro s x hd h
    have hc : ∀ s, zw_cnt s 9 ≤ 9 := fun s => zw_cnt_le s 9
    refine zw_iload_n (i := 2) C dX0_fewest_9 rfl rfl ?_
    refine zw_iconst (v := 1) C dX0_fewest_10 (by decide) ?_
    refine zw_aload_n (i := 0) C dX0_fewest_11 rfl rfl ?_
    refine zx_get_facts C dX0_fewest_12 ?_
    refine zw_top hu ?_
    refine zw_ishl C dX0_fewest_15 ?_
    refine zw_top (zw_shl n (by omega)) ?_
    refine zw_icmp_ge (tgt := 50) C dX0_fewest_16 (by decide) (fun c16 => ?_) (fun c16 => ?_)
    · have := (nI_leI (a := 2 ^ n) (b := s) (by omega) (by omega)).mp c16
      omega
    · refine zw_aload_n (i := 0) C dX0_fewest_19 rfl rfl ?_
      refine zx_get_match C dX0_fewest_20 ?_
      refine zw_iload_n (i := 2) C dX0_fewest_23 rfl rfl ?_
      refine zx_ld_match C dX0_fewest_24 (rfl) (by omega) ?_
      refine zw_top (hy s (by omega)) ?_
      refine zw_if_eq (tgt := 44) C dX0_fewest_25 (by decide) (fun c25 => ?_) (fun c25 => ?_)
      · refine zw_iinc (v := nI (s + 1)) C dX0_fewest_44 rfl (nI_1 s) (by decide) ?_
        refine zw_goto (tgt := 9) C dX0_fewest_47 (by decide) ?_
        exact ih (s + 1) x (by omega) (zw_min_no h (zw_b_0.mp c25))
      · have hP := zw_b_n c25
        refine zw_iload_n (i := 2) C dX0_fewest_28 rfl rfl ?_
        refine zw_callsi (n := 1) C (fun l D => zxm_ones (nI s) rfl (by omega) l D) (lw_S q161 q162 q20 q163) rfl (by decide +kernel) ⟨Nat.le_of_ble_eq_true rfl, Nat.le_of_ble_eq_true rfl⟩ rfl (Nat.le_of_ble_eq_true rfl) ⟨Nat.le_of_ble_eq_true rfl, Nat.le_of_ble_eq_true rfl⟩ dX0_fewest_29 (fun r1 u1 h1 => ?_)
        obtain ⟨rfl, rfl⟩ := h1
        refine zw_istore_n (i := 3) C dX0_fewest_32 rfl (by decide) ?_
        refine zw_iload_n (i := 1) C dX0_fewest_33 rfl rfl ?_
        refine zw_if_lt (tgt := 42) C dX0_fewest_34 (by decide) (fun c34 => ?_) (fun c34 => ?_)
        · refine zw_iload_n (i := 3) C dX0_fewest_42 rfl rfl ?_
          refine zw_istore_n (i := 1) C dX0_fewest_43 rfl (by decide) ?_
          refine zw_iinc (v := nI (s + 1)) C dX0_fewest_44 rfl (nI_1 s) (by decide) ?_
          refine zw_goto (tgt := 9) C dX0_fewest_47 (by decide) ?_
          refine zw_forget 3 ?_
          exact ih (s + 1) _ (by omega) (zw_min_new hc h hP (Or.inl c34))
        · refine zw_iload_n (i := 3) C dX0_fewest_37 rfl rfl ?_
          refine zw_iload_n (i := 1) C dX0_fewest_38 rfl rfl ?_
          refine zw_icmp_ge (tgt := 44) C dX0_fewest_39 (by decide) (fun c39 => ?_) (fun c39 => ?_)
          · refine zw_iinc (v := nI (s + 1)) C dX0_fewest_44 rfl (nI_1 s) (by decide) ?_
            refine zw_goto (tgt := 9) C dX0_fewest_47 (by decide) ?_
            refine zw_forget 3 ?_
            exact ih (s + 1) _ (by omega) (zw_min_old hc h c34 c39)
          · refine zw_iload_n (i := 3) C dX0_fewest_42 rfl rfl ?_
            refine zw_istore_n (i := 1) C dX0_fewest_43 rfl (by decide) ?_
            refine zw_iinc (v := nI (s + 1)) C dX0_fewest_44 rfl (nI_1 s) (by decide) ?_
            refine zw_goto (tgt := 9) C dX0_fewest_47 (by decide) ?_
            refine zw_forget 3 ?_
            exact ih (s + 1) _ (by omega) (zw_min_new hc h hP (Or.inr (zw_nle c39)))
theorem zxm_fewest {h0 : Nat} {ad : Nat → Nat} {cI cZ : ClassId} {u : zw_St} {n k : Nat} (hD : zw_D u n k) (hR : zw_rd u n k) (l : Launch) (D : va_G) : zw_Mi l yX0_fewest cX0_fewest 4 (some .int) 4 91 D (zx_w h0 ad cI cZ) cI cZ [.ref h0] u (fun r u' => zw_qp u n k u' ∧ zw_min (zw_M u n k) (2 ^ n) (fun s => zw_cnt s 9) r) := by
  refine zw_Mi_of (by decide) (by simp [Value.category]) (Nat.le_of_ble_eq_true rfl) (fun X C => ?_) l D
  have C : zw_Ok X ({ frames := 4, cells := 0, slots := 0, locals := 91 } : Room) cX0_fewest 4 RX0 cI cZ (some .int) := C
  show zw_G X 4 _ 0 0 _ 0 [some (.ref h0), none, none, none] []
  refine zw_aload_n (i := 0) C dX0_fewest_0 rfl rfl ?_
  refine zw_callv (q0 := 0) (n := 0) C (fun l D => zxm_prepare hD hR l D) (lw_V q112 q114 qs1 q20 q115) rfl (by decide +kernel) ⟨Nat.le_of_ble_eq_true rfl, Nat.le_of_ble_eq_true rfl⟩ rfl rfl rfl (Nat.le_of_ble_eq_true rfl) ⟨Nat.le_of_ble_eq_true rfl, Nat.le_of_ble_eq_true rfl⟩ dX0_fewest_1 (fun u1 h1 => ?_)
  refine zw_bipush (v := -4) C dX0_fewest_4 (by decide) ?_
  refine zw_istore_n (i := 1) C dX0_fewest_6 rfl (by decide) ?_
  refine zw_iconst (v := 0) C dX0_fewest_7 (by decide) ?_
  refine zw_istore_n (i := 2) C dX0_fewest_8 rfl (by decide) ?_
  refine zw_loc 2 rfl (show (0 : Int32) = nI 0 from zw_0) ?_
  refine zxl_fewest C (P := zw_M u n k) hD.1 (h1.D hD).2.2.1 (fun s hs => by rw [h1.2.2.1 s hs]; exact zw_bc h1.1.M) (fun x hx => ?_) (2 ^ n) 0 (-4) (by omega) zw_min_0
  refine zw_iload_n (i := 1) C dX0_fewest_50 rfl rfl ?_
  refine zw_iret C rfl dX0_fewest_51 ?_
  exact ⟨h1, hx⟩
/-- a world that answers yes, none with a fact less does -/
def zw_rs (P : Nat → Prop) (n s : Nat) : Prop := P s ∧ ¬ ∃ f, f < n ∧ s.testBit f = true ∧ P (s ^^^ 2 ^ f)
theorem zw_sum_b1 {f : Nat → Int32} {n : Nat} (h : f n = 1) : zw_sum f n + 1 = zw_sum f (n + 1) := by
  show _ = zw_sum f n + f n
  rw [h]
theorem zw_sum_b0 {f : Nat → Int32} {n : Nat} (h : f n = 0) : zw_sum f n = zw_sum f (n + 1) := by
  show _ = zw_sum f n + f n
  rw [h, Int32.add_zero]
theorem zxl_reasons {X : zw_X} {h0 : Nat} {ad : Nat → Nat} {cI cZ : ClassId} {Q : State → Prop} (C : zw_Ok X ({ frames := 4, cells := 0, slots := 0, locals := 91 } : Room) cX0_reasons 4 RX0 cI cZ (some .int)) {n : Nat} {P : Nat → Prop} {u : zw_St} (hn9 : n ≤ 9) (hu : u 0 0 = nI n) (hy : ∀ s, s < 2 ^ n → u 14 s = zw_b (P s)) (K : zw_G X 4 Q 0 0 (zx_w h0 ad cI cZ u) 46 [some (.ref h0), some (.int (zw_sum (fun s => zw_b (zw_rs P n s)) (2 ^ n))), none, none] []) : ∀ (d s : Nat) (x : Int32), s + d = 2 ^ n → x = zw_sum (fun s => zw_b (zw_rs P n s)) s → zw_G X 4 Q 0 0 (zx_w h0 ad cI cZ u) 8 [some (.ref h0), some (.int x), some (.int (nI s)), none] [] := by
  have hp := zw_p2 hn9
  intro d
  induction d with
  | zero =>
    intro s x hd h
    have e : s = 2 ^ n := by omega
    refine zw_iload_n (i := 2) C dX0_reasons_8 rfl rfl ?_
    refine zw_iconst (v := 1) C dX0_reasons_9 (by decide) ?_
    refine zw_aload_n (i := 0) C dX0_reasons_10 rfl rfl ?_
    refine zx_get_facts C dX0_reasons_11 ?_
    refine zw_top hu ?_
    refine zw_ishl C dX0_reasons_14 ?_
    refine zw_top (zw_shl n (by omega)) ?_
    refine zw_icmp_ge (tgt := 46) C dX0_reasons_15 (by decide) (fun c15 => ?_) (fun c15 => ?_)
    · refine zw_forget 2 ?_
      rw [h, e]
      exact K
    · exact absurd ((nI_leI (a := 2 ^ n) (b := s) (by omega) (by omega)).mpr (by omega)) c15
  | succ d ih =>
    intro s x hd h
    have hs : s < 2 ^ n := by omega
    refine zw_iload_n (i := 2) C dX0_reasons_8 rfl rfl ?_
    refine zw_iconst (v := 1) C dX0_reasons_9 (by decide) ?_
    refine zw_aload_n (i := 0) C dX0_reasons_10 rfl rfl ?_
    refine zx_get_facts C dX0_reasons_11 ?_
    refine zw_top hu ?_
    refine zw_ishl C dX0_reasons_14 ?_
    refine zw_top (zw_shl n (by omega)) ?_
    refine zw_icmp_ge (tgt := 46) C dX0_reasons_15 (by decide) (fun c15 => ?_) (fun c15 => ?_)
    · have := (nI_leI (a := 2 ^ n) (b := s) (by omega) (by omega)).mp c15
      omega
    · refine zw_aload_n (i := 0) C dX0_reasons_18 rfl rfl ?_
      refine zx_get_yes C dX0_reasons_19 ?_
      refine zw_iload_n (i := 2) C dX0_reasons_22 rfl rfl ?_
      refine zx_ld_yes C dX0_reasons_23 (rfl) (by omega) ?_
      refine zw_top (hy s hs) ?_
      refine zw_if_eq (tgt := 40) C dX0_reasons_24 (by decide) (fun c24 => ?_) (fun c24 => ?_)
      · refine zw_iinc (v := nI (s + 1)) C dX0_reasons_40 rfl (nI_1 s) (by decide) ?_
        refine zw_goto (tgt := 8) C dX0_reasons_43 (by decide) ?_
        refine ih (s + 1) x (by omega) ?_
        rw [h]
        exact zw_sum_b0 (f := fun s => zw_b (zw_rs P n s)) (zw_b0 (fun q => zw_b_0.mp c24 q.1))
      · refine zw_aload_n (i := 0) C dX0_reasons_27 rfl rfl ?_
        refine zw_iload_n (i := 2) C dX0_reasons_28 rfl rfl ?_
        refine zw_calli (q0 := 0) (n := 1) C (fun l D => zxm_yesBelow (nI s) rfl hn9 hu hs l D) (lw_V q137 q139 qs7 q20 q140) rfl (by decide +kernel) ⟨Nat.le_of_ble_eq_true rfl, Nat.le_of_ble_eq_true rfl⟩ rfl rfl rfl (Nat.le_of_ble_eq_true rfl) ⟨Nat.le_of_ble_eq_true rfl, Nat.le_of_ble_eq_true rfl⟩ dX0_reasons_29 (fun r1 u1 h1 => ?_)
        obtain ⟨rfl, rfl⟩ := h1
        have hbel : (∃ f, f < n ∧ s.testBit f = true ∧ ¬ u1 14 (s ^^^ 2 ^ f) = 0) ↔ ∃ f, f < n ∧ s.testBit f = true ∧ P (s ^^^ 2 ^ f) := by
          constructor
          · rintro ⟨f, a1, a2, a3⟩
            refine ⟨f, a1, a2, ?_⟩
            rw [hy _ (zw_xlt hs a1)] at a3
            exact zw_b_n a3
          · rintro ⟨f, a1, a2, a3⟩
            refine ⟨f, a1, a2, ?_⟩
            rw [hy _ (zw_xlt hs a1), zw_b1 a3]
            exact zw_10
        refine zw_istore_n (i := 3) C dX0_reasons_32 rfl (by decide) ?_
        refine zw_iload_n (i := 3) C dX0_reasons_33 rfl rfl ?_
        refine zw_if_ne (tgt := 40) C dX0_reasons_34 (by decide) (fun c34 => ?_) (fun c34 => ?_)
        · refine zw_iinc (v := nI (s + 1)) C dX0_reasons_40 rfl (nI_1 s) (by decide) ?_
          refine zw_goto (tgt := 8) C dX0_reasons_43 (by decide) ?_
          refine zw_forget 3 ?_
          refine ih (s + 1) x (by omega) ?_
          rw [h]
          exact zw_sum_b0 (f := fun s => zw_b (zw_rs P n s)) (zw_b0 (fun q => q.2 (hbel.mp (zw_b_n c34))))
        · refine zw_iinc (v := x + 1) C dX0_reasons_37 rfl (rfl) (by decide) ?_
          refine zw_iinc (v := nI (s + 1)) C dX0_reasons_40 rfl (nI_1 s) (by decide) ?_
          refine zw_goto (tgt := 8) C dX0_reasons_43 (by decide) ?_
          refine zw_forget 3 ?_
          refine ih (s + 1) _ (by omega) ?_
          rw [h]
          exact zw_sum_b1 (f := fun s => zw_b (zw_rs P n s)) (zw_b1 ⟨zw_b_n c24, fun q => zw_b_0.mp c34 (hbel.mpr q)⟩)
theorem zxm_reasons {h0 : Nat} {ad : Nat → Nat} {cI cZ : ClassId} {u : zw_St} {n k : Nat} (hD : zw_D u n k) (hR : zw_rd u n k) (l : Launch) (D : va_G) : zw_Mi l yX0_reasons cX0_reasons 4 (some .int) 4 91 D (zx_w h0 ad cI cZ) cI cZ [.ref h0] u (fun r u' => zw_qp u n k u' ∧ r = zw_sum (fun s => zw_b (zw_rs (zw_yes u n k) n s)) (2 ^ n)) := by
  refine zw_Mi_of (by decide) (by simp [Value.category]) (Nat.le_of_ble_eq_true rfl) (fun X C => ?_) l D
  have C : zw_Ok X ({ frames := 4, cells := 0, slots := 0, locals := 91 } : Room) cX0_reasons 4 RX0 cI cZ (some .int) := C
  show zw_G X 4 _ 0 0 _ 0 [some (.ref h0), none, none, none] []
  refine zw_aload_n (i := 0) C dX0_reasons_0 rfl rfl ?_
  refine zw_callv (q0 := 0) (n := 0) C (fun l D => zxm_prepare hD hR l D) (lw_V q112 q114 qs1 q20 q115) rfl (by decide +kernel) ⟨Nat.le_of_ble_eq_true rfl, Nat.le_of_ble_eq_true rfl⟩ rfl rfl rfl (Nat.le_of_ble_eq_true rfl) ⟨Nat.le_of_ble_eq_true rfl, Nat.le_of_ble_eq_true rfl⟩ dX0_reasons_1 (fun u1 h1 => ?_)
  refine zw_iconst (v := 0) C dX0_reasons_4 (by decide) ?_
  refine zw_istore_n (i := 1) C dX0_reasons_5 rfl (by decide) ?_
  refine zw_iconst (v := 0) C dX0_reasons_6 (by decide) ?_
  refine zw_istore_n (i := 2) C dX0_reasons_7 rfl (by decide) ?_
  refine zw_loc 2 rfl (show (0 : Int32) = nI 0 from zw_0) ?_
  refine zxl_reasons C (P := zw_yes u n k) hD.1 (h1.D hD).2.2.1 (fun s hs => by rw [h1.2.2.2 s hs]; exact zw_bc h1.1.yes) ?_ (2 ^ n) 0 0 (by omega) rfl
  refine zw_iload_n (i := 1) C dX0_reasons_46 rfl rfl ?_
  refine zw_iret C rfl dX0_reasons_47 ?_
  exact ⟨h1, rfl⟩
end
section
/-! LineageWorldsModel: facts and conditions -/
set_option maxRecDepth 100000
/-- the model's state by the class's places: 0 facts, 1 from, 2 to, 3 label, 4 chance, 5 conditions, 6, 7, 8 the question -/
def zy_x (v : zw_St) : zw_St := fun a => match a with
  | 0 => v 4
  | 1 => v 0
  | 2 => v 1
  | 3 => v 2
  | 4 => v 3
  | 5 => v 8
  | 6 => v 5
  | 7 => v 6
  | 8 => v 7
  | _ => fun _ => 0
theorem zym_isFact {h0 : Nat} {ad : Nat → Nat} {cI cZ : ClassId} {u : zw_St} (f : Int32) {N : Nat} (hN : u 4 0 = nI N) (hN9 : N ≤ 9) (l : Launch) (D : va_G) : zw_Mi l yX1_isFact cX1_isFact 2 (some .boolean) 0 0 D (zy_w h0 ad cI cZ) cI cZ [.ref h0, .int f] u (fun r u' => u' = u ∧ r = zw_b (zw_isF N f)) := by
  refine zw_Mi_of (by decide) (by simp [Value.category]) (Nat.le_of_ble_eq_true rfl) (fun X C => ?_) l D
  have C : zw_Ok X ({ frames := 0, cells := 0, slots := 0, locals := 0 } : Room) cX1_isFact 2 RX1 cI cZ (some .boolean) := C
  show zw_G X 2 _ 0 0 _ 0 [some (.ref h0), some (.int f)] []
  refine zw_iload_n (i := 1) C dX1_isFact_0 rfl rfl ?_
  refine zw_if_lt (tgt := 16) C dX1_isFact_1 (by decide) (fun c1 => ?_) (fun c1 => ?_)
  · refine zw_iconst (v := 0) C dX1_isFact_16 (by decide) ?_
    refine zw_iret C rfl dX1_isFact_17 ?_
    exact ⟨rfl, (zw_b0 (zw_isF_no (by omega) (Or.inl c1))).symm⟩
  · refine zw_iload_n (i := 1) C dX1_isFact_4 rfl rfl ?_
    refine zw_aload_n (i := 0) C dX1_isFact_5 rfl rfl ?_
    refine zy_get_facts C dX1_isFact_6 ?_
    refine zw_top hN ?_
    refine zw_icmp_ge (tgt := 16) C dX1_isFact_9 (by decide) (fun c9 => ?_) (fun c9 => ?_)
    · refine zw_iconst (v := 0) C dX1_isFact_16 (by decide) ?_
      refine zw_iret C rfl dX1_isFact_17 ?_
      exact ⟨rfl, (zw_b0 (zw_isF_no (by omega) (Or.inr c9))).symm⟩
    · refine zw_iconst (v := 1) C dX1_isFact_12 (by decide) ?_
      refine zw_goto (tgt := 17) C dX1_isFact_13 (by decide) ?_
      refine zw_iret C rfl dX1_isFact_17 ?_
      exact ⟨rfl, (zw_b1 (zw_isF_yes (by omega) c1 (zw_nle c9))).symm⟩
theorem zw_1314 (a : Int32) : 13 < a ↔ 14 ≤ a := by
  rw [Int32.le_iff_toInt_le, Int32.lt_iff_toInt_lt]
  have h1 : (13 : Int32).toInt = 13 := by decide
  have h2 : (14 : Int32).toInt = 14 := by decide
  omega
theorem zw_x8 {x : Int32} (h : x < 0) : x < 8 := by
  rw [Int32.lt_iff_toInt_lt] at h ⊢
  have h1 : (8 : Int32).toInt = 8 := by decide
  have h2 : (0 : Int32).toInt = 0 := by decide
  omega
theorem zym_isEnd {h0 : Nat} {ad : Nat → Nat} {cI cZ : ClassId} {u : zw_St} (x : Int32)  (l : Launch) (D : va_G) : zw_Mi l yX1_isEnd cX1_isEnd 2 (some .boolean) 0 0 D (zy_w h0 ad cI cZ) cI cZ [.ref h0, .int x] u (fun r u' => u' = u ∧ r = zw_b (zw_pl x)) := by
  refine zw_Mi_of (by decide) (by simp [Value.category]) (Nat.le_of_ble_eq_true rfl) (fun X C => ?_) l D
  have C : zw_Ok X ({ frames := 0, cells := 0, slots := 0, locals := 0 } : Room) cX1_isEnd 2 RX1 cI cZ (some .boolean) := C
  show zw_G X 2 _ 0 0 _ 0 [some (.ref h0), some (.int x)] []
  refine zw_iload_n (i := 1) C dX1_isEnd_0 rfl rfl ?_
  refine zw_if_lt (tgt := 9) C dX1_isEnd_1 (by decide) (fun c1 => ?_) (fun c1 => ?_)
  · refine zw_iload_n (i := 1) C dX1_isEnd_9 rfl rfl ?_
    refine zw_bipush (v := 8) C dX1_isEnd_10 (by decide) ?_
    refine zw_icmp_lt (tgt := 25) C dX1_isEnd_12 (by decide) (fun c12 => ?_) (fun c12 => ?_)
    · refine zw_iconst (v := 0) C dX1_isEnd_25 (by decide) ?_
      refine zw_iret C rfl dX1_isEnd_26 ?_
      exact ⟨rfl, (zw_b0 (zw_pl_no (Or.inl c1))).symm⟩
    · exact absurd (zw_x8 c1) c12
  · refine zw_iload_n (i := 1) C dX1_isEnd_4 rfl rfl ?_
    refine zw_iconst (v := 2) C dX1_isEnd_5 (by decide) ?_
    refine zw_icmp_le (tgt := 21) C dX1_isEnd_6 (by decide) (fun c6 => ?_) (fun c6 => ?_)
    · refine zw_iconst (v := 1) C dX1_isEnd_21 (by decide) ?_
      refine zw_goto (tgt := 26) C dX1_isEnd_22 (by decide) ?_
      refine zw_iret C rfl dX1_isEnd_26 ?_
      refine ⟨rfl, (zw_b1 (zw_pl_yes c1 (Or.inl c6) ?_)).symm⟩
      rw [Int32.le_iff_toInt_le] at c6
      rw [Int32.lt_iff_toInt_lt]
      have h1 : (2 : Int32).toInt = 2 := by decide
      have h2 : (14 : Int32).toInt = 14 := by decide
      omega
    · refine zw_iload_n (i := 1) C dX1_isEnd_9 rfl rfl ?_
      refine zw_bipush (v := 8) C dX1_isEnd_10 (by decide) ?_
      refine zw_icmp_lt (tgt := 25) C dX1_isEnd_12 (by decide) (fun c12 => ?_) (fun c12 => ?_)
      · refine zw_iconst (v := 0) C dX1_isEnd_25 (by decide) ?_
        refine zw_iret C rfl dX1_isEnd_26 ?_
        exact ⟨rfl, (zw_b0 (zw_pl_no (Or.inr (Or.inl ⟨zw_nle c6, c12⟩)))).symm⟩
      · refine zw_iload_n (i := 1) C dX1_isEnd_15 rfl rfl ?_
        refine zw_bipush (v := 13) C dX1_isEnd_16 (by decide) ?_
        refine zw_icmp_gt (tgt := 25) C dX1_isEnd_18 (by decide) (fun c18 => ?_) (fun c18 => ?_)
        · refine zw_iconst (v := 0) C dX1_isEnd_25 (by decide) ?_
          refine zw_iret C rfl dX1_isEnd_26 ?_
          exact ⟨rfl, (zw_b0 (zw_pl_no (Or.inr (Or.inr ((zw_1314 x).mp c18))))).symm⟩
        · refine zw_iconst (v := 1) C dX1_isEnd_21 (by decide) ?_
          refine zw_goto (tgt := 26) C dX1_isEnd_22 (by decide) ?_
          refine zw_iret C rfl dX1_isEnd_26 ?_
          exact ⟨rfl, (zw_b1 (zw_pl_yes c1 (Or.inr (zw_nlt c12)) (zw_nle (fun q => c18 ((zw_1314 x).mpr q))))).symm⟩
def zy_fact (u : zw_St) (N : Nat) (e n : Int32) : zw_St := zw_up (zw_up (zw_up (zw_up (zw_up (zw_up u 0 N (e &&& 7)) 1 N ((e >>> (3 &&& 31)) &&& 7)) 2 N ((e >>> (6 &&& 31)) &&& 1)) 3 N n) 4 0 (nI (N + 1))) 11 0 0
theorem zym_fact {h0 : Nat} {ad : Nat → Nat} {cI cZ : ClassId} {u : zw_St} (e : Int32) (n : Int32) {N : Nat} (hN : u 4 0 = nI N) (hN9 : N ≤ 9) (l : Launch) (D : va_G) : zw_Mi l yX1_fact cX1_fact 3 (some .int) 0 0 D (zy_w h0 ad cI cZ) cI cZ [.ref h0, .int e, .int n] u (fun r u' => (zw_cn e ∧ r = -1 ∧ u' = u) ∨ (¬ zw_cn e ∧ zw_cm n ∧ r = -2 ∧ u' = u) ∨ (¬ zw_cn e ∧ ¬ zw_cm n ∧ N = 9 ∧ r = -3 ∧ u' = u) ∨ (¬ zw_cn e ∧ ¬ zw_cm n ∧ N < 9 ∧ r = nI N ∧ u' = zy_fact u N e n)) := by
  refine zw_Mi_of (by decide) (by simp [Value.category]) (Nat.le_of_ble_eq_true rfl) (fun X C => ?_) l D
  have C : zw_Ok X ({ frames := 0, cells := 0, slots := 0, locals := 0 } : Room) cX1_fact 3 RX1 cI cZ (some .int) := C
  show zw_G X 3 _ 0 0 _ 0 [some (.ref h0), some (.int e), some (.int n)] []
  refine zw_iload_n (i := 1) C dX1_fact_0 rfl rfl ?_
  refine zw_bipush (v := 7) C dX1_fact_1 (by decide) ?_
  refine zw_iand C dX1_fact_3 ?_
  refine zw_iconst (v := 5) C dX1_fact_4 (by decide) ?_
  refine zw_icmp_gt (tgt := 18) C dX1_fact_5 (by decide) (fun c5 => ?_) (fun c5 => ?_)
  · refine zw_iconst (v := -1) C dX1_fact_18 (by decide) ?_
    refine zw_iret C rfl dX1_fact_19 ?_
    exact Or.inl ⟨Or.inl ((zw_56 _).mp c5), rfl, rfl⟩
  · refine zw_iload_n (i := 1) C dX1_fact_8 rfl rfl ?_
    refine zw_iconst (v := 3) C dX1_fact_9 (by decide) ?_
    refine zw_ishr C dX1_fact_10 ?_
    refine zw_bipush (v := 7) C dX1_fact_11 (by decide) ?_
    refine zw_iand C dX1_fact_13 ?_
    refine zw_iconst (v := 5) C dX1_fact_14 (by decide) ?_
    refine zw_icmp_le (tgt := 20) C dX1_fact_15 (by decide) (fun c15 => ?_) (fun c15 => ?_)
    · have hc : ¬ zw_cn e := fun q => q.elim (fun q => c5 ((zw_56 _).mpr q)) (fun q => zw_lenl c15 ((zw_56 _).mpr q))
      have bad : zw_cm n → zw_G X 3 (zw_Qi X (zy_w h0 ad cI cZ) cI cZ (fun r u' => (zw_cn e ∧ r = -1 ∧ u' = u) ∨ (¬ zw_cn e ∧ zw_cm n ∧ r = -2 ∧ u' = u) ∨ (¬ zw_cn e ∧ ¬ zw_cm n ∧ N = 9 ∧ r = -3 ∧ u' = u) ∨ (¬ zw_cn e ∧ ¬ zw_cm n ∧ N < 9 ∧ r = nI N ∧ u' = zy_fact u N e n))) 0 0 (zy_w h0 ad cI cZ u) 30 [some (.ref h0), some (.int e), some (.int n)] [] := by
        intro q
        refine zw_bipush (v := -2) C dX1_fact_30 (by decide) ?_
        refine zw_iret C rfl dX1_fact_32 ?_
        exact Or.inr (Or.inl ⟨hc, q, rfl, rfl⟩)
      refine zw_iload_n (i := 2) C dX1_fact_20 rfl rfl ?_
      refine zw_iconst (v := 1) C dX1_fact_21 (by decide) ?_
      refine zw_icmp_lt (tgt := 30) C dX1_fact_22 (by decide) (fun c22 => ?_) (fun c22 => ?_)
      · exact bad (Or.inl c22)
      · refine zw_iload_n (i := 2) C dX1_fact_25 rfl rfl ?_
        refine zw_iconst (v := 4) C dX1_fact_26 (by decide) ?_
        refine zw_icmp_le (tgt := 33) C dX1_fact_27 (by decide) (fun c27 => ?_) (fun c27 => ?_)
        · have hm : ¬ zw_cm n := fun q => q.elim c22 (zw_lenl c27)
          refine zw_aload_n (i := 0) C dX1_fact_33 rfl rfl ?_
          refine zy_get_facts C dX1_fact_34 ?_
          refine zw_top hN ?_
          refine zw_bipush (v := 9) C dX1_fact_37 (by decide) ?_
          refine zw_icmp_ne (tgt := 45) C dX1_fact_39 (by decide) (fun c39 => ?_) (fun c39 => ?_)
          · have h9 : N < 9 := by
              have : N ≠ 9 := fun e => c39 (by rw [e]; rfl)
              omega
            refine zw_aload_n (i := 0) C dX1_fact_45 rfl rfl ?_
            refine zy_get_tails C dX1_fact_46 ?_
            refine zw_aload_n (i := 0) C dX1_fact_49 rfl rfl ?_
            refine zy_get_facts C dX1_fact_50 ?_
            refine zw_iload_n (i := 1) C dX1_fact_53 rfl rfl ?_
            refine zw_bipush (v := 7) C dX1_fact_54 (by decide) ?_
            refine zw_iand C dX1_fact_56 ?_
            refine zy_st_tails C dX1_fact_57 (hN) (h9) ?_
            refine zw_aload_n (i := 0) C dX1_fact_58 rfl rfl ?_
            refine zy_get_heads C dX1_fact_59 ?_
            refine zw_aload_n (i := 0) C dX1_fact_62 rfl rfl ?_
            refine zy_get_facts C dX1_fact_63 ?_
            refine zw_iload_n (i := 1) C dX1_fact_66 rfl rfl ?_
            refine zw_iconst (v := 3) C dX1_fact_67 (by decide) ?_
            refine zw_ishr C dX1_fact_68 ?_
            refine zw_bipush (v := 7) C dX1_fact_69 (by decide) ?_
            refine zw_iand C dX1_fact_71 ?_
            refine zy_st_heads C dX1_fact_72 (hN) (h9) ?_
            refine zw_aload_n (i := 0) C dX1_fact_73 rfl rfl ?_
            refine zy_get_labels C dX1_fact_74 ?_
            refine zw_aload_n (i := 0) C dX1_fact_77 rfl rfl ?_
            refine zy_get_facts C dX1_fact_78 ?_
            refine zw_iload_n (i := 1) C dX1_fact_81 rfl rfl ?_
            refine zw_bipush (v := 6) C dX1_fact_82 (by decide) ?_
            refine zw_ishr C dX1_fact_84 ?_
            refine zw_iconst (v := 1) C dX1_fact_85 (by decide) ?_
            refine zw_iand C dX1_fact_86 ?_
            refine zy_st_labels C dX1_fact_87 (hN) (h9) ?_
            refine zw_aload_n (i := 0) C dX1_fact_88 rfl rfl ?_
            refine zy_get_numbers C dX1_fact_89 ?_
            refine zw_aload_n (i := 0) C dX1_fact_92 rfl rfl ?_
            refine zy_get_facts C dX1_fact_93 ?_
            refine zw_iload_n (i := 2) C dX1_fact_96 rfl rfl ?_
            refine zy_st_numbers C dX1_fact_97 (hN) (h9) ?_
            refine zw_aload_n (i := 0) C dX1_fact_98 rfl rfl ?_
            refine zw_dup C dX1_fact_99 rfl ?_
            refine zy_get_facts C dX1_fact_100 ?_
            refine zw_iconst (v := 1) C dX1_fact_103 (by decide) ?_
            refine zw_iadd C dX1_fact_104 ?_
            refine zw_top (y := nI (N + 1)) (by rw [← nI_1]; exact congrArg (· + 1) hN) ?_
            refine zy_put_facts C dX1_fact_105 ?_
            refine zw_aload_n (i := 0) C dX1_fact_108 rfl rfl ?_
            refine zw_iconst (v := 0) C dX1_fact_109 (by decide) ?_
            refine zy_put_known C rfl rfl dX1_fact_110 ?_
            refine zw_aload_n (i := 0) C dX1_fact_113 rfl rfl ?_
            refine zy_get_facts C dX1_fact_114 ?_
            refine zw_iconst (v := 1) C dX1_fact_117 (by decide) ?_
            refine zw_isub C dX1_fact_118 ?_
            refine zw_top (y := nI N) (nI_pred N) ?_
            refine zw_iret C rfl dX1_fact_119 ?_
            exact Or.inr (Or.inr (Or.inr ⟨hc, hm, h9, rfl, rfl⟩))
          · refine zw_bipush (v := -3) C dX1_fact_42 (by decide) ?_
            refine zw_iret C rfl dX1_fact_44 ?_
            have h9 := (nI_eq (a := N) (b := 9) (by omega) (by omega)).mp c39
            exact Or.inr (Or.inr (Or.inl ⟨hc, hm, h9, rfl, rfl⟩))
        · exact bad (Or.inr (zw_nle c27))
    · refine zw_iconst (v := -1) C dX1_fact_18 (by decide) ?_
      refine zw_iret C rfl dX1_fact_19 ?_
      exact Or.inl ⟨Or.inr ((zw_56 _).mp (zw_nle c15)), rfl, rfl⟩
theorem zym_likely {h0 : Nat} {ad : Nat → Nat} {cI cZ : ClassId} {u : zw_St} (f : Int32) (n : Int32) {N : Nat} (hN : u 4 0 = nI N) (hN9 : N ≤ 9) (l : Launch) (D : va_G) : zw_Mi l yX1_likely cX1_likely 4 (some .int) 1 21 D (zy_w h0 ad cI cZ) cI cZ [.ref h0, .int f, .int n] u (fun r u' => (¬ zw_isF N f ∧ r = -4 ∧ u' = u) ∨ (zw_isF N f ∧ zw_cm n ∧ r = -2 ∧ u' = u) ∨ (¬ zw_cm n ∧ ∃ j : Nat, j < N ∧ f = nI j ∧ r = u 3 j ∧ u' = zw_up u 3 j n)) := by
  refine zw_Mi_of (by decide) (by simp [Value.category]) (Nat.le_of_ble_eq_true rfl) (fun X C => ?_) l D
  have C : zw_Ok X ({ frames := 1, cells := 0, slots := 0, locals := 21 } : Room) cX1_likely 4 RX1 cI cZ (some .int) := C
  show zw_G X 4 _ 0 0 _ 0 [some (.ref h0), some (.int f), some (.int n), none] []
  refine zw_aload_n (i := 0) C dX1_likely_0 rfl rfl ?_
  refine zw_iload_n (i := 1) C dX1_likely_1 rfl rfl ?_
  refine zw_calli (q0 := 0) (n := 1) C (fun l D => zym_isFact f hN hN9 l D) (lw_V q219 q221 qs9 q21 q222) rfl (by decide +kernel) ⟨Nat.le_of_ble_eq_true rfl, Nat.le_of_ble_eq_true rfl⟩ rfl rfl rfl (Nat.le_of_ble_eq_true rfl) ⟨Nat.le_of_ble_eq_true rfl, Nat.le_of_ble_eq_true rfl⟩ dX1_likely_2 (fun r1 u1 h1 => ?_)
  obtain ⟨rfl, rfl⟩ := h1
  refine zw_if_ne (tgt := 11) C dX1_likely_5 (by decide) (fun c5 => ?_) (fun c5 => ?_)
  · have hf : zw_isF N f := zw_b_n c5
    have bad : zw_cm n → zw_G X 4 (zw_Qi X (zy_w h0 ad cI cZ) cI cZ (fun r u' => (¬ zw_isF N f ∧ r = -4 ∧ u' = u1) ∨ (zw_isF N f ∧ zw_cm n ∧ r = -2 ∧ u' = u1) ∨ (¬ zw_cm n ∧ ∃ j : Nat, j < N ∧ f = nI j ∧ r = u1 3 j ∧ u' = zw_up u1 3 j n))) 0 0 (zy_w h0 ad cI cZ u1) 21 [some (.ref h0), some (.int f), some (.int n), none] [] := by
      intro q
      refine zw_bipush (v := -2) C dX1_likely_21 (by decide) ?_
      refine zw_iret C rfl dX1_likely_23 ?_
      exact Or.inr (Or.inl ⟨hf, q, rfl, rfl⟩)
    refine zw_iload_n (i := 2) C dX1_likely_11 rfl rfl ?_
    refine zw_iconst (v := 1) C dX1_likely_12 (by decide) ?_
    refine zw_icmp_lt (tgt := 21) C dX1_likely_13 (by decide) (fun c13 => ?_) (fun c13 => ?_)
    · exact bad (Or.inl c13)
    · refine zw_iload_n (i := 2) C dX1_likely_16 rfl rfl ?_
      refine zw_iconst (v := 4) C dX1_likely_17 (by decide) ?_
      refine zw_icmp_le (tgt := 24) C dX1_likely_18 (by decide) (fun c18 => ?_) (fun c18 => ?_)
      · have hm : ¬ zw_cm n := fun q => q.elim c13 (zw_lenl c18)
        obtain ⟨j, hj, ej⟩ := hf
        refine zw_aload_n (i := 0) C dX1_likely_24 rfl rfl ?_
        refine zy_get_numbers C dX1_likely_25 ?_
        refine zw_iload_n (i := 1) C dX1_likely_28 rfl rfl ?_
        refine zy_ld_numbers C dX1_likely_29 (ej) (by omega) ?_
        refine zw_istore_n (i := 3) C dX1_likely_30 rfl (by decide) ?_
        refine zw_aload_n (i := 0) C dX1_likely_31 rfl rfl ?_
        refine zy_get_numbers C dX1_likely_32 ?_
        refine zw_iload_n (i := 1) C dX1_likely_35 rfl rfl ?_
        refine zw_iload_n (i := 2) C dX1_likely_36 rfl rfl ?_
        refine zy_st_numbers C dX1_likely_37 (ej) (by omega) ?_
        refine zw_iload_n (i := 3) C dX1_likely_38 rfl rfl ?_
        refine zw_iret C rfl dX1_likely_39 ?_
        exact Or.inr (Or.inr ⟨hm, j, hj, ej, rfl, rfl⟩)
      · exact bad (Or.inr (zw_nle c18))
  · refine zw_bipush (v := -4) C dX1_likely_8 (by decide) ?_
    refine zw_iret C rfl dX1_likely_10 ?_
    exact Or.inl ⟨zw_b_0.mp c5, rfl, rfl⟩
def zy_cond (u : zw_St) (K : Nat) (a x y : Int32) : zw_St := zw_up (zw_up (zw_up (zw_up (zw_up u 5 K (a &&& 1)) 6 K x) 7 K y) 8 0 (nI (K + 1))) 11 0 0
theorem zym_condition {h0 : Nat} {ad : Nat → Nat} {cI cZ : ClassId} {u : zw_St} (a : Int32) (x : Int32) (y : Int32) {K : Nat} (hK : u 8 0 = nI K) (hK4 : K ≤ 4) (l : Launch) (D : va_G) : zw_Mi l yX1_condition cX1_condition 4 (some .int) 1 21 D (zy_w h0 ad cI cZ) cI cZ [.ref h0, .int a, .int x, .int y] u (fun r u' => (¬ (zw_pl x ∧ zw_pl y) ∧ r = -1 ∧ u' = u) ∨ (zw_pl x ∧ zw_pl y ∧ K = 4 ∧ r = -3 ∧ u' = u) ∨ (zw_pl x ∧ zw_pl y ∧ K < 4 ∧ r = nI (K + 1) ∧ u' = zy_cond u K a x y)) := by
  refine zw_Mi_of (by decide) (by simp [Value.category]) (Nat.le_of_ble_eq_true rfl) (fun X C => ?_) l D
  have C : zw_Ok X ({ frames := 1, cells := 0, slots := 0, locals := 21 } : Room) cX1_condition 4 RX1 cI cZ (some .int) := C
  show zw_G X 4 _ 0 0 _ 0 [some (.ref h0), some (.int a), some (.int x), some (.int y)] []
  refine zw_aload_n (i := 0) C dX1_condition_0 rfl rfl ?_
  refine zw_iload_n (i := 2) C dX1_condition_1 rfl rfl ?_
  refine zw_calli (q0 := 0) (n := 1) C (fun l D => zym_isEnd x l D) (lw_V q227 q229 qs10 q21 q230) rfl (by decide +kernel) ⟨Nat.le_of_ble_eq_true rfl, Nat.le_of_ble_eq_true rfl⟩ rfl rfl rfl (Nat.le_of_ble_eq_true rfl) ⟨Nat.le_of_ble_eq_true rfl, Nat.le_of_ble_eq_true rfl⟩ dX1_condition_2 (fun r1 u1 h1 => ?_)
  obtain ⟨rfl, rfl⟩ := h1
  refine zw_if_eq (tgt := 16) C dX1_condition_5 (by decide) (fun c5 => ?_) (fun c5 => ?_)
  · refine zw_iconst (v := -1) C dX1_condition_16 (by decide) ?_
    refine zw_iret C rfl dX1_condition_17 ?_
    exact Or.inl ⟨fun q => zw_b_0.mp c5 q.1, rfl, rfl⟩
  · have hx : zw_pl x := zw_b_n c5
    refine zw_aload_n (i := 0) C dX1_condition_8 rfl rfl ?_
    refine zw_iload_n (i := 3) C dX1_condition_9 rfl rfl ?_
    refine zw_calli (q0 := 0) (n := 1) C (fun l D => zym_isEnd y l D) (lw_V q227 q229 qs10 q21 q230) rfl (by decide +kernel) ⟨Nat.le_of_ble_eq_true rfl, Nat.le_of_ble_eq_true rfl⟩ rfl rfl rfl (Nat.le_of_ble_eq_true rfl) ⟨Nat.le_of_ble_eq_true rfl, Nat.le_of_ble_eq_true rfl⟩ dX1_condition_10 (fun r2 u2 h2 => ?_)
    obtain ⟨rfl, rfl⟩ := h2
    refine zw_if_ne (tgt := 18) C dX1_condition_13 (by decide) (fun c13 => ?_) (fun c13 => ?_)
    · have hy : zw_pl y := zw_b_n c13
      refine zw_aload_n (i := 0) C dX1_condition_18 rfl rfl ?_
      refine zy_get_conditions C dX1_condition_19 ?_
      refine zw_top hK ?_
      refine zw_iconst (v := 4) C dX1_condition_22 (by decide) ?_
      refine zw_icmp_ne (tgt := 29) C dX1_condition_23 (by decide) (fun c23 => ?_) (fun c23 => ?_)
      · have h4 : K < 4 := by
          have : K ≠ 4 := fun e => c23 (by rw [e]; rfl)
          omega
        refine zw_aload_n (i := 0) C dX1_condition_29 rfl rfl ?_
        refine zy_get_askedLabel C dX1_condition_30 ?_
        refine zw_aload_n (i := 0) C dX1_condition_33 rfl rfl ?_
        refine zy_get_conditions C dX1_condition_34 ?_
        refine zw_iload_n (i := 1) C dX1_condition_37 rfl rfl ?_
        refine zw_iconst (v := 1) C dX1_condition_38 (by decide) ?_
        refine zw_iand C dX1_condition_39 ?_
        refine zy_st_askedLabel C dX1_condition_40 (hK) (h4) ?_
        refine zw_aload_n (i := 0) C dX1_condition_41 rfl rfl ?_
        refine zy_get_askedFrom C dX1_condition_42 ?_
        refine zw_aload_n (i := 0) C dX1_condition_45 rfl rfl ?_
        refine zy_get_conditions C dX1_condition_46 ?_
        refine zw_iload_n (i := 2) C dX1_condition_49 rfl rfl ?_
        refine zy_st_askedFrom C dX1_condition_50 (hK) (h4) ?_
        refine zw_aload_n (i := 0) C dX1_condition_51 rfl rfl ?_
        refine zy_get_askedTo C dX1_condition_52 ?_
        refine zw_aload_n (i := 0) C dX1_condition_55 rfl rfl ?_
        refine zy_get_conditions C dX1_condition_56 ?_
        refine zw_iload_n (i := 3) C dX1_condition_59 rfl rfl ?_
        refine zy_st_askedTo C dX1_condition_60 (hK) (h4) ?_
        refine zw_aload_n (i := 0) C dX1_condition_61 rfl rfl ?_
        refine zw_dup C dX1_condition_62 rfl ?_
        refine zy_get_conditions C dX1_condition_63 ?_
        refine zw_iconst (v := 1) C dX1_condition_66 (by decide) ?_
        refine zw_iadd C dX1_condition_67 ?_
        refine zw_top (y := nI (K + 1)) (by rw [← nI_1]; exact congrArg (· + 1) hK) ?_
        refine zy_put_conditions C dX1_condition_68 ?_
        refine zw_aload_n (i := 0) C dX1_condition_71 rfl rfl ?_
        refine zw_iconst (v := 0) C dX1_condition_72 (by decide) ?_
        refine zy_put_known C rfl rfl dX1_condition_73 ?_
        refine zw_aload_n (i := 0) C dX1_condition_76 rfl rfl ?_
        refine zy_get_conditions C dX1_condition_77 ?_
        refine zw_iret C rfl dX1_condition_80 ?_
        exact Or.inr (Or.inr ⟨hx, hy, h4, rfl, rfl⟩)
      · refine zw_bipush (v := -3) C dX1_condition_26 (by decide) ?_
        refine zw_iret C rfl dX1_condition_28 ?_
        have h9 := (nI_eq (a := K) (b := 4) (by omega) (by omega)).mp c23
        exact Or.inr (Or.inl ⟨hx, hy, h9, rfl, rfl⟩)
    · refine zw_iconst (v := -1) C dX1_condition_16 (by decide) ?_
      refine zw_iret C rfl dX1_condition_17 ?_
      exact Or.inl ⟨fun q => zw_b_0.mp c13 q.2, rfl, rfl⟩
theorem zym_ask {h0 : Nat} {ad : Nat → Nat} {cI cZ : ClassId} {u : zw_St}  (l : Launch) (D : va_G) : zw_Mv l yX1_ask cX1_ask 1 none 0 0 D (zy_w h0 ad cI cZ) cI cZ [.ref h0] u (fun u' => u' = zw_up (zw_up u 8 0 0) 11 0 0) := by
  refine zw_Mv_of (by decide) (by simp [Value.category]) (Nat.le_of_ble_eq_true rfl) (fun X C => ?_) l D
  have C : zw_Ok X ({ frames := 0, cells := 0, slots := 0, locals := 0 } : Room) cX1_ask 1 RX1 cI cZ none := C
  show zw_G X 1 _ 0 0 _ 0 [some (.ref h0)] []
  refine zw_aload_n (i := 0) C dX1_ask_0 rfl rfl ?_
  refine zw_iconst (v := 0) C dX1_ask_1 (by decide) ?_
  refine zy_put_conditions C dX1_ask_2 ?_
  refine zw_aload_n (i := 0) C dX1_ask_5 rfl rfl ?_
  refine zw_iconst (v := 0) C dX1_ask_6 (by decide) ?_
  refine zy_put_known C rfl rfl dX1_ask_7 ?_
  refine zw_vret C dX1_ask_10 ?_
  rfl
theorem zym_drop {h0 : Nat} {ad : Nat → Nat} {cI cZ : ClassId} {u : zw_St} {N : Nat} (hN : u 4 0 = nI N) (hN9 : N ≤ 9) (l : Launch) (D : va_G) : zw_Mi l yX1_drop cX1_drop 1 (some .int) 0 0 D (zy_w h0 ad cI cZ) cI cZ [.ref h0] u (fun r u' => (N = 0 ∧ r = -4 ∧ u' = u) ∨ (∃ N' : Nat, N = N' + 1 ∧ r = nI N' ∧ u' = zw_up (zw_up u 4 0 (nI N')) 11 0 0)) := by
  refine zw_Mi_of (by decide) (by simp [Value.category]) (Nat.le_of_ble_eq_true rfl) (fun X C => ?_) l D
  have C : zw_Ok X ({ frames := 0, cells := 0, slots := 0, locals := 0 } : Room) cX1_drop 1 RX1 cI cZ (some .int) := C
  show zw_G X 1 _ 0 0 _ 0 [some (.ref h0)] []
  refine zw_aload_n (i := 0) C dX1_drop_0 rfl rfl ?_
  refine zy_get_facts C dX1_drop_1 ?_
  refine zw_top hN ?_
  refine zw_if_ne (tgt := 10) C dX1_drop_4 (by decide) (fun c4 => ?_) (fun c4 => ?_)
  · obtain ⟨N', rfl⟩ : ∃ N', N = N' + 1 := by
      cases N with
      | zero => exact absurd nI_0 c4
      | succ n => exact ⟨n, rfl⟩
    refine zw_aload_n (i := 0) C dX1_drop_10 rfl rfl ?_
    refine zw_dup C dX1_drop_11 rfl ?_
    refine zy_get_facts C dX1_drop_12 ?_
    refine zw_iconst (v := 1) C dX1_drop_15 (by decide) ?_
    refine zw_isub C dX1_drop_16 ?_
    refine zw_top (y := nI N') (by rw [hN]; exact nI_pred N') ?_
    refine zy_put_facts C dX1_drop_17 ?_
    refine zw_aload_n (i := 0) C dX1_drop_20 rfl rfl ?_
    refine zw_iconst (v := 0) C dX1_drop_21 (by decide) ?_
    refine zy_put_known C rfl rfl dX1_drop_22 ?_
    refine zw_aload_n (i := 0) C dX1_drop_25 rfl rfl ?_
    refine zy_get_facts C dX1_drop_26 ?_
    refine zw_iret C rfl dX1_drop_29 ?_
    exact Or.inr ⟨N', rfl, rfl, rfl⟩
  · refine zw_bipush (v := -4) C dX1_drop_7 (by decide) ?_
    refine zw_iret C rfl dX1_drop_9 ?_
    refine Or.inl ⟨?_, rfl, rfl⟩
    exact (nI_eq (a := N) (b := 0) (by omega) (by omega)).mp c4
theorem zyl_all {X : zw_X} {h0 : Nat} {ad : Nat → Nat} {cI cZ : ClassId} {Q : State → Prop} (C : zw_Ok X ({ frames := 0, cells := 0, slots := 0, locals := 0 } : Room) cX1_all 3 RX1 cI cZ (some .int)) {N : Nat} {u : zw_St} (hN9 : N ≤ 9) (hN : u 4 0 = nI N) (K : zw_G X 3 Q 0 0 (zy_w h0 ad cI cZ u) 22 [some (.ref h0), some (.int (nI (4 ^ N))), none] []) : ∀ (d i : Nat), i + d = N → zw_G X 3 Q 0 0 (zy_w h0 ad cI cZ u) 4 [some (.ref h0), some (.int (nI (4 ^ i))), some (.int (nI i))] [] := by
  intro d
  induction d with
  | zero =>
    intro i hi
    have e : i = N := by omega
    subst e
    refine zw_iload_n (i := 2) C dX1_all_4 rfl rfl ?_
    refine zw_aload_n (i := 0) C dX1_all_5 rfl rfl ?_
    refine zy_get_facts C dX1_all_6 ?_
    refine zw_top hN ?_
    refine zw_icmp_ge (tgt := 22) C dX1_all_9 (by decide) (fun c9 => ?_) (fun c9 => ?_)
    · refine zw_forget 2 ?_
      exact K
    · exact absurd (Int32.le_refl _) c9
  | succ d ih =>
    intro i hi
    refine zw_iload_n (i := 2) C dX1_all_4 rfl rfl ?_
    refine zw_aload_n (i := 0) C dX1_all_5 rfl rfl ?_
    refine zy_get_facts C dX1_all_6 ?_
    refine zw_top hN ?_
    refine zw_icmp_ge (tgt := 22) C dX1_all_9 (by decide) (fun c9 => ?_) (fun c9 => ?_)
    · have := (nI_leI (a := N) (b := i) (by omega) (by omega)).mp c9
      omega
    · refine zw_iload_n (i := 1) C dX1_all_12 rfl rfl ?_
      refine zw_iconst (v := 4) C dX1_all_13 (by decide) ?_
      refine zw_imul C dX1_all_14 ?_
      refine zw_top (y := nI (4 ^ (i + 1))) (by rw [Nat.pow_succ]; exact pk_mul _ 4) ?_
      refine zw_istore_n (i := 1) C dX1_all_15 rfl (by decide) ?_
      refine zw_iinc (v := nI (i + 1)) C dX1_all_16 rfl (nI_1 i) (by decide) ?_
      refine zw_goto (tgt := 4) C dX1_all_19 (by decide) ?_
      exact ih (i + 1) (by omega)
theorem zym_all {h0 : Nat} {ad : Nat → Nat} {cI cZ : ClassId} {u : zw_St} {N : Nat} (hN : u 4 0 = nI N) (hN9 : N ≤ 9) (l : Launch) (D : va_G) : zw_Mi l yX1_all cX1_all 3 (some .int) 0 0 D (zy_w h0 ad cI cZ) cI cZ [.ref h0] u (fun r u' => u' = u ∧ r = nI (4 ^ N)) := by
  refine zw_Mi_of (by decide) (by simp [Value.category]) (Nat.le_of_ble_eq_true rfl) (fun X C => ?_) l D
  have C : zw_Ok X ({ frames := 0, cells := 0, slots := 0, locals := 0 } : Room) cX1_all 3 RX1 cI cZ (some .int) := C
  show zw_G X 3 _ 0 0 _ 0 [some (.ref h0), none, none] []
  refine zw_iconst (v := 1) C dX1_all_0 (by decide) ?_
  refine zw_istore_n (i := 1) C dX1_all_1 rfl (by decide) ?_
  refine zw_iconst (v := 0) C dX1_all_2 (by decide) ?_
  refine zw_istore_n (i := 2) C dX1_all_3 rfl (by decide) ?_
  refine zyl_all C hN9 hN ?_ N 0 (by omega)
  refine zw_iload_n (i := 1) C dX1_all_22 rfl rfl ?_
  refine zw_iret C rfl dX1_all_23 ?_
  exact ⟨rfl, rfl⟩
end
section
/-! LineageWorldsModel: node, possible, holdsIn -/
set_option maxRecDepth 100000
/-- the values of the variables for a choice -/
def zw_gq (q : Nat) : Nat → Int32 := fun v => nI (if v = 0 then q % 6 else if v = 1 then q / 6 % 6 else q / 36)
theorem zw_gq_in {q : Nat} (h : q < 216) : zw_in (zw_gq q) := by
  intro v hv
  refine ⟨_, ?_, rfl⟩
  split
  · omega
  · split <;> omega
theorem zym_node {h0 : Nat} {ad : Nat → Nat} {cI cZ : ClassId} {u : zw_St} (x : Int32) (a : Int32) {q : Nat} (ea : a = nI q) (hq : q < 216) (hx : zw_pl x) (l : Launch) (D : va_G) : zw_Mi l yX1_node cX1_node 3 (some .int) 0 0 D (zy_w h0 ad cI cZ) cI cZ [.ref h0, .int x, .int a] u (fun r u' => u' = u ∧ r = zw_ev (zw_gq q) x) := by
  refine zw_Mi_of (by decide) (by simp [Value.category]) (Nat.le_of_ble_eq_true rfl) (fun X C => ?_) l D
  have C : zw_Ok X ({ frames := 0, cells := 0, slots := 0, locals := 0 } : Room) cX1_node 3 RX1 cI cZ (some .int) := C
  show zw_G X 3 _ 0 0 _ 0 [some (.ref h0), some (.int x), some (.int a)] []
  subst ea
  refine zw_iload_n (i := 1) C dX1_node_0 rfl rfl ?_
  refine zw_bipush (v := 8) C dX1_node_1 (by decide) ?_
  refine zw_icmp_lt (tgt := 11) C dX1_node_3 (by decide) (fun c3 => ?_) (fun c3 => ?_)
  · obtain ⟨j, rfl, hj⟩ := hx
    have h8 := (nI_ltI (a := j) (b := 8) (by omega) (by omega)).mp c3
    have hj : j < 3 := by omega
    refine zw_iload_n (i := 1) C dX1_node_11 rfl rfl ?_
    refine zw_if_ne (tgt := 20) C dX1_node_12 (by decide) (fun c12 => ?_) (fun c12 => ?_)
    · have h0 : ¬ j = 0 := fun e => c12 (by rw [e]; exact nI_0)
      refine zw_iload_n (i := 1) C dX1_node_20 rfl rfl ?_
      refine zw_iconst (v := 1) C dX1_node_21 (by decide) ?_
      refine zw_icmp_ne (tgt := 35) C dX1_node_22 (by decide) (fun c22 => ?_) (fun c22 => ?_)
      · have h1 : ¬ j = 1 := fun e => c22 (by rw [e]; rfl)
        refine zw_iload_n (i := 2) C dX1_node_35 rfl rfl ?_
        refine zw_bipush (v := 36) C dX1_node_36 (by decide) ?_
        refine zw_idiv C dX1_node_38 (by decide) ?_
        refine zw_top (y := nI (q / 36)) (pk_div (a := q) (d := 36) (by omega) (by omega) (by omega)) ?_
        refine zw_iret C rfl dX1_node_39 ?_
        refine ⟨rfl, ?_⟩
        rw [zw_ev_v hj]
        simp [zw_gq, h0, h1]
      · have h1 : j = 1 := (nI_eq (a := j) (b := 1) (by omega) (by omega)).mp c22
        refine zw_iload_n (i := 2) C dX1_node_25 rfl rfl ?_
        refine zw_bipush (v := 6) C dX1_node_26 (by decide) ?_
        refine zw_idiv C dX1_node_28 (by decide) ?_
        refine zw_top (y := nI (q / 6)) (pk_div (a := q) (d := 6) (by omega) (by omega) (by omega)) ?_
        refine zw_bipush (v := 6) C dX1_node_29 (by decide) ?_
        refine zw_irem C dX1_node_31 (by decide) ?_
        refine zw_top (y := nI (q / 6 % 6)) (pk_rem (a := q / 6) (d := 6) (by omega) (by omega) (by omega)) ?_
        refine zw_goto (tgt := 39) C dX1_node_32 (by decide) ?_
        refine zw_iret C rfl dX1_node_39 ?_
        refine ⟨rfl, ?_⟩
        rw [zw_ev_v hj]
        simp [zw_gq, h1]
    · have h0 : j = 0 := (nI_eq (a := j) (b := 0) (by omega) (by omega)).mp c12
      refine zw_iload_n (i := 2) C dX1_node_15 rfl rfl ?_
      refine zw_bipush (v := 6) C dX1_node_16 (by decide) ?_
      refine zw_irem C dX1_node_18 (by decide) ?_
      refine zw_top (y := nI (q % 6)) (pk_rem (a := q) (d := 6) (by omega) (by omega) (by omega)) ?_
      refine zw_iret C rfl dX1_node_19 ?_
      refine ⟨rfl, ?_⟩
      rw [zw_ev_v hj]
      simp [zw_gq, h0]
  · refine zw_iload_n (i := 1) C dX1_node_6 rfl rfl ?_
    refine zw_bipush (v := 8) C dX1_node_7 (by decide) ?_
    refine zw_isub C dX1_node_9 ?_
    refine zw_iret C rfl dX1_node_10 ?_
    exact ⟨rfl, (zw_ev_c' c3).symm⟩
/-- m is the set of the facts below i that make condition c hold -/
def zy_mk (u : zw_St) (q c i m : Nat) : Prop := m < 2 ^ i ∧ ∀ f, m.testBit f = true ↔ f < i ∧ zw_mt (zy_x u) (zw_gq q) c f
theorem zy_mk_no {u : zw_St} {q c i m : Nat} (h : zy_mk u q c i m) (hn : ¬ zw_mt (zy_x u) (zw_gq q) c i) : zy_mk u q c (i + 1) m := by
  refine ⟨Nat.lt_of_lt_of_le h.1 (Nat.pow_le_pow_right (by decide) (by omega)), fun f => ?_⟩
  rw [h.2 f]
  constructor
  · rintro ⟨h1, h2⟩
    exact ⟨by omega, h2⟩
  · rintro ⟨h1, h2⟩
    refine ⟨?_, h2⟩
    by_cases e : f = i
    · subst e
      exact absurd h2 hn
    · omega
theorem zy_mk_yes {u : zw_St} {q c i m : Nat} (h : zy_mk u q c i m) (hn : zw_mt (zy_x u) (zw_gq q) c i) : zy_mk u q c (i + 1) (m ||| 2 ^ i) := by
  refine ⟨zw_olt (Nat.lt_of_lt_of_le h.1 (Nat.pow_le_pow_right (by decide) (by omega))) (by omega), fun f => ?_⟩
  rw [Nat.testBit_or, Bool.or_eq_true, h.2 f, zw_tb2, decide_eq_true_eq]
  constructor
  · rintro (⟨h1, h2⟩ | e)
    · exact ⟨by omega, h2⟩
    · subst e
      exact ⟨by omega, hn⟩
  · rintro ⟨h1, h2⟩
    by_cases e : f = i
    · exact Or.inr e.symm
    · exact Or.inl ⟨by omega, h2⟩
theorem zyl_poss1 {X : zw_X} {h0 : Nat} {ad : Nat → Nat} {cI cZ : ClassId} {Q : State → Prop} (C : zw_Ok X ({ frames := 1, cells := 0, slots := 0, locals := 22 } : Room) cX1_possible 5 RX1 cI cZ (some .boolean)) {n k q c : Nat} {u : zw_St} (hD : zw_D (zy_x u) n k) (hq : q < 216) (hc : c < k) (K : ∀ (w : zw_St) (m : Nat), (∀ a, a ≠ 9 → w a = u a) → (∀ a, a ≠ c → w 9 a = u 9 a) → w 9 c = nI m → zy_mk u q c n m → zw_G X 5 Q 0 0 (zy_w h0 ad cI cZ w) 112 [some (.ref h0), some (.int (nI q)), some (.int (nI c)), none, none] []) : ∀ (d i m : Nat) (w : zw_St), i + d = n → (∀ a, a ≠ 9 → w a = u a) → (∀ a, a ≠ c → w 9 a = u 9 a) → w 9 c = nI m → zy_mk u q c i m → zw_G X 5 Q 0 0 (zy_w h0 ad cI cZ w) 19 [some (.ref h0), some (.int (nI q)), some (.int (nI c)), some (.int (nI i)), none] [] := by
  have hn9 := hD.1
  have hk4 := hD.2.1
  intro d
  induction d with
  | zero =>
    intro i m w hi hk h9 hm hmk
    have e : i = n := by omega
    subst e
    refine zw_iload_n (i := 3) C dX1_possible_19 rfl rfl ?_
    refine zw_aload_n (i := 0) C dX1_possible_20 rfl rfl ?_
    refine zy_get_facts C dX1_possible_21 ?_
    refine zw_top (y := nI i) (by rw [hk 4 (by decide)]; exact hD.2.2.1) ?_
    refine zw_icmp_ge (tgt := 112) C dX1_possible_24 (by decide) (fun c24 => ?_) (fun c24 => ?_)
    · refine zw_forget 3 ?_
      exact K w m hk h9 hm hmk
    · exact absurd (Int32.le_refl _) c24
  | succ d ih =>
    intro i m w hi hk h9 hm hmk
    have hin : i < n := by omega
    have skip : ∀ x4, ¬ zw_mt (zy_x u) (zw_gq q) c i → zw_G X 5 Q 0 0 (zy_w h0 ad cI cZ w) 106 [some (.ref h0), some (.int (nI q)), some (.int (nI c)), some (.int (nI i)), some (.int x4)] [] := by
      intro x4 hno
      refine zw_iinc (v := nI (i + 1)) C dX1_possible_106 rfl (nI_1 i) (by decide) ?_
      refine zw_goto (tgt := 19) C dX1_possible_109 (by decide) ?_
      refine zw_forget 4 ?_
      exact ih (i + 1) m w (by omega) hk h9 hm (zy_mk_no hmk hno)
    have hp1 : zw_pl (w 6 c) := by rw [hk 6 (by decide)]; exact hD.2.2.2.2.2.2.1 c hc
    have hp2 : zw_pl (w 7 c) := by rw [hk 7 (by decide)]; exact hD.2.2.2.2.2.2.2 c hc
    refine zw_iload_n (i := 3) C dX1_possible_19 rfl rfl ?_
    refine zw_aload_n (i := 0) C dX1_possible_20 rfl rfl ?_
    refine zy_get_facts C dX1_possible_21 ?_
    refine zw_top (y := nI n) (by rw [hk 4 (by decide)]; exact hD.2.2.1) ?_
    refine zw_icmp_ge (tgt := 112) C dX1_possible_24 (by decide) (fun c24 => ?_) (fun c24 => ?_)
    · have := (nI_leI (a := n) (b := i) (by omega) (by omega)).mp c24
      omega
    · refine zw_aload_n (i := 0) C dX1_possible_27 rfl rfl ?_
      refine zy_get_tails C dX1_possible_28 ?_
      refine zw_iload_n (i := 3) C dX1_possible_31 rfl rfl ?_
      refine zy_ld_tails C dX1_possible_32 (rfl) (by omega) ?_
      refine zw_aload_n (i := 0) C dX1_possible_33 rfl rfl ?_
      refine zw_aload_n (i := 0) C dX1_possible_34 rfl rfl ?_
      refine zy_get_askedFrom C dX1_possible_35 ?_
      refine zw_iload_n (i := 2) C dX1_possible_38 rfl rfl ?_
      refine zy_ld_askedFrom C dX1_possible_39 (rfl) (by omega) ?_
      refine zw_iload_n (i := 1) C dX1_possible_40 rfl rfl ?_
      refine zw_calli (q0 := 0) (n := 2) C (fun l D => zym_node (w 6 c) (nI q) rfl hq hp1 l D) (lw_V q255 q257 qs14 q21 q258) rfl (by decide +kernel) ⟨Nat.le_of_ble_eq_true rfl, Nat.le_of_ble_eq_true rfl⟩ rfl rfl rfl (Nat.le_of_ble_eq_true rfl) ⟨Nat.le_of_ble_eq_true rfl, Nat.le_of_ble_eq_true rfl⟩ dX1_possible_41 (fun r1 w1 h1 => ?_)
      obtain ⟨rfl, rfl⟩ := h1
      refine zw_icmp_ne (tgt := 71) C dX1_possible_44 (by decide) (fun c44 => ?_) (fun c44 => ?_)
      · refine zw_iconst (v := 0) C dX1_possible_71 (by decide) ?_
        refine zw_istore C dX1_possible_72 (by decide) ?_
        refine zw_iload C dX1_possible_74 rfl ?_
        refine zw_if_eq (tgt := 106) C dX1_possible_76 (by decide) (fun c76 => ?_) (fun c76 => ?_)
        · refine skip 0 (fun q1 => c44 ?_)
          rw [hk 0 (by decide), hk 6 (by decide)]
          exact q1.2.1
        · exact absurd rfl c76
      · refine zw_aload_n (i := 0) C dX1_possible_47 rfl rfl ?_
        refine zy_get_heads C dX1_possible_48 ?_
        refine zw_iload_n (i := 3) C dX1_possible_51 rfl rfl ?_
        refine zy_ld_heads C dX1_possible_52 (rfl) (by omega) ?_
        refine zw_aload_n (i := 0) C dX1_possible_53 rfl rfl ?_
        refine zw_aload_n (i := 0) C dX1_possible_54 rfl rfl ?_
        refine zy_get_askedTo C dX1_possible_55 ?_
        refine zw_iload_n (i := 2) C dX1_possible_58 rfl rfl ?_
        refine zy_ld_askedTo C dX1_possible_59 (rfl) (by omega) ?_
        refine zw_iload_n (i := 1) C dX1_possible_60 rfl rfl ?_
        refine zw_calli (q0 := 0) (n := 2) C (fun l D => zym_node (w1 7 c) (nI q) rfl hq hp2 l D) (lw_V q255 q257 qs14 q21 q258) rfl (by decide +kernel) ⟨Nat.le_of_ble_eq_true rfl, Nat.le_of_ble_eq_true rfl⟩ rfl rfl rfl (Nat.le_of_ble_eq_true rfl) ⟨Nat.le_of_ble_eq_true rfl, Nat.le_of_ble_eq_true rfl⟩ dX1_possible_61 (fun r2 w2 h2 => ?_)
        obtain ⟨rfl, rfl⟩ := h2
        refine zw_icmp_ne (tgt := 71) C dX1_possible_64 (by decide) (fun c64 => ?_) (fun c64 => ?_)
        · refine zw_iconst (v := 0) C dX1_possible_71 (by decide) ?_
          refine zw_istore C dX1_possible_72 (by decide) ?_
          refine zw_iload C dX1_possible_74 rfl ?_
          refine zw_if_eq (tgt := 106) C dX1_possible_76 (by decide) (fun c76 => ?_) (fun c76 => ?_)
          · refine skip 0 (fun q1 => c64 ?_)
            rw [hk 1 (by decide), hk 7 (by decide)]
            exact q1.2.2
          · exact absurd rfl c76
        · refine zw_iconst (v := 1) C dX1_possible_67 (by decide) ?_
          refine zw_goto (tgt := 72) C dX1_possible_68 (by decide) ?_
          refine zw_istore C dX1_possible_72 (by decide) ?_
          refine zw_iload C dX1_possible_74 rfl ?_
          refine zw_if_eq (tgt := 106) C dX1_possible_76 (by decide) (fun c76 => ?_) (fun c76 => ?_)
          · exact absurd c76 zw_10
          · refine zw_aload_n (i := 0) C dX1_possible_79 rfl rfl ?_
            refine zy_get_labels C dX1_possible_80 ?_
            refine zw_iload_n (i := 3) C dX1_possible_83 rfl rfl ?_
            refine zy_ld_labels C dX1_possible_84 (rfl) (by omega) ?_
            refine zw_aload_n (i := 0) C dX1_possible_85 rfl rfl ?_
            refine zy_get_askedLabel C dX1_possible_86 ?_
            refine zw_iload_n (i := 2) C dX1_possible_89 rfl rfl ?_
            refine zy_ld_askedLabel C dX1_possible_90 (rfl) (by omega) ?_
            refine zw_icmp_ne (tgt := 106) C dX1_possible_91 (by decide) (fun c91 => ?_) (fun c91 => ?_)
            · refine skip 1 (fun q1 => c91 ?_)
              rw [hk 2 (by decide), hk 5 (by decide)]
              exact q1.1
            · refine zw_aload_n (i := 0) C dX1_possible_94 rfl rfl ?_
              refine zy_get_makes C dX1_possible_95 ?_
              refine zw_iload_n (i := 2) C dX1_possible_98 rfl rfl ?_
              refine zw_dup2 C dX1_possible_99 rfl rfl ?_
              refine zy_ld_makes C dX1_possible_100 (rfl) (by omega) ?_
              refine zw_top hm ?_
              refine zw_iconst (v := 1) C dX1_possible_101 (by decide) ?_
              refine zw_iload_n (i := 3) C dX1_possible_102 rfl rfl ?_
              refine zw_ishl C dX1_possible_103 ?_
              refine zw_top (zw_shl i (by omega)) ?_
              refine zw_ior C dX1_possible_104 ?_
              refine zw_top (zw_or m (2 ^ i)) ?_
              refine zy_st_makes C dX1_possible_105 (rfl) (by omega) ?_
              refine zw_iinc (v := nI (i + 1)) C dX1_possible_106 rfl (nI_1 i) (by decide) ?_
              refine zw_goto (tgt := 19) C dX1_possible_109 (by decide) ?_
              refine zw_forget 4 ?_
              rw [hk 0 (by decide), hk 6 (by decide)] at c44
              rw [hk 1 (by decide), hk 7 (by decide)] at c64
              rw [hk 2 (by decide), hk 5 (by decide)] at c91
              refine ih (i + 1) (m ||| 2 ^ i) _ (by omega) (fun a ha => by rw [zw_up_n ha]; exact hk a ha) (fun a ha => by rw [zw_up_s, zw_upd_n ha]; exact h9 a ha) (by rw [zw_up_s, zw_upd_s]) (zy_mk_yes hmk ⟨c91, c44, c64⟩)
theorem zyl_poss2 {X : zw_X} {h0 : Nat} {ad : Nat → Nat} {cI cZ : ClassId} {Q : State → Prop} (C : zw_Ok X ({ frames := 1, cells := 0, slots := 0, locals := 22 } : Room) cX1_possible 5 RX1 cI cZ (some .boolean)) {n k q : Nat} {u : zw_St} (hD : zw_D (zy_x u) n k) (hq : q < 216) (K1 : ∀ w : zw_St, (∀ a, a ≠ 9 → w a = u a) → (∀ c, c < k → ∃ m, w 9 c = nI m ∧ zy_mk u q c n m) → zw_G X 5 Q 0 0 (zy_w h0 ad cI cZ w) 129 [some (.ref h0), some (.int (nI q)), none, none, none] []) (K0 : ∀ w : zw_St, (∀ a, a ≠ 9 → w a = u a) → (∃ c, c < k ∧ ∀ f, f < n → ¬ zw_mt (zy_x u) (zw_gq q) c f) → zw_G X 5 Q 0 0 (zy_w h0 ad cI cZ w) 121 [some (.ref h0), some (.int (nI q)), none, none, none] []) : ∀ (d c : Nat) (w : zw_St), c + d = k → (∀ a, a ≠ 9 → w a = u a) → (∀ c', c' < c → ∃ m, w 9 c' = nI m ∧ zy_mk u q c' n m) → zw_G X 5 Q 0 0 (zy_w h0 ad cI cZ w) 2 [some (.ref h0), some (.int (nI q)), some (.int (nI c)), none, none] [] := by
  have hn9 := hD.1
  have hk4 := hD.2.1
  have hp := zw_p2 hn9
  intro d
  induction d with
  | zero =>
    intro c w hc hk h9
    have e : c = k := by omega
    subst e
    refine zw_iload_n (i := 2) C dX1_possible_2 rfl rfl ?_
    refine zw_aload_n (i := 0) C dX1_possible_3 rfl rfl ?_
    refine zy_get_conditions C dX1_possible_4 ?_
    refine zw_top (y := nI c) (by rw [hk 8 (by decide)]; exact hD.2.2.2.1) ?_
    refine zw_icmp_ge (tgt := 129) C dX1_possible_7 (by decide) (fun c7 => ?_) (fun c7 => ?_)
    · refine zw_forget 2 ?_
      exact K1 w hk h9
    · exact absurd (Int32.le_refl _) c7
  | succ d ih =>
    intro c w hc hk h9
    have hck : c < k := by omega
    refine zw_iload_n (i := 2) C dX1_possible_2 rfl rfl ?_
    refine zw_aload_n (i := 0) C dX1_possible_3 rfl rfl ?_
    refine zy_get_conditions C dX1_possible_4 ?_
    refine zw_top (y := nI k) (by rw [hk 8 (by decide)]; exact hD.2.2.2.1) ?_
    refine zw_icmp_ge (tgt := 129) C dX1_possible_7 (by decide) (fun c7 => ?_) (fun c7 => ?_)
    · have := (nI_leI (a := k) (b := c) (by omega) (by omega)).mp c7
      omega
    · refine zw_aload_n (i := 0) C dX1_possible_10 rfl rfl ?_
      refine zy_get_makes C dX1_possible_11 ?_
      refine zw_iload_n (i := 2) C dX1_possible_14 rfl rfl ?_
      refine zw_iconst (v := 0) C dX1_possible_15 (by decide) ?_
      refine zy_st_makes C dX1_possible_16 (rfl) (by omega) ?_
      refine zw_iconst (v := 0) C dX1_possible_17 (by decide) ?_
      refine zw_istore_n (i := 3) C dX1_possible_18 rfl (by decide) ?_
      refine zw_loc 3 rfl (show (0 : Int32) = nI 0 from zw_0) ?_
      have hku : ∀ a, a ≠ 9 → zw_up w 9 c 0 a = u a := fun a ha => by rw [zw_up_n ha]; exact hk a ha
      have ex : zy_x (zw_up w 9 c 0) = zy_x u := by
        funext a
        unfold zy_x
        split <;> first | exact hku _ (by decide) | rfl
      refine zyl_poss1 C (u := zw_up w 9 c 0) (n := n) (k := k) (by rw [ex]; exact hD) hq hck (fun w1 m g1 g2 g3 g4 => ?_) n 0 0 _ (by omega) (fun _ _ => rfl) (fun _ _ => rfl) (by rw [zw_up_s, zw_upd_s]; exact zw_0) ⟨by decide, fun f => by rw [Nat.zero_testBit]; exact ⟨fun q => absurd q Bool.false_ne_true, fun q => absurd q.1 (Nat.not_lt_zero f)⟩⟩
      have g4 : zy_mk u q c n m := by
        unfold zy_mk at g4 ⊢
        rw [ex] at g4
        exact g4
      have hw1 : ∀ a, a ≠ 9 → w1 a = u a := fun a ha => by rw [g1 a ha]; exact hku a ha
      refine zw_aload_n (i := 0) C dX1_possible_112 rfl rfl ?_
      refine zy_get_makes C dX1_possible_113 ?_
      refine zw_iload_n (i := 2) C dX1_possible_116 rfl rfl ?_
      refine zy_ld_makes C dX1_possible_117 (rfl) (by omega) ?_
      refine zw_top g3 ?_
      refine zw_if_ne (tgt := 123) C dX1_possible_118 (by decide) (fun c118 => ?_) (fun c118 => ?_)
      · refine zw_iinc (v := nI (c + 1)) C dX1_possible_123 rfl (nI_1 c) (by decide) ?_
        refine zw_goto (tgt := 2) C dX1_possible_126 (by decide) ?_
        refine ih (c + 1) w1 (by omega) hw1 (fun c' hc' => ?_)
        by_cases e : c' = c
        · subst e
          exact ⟨m, g3, g4⟩
        · obtain ⟨m', a1, a2⟩ := h9 c' (by omega)
          refine ⟨m', ?_, a2⟩
          rw [g2 c' e, zw_up_s, zw_upd_n e]
          exact a1
      · refine zw_forget 2 ?_
        refine K0 w1 hw1 ⟨c, hck, fun f hf hm => ?_⟩
        have hm0 : m = 0 := (nI_eq (a := m) (b := 0) (by have := g4.1; omega) (by omega)).mp c118
        have hb := (g4.2 f).mpr ⟨hf, hm⟩
        rw [hm0, Nat.zero_testBit] at hb
        cases hb
theorem zym_possible {h0 : Nat} {ad : Nat → Nat} {cI cZ : ClassId} {u : zw_St} (a : Int32) {n k q : Nat} (ea : a = nI q) (hD : zw_D (zy_x u) n k) (hq : q < 216) (l : Launch) (D : va_G) : zw_Mi l yX1_possible cX1_possible 5 (some .boolean) 1 22 D (zy_w h0 ad cI cZ) cI cZ [.ref h0, .int a] u (fun r u' => (∀ a, a ≠ 9 → u' a = u a) ∧ ((r = 1 ∧ ∀ c, c < k → ∃ m, u' 9 c = nI m ∧ zy_mk u q c n m) ∨ (r = 0 ∧ ∃ c, c < k ∧ ∀ f, f < n → ¬ zw_mt (zy_x u) (zw_gq q) c f))) := by
  refine zw_Mi_of (by decide) (by simp [Value.category]) (Nat.le_of_ble_eq_true rfl) (fun X C => ?_) l D
  have C : zw_Ok X ({ frames := 1, cells := 0, slots := 0, locals := 22 } : Room) cX1_possible 5 RX1 cI cZ (some .boolean) := C
  show zw_G X 5 _ 0 0 _ 0 [some (.ref h0), some (.int a), none, none, none] []
  subst ea
  refine zw_iconst (v := 0) C dX1_possible_0 (by decide) ?_
  refine zw_istore_n (i := 2) C dX1_possible_1 rfl (by decide) ?_
  refine zw_loc 2 rfl (show (0 : Int32) = nI 0 from zw_0) ?_
  refine zyl_poss2 C hD hq (fun w g1 g2 => ?_) (fun w g1 g2 => ?_) k 0 u (by omega) (fun _ _ => rfl) (fun c' hc' => absurd hc' (by omega))
  · refine zw_iconst (v := 1) C dX1_possible_129 (by decide) ?_
    refine zw_iret C rfl dX1_possible_130 ?_
    exact ⟨g1, Or.inl ⟨rfl, g2⟩⟩
  · refine zw_iconst (v := 0) C dX1_possible_121 (by decide) ?_
    refine zw_iret C rfl dX1_possible_122 ?_
    exact ⟨g1, Or.inr ⟨rfl, g2⟩⟩
theorem zyl_holds {X : zw_X} {h0 : Nat} {ad : Nat → Nat} {cI cZ : ClassId} {Q : State → Prop} (C : zw_Ok X ({ frames := 0, cells := 0, slots := 0, locals := 0 } : Room) cX1_holdsIn 3 RX1 cI cZ (some .boolean)) {k s : Nat} {mk : Nat → Nat} {u : zw_St} (hk4 : k ≤ 4) (hs : s < 512) (hu : u 8 0 = nI k) (hm : ∀ c, c < k → u 9 c = nI (mk c)) (K1 : (∀ c, c < k → ¬ s &&& mk c = 0) → zw_G X 3 Q 0 0 (zy_w h0 ad cI cZ u) 29 [some (.ref h0), some (.int (nI s)), none] []) (K0 : (¬ ∀ c, c < k → ¬ s &&& mk c = 0) → zw_G X 3 Q 0 0 (zy_w h0 ad cI cZ u) 21 [some (.ref h0), some (.int (nI s)), none] []) : ∀ (d c : Nat), c + d = k → (∀ c', c' < c → ¬ s &&& mk c' = 0) → zw_G X 3 Q 0 0 (zy_w h0 ad cI cZ u) 2 [some (.ref h0), some (.int (nI s)), some (.int (nI c))] [] := by
  intro d
  induction d with
  | zero =>
    intro c hc h
    have e : c = k := by omega
    subst e
    refine zw_iload_n (i := 2) C dX1_holdsIn_2 rfl rfl ?_
    refine zw_aload_n (i := 0) C dX1_holdsIn_3 rfl rfl ?_
    refine zy_get_conditions C dX1_holdsIn_4 ?_
    refine zw_top hu ?_
    refine zw_icmp_ge (tgt := 29) C dX1_holdsIn_7 (by decide) (fun c7 => ?_) (fun c7 => ?_)
    · refine zw_forget 2 ?_
      exact K1 h
    · exact absurd (Int32.le_refl _) c7
  | succ d ih =>
    intro c hc h
    refine zw_iload_n (i := 2) C dX1_holdsIn_2 rfl rfl ?_
    refine zw_aload_n (i := 0) C dX1_holdsIn_3 rfl rfl ?_
    refine zy_get_conditions C dX1_holdsIn_4 ?_
    refine zw_top hu ?_
    refine zw_icmp_ge (tgt := 29) C dX1_holdsIn_7 (by decide) (fun c7 => ?_) (fun c7 => ?_)
    · have := (nI_leI (a := k) (b := c) (by omega) (by omega)).mp c7
      omega
    · have hle : s &&& mk c ≤ s := Nat.and_le_left
      refine zw_iload_n (i := 1) C dX1_holdsIn_10 rfl rfl ?_
      refine zw_aload_n (i := 0) C dX1_holdsIn_11 rfl rfl ?_
      refine zy_get_makes C dX1_holdsIn_12 ?_
      refine zw_iload_n (i := 2) C dX1_holdsIn_15 rfl rfl ?_
      refine zy_ld_makes C dX1_holdsIn_16 (rfl) (by omega) ?_
      refine zw_top (hm c (by omega)) ?_
      refine zw_iand C dX1_holdsIn_17 ?_
      refine zw_top (zw_and s (mk c)) ?_
      refine zw_if_ne (tgt := 23) C dX1_holdsIn_18 (by decide) (fun c18 => ?_) (fun c18 => ?_)
      · refine zw_iinc (v := nI (c + 1)) C dX1_holdsIn_23 rfl (nI_1 c) (by decide) ?_
        refine zw_goto (tgt := 2) C dX1_holdsIn_26 (by decide) ?_
        refine ih (c + 1) (by omega) (fun c' hc' => ?_)
        by_cases e : c' = c
        · rw [e]
          exact fun q => c18 (by rw [q]; exact nI_0)
        · exact h c' (by omega)
      · refine zw_forget 2 ?_
        refine K0 (fun q => q c (by omega) ?_)
        exact (nI_eq (b := 0) (by omega) (by omega)).mp c18
theorem zym_holdsIn {h0 : Nat} {ad : Nat → Nat} {cI cZ : ClassId} {u : zw_St} (a : Int32) {k s : Nat} {mk : Nat → Nat} (ea : a = nI s) (hk4 : k ≤ 4) (hs : s < 512) (hu : u 8 0 = nI k) (hm : ∀ c, c < k → u 9 c = nI (mk c)) (l : Launch) (D : va_G) : zw_Mi l yX1_holdsIn cX1_holdsIn 3 (some .boolean) 0 0 D (zy_w h0 ad cI cZ) cI cZ [.ref h0, .int a] u (fun r u' => u' = u ∧ r = zw_b (∀ c, c < k → ¬ s &&& mk c = 0)) := by
  refine zw_Mi_of (by decide) (by simp [Value.category]) (Nat.le_of_ble_eq_true rfl) (fun X C => ?_) l D
  have C : zw_Ok X ({ frames := 0, cells := 0, slots := 0, locals := 0 } : Room) cX1_holdsIn 3 RX1 cI cZ (some .boolean) := C
  show zw_G X 3 _ 0 0 _ 0 [some (.ref h0), some (.int a), none] []
  subst ea
  refine zw_iconst (v := 0) C dX1_holdsIn_0 (by decide) ?_
  refine zw_istore_n (i := 2) C dX1_holdsIn_1 rfl (by decide) ?_
  refine zw_loc 2 rfl (show (0 : Int32) = nI 0 from zw_0) ?_
  refine zyl_holds C hk4 hs hu hm (fun q => ?_) (fun q => ?_) k 0 (by omega) (fun c' hc' => absurd hc' (by omega))
  · refine zw_iconst (v := 1) C dX1_holdsIn_29 (by decide) ?_
    refine zw_iret C rfl dX1_holdsIn_30 ?_
    exact ⟨rfl, (zw_b1 q).symm⟩
  · refine zw_iconst (v := 0) C dX1_holdsIn_21 (by decide) ?_
    refine zw_iret C rfl dX1_holdsIn_22 ?_
    exact ⟨rfl, (zw_b0 q).symm⟩
end
section
/-! LineageWorldsModel: work -/
set_option maxRecDepth 100000
/-- the world s answers yes with the choice q -/
def zy_ok (u : zw_St) (n k q s : Nat) : Prop := ∀ c, c < k → ∃ f, f < n ∧ s.testBit f = true ∧ zw_mt (zy_x u) (zw_gq q) c f
theorem zw_gq_of {g : Nat → Int32} (hg : zw_in g) : ∃ q, q < 216 ∧ ∀ v, v < 3 → zw_gq q v = g v := by
  obtain ⟨a, ha, ea⟩ := hg 0 (by decide)
  obtain ⟨b, hb, eb⟩ := hg 1 (by decide)
  obtain ⟨c, hc, ec⟩ := hg 2 (by decide)
  refine ⟨a + 6 * b + 36 * c, by omega, fun v hv => ?_⟩
  have h3 : v = 0 ∨ v = 1 ∨ v = 2 := by omega
  unfold zw_gq
  rcases h3 with rfl | rfl | rfl
  · rw [ea, if_pos rfl, show (a + 6 * b + 36 * c) % 6 = a by omega]
  · rw [eb, if_neg (by decide), if_pos rfl, show (a + 6 * b + 36 * c) / 6 % 6 = b by omega]
  · rw [ec, if_neg (by decide), if_neg (by decide), show (a + 6 * b + 36 * c) / 36 = c by omega]
theorem zy_yes_ok {u : zw_St} {n k N s : Nat} (hD : zw_D (zy_x u) n k) (hN : (k = 0 ∧ N = 1) ∨ (¬ k = 0 ∧ N = 216)) : zw_yes (zy_x u) n k s ↔ ∃ q, q < N ∧ zy_ok u n k q s := by
  constructor
  · rintro ⟨g, hg, h⟩
    rcases hN with ⟨rfl, rfl⟩ | ⟨hk, rfl⟩
    · exact ⟨0, by decide, fun c hc => absurd hc (by omega)⟩
    · obtain ⟨q, hq, e⟩ := zw_gq_of hg
      refine ⟨q, hq, fun c hc => ?_⟩
      obtain ⟨f, h1, h2, h3, h4, h5⟩ := h c hc
      refine ⟨f, h1, h2, h3, ?_, ?_⟩
      · rw [zw_ev_congr (hD.2.2.2.2.2.2.1 c hc) e]
        exact h4
      · rw [zw_ev_congr (hD.2.2.2.2.2.2.2 c hc) e]
        exact h5
  · rintro ⟨q, hq, h⟩
    refine ⟨zw_gq q, zw_gq_in ?_, h⟩
    rcases hN with ⟨-, rfl⟩ | ⟨-, rfl⟩
    · omega
    · exact hq
theorem zw_nz {m : Nat} : ¬ m = 0 ↔ ∃ f, m.testBit f = true := by
  constructor
  · intro h
    refine Classical.byContradiction fun q => h ?_
    apply Nat.eq_of_testBit_eq
    intro i
    rw [Nat.zero_testBit]
    cases e : m.testBit i with
    | false => rfl
    | true => exact absurd ⟨i, e⟩ q
  · rintro ⟨f, h⟩ e
    rw [e, Nat.zero_testBit] at h
    cases h
theorem zy_ok_mk {u : zw_St} {n k q s : Nat} {mk : Nat → Nat} (h : ∀ c, c < k → zy_mk u q c n (mk c)) : (∀ c, c < k → ¬ s &&& mk c = 0) ↔ zy_ok u n k q s := by
  constructor
  · intro g c hc
    obtain ⟨f, hf⟩ := zw_nz.mp (g c hc)
    rw [Nat.testBit_and, Bool.and_eq_true] at hf
    have h2 := ((h c hc).2 f).mp hf.2
    exact ⟨f, h2.1, hf.1, h2.2⟩
  · intro g c hc
    obtain ⟨f, h1, h2, h3⟩ := g c hc
    refine zw_nz.mpr ⟨f, ?_⟩
    rw [Nat.testBit_and, h2, ((h c hc).2 f).mpr ⟨h1, h3⟩]
    rfl
def zy_kp (u w : zw_St) : Prop := ∀ a, a < 9 → w a = u a
theorem zy_kp.x {u w : zw_St} (h : zy_kp u w) : zy_x w = zy_x u := by
  funext a
  unfold zy_x
  split <;> first | exact h _ (by decide) | rfl
theorem zy_kp.up {u w : zw_St} {k i : Nat} {x : Int32} (h : zy_kp u w) (hk : 9 ≤ k) : zy_kp u (zw_up w k i x) := fun a ha => by
  rw [zw_up_n (by omega)]
  exact h a ha
theorem zy_kp.to {u w w' : zw_St} (h : zy_kp u w) (h' : ∀ a, a ≠ 9 → w' a = w a) : zy_kp u w' := fun a ha => by
  rw [h' a (by omega)]
  exact h a ha
theorem zy_kp.mk {u w : zw_St} {q c n m : Nat} (h : zy_kp u w) (hm : zy_mk w q c n m) : zy_mk u q c n m := by
  unfold zy_mk at hm ⊢
  rw [h.x] at hm
  exact hm
theorem zyl_work1 {X : zw_X} {h0 : Nat} {ad : Nat → Nat} {cI cZ : ClassId} {Q : State → Prop} (C : zw_Ok X ({ frames := 2, cells := 0, slots := 0, locals := 46 } : Room) cX1_work 5 RX1 cI cZ none) {u : zw_St} (K : ∀ w, zy_kp u w → w 11 0 = 1 → (∀ a, a < 512 → w 10 a = 0) → zw_G X 5 Q 0 0 (zy_w h0 ad cI cZ w) 35 [some (.ref h0), none, none, none, none] []) : ∀ (d s : Nat) (w : zw_St), s + d = 512 → zy_kp u w → w 11 0 = 1 → (∀ a, a < s → w 10 a = 0) → zw_G X 5 Q 0 0 (zy_w h0 ad cI cZ w) 15 [some (.ref h0), some (.int (nI s)), none, none, none] [] := by
  intro d
  induction d with
  | zero =>
    intro s w hd hk h11 h
    refine zw_iload_n (i := 1) C dX1_work_15 rfl rfl ?_
    refine zw_sipush (v := 512) C dX1_work_16 (by decide) ?_
    refine zw_icmp_ge (tgt := 35) C dX1_work_19 (by decide) (fun c19 => ?_) (fun c19 => ?_)
    · refine zw_forget 1 ?_
      exact K w hk h11 (fun a ha => h a (by omega))
    · exact absurd ((nI_leI (a := 512) (b := s) (by omega) (by omega)).mpr (by omega)) c19
  | succ d ih =>
    intro s w hd hk h11 h
    refine zw_iload_n (i := 1) C dX1_work_15 rfl rfl ?_
    refine zw_sipush (v := 512) C dX1_work_16 (by decide) ?_
    refine zw_icmp_ge (tgt := 35) C dX1_work_19 (by decide) (fun c19 => ?_) (fun c19 => ?_)
    · have := (nI_leI (a := 512) (b := s) (by omega) (by omega)).mp c19
      omega
    · refine zw_aload_n (i := 0) C dX1_work_22 rfl rfl ?_
      refine zy_get_yes C dX1_work_23 ?_
      refine zw_iload_n (i := 1) C dX1_work_26 rfl rfl ?_
      refine zw_iconst (v := 0) C dX1_work_27 (by decide) ?_
      refine zy_st_yes C dX1_work_28 rfl (rfl) (by omega) ?_
      refine zw_iinc (v := nI (s + 1)) C dX1_work_29 rfl (nI_1 s) (by decide) ?_
      refine zw_goto (tgt := 15) C dX1_work_32 (by decide) ?_
      refine ih (s + 1) _ (by omega) (hk.up (by decide)) (by rw [zw_up_n (by decide)]; exact h11) (fun a ha => ?_)
      rw [zw_up_s]
      by_cases e : a = s
      · rw [e, zw_upd_s]
      · rw [zw_upd_n e]
        exact h a (by omega)
theorem zyl_work3 {X : zw_X} {h0 : Nat} {ad : Nat → Nat} {cI cZ : ClassId} {Q : State → Prop} (C : zw_Ok X ({ frames := 2, cells := 0, slots := 0, locals := 46 } : Room) cX1_work 5 RX1 cI cZ none) {n k N q : Nat} {mk : Nat → Nat} {u : zw_St} (hD : zw_D (zy_x u) n k) (hmk : ∀ c, c < k → zy_mk u q c n (mk c)) (K : ∀ w, zy_kp u w → w 11 0 = 1 → (∀ a, a < 2 ^ n → w 10 a = zw_b (∃ q', q' < q + 1 ∧ zy_ok u n k q' a)) → zw_G X 5 Q 0 0 (zy_w h0 ad cI cZ w) 118 [some (.ref h0), some (.int (nI N)), some (.int (nI q)), none, none] []) : ∀ (d s : Nat) (w : zw_St), s + d = 2 ^ n → zy_kp u w → w 11 0 = 1 → (∀ c, c < k → w 9 c = nI (mk c)) → (∀ a, a < s → w 10 a = zw_b (∃ q', q' < q + 1 ∧ zy_ok u n k q' a)) → (∀ a, s ≤ a → a < 2 ^ n → w 10 a = zw_b (∃ q', q' < q ∧ zy_ok u n k q' a)) → zw_G X 5 Q 0 0 (zy_w h0 ad cI cZ w) 66 [some (.ref h0), some (.int (nI N)), some (.int (nI q)), some (.int 1), some (.int (nI s))] [] := by
  have hn9 := hD.1
  have hk4 := hD.2.1
  have hp := zw_p2 hn9
  intro d
  induction d with
  | zero =>
    intro s w hd hk h11 h9 h1 h2
    refine zw_iload_n (i := 3) C dX1_work_66 rfl rfl ?_
    refine zw_if_eq (tgt := 118) C dX1_work_67 (by decide) (fun c67 => ?_) (fun c67 => ?_)
    · exact absurd c67 zw_10
    · refine zw_iload C dX1_work_70 rfl ?_
      refine zw_iconst (v := 1) C dX1_work_72 (by decide) ?_
      refine zw_aload_n (i := 0) C dX1_work_73 rfl rfl ?_
      refine zy_get_facts C dX1_work_74 ?_
      refine zw_top (y := nI n) (by rw [hk 4 (by decide)]; exact hD.2.2.1) ?_
      refine zw_ishl C dX1_work_77 ?_
      refine zw_top (zw_shl n (by omega)) ?_
      refine zw_icmp_ge (tgt := 118) C dX1_work_78 (by decide) (fun c78 => ?_) (fun c78 => ?_)
      · refine zw_forget 3 ?_
        refine zw_forget 4 ?_
        exact K w hk h11 (fun a ha => h1 a (by omega))
      · exact absurd ((nI_leI (a := 2 ^ n) (b := s) (by omega) (by omega)).mpr (by omega)) c78
  | succ d ih =>
    intro s w hd hk h11 h9 h1 h2
    have hs : s < 2 ^ n := by omega
    have next : ∀ x, x = zw_b (∃ q', q' < q + 1 ∧ zy_ok u n k q' s) → zw_G X 5 Q 0 0 (zy_w h0 ad cI cZ (zw_up w 10 s x)) 66 [some (.ref h0), some (.int (nI N)), some (.int (nI q)), some (.int 1), some (.int (nI (s + 1)))] [] := by
      intro x hx
      refine ih (s + 1) _ (by omega) (hk.up (by decide)) (by rw [zw_up_n (by decide)]; exact h11) (fun c hc => by rw [zw_up_n (by decide)]; exact h9 c hc) (fun a ha => ?_) (fun a ha ha2 => ?_)
      · rw [zw_up_s]
        by_cases e : a = s
        · rw [e, zw_upd_s]
          exact hx
        · rw [zw_upd_n e]
          exact h1 a (by omega)
      · rw [zw_up_s, zw_upd_n (by omega)]
        exact h2 a (by omega) ha2
    refine zw_iload_n (i := 3) C dX1_work_66 rfl rfl ?_
    refine zw_if_eq (tgt := 118) C dX1_work_67 (by decide) (fun c67 => ?_) (fun c67 => ?_)
    · exact absurd c67 zw_10
    · refine zw_iload C dX1_work_70 rfl ?_
      refine zw_iconst (v := 1) C dX1_work_72 (by decide) ?_
      refine zw_aload_n (i := 0) C dX1_work_73 rfl rfl ?_
      refine zy_get_facts C dX1_work_74 ?_
      refine zw_top (y := nI n) (by rw [hk 4 (by decide)]; exact hD.2.2.1) ?_
      refine zw_ishl C dX1_work_77 ?_
      refine zw_top (zw_shl n (by omega)) ?_
      refine zw_icmp_ge (tgt := 118) C dX1_work_78 (by decide) (fun c78 => ?_) (fun c78 => ?_)
      · have := (nI_leI (a := 2 ^ n) (b := s) (by omega) (by omega)).mp c78
        omega
      · refine zw_aload_n (i := 0) C dX1_work_81 rfl rfl ?_
        refine zy_get_yes C dX1_work_82 ?_
        refine zw_iload C dX1_work_85 rfl ?_
        refine zw_aload_n (i := 0) C dX1_work_87 rfl rfl ?_
        refine zy_get_yes C dX1_work_88 ?_
        refine zw_iload C dX1_work_91 rfl ?_
        refine zy_ld_yes C dX1_work_93 (rfl) (by omega) ?_
        refine zw_top (h2 s (Nat.le_refl _) hs) ?_
        refine zw_if_ne (tgt := 106) C dX1_work_94 (by decide) (fun c94 => ?_) (fun c94 => ?_)
        · refine zw_iconst (v := 1) C dX1_work_106 (by decide) ?_
          refine zw_goto (tgt := 111) C dX1_work_107 (by decide) ?_
          refine zy_st_yes C dX1_work_111 rfl (rfl) (by omega) ?_
          refine zw_iinc (v := nI (s + 1)) C dX1_work_112 rfl (nI_1 s) (by decide) ?_
          refine zw_goto (tgt := 66) C dX1_work_115 (by decide) ?_
          refine next 1 (zw_b1 ?_).symm
          obtain ⟨q', b1, b2⟩ := zw_b_n c94
          exact ⟨q', by omega, b2⟩
        · refine zw_aload_n (i := 0) C dX1_work_97 rfl rfl ?_
          refine zw_iload C dX1_work_98 rfl ?_
          refine zw_calli (q0 := 0) (n := 1) C (fun l D => zym_holdsIn (nI s) rfl hk4 (by omega) (by rw [hk 8 (by decide)]; exact hD.2.2.2.1) h9 l D) (lw_V q259 q261 qs15 q21 q262) rfl (by decide +kernel) ⟨Nat.le_of_ble_eq_true rfl, Nat.le_of_ble_eq_true rfl⟩ rfl rfl rfl (Nat.le_of_ble_eq_true rfl) ⟨Nat.le_of_ble_eq_true rfl, Nat.le_of_ble_eq_true rfl⟩ dX1_work_100 (fun r1 w1 g1 => ?_)
          obtain ⟨rfl, rfl⟩ := g1
          refine zw_if_eq (tgt := 110) C dX1_work_103 (by decide) (fun c103 => ?_) (fun c103 => ?_)
          · refine zw_iconst (v := 0) C dX1_work_110 (by decide) ?_
            refine zy_st_yes C dX1_work_111 rfl (rfl) (by omega) ?_
            refine zw_iinc (v := nI (s + 1)) C dX1_work_112 rfl (nI_1 s) (by decide) ?_
            refine zw_goto (tgt := 66) C dX1_work_115 (by decide) ?_
            refine next 0 (zw_b0 ?_).symm
            rintro ⟨q', b1, b2⟩
            by_cases e : q' = q
            · subst e
              exact zw_b_0.mp c103 ((zy_ok_mk hmk).mpr b2)
            · exact zw_b_0.mp c94 ⟨q', by omega, b2⟩
          · refine zw_iconst (v := 1) C dX1_work_106 (by decide) ?_
            refine zw_goto (tgt := 111) C dX1_work_107 (by decide) ?_
            refine zy_st_yes C dX1_work_111 rfl (rfl) (by omega) ?_
            refine zw_iinc (v := nI (s + 1)) C dX1_work_112 rfl (nI_1 s) (by decide) ?_
            refine zw_goto (tgt := 66) C dX1_work_115 (by decide) ?_
            exact next 1 (zw_b1 ⟨q, by omega, (zy_ok_mk hmk).mp (zw_b_n c103)⟩).symm
theorem zyl_work2 {X : zw_X} {h0 : Nat} {ad : Nat → Nat} {cI cZ : ClassId} {Q : State → Prop} (C : zw_Ok X ({ frames := 2, cells := 0, slots := 0, locals := 46 } : Room) cX1_work 5 RX1 cI cZ none) {n k N : Nat} {u : zw_St} (hD : zw_D (zy_x u) n k) (hN : N ≤ 216) (K : ∀ w, zy_kp u w → w 11 0 = 1 → (∀ a, a < 2 ^ n → w 10 a = zw_b (∃ q, q < N ∧ zy_ok u n k q a)) → zw_G X 5 Q 0 0 (zy_w h0 ad cI cZ w) 124 [some (.ref h0), some (.int (nI N)), none, none, none] []) : ∀ (d q : Nat) (w : zw_St), q + d = N → zy_kp u w → w 11 0 = 1 → (∀ a, a < 2 ^ n → w 10 a = zw_b (∃ q', q' < q ∧ zy_ok u n k q' a)) → zw_G X 5 Q 0 0 (zy_w h0 ad cI cZ w) 52 [some (.ref h0), some (.int (nI N)), some (.int (nI q)), none, none] [] := by
  intro d
  induction d with
  | zero =>
    intro q w hd hk h11 h
    have e : q = N := by omega
    subst e
    refine zw_iload_n (i := 2) C dX1_work_52 rfl rfl ?_
    refine zw_iload_n (i := 1) C dX1_work_53 rfl rfl ?_
    refine zw_icmp_ge (tgt := 124) C dX1_work_54 (by decide) (fun c54 => ?_) (fun c54 => ?_)
    · refine zw_forget 2 ?_
      exact K w hk h11 h
    · exact absurd (Int32.le_refl _) c54
  | succ d ih =>
    intro q w hd hk h11 h
    have ex := hk.x
    refine zw_iload_n (i := 2) C dX1_work_52 rfl rfl ?_
    refine zw_iload_n (i := 1) C dX1_work_53 rfl rfl ?_
    refine zw_icmp_ge (tgt := 124) C dX1_work_54 (by decide) (fun c54 => ?_) (fun c54 => ?_)
    · have := (nI_leI (a := N) (b := q) (by omega) (by omega)).mp c54
      omega
    · refine zw_aload_n (i := 0) C dX1_work_57 rfl rfl ?_
      refine zw_iload_n (i := 2) C dX1_work_58 rfl rfl ?_
      refine zw_calli (q0 := 0) (n := 1) C (fun l D => zym_possible (nI q) rfl (by rw [ex]; exact hD) (by omega) l D) (lw_V q251 q253 qs13 q21 q254) rfl (by decide +kernel) ⟨Nat.le_of_ble_eq_true rfl, Nat.le_of_ble_eq_true rfl⟩ rfl rfl rfl (Nat.le_of_ble_eq_true rfl) ⟨Nat.le_of_ble_eq_true rfl, Nat.le_of_ble_eq_true rfl⟩ dX1_work_59 (fun r1 w1 g1 => ?_)
      obtain ⟨g1, g2⟩ := g1
      have hk1 := hk.to g1
      have h111 : w1 11 0 = 1 := by rw [g1 11 (by decide)]; exact h11
      have h10 : ∀ a, a < 2 ^ n → w1 10 a = zw_b (∃ q', q' < q ∧ zy_ok u n k q' a) := fun a ha => by rw [g1 10 (by decide)]; exact h a ha
      rcases g2 with ⟨rfl, g2⟩ | ⟨rfl, c, hc, g2⟩
      · have hch : ∀ c, ∃ m, c < k → w1 9 c = nI m ∧ zy_mk u q c n m := by
          intro c
          by_cases hc : c < k
          · obtain ⟨m, hm⟩ := g2 c hc
            exact ⟨m, fun _ => ⟨hm.1, hk.mk hm.2⟩⟩
          · exact ⟨0, fun q => absurd q hc⟩
        refine zw_istore_n (i := 3) C dX1_work_62 rfl (by decide) ?_
        refine zw_iconst (v := 0) C dX1_work_63 (by decide) ?_
        refine zw_istore C dX1_work_64 (by decide) ?_
        refine zw_loc 4 rfl (show (0 : Int32) = nI 0 from zw_0) ?_
        refine zyl_work3 C (mk := fun c => Classical.choose (hch c)) hD (fun c hc => ?_) (fun w2 e1 e2 e3 => ?_) (2 ^ n) 0 w1 (by omega) hk1 h111 (fun c hc => (Classical.choose_spec (hch c) hc).1) (fun a ha => absurd ha (by omega)) (fun a _ ha => h10 a ha)
        · exact (Classical.choose_spec (hch c) hc).2
        · refine zw_iinc (v := nI (q + 1)) C dX1_work_118 rfl (nI_1 q) (by decide) ?_
          refine zw_goto (tgt := 52) C dX1_work_121 (by decide) ?_
          exact ih (q + 1) w2 (by omega) e1 e2 e3
      · refine zw_istore_n (i := 3) C dX1_work_62 rfl (by decide) ?_
        refine zw_iconst (v := 0) C dX1_work_63 (by decide) ?_
        refine zw_istore C dX1_work_64 (by decide) ?_
        refine zw_iload_n (i := 3) C dX1_work_66 rfl rfl ?_
        refine zw_if_eq (tgt := 118) C dX1_work_67 (by decide) (fun c67 => ?_) (fun c67 => ?_)
        · refine zw_iinc (v := nI (q + 1)) C dX1_work_118 rfl (nI_1 q) (by decide) ?_
          refine zw_goto (tgt := 52) C dX1_work_121 (by decide) ?_
          refine zw_forget 3 ?_
          refine zw_forget 4 ?_
          refine ih (q + 1) w1 (by omega) hk1 h111 (fun a ha => ?_)
          rw [h10 a ha]
          refine zw_bc ⟨fun ⟨q', b1, b2⟩ => ⟨q', by omega, b2⟩, fun ⟨q', b1, b2⟩ => ?_⟩
          by_cases e : q' = q
          · subst e
            obtain ⟨f, f1, -, f3⟩ := b2 c hc
            rw [ex] at g2
            exact absurd f3 (g2 f f1)
          · exact ⟨q', by omega, b2⟩
        · exact absurd rfl c67
def zy_rd (u : zw_St) (n k : Nat) : Prop := u 11 0 = 0 ∨ (u 11 0 = 1 ∧ ∀ s, s < 2 ^ n → u 10 s = zw_b (zw_yes (zy_x u) n k s))
/-- behind a question -/
def zy_qp (u : zw_St) (n k : Nat) (u' : zw_St) : Prop := zy_kp u u' ∧ u' 11 0 = 1 ∧ ∀ s, s < 2 ^ n → u' 10 s = zw_b (zw_yes (zy_x u) n k s)
theorem zym_work {h0 : Nat} {ad : Nat → Nat} {cI cZ : ClassId} {u : zw_St} {n k : Nat} (hD : zw_D (zy_x u) n k) (hR : zy_rd u n k) (l : Launch) (D : va_G) : zw_Mv l yX1_work cX1_work 5 none 2 46 D (zy_w h0 ad cI cZ) cI cZ [.ref h0] u (fun u' => zy_qp u n k u') := by
  refine zw_Mv_of (by decide) (by simp [Value.category]) (Nat.le_of_ble_eq_true rfl) (fun X C => ?_) l D
  have C : zw_Ok X ({ frames := 2, cells := 0, slots := 0, locals := 46 } : Room) cX1_work 5 RX1 cI cZ none := C
  show zw_G X 5 _ 0 0 _ 0 [some (.ref h0), none, none, none, none] []
  have hn9 := hD.1
  have hk4 := hD.2.1
  have hp := zw_p2 hn9
  refine zw_aload_n (i := 0) C dX1_work_0 rfl rfl ?_
  refine zy_get_known C dX1_work_1 ?_
  refine zw_if_eq (tgt := 8) C dX1_work_4 (by decide) (fun c4 => ?_) (fun c4 => ?_)
  · refine zw_aload_n (i := 0) C dX1_work_8 rfl rfl ?_
    refine zw_iconst (v := 1) C dX1_work_9 (by decide) ?_
    refine zy_put_known C rfl rfl dX1_work_10 ?_
    refine zw_iconst (v := 0) C dX1_work_13 (by decide) ?_
    refine zw_istore_n (i := 1) C dX1_work_14 rfl (by decide) ?_
    refine zw_loc 1 rfl (show (0 : Int32) = nI 0 from zw_0) ?_
    refine zyl_work1 C (u := u) (fun w hk h11 h => ?_) 512 0 _ (by omega) (zy_kp.up (fun _ _ => rfl) (by decide)) (by rw [zw_up_s, zw_upd_s]) (fun a ha => absurd ha (by omega))
    refine zw_aload_n (i := 0) C dX1_work_35 rfl rfl ?_
    refine zy_get_conditions C dX1_work_36 ?_
    refine zw_top (y := nI k) (by rw [hk 8 (by decide)]; exact hD.2.2.2.1) ?_
    refine zw_if_ne (tgt := 46) C dX1_work_39 (by decide) (fun c39 => ?_) (fun c39 => ?_)
    · have hk0 : ¬ k = 0 := fun e => c39 (by rw [e]; exact nI_0)
      refine zw_sipush (v := 216) C dX1_work_46 (by decide) ?_
      refine zw_istore_n (i := 1) C dX1_work_49 rfl (by decide) ?_
      refine zw_iconst (v := 0) C dX1_work_50 (by decide) ?_
      refine zw_istore_n (i := 2) C dX1_work_51 rfl (by decide) ?_
      refine zw_loc 1 rfl (show (216 : Int32) = nI 216 from rfl) ?_
      refine zw_loc 2 rfl (show (0 : Int32) = nI 0 from zw_0) ?_
      refine zyl_work2 C (N := 216) hD (by decide) (fun w2 e1 e2 e3 => ?_) 216 0 w (by omega) hk h11 (fun a ha => ?_)
      · refine zw_vret C dX1_work_124 ?_
        exact ⟨e1, e2, fun s hs => by rw [e3 s hs]; exact zw_bc (zy_yes_ok hD (Or.inr ⟨hk0, rfl⟩)).symm⟩
      · rw [h a (by omega), zw_b0 (fun ⟨q, b, _⟩ => absurd b (by omega))]
    · have hk0 : k = 0 := (nI_eq (a := k) (b := 0) (by omega) (by omega)).mp c39
      refine zw_iconst (v := 1) C dX1_work_42 (by decide) ?_
      refine zw_goto (tgt := 49) C dX1_work_43 (by decide) ?_
      refine zw_istore_n (i := 1) C dX1_work_49 rfl (by decide) ?_
      refine zw_iconst (v := 0) C dX1_work_50 (by decide) ?_
      refine zw_istore_n (i := 2) C dX1_work_51 rfl (by decide) ?_
      refine zw_loc 1 rfl (show (1 : Int32) = nI 1 from rfl) ?_
      refine zw_loc 2 rfl (show (0 : Int32) = nI 0 from zw_0) ?_
      refine zyl_work2 C (N := 1) hD (by decide) (fun w2 e1 e2 e3 => ?_) 1 0 w (by omega) hk h11 (fun a ha => ?_)
      · refine zw_vret C dX1_work_124 ?_
        exact ⟨e1, e2, fun s hs => by rw [e3 s hs]; exact zw_bc (zy_yes_ok hD (Or.inl ⟨hk0, rfl⟩)).symm⟩
      · rw [h a (by omega), zw_b0 (fun ⟨q, b, _⟩ => absurd b (by omega))]
  · refine zw_vret C dX1_work_7 ?_
    rcases hR with q | q
    · exact absurd q c4
    · exact ⟨fun _ _ => rfl, q.1, q.2⟩
end
section
/-! LineageWorldsModel: the questions -/
set_option maxRecDepth 100000
theorem zyl_weight {X : zw_X} {h0 : Nat} {ad : Nat → Nat} {cI cZ : ClassId} {Q : State → Prop} (C : zw_Ok X ({ frames := 0, cells := 0, slots := 0, locals := 0 } : Room) cX1_weight 4 RX1 cI cZ (some .int)) {n s : Nat} {u : zw_St} (hn9 : n ≤ 9) (hs : s < 512) (hu : u 4 0 = nI n) (K : zw_G X 4 Q 0 0 (zy_w h0 ad cI cZ u) 46 [some (.ref h0), some (.int (nI s)), some (.int (zw_wt (u 3) s n)), none] []) : ∀ (d i : Nat) (x : Int32), i + d = n → x = zw_wt (u 3) s i → zw_G X 4 Q 0 0 (zy_w h0 ad cI cZ u) 4 [some (.ref h0), some (.int (nI s)), some (.int x), some (.int (nI i))] [] := by
  intro d
  induction d with
  | zero =>
    intro i x hi hx
    have e : i = n := by omega
    subst e
    subst hx
    refine zw_iload_n (i := 3) C dX1_weight_4 rfl rfl ?_
    refine zw_aload_n (i := 0) C dX1_weight_5 rfl rfl ?_
    refine zy_get_facts C dX1_weight_6 ?_
    refine zw_top hu ?_
    refine zw_icmp_ge (tgt := 46) C dX1_weight_9 (by decide) (fun c9 => ?_) (fun c9 => ?_)
    · refine zw_forget 3 ?_
      exact K
    · exact absurd (Int32.le_refl _) c9
  | succ d ih =>
    intro i x hi hx
    refine zw_iload_n (i := 3) C dX1_weight_4 rfl rfl ?_
    refine zw_aload_n (i := 0) C dX1_weight_5 rfl rfl ?_
    refine zy_get_facts C dX1_weight_6 ?_
    refine zw_top hu ?_
    refine zw_icmp_ge (tgt := 46) C dX1_weight_9 (by decide) (fun c9 => ?_) (fun c9 => ?_)
    · have := (nI_leI (a := n) (b := i) (by omega) (by omega)).mp c9
      omega
    · have hw : zw_wt (u 3) s (i + 1) = zw_wt (u 3) s i * (if s.testBit i = true then u 3 i else 4 - u 3 i) := rfl
      refine zw_iload_n (i := 2) C dX1_weight_12 rfl rfl ?_
      refine zw_iload_n (i := 1) C dX1_weight_13 rfl rfl ?_
      refine zw_iload_n (i := 3) C dX1_weight_14 rfl rfl ?_
      refine zw_ishr C dX1_weight_15 ?_
      refine zw_iconst (v := 1) C dX1_weight_16 (by decide) ?_
      refine zw_iand C dX1_weight_17 ?_
      refine zw_if_eq (tgt := 30) C dX1_weight_18 (by decide) (fun c18 => ?_) (fun c18 => ?_)
      · have hb : ¬ s.testBit i = true := fun q => by
          rw [zw_bit1 hs (by omega) q] at c18
          exact zw_10 c18
        refine zw_iconst (v := 4) C dX1_weight_30 (by decide) ?_
        refine zw_aload_n (i := 0) C dX1_weight_31 rfl rfl ?_
        refine zy_get_numbers C dX1_weight_32 ?_
        refine zw_iload_n (i := 3) C dX1_weight_35 rfl rfl ?_
        refine zy_ld_numbers C dX1_weight_36 (rfl) (by omega) ?_
        refine zw_isub C dX1_weight_37 ?_
        refine zw_imul C dX1_weight_38 ?_
        refine zw_istore_n (i := 2) C dX1_weight_39 rfl (by decide) ?_
        refine zw_iinc (v := nI (i + 1)) C dX1_weight_40 rfl (nI_1 i) (by decide) ?_
        refine zw_goto (tgt := 4) C dX1_weight_43 (by decide) ?_
        refine ih (i + 1) _ (by omega) ?_
        rw [hw, if_neg hb, hx]
      · have hb : s.testBit i = true := Classical.byContradiction fun q => c18 (zw_bit0 hs (by omega) q)
        refine zw_aload_n (i := 0) C dX1_weight_21 rfl rfl ?_
        refine zy_get_numbers C dX1_weight_22 ?_
        refine zw_iload_n (i := 3) C dX1_weight_25 rfl rfl ?_
        refine zy_ld_numbers C dX1_weight_26 (rfl) (by omega) ?_
        refine zw_goto (tgt := 38) C dX1_weight_27 (by decide) ?_
        refine zw_imul C dX1_weight_38 ?_
        refine zw_istore_n (i := 2) C dX1_weight_39 rfl (by decide) ?_
        refine zw_iinc (v := nI (i + 1)) C dX1_weight_40 rfl (nI_1 i) (by decide) ?_
        refine zw_goto (tgt := 4) C dX1_weight_43 (by decide) ?_
        refine ih (i + 1) _ (by omega) ?_
        rw [hw, if_pos hb, hx]
theorem zym_weight {h0 : Nat} {ad : Nat → Nat} {cI cZ : ClassId} {u : zw_St} (a : Int32) {n s : Nat} (ea : a = nI s) (hn9 : n ≤ 9) (hs : s < 512) (hu : u 4 0 = nI n) (l : Launch) (D : va_G) : zw_Mi l yX1_weight cX1_weight 4 (some .int) 0 0 D (zy_w h0 ad cI cZ) cI cZ [.ref h0, .int a] u (fun r u' => u' = u ∧ r = zw_wt (u 3) s n) := by
  refine zw_Mi_of (by decide) (by simp [Value.category]) (Nat.le_of_ble_eq_true rfl) (fun X C => ?_) l D
  have C : zw_Ok X ({ frames := 0, cells := 0, slots := 0, locals := 0 } : Room) cX1_weight 4 RX1 cI cZ (some .int) := C
  show zw_G X 4 _ 0 0 _ 0 [some (.ref h0), some (.int a), none, none] []
  subst ea
  refine zw_iconst (v := 1) C dX1_weight_0 (by decide) ?_
  refine zw_istore_n (i := 2) C dX1_weight_1 rfl (by decide) ?_
  refine zw_iconst (v := 0) C dX1_weight_2 (by decide) ?_
  refine zw_istore_n (i := 3) C dX1_weight_3 rfl (by decide) ?_
  refine zw_loc 3 rfl (show (0 : Int32) = nI 0 from zw_0) ?_
  refine zyl_weight C hn9 hs hu ?_ n 0 1 (by omega) rfl
  refine zw_iload_n (i := 2) C dX1_weight_46 rfl rfl ?_
  refine zw_iret C rfl dX1_weight_47 ?_
  exact ⟨rfl, rfl⟩
theorem zyl_sum {X : zw_X} {h0 : Nat} {ad : Nat → Nat} {cI cZ : ClassId} {Q : State → Prop} (C : zw_Ok X ({ frames := 3, cells := 0, slots := 0, locals := 70 } : Room) cX1_sum 4 RX1 cI cZ (some .int)) {n m : Nat} {P : Nat → Prop} {u : zw_St} (hn9 : n ≤ 9) (hm : m < 512) (hu : u 4 0 = nI n) (hy : ∀ s, s < 2 ^ n → u 10 s = zw_b (P s)) (K : zw_G X 4 Q 0 0 (zy_w h0 ad cI cZ u) 48 [some (.ref h0), some (.int (nI m)), some (.int (zw_sum (fun s => zw_b (P s ∧ s &&& m = m) * zw_wt (u 3) s n) (2 ^ n))), none] []) : ∀ (d s : Nat) (x : Int32), s + d = 2 ^ n → x = zw_sum (fun s => zw_b (P s ∧ s &&& m = m) * zw_wt (u 3) s n) s → zw_G X 4 Q 0 0 (zy_w h0 ad cI cZ u) 8 [some (.ref h0), some (.int (nI m)), some (.int x), some (.int (nI s))] [] := by
  have hp := zw_p2 hn9
  intro d
  induction d with
  | zero =>
    intro s x hd hx
    have e : s = 2 ^ n := by omega
    refine zw_iload_n (i := 3) C dX1_sum_8 rfl rfl ?_
    refine zw_iconst (v := 1) C dX1_sum_9 (by decide) ?_
    refine zw_aload_n (i := 0) C dX1_sum_10 rfl rfl ?_
    refine zy_get_facts C dX1_sum_11 ?_
    refine zw_top hu ?_
    refine zw_ishl C dX1_sum_14 ?_
    refine zw_top (zw_shl n (by omega)) ?_
    refine zw_icmp_ge (tgt := 48) C dX1_sum_15 (by decide) (fun c15 => ?_) (fun c15 => ?_)
    · refine zw_forget 3 ?_
      rw [hx, e]
      exact K
    · exact absurd ((nI_leI (a := 2 ^ n) (b := s) (by omega) (by omega)).mpr (by omega)) c15
  | succ d ih =>
    intro s x hd hx
    have hs : s < 2 ^ n := by omega
    have skip : ¬ (P s ∧ s &&& m = m) → zw_G X 4 Q 0 0 (zy_w h0 ad cI cZ u) 42 [some (.ref h0), some (.int (nI m)), some (.int x), some (.int (nI s))] [] := by
      intro q
      refine zw_iinc (v := nI (s + 1)) C dX1_sum_42 rfl (nI_1 s) (by decide) ?_
      refine zw_goto (tgt := 8) C dX1_sum_45 (by decide) ?_
      refine ih (s + 1) x (by omega) ?_
      rw [hx]
      refine zw_sum_b0 (f := fun s => zw_b (P s ∧ s &&& m = m) * zw_wt (u 3) s n) ?_
      show zw_b (P s ∧ s &&& m = m) * zw_wt (u 3) s n = 0
      rw [zw_b0 q, Int32.zero_mul]
    refine zw_iload_n (i := 3) C dX1_sum_8 rfl rfl ?_
    refine zw_iconst (v := 1) C dX1_sum_9 (by decide) ?_
    refine zw_aload_n (i := 0) C dX1_sum_10 rfl rfl ?_
    refine zy_get_facts C dX1_sum_11 ?_
    refine zw_top hu ?_
    refine zw_ishl C dX1_sum_14 ?_
    refine zw_top (zw_shl n (by omega)) ?_
    refine zw_icmp_ge (tgt := 48) C dX1_sum_15 (by decide) (fun c15 => ?_) (fun c15 => ?_)
    · have := (nI_leI (a := 2 ^ n) (b := s) (by omega) (by omega)).mp c15
      omega
    · refine zw_aload_n (i := 0) C dX1_sum_18 rfl rfl ?_
      refine zy_get_yes C dX1_sum_19 ?_
      refine zw_iload_n (i := 3) C dX1_sum_22 rfl rfl ?_
      refine zy_ld_yes C dX1_sum_23 (rfl) (by omega) ?_
      refine zw_top (hy s hs) ?_
      refine zw_if_eq (tgt := 42) C dX1_sum_24 (by decide) (fun c24 => ?_) (fun c24 => ?_)
      · exact skip (fun q => zw_b_0.mp c24 q.1)
      · refine zw_iload_n (i := 3) C dX1_sum_27 rfl rfl ?_
        refine zw_iload_n (i := 1) C dX1_sum_28 rfl rfl ?_
        refine zw_iand C dX1_sum_29 ?_
        refine zw_top (zw_and s m) ?_
        refine zw_iload_n (i := 1) C dX1_sum_30 rfl rfl ?_
        refine zw_icmp_ne (tgt := 42) C dX1_sum_31 (by decide) (fun c31 => ?_) (fun c31 => ?_)
        · exact skip (fun q => c31 (by rw [q.2]))
        · have hle : s &&& m ≤ m := Nat.and_le_right
          have hq : P s ∧ s &&& m = m := ⟨zw_b_n c24, (nI_eq (by omega) (by omega)).mp c31⟩
          refine zw_iload_n (i := 2) C dX1_sum_34 rfl rfl ?_
          refine zw_aload_n (i := 0) C dX1_sum_35 rfl rfl ?_
          refine zw_iload_n (i := 3) C dX1_sum_36 rfl rfl ?_
          refine zw_calli (q0 := 0) (n := 1) C (fun l D => zym_weight (nI s) rfl hn9 (by omega) hu l D) (lw_V q263 q265 qs16 q21 q266) rfl (by decide +kernel) ⟨Nat.le_of_ble_eq_true rfl, Nat.le_of_ble_eq_true rfl⟩ rfl rfl rfl (Nat.le_of_ble_eq_true rfl) ⟨Nat.le_of_ble_eq_true rfl, Nat.le_of_ble_eq_true rfl⟩ dX1_sum_37 (fun r1 u1 h1 => ?_)
          obtain ⟨rfl, rfl⟩ := h1
          refine zw_iadd C dX1_sum_40 ?_
          refine zw_istore_n (i := 2) C dX1_sum_41 rfl (by decide) ?_
          refine zw_iinc (v := nI (s + 1)) C dX1_sum_42 rfl (nI_1 s) (by decide) ?_
          refine zw_goto (tgt := 8) C dX1_sum_45 (by decide) ?_
          refine ih (s + 1) _ (by omega) ?_
          rw [hx]
          show _ = zw_sum (fun s => zw_b (P s ∧ s &&& m = m) * zw_wt (u1 3) s n) s + zw_b (P s ∧ s &&& m = m) * zw_wt (u1 3) s n
          rw [zw_b1 hq, Int32.one_mul]
theorem zym_sum {h0 : Nat} {ad : Nat → Nat} {cI cZ : ClassId} {u : zw_St} (a : Int32) {n k m : Nat} (ea : a = nI m) (hm : m < 512) (hD : zw_D (zy_x u) n k) (hR : zy_rd u n k) (l : Launch) (D : va_G) : zw_Mi l yX1_sum cX1_sum 4 (some .int) 3 70 D (zy_w h0 ad cI cZ) cI cZ [.ref h0, .int a] u (fun r u' => zy_qp u n k u' ∧ r = zw_tot (zy_x u) n k m) := by
  refine zw_Mi_of (by decide) (by simp [Value.category]) (Nat.le_of_ble_eq_true rfl) (fun X C => ?_) l D
  have C : zw_Ok X ({ frames := 3, cells := 0, slots := 0, locals := 70 } : Room) cX1_sum 4 RX1 cI cZ (some .int) := C
  show zw_G X 4 _ 0 0 _ 0 [some (.ref h0), some (.int a), none, none] []
  subst ea
  refine zw_iconst (v := 0) C dX1_sum_0 (by decide) ?_
  refine zw_istore_n (i := 2) C dX1_sum_1 rfl (by decide) ?_
  refine zw_aload_n (i := 0) C dX1_sum_2 rfl rfl ?_
  refine zw_callv (q0 := 0) (n := 0) C (fun l D => zym_work hD hR l D) (lw_V q247 q249 qs12 q21 q250) rfl (by decide +kernel) ⟨Nat.le_of_ble_eq_true rfl, Nat.le_of_ble_eq_true rfl⟩ rfl rfl rfl (Nat.le_of_ble_eq_true rfl) ⟨Nat.le_of_ble_eq_true rfl, Nat.le_of_ble_eq_true rfl⟩ dX1_sum_3 (fun u1 h1 => ?_)
  refine zw_iconst (v := 0) C dX1_sum_6 (by decide) ?_
  refine zw_istore_n (i := 3) C dX1_sum_7 rfl (by decide) ?_
  refine zw_loc 3 rfl (show (0 : Int32) = nI 0 from zw_0) ?_
  refine zyl_sum C (P := zw_yes (zy_x u) n k) hD.1 hm (by rw [h1.1 4 (by decide)]; exact hD.2.2.1) h1.2.2 ?_ (2 ^ n) 0 0 (by omega) rfl
  refine zw_iload_n (i := 2) C dX1_sum_48 rfl rfl ?_
  refine zw_iret C rfl dX1_sum_49 ?_
  refine ⟨h1, ?_⟩
  rw [h1.1 3 (by decide)]
  rfl
theorem zym_share {h0 : Nat} {ad : Nat → Nat} {cI cZ : ClassId} {u : zw_St} {n k : Nat} (hD : zw_D (zy_x u) n k) (hR : zy_rd u n k) (l : Launch) (D : va_G) : zw_Mi l yX1_share cX1_share 1 (some .int) 4 93 D (zy_w h0 ad cI cZ) cI cZ [.ref h0] u (fun r u' => zy_qp u n k u' ∧ r = zw_tot (zy_x u) n k 0) := by
  refine zw_Mi_of (by decide) (by simp [Value.category]) (Nat.le_of_ble_eq_true rfl) (fun X C => ?_) l D
  have C : zw_Ok X ({ frames := 4, cells := 0, slots := 0, locals := 93 } : Room) cX1_share 1 RX1 cI cZ (some .int) := C
  show zw_G X 1 _ 0 0 _ 0 [some (.ref h0)] []
  refine zw_aload_n (i := 0) C dX1_share_0 rfl rfl ?_
  refine zw_iconst (v := 0) C dX1_share_1 (by decide) ?_
  refine zw_calli (q0 := 0) (n := 1) C (fun l D => zym_sum 0 zw_0 (by decide) hD hR l D) (lw_V q243 q245 qs11 q21 q246) rfl (by decide +kernel) ⟨Nat.le_of_ble_eq_true rfl, Nat.le_of_ble_eq_true rfl⟩ rfl rfl rfl (Nat.le_of_ble_eq_true rfl) ⟨Nat.le_of_ble_eq_true rfl, Nat.le_of_ble_eq_true rfl⟩ dX1_share_2 (fun r1 u1 h1 => ?_)
  refine zw_iret C rfl dX1_share_5 ?_
  exact h1
theorem zym_shareWith {h0 : Nat} {ad : Nat → Nat} {cI cZ : ClassId} {u : zw_St} (f : Int32) {n k : Nat} (hD : zw_D (zy_x u) n k) (hR : zy_rd u n k) (l : Launch) (D : va_G) : zw_Mi l yX1_shareWith cX1_shareWith 2 (some .int) 4 93 D (zy_w h0 ad cI cZ) cI cZ [.ref h0, .int f] u (fun r u' => (¬ zw_isF n f ∧ r = -4 ∧ u' = u) ∨ ∃ j : Nat, j < n ∧ f = nI j ∧ zy_qp u n k u' ∧ r = zw_tot (zy_x u) n k (2 ^ j)) := by
  refine zw_Mi_of (by decide) (by simp [Value.category]) (Nat.le_of_ble_eq_true rfl) (fun X C => ?_) l D
  have C : zw_Ok X ({ frames := 4, cells := 0, slots := 0, locals := 93 } : Room) cX1_shareWith 2 RX1 cI cZ (some .int) := C
  show zw_G X 2 _ 0 0 _ 0 [some (.ref h0), some (.int f)] []
  have hn9 := hD.1
  refine zw_aload_n (i := 0) C dX1_shareWith_0 rfl rfl ?_
  refine zw_iload_n (i := 1) C dX1_shareWith_1 rfl rfl ?_
  refine zw_calli (q0 := 0) (n := 1) C (fun l D => zym_isFact f hD.2.2.1 hD.1 l D) (lw_V q219 q221 qs9 q21 q222) rfl (by decide +kernel) ⟨Nat.le_of_ble_eq_true rfl, Nat.le_of_ble_eq_true rfl⟩ rfl rfl rfl (Nat.le_of_ble_eq_true rfl) ⟨Nat.le_of_ble_eq_true rfl, Nat.le_of_ble_eq_true rfl⟩ dX1_shareWith_2 (fun r1 u1 h1 => ?_)
  obtain ⟨rfl, rfl⟩ := h1
  refine zw_if_eq (tgt := 18) C dX1_shareWith_5 (by decide) (fun c5 => ?_) (fun c5 => ?_)
  · refine zw_bipush (v := -4) C dX1_shareWith_18 (by decide) ?_
    refine zw_iret C rfl dX1_shareWith_20 ?_
    exact Or.inl ⟨zw_b_0.mp c5, rfl, rfl⟩
  · obtain ⟨j, hj, ej⟩ : zw_isF n f := zw_b_n c5
    subst ej
    refine zw_aload_n (i := 0) C dX1_shareWith_8 rfl rfl ?_
    refine zw_iconst (v := 1) C dX1_shareWith_9 (by decide) ?_
    refine zw_iload_n (i := 1) C dX1_shareWith_10 rfl rfl ?_
    refine zw_ishl C dX1_shareWith_11 ?_
    refine zw_top (zw_shl j (by omega)) ?_
    refine zw_calli (q0 := 0) (n := 1) C (fun l D => zym_sum (nI (2 ^ j)) rfl (Nat.lt_of_lt_of_le (Nat.pow_lt_pow_right (by decide) hj) (zw_p2 hn9)) hD hR l D) (lw_V q243 q245 qs11 q21 q246) rfl (by decide +kernel) ⟨Nat.le_of_ble_eq_true rfl, Nat.le_of_ble_eq_true rfl⟩ rfl rfl rfl (Nat.le_of_ble_eq_true rfl) ⟨Nat.le_of_ble_eq_true rfl, Nat.le_of_ble_eq_true rfl⟩ dX1_shareWith_12 (fun r2 u2 h2 => ?_)
    refine zw_goto (tgt := 20) C dX1_shareWith_15 (by decide) ?_
    refine zw_iret C rfl dX1_shareWith_20 ?_
    exact Or.inr ⟨j, hj, rfl, h2.1, h2.2⟩
theorem zyl_matters {X : zw_X} {h0 : Nat} {ad : Nat → Nat} {cI cZ : ClassId} {Q : State → Prop} (C : zw_Ok X ({ frames := 3, cells := 0, slots := 0, locals := 70 } : Room) cX1_matters 3 RX1 cI cZ (some .boolean)) {n j : Nat} {P : Nat → Prop} {u : zw_St} (hn9 : n ≤ 9) (hj : j < n) (hu : u 4 0 = nI n) (hy : ∀ s, s < 2 ^ n → u 10 s = zw_b (P s)) (K0 : (¬ ∃ s, s < 2 ^ n ∧ ¬ (P s ↔ P (s ^^^ 2 ^ j))) → zw_G X 3 Q 0 0 (zy_w h0 ad cI cZ u) 53 [some (.ref h0), some (.int (nI j)), none] []) (K1 : (∃ s, s < 2 ^ n ∧ ¬ (P s ↔ P (s ^^^ 2 ^ j))) → zw_G X 3 Q 0 0 (zy_w h0 ad cI cZ u) 45 [some (.ref h0), some (.int (nI j)), none] []) : ∀ (d s : Nat), s + d = 2 ^ n → (∀ s', s' < s → (P s' ↔ P (s' ^^^ 2 ^ j))) → zw_G X 3 Q 0 0 (zy_w h0 ad cI cZ u) 16 [some (.ref h0), some (.int (nI j)), some (.int (nI s))] [] := by
  have hp := zw_p2 hn9
  intro d
  induction d with
  | zero =>
    intro s hd h
    refine zw_iload_n (i := 2) C dX1_matters_16 rfl rfl ?_
    refine zw_iconst (v := 1) C dX1_matters_17 (by decide) ?_
    refine zw_aload_n (i := 0) C dX1_matters_18 rfl rfl ?_
    refine zy_get_facts C dX1_matters_19 ?_
    refine zw_top hu ?_
    refine zw_ishl C dX1_matters_22 ?_
    refine zw_top (zw_shl n (by omega)) ?_
    refine zw_icmp_ge (tgt := 53) C dX1_matters_23 (by decide) (fun c23 => ?_) (fun c23 => ?_)
    · refine zw_forget 2 ?_
      exact K0 (fun ⟨s', h1, h2⟩ => h2 (h s' (by omega)))
    · exact absurd ((nI_leI (a := 2 ^ n) (b := s) (by omega) (by omega)).mpr (by omega)) c23
  | succ d ih =>
    intro s hd h
    have hs : s < 2 ^ n := by omega
    have ho := zw_xlt hs hj
    refine zw_iload_n (i := 2) C dX1_matters_16 rfl rfl ?_
    refine zw_iconst (v := 1) C dX1_matters_17 (by decide) ?_
    refine zw_aload_n (i := 0) C dX1_matters_18 rfl rfl ?_
    refine zy_get_facts C dX1_matters_19 ?_
    refine zw_top hu ?_
    refine zw_ishl C dX1_matters_22 ?_
    refine zw_top (zw_shl n (by omega)) ?_
    refine zw_icmp_ge (tgt := 53) C dX1_matters_23 (by decide) (fun c23 => ?_) (fun c23 => ?_)
    · have := (nI_leI (a := 2 ^ n) (b := s) (by omega) (by omega)).mp c23
      omega
    · refine zw_aload_n (i := 0) C dX1_matters_26 rfl rfl ?_
      refine zy_get_yes C dX1_matters_27 ?_
      refine zw_iload_n (i := 2) C dX1_matters_30 rfl rfl ?_
      refine zy_ld_yes C dX1_matters_31 (rfl) (by omega) ?_
      refine zw_top (hy s hs) ?_
      refine zw_aload_n (i := 0) C dX1_matters_32 rfl rfl ?_
      refine zy_get_yes C dX1_matters_33 ?_
      refine zw_iload_n (i := 2) C dX1_matters_36 rfl rfl ?_
      refine zw_iconst (v := 1) C dX1_matters_37 (by decide) ?_
      refine zw_iload_n (i := 1) C dX1_matters_38 rfl rfl ?_
      refine zw_ishl C dX1_matters_39 ?_
      refine zw_top (zw_shl j (by omega)) ?_
      refine zw_ixor C dX1_matters_40 ?_
      refine zw_top (zw_xor s (2 ^ j)) ?_
      refine zy_ld_yes C dX1_matters_41 (rfl) (by omega) ?_
      refine zw_top (hy _ ho) ?_
      refine zw_icmp_eq (tgt := 47) C dX1_matters_42 (by decide) (fun c42 => ?_) (fun c42 => ?_)
      · refine zw_iinc (v := nI (s + 1)) C dX1_matters_47 rfl (nI_1 s) (by decide) ?_
        refine zw_goto (tgt := 16) C dX1_matters_50 (by decide) ?_
        refine ih (s + 1) (by omega) (fun s' hs' => ?_)
        by_cases e : s' = s
        · rw [e]
          exact zw_b_inj.mp c42
        · exact h s' (by omega)
      · refine zw_forget 2 ?_
        exact K1 ⟨s, hs, fun q => c42 (zw_b_inj.mpr q)⟩
theorem zym_matters {h0 : Nat} {ad : Nat → Nat} {cI cZ : ClassId} {u : zw_St} (f : Int32) {n k : Nat} (hD : zw_D (zy_x u) n k) (hR : zy_rd u n k) (l : Launch) (D : va_G) : zw_Mi l yX1_matters cX1_matters 3 (some .boolean) 3 70 D (zy_w h0 ad cI cZ) cI cZ [.ref h0, .int f] u (fun r u' => (¬ zw_isF n f ∧ r = 0 ∧ u' = u) ∨ ∃ j : Nat, j < n ∧ f = nI j ∧ zy_qp u n k u' ∧ r = zw_b (∃ s, s < 2 ^ n ∧ ¬ (zw_yes (zy_x u) n k s ↔ zw_yes (zy_x u) n k (s ^^^ 2 ^ j)))) := by
  refine zw_Mi_of (by decide) (by simp [Value.category]) (Nat.le_of_ble_eq_true rfl) (fun X C => ?_) l D
  have C : zw_Ok X ({ frames := 3, cells := 0, slots := 0, locals := 70 } : Room) cX1_matters 3 RX1 cI cZ (some .boolean) := C
  show zw_G X 3 _ 0 0 _ 0 [some (.ref h0), some (.int f), none] []
  have hn9 := hD.1
  refine zw_aload_n (i := 0) C dX1_matters_0 rfl rfl ?_
  refine zw_iload_n (i := 1) C dX1_matters_1 rfl rfl ?_
  refine zw_calli (q0 := 0) (n := 1) C (fun l D => zym_isFact f hD.2.2.1 hD.1 l D) (lw_V q219 q221 qs9 q21 q222) rfl (by decide +kernel) ⟨Nat.le_of_ble_eq_true rfl, Nat.le_of_ble_eq_true rfl⟩ rfl rfl rfl (Nat.le_of_ble_eq_true rfl) ⟨Nat.le_of_ble_eq_true rfl, Nat.le_of_ble_eq_true rfl⟩ dX1_matters_2 (fun r1 u1 h1 => ?_)
  obtain ⟨rfl, rfl⟩ := h1
  refine zw_if_ne (tgt := 10) C dX1_matters_5 (by decide) (fun c5 => ?_) (fun c5 => ?_)
  · obtain ⟨j, hj, ej⟩ : zw_isF n f := zw_b_n c5
    subst ej
    refine zw_aload_n (i := 0) C dX1_matters_10 rfl rfl ?_
    refine zw_callv (q0 := 0) (n := 0) C (fun l D => zym_work hD hR l D) (lw_V q247 q249 qs12 q21 q250) rfl (by decide +kernel) ⟨Nat.le_of_ble_eq_true rfl, Nat.le_of_ble_eq_true rfl⟩ rfl rfl rfl (Nat.le_of_ble_eq_true rfl) ⟨Nat.le_of_ble_eq_true rfl, Nat.le_of_ble_eq_true rfl⟩ dX1_matters_11 (fun u2 h2 => ?_)
    refine zw_iconst (v := 0) C dX1_matters_14 (by decide) ?_
    refine zw_istore_n (i := 2) C dX1_matters_15 rfl (by decide) ?_
    refine zw_loc 2 rfl (show (0 : Int32) = nI 0 from zw_0) ?_
    refine zyl_matters C (P := zw_yes (zy_x u1) n k) hD.1 hj (by rw [h2.1 4 (by decide)]; exact hD.2.2.1) h2.2.2 (fun q => ?_) (fun q => ?_) (2 ^ n) 0 (by omega) (fun a ha => absurd ha (by omega))
    · refine zw_iconst (v := 0) C dX1_matters_53 (by decide) ?_
      refine zw_iret C rfl dX1_matters_54 ?_
      exact Or.inr ⟨j, hj, rfl, h2, (zw_b0 q).symm⟩
    · refine zw_iconst (v := 1) C dX1_matters_45 (by decide) ?_
      refine zw_iret C rfl dX1_matters_46 ?_
      exact Or.inr ⟨j, hj, rfl, h2, (zw_b1 q).symm⟩
  · refine zw_iconst (v := 0) C dX1_matters_8 (by decide) ?_
    refine zw_iret C rfl dX1_matters_9 ?_
    exact Or.inl ⟨zw_b_0.mp c5, rfl, rfl⟩
theorem zyl_size {X : zw_X} {h0 : Nat} {ad : Nat → Nat} {cI cZ : ClassId} {Q : State → Prop} (C : zw_Ok X ({ frames := 0, cells := 0, slots := 0, locals := 0 } : Room) cX1_size 4 RX1 cI cZ (some .int)) {n s : Nat} {u : zw_St} (hn9 : n ≤ 9) (hs : s < 512) (hu : u 4 0 = nI n) (K : zw_G X 4 Q 0 0 (zy_w h0 ad cI cZ u) 26 [some (.ref h0), some (.int (nI s)), some (.int (nI (zw_cnt s n))), none] []) : ∀ (d i : Nat), i + d = n → zw_G X 4 Q 0 0 (zy_w h0 ad cI cZ u) 4 [some (.ref h0), some (.int (nI s)), some (.int (nI (zw_cnt s i))), some (.int (nI i))] [] := by
  intro d
  induction d with
  | zero =>
    intro i hi
    have e : i = n := by omega
    subst e
    refine zw_iload_n (i := 3) C dX1_size_4 rfl rfl ?_
    refine zw_aload_n (i := 0) C dX1_size_5 rfl rfl ?_
    refine zy_get_facts C dX1_size_6 ?_
    refine zw_top hu ?_
    refine zw_icmp_ge (tgt := 26) C dX1_size_9 (by decide) (fun c9 => ?_) (fun c9 => ?_)
    · refine zw_forget 3 ?_
      exact K
    · exact absurd (Int32.le_refl _) c9
  | succ d ih =>
    intro i hi
    refine zw_iload_n (i := 3) C dX1_size_4 rfl rfl ?_
    refine zw_aload_n (i := 0) C dX1_size_5 rfl rfl ?_
    refine zy_get_facts C dX1_size_6 ?_
    refine zw_top hu ?_
    refine zw_icmp_ge (tgt := 26) C dX1_size_9 (by decide) (fun c9 => ?_) (fun c9 => ?_)
    · have := (nI_leI (a := n) (b := i) (by omega) (by omega)).mp c9
      omega
    · refine zw_iload_n (i := 2) C dX1_size_12 rfl rfl ?_
      refine zw_iload_n (i := 1) C dX1_size_13 rfl rfl ?_
      refine zw_iload_n (i := 3) C dX1_size_14 rfl rfl ?_
      refine zw_ishr C dX1_size_15 ?_
      refine zw_iconst (v := 1) C dX1_size_16 (by decide) ?_
      refine zw_iand C dX1_size_17 ?_
      refine zw_iadd C dX1_size_18 ?_
      refine zw_top (zw_cnt_bit hs (by omega)) ?_
      refine zw_istore_n (i := 2) C dX1_size_19 rfl (by decide) ?_
      refine zw_iinc (v := nI (i + 1)) C dX1_size_20 rfl (nI_1 i) (by decide) ?_
      refine zw_goto (tgt := 4) C dX1_size_23 (by decide) ?_
      exact ih (i + 1) (by omega)
theorem zym_size {h0 : Nat} {ad : Nat → Nat} {cI cZ : ClassId} {u : zw_St} (a : Int32) {n s : Nat} (ea : a = nI s) (hn9 : n ≤ 9) (hs : s < 512) (hu : u 4 0 = nI n) (l : Launch) (D : va_G) : zw_Mi l yX1_size cX1_size 4 (some .int) 0 0 D (zy_w h0 ad cI cZ) cI cZ [.ref h0, .int a] u (fun r u' => u' = u ∧ r = nI (zw_cnt s n)) := by
  refine zw_Mi_of (by decide) (by simp [Value.category]) (Nat.le_of_ble_eq_true rfl) (fun X C => ?_) l D
  have C : zw_Ok X ({ frames := 0, cells := 0, slots := 0, locals := 0 } : Room) cX1_size 4 RX1 cI cZ (some .int) := C
  show zw_G X 4 _ 0 0 _ 0 [some (.ref h0), some (.int a), none, none] []
  subst ea
  refine zw_iconst (v := 0) C dX1_size_0 (by decide) ?_
  refine zw_istore_n (i := 2) C dX1_size_1 rfl (by decide) ?_
  refine zw_iconst (v := 0) C dX1_size_2 (by decide) ?_
  refine zw_istore_n (i := 3) C dX1_size_3 rfl (by decide) ?_
  refine zyl_size C hn9 hs hu ?_ n 0 (by omega)
  refine zw_iload_n (i := 2) C dX1_size_26 rfl rfl ?_
  refine zw_iret C rfl dX1_size_27 ?_
  exact ⟨rfl, rfl⟩
theorem zyl_fewest {X : zw_X} {h0 : Nat} {ad : Nat → Nat} {cI cZ : ClassId} {Q : State → Prop} (C : zw_Ok X ({ frames := 3, cells := 0, slots := 0, locals := 70 } : Room) cX1_fewest 4 RX1 cI cZ (some .int)) {n : Nat} {P : Nat → Prop} {u : zw_St} (hn9 : n ≤ 9) (hu : u 4 0 = nI n) (hy : ∀ s, s < 2 ^ n → u 10 s = zw_b (P s)) (K : ∀ x, zw_min P (2 ^ n) (fun s => zw_cnt s 9) x → zw_G X 4 Q 0 0 (zy_w h0 ad cI cZ u) 51 [some (.ref h0), some (.int x), none, none] []) : ∀ (d s : Nat) (x : Int32), s + d = 2 ^ n → zw_min P s (fun s => zw_cnt s 9) x → zw_G X 4 Q 0 0 (zy_w h0 ad cI cZ u) 9 [some (.ref h0), some (.int x), some (.int (nI s)), none] [] := by
  have hp := zw_p2 hn9
  intro d
  induction d with
  | zero =>
    intro s x hd h
    have e : s = 2 ^ n := by omega
    refine zw_iload_n (i := 2) C dX1_fewest_9 rfl rfl ?_
    refine zw_iconst (v := 1) C dX1_fewest_10 (by decide) ?_
    refine zw_aload_n (i := 0) C dX1_fewest_11 rfl rfl ?_
    refine zy_get_facts C dX1_fewest_12 ?_
    refine zw_top hu ?_
    refine zw_ishl C dX1_fewest_15 ?_
    refine zw_top (zw_shl n (by omega)) ?_
    refine zw_icmp_ge (tgt := 51) C dX1_fewest_16 (by decide) (fun c16 => ?_) (fun c16 => ?_)
    · refine zw_forget 2 ?_
      exact K x (e ▸ h)
    · exact absurd ((nI_leI (a := 2 ^ n) (b := s) (by omega) (by omega)).mpr (by omega)) c16
  | succ d ih =>
    intro s x hd h
    have hs : s < 2 ^ n := by omega
    have hc : ∀ s, zw_cnt s 9 ≤ 9 := fun s => zw_cnt_le s 9
    refine zw_iload_n (i := 2) C dX1_fewest_9 rfl rfl ?_
    refine zw_iconst (v := 1) C dX1_fewest_10 (by decide) ?_
    refine zw_aload_n (i := 0) C dX1_fewest_11 rfl rfl ?_
    refine zy_get_facts C dX1_fewest_12 ?_
    refine zw_top hu ?_
    refine zw_ishl C dX1_fewest_15 ?_
    refine zw_top (zw_shl n (by omega)) ?_
    refine zw_icmp_ge (tgt := 51) C dX1_fewest_16 (by decide) (fun c16 => ?_) (fun c16 => ?_)
    · have := (nI_leI (a := 2 ^ n) (b := s) (by omega) (by omega)).mp c16
      omega
    · refine zw_aload_n (i := 0) C dX1_fewest_19 rfl rfl ?_
      refine zw_iload_n (i := 2) C dX1_fewest_20 rfl rfl ?_
      refine zw_calli (q0 := 0) (n := 1) C (fun l D => zym_size (nI s) rfl hn9 (by omega) hu l D) (lw_V q283 q285 qs17 q21 q286) rfl (by decide +kernel) ⟨Nat.le_of_ble_eq_true rfl, Nat.le_of_ble_eq_true rfl⟩ rfl rfl rfl (Nat.le_of_ble_eq_true rfl) ⟨Nat.le_of_ble_eq_true rfl, Nat.le_of_ble_eq_true rfl⟩ dX1_fewest_21 (fun r1 u1 h1 => ?_)
      obtain ⟨rfl, rfl⟩ := h1
      rw [← zw_cnt_9 hs hn9]
      refine zw_istore_n (i := 3) C dX1_fewest_24 rfl (by decide) ?_
      refine zw_aload_n (i := 0) C dX1_fewest_25 rfl rfl ?_
      refine zy_get_yes C dX1_fewest_26 ?_
      refine zw_iload_n (i := 2) C dX1_fewest_29 rfl rfl ?_
      refine zy_ld_yes C dX1_fewest_30 (rfl) (by omega) ?_
      refine zw_top (hy s hs) ?_
      refine zw_if_eq (tgt := 45) C dX1_fewest_31 (by decide) (fun c31 => ?_) (fun c31 => ?_)
      · refine zw_iinc (v := nI (s + 1)) C dX1_fewest_45 rfl (nI_1 s) (by decide) ?_
        refine zw_goto (tgt := 9) C dX1_fewest_48 (by decide) ?_
        refine zw_forget 3 ?_
        exact ih (s + 1) x (by omega) (zw_min_no h (zw_b_0.mp c31))
      · have hP := zw_b_n c31
        refine zw_iload_n (i := 1) C dX1_fewest_34 rfl rfl ?_
        refine zw_if_lt (tgt := 43) C dX1_fewest_35 (by decide) (fun c35 => ?_) (fun c35 => ?_)
        · refine zw_iload_n (i := 3) C dX1_fewest_43 rfl rfl ?_
          refine zw_istore_n (i := 1) C dX1_fewest_44 rfl (by decide) ?_
          refine zw_iinc (v := nI (s + 1)) C dX1_fewest_45 rfl (nI_1 s) (by decide) ?_
          refine zw_goto (tgt := 9) C dX1_fewest_48 (by decide) ?_
          refine zw_forget 3 ?_
          exact ih (s + 1) _ (by omega) (zw_min_new hc h hP (Or.inl c35))
        · refine zw_iload_n (i := 3) C dX1_fewest_38 rfl rfl ?_
          refine zw_iload_n (i := 1) C dX1_fewest_39 rfl rfl ?_
          refine zw_icmp_ge (tgt := 45) C dX1_fewest_40 (by decide) (fun c40 => ?_) (fun c40 => ?_)
          · refine zw_iinc (v := nI (s + 1)) C dX1_fewest_45 rfl (nI_1 s) (by decide) ?_
            refine zw_goto (tgt := 9) C dX1_fewest_48 (by decide) ?_
            refine zw_forget 3 ?_
            exact ih (s + 1) _ (by omega) (zw_min_old hc h c35 c40)
          · refine zw_iload_n (i := 3) C dX1_fewest_43 rfl rfl ?_
            refine zw_istore_n (i := 1) C dX1_fewest_44 rfl (by decide) ?_
            refine zw_iinc (v := nI (s + 1)) C dX1_fewest_45 rfl (nI_1 s) (by decide) ?_
            refine zw_goto (tgt := 9) C dX1_fewest_48 (by decide) ?_
            refine zw_forget 3 ?_
            exact ih (s + 1) _ (by omega) (zw_min_new hc h hP (Or.inr (zw_nle c40)))
theorem zym_fewest {h0 : Nat} {ad : Nat → Nat} {cI cZ : ClassId} {u : zw_St} {n k : Nat} (hD : zw_D (zy_x u) n k) (hR : zy_rd u n k) (l : Launch) (D : va_G) : zw_Mi l yX1_fewest cX1_fewest 4 (some .int) 3 70 D (zy_w h0 ad cI cZ) cI cZ [.ref h0] u (fun r u' => zy_qp u n k u' ∧ zw_min (zw_yes (zy_x u) n k) (2 ^ n) (fun s => zw_cnt s 9) r) := by
  refine zw_Mi_of (by decide) (by simp [Value.category]) (Nat.le_of_ble_eq_true rfl) (fun X C => ?_) l D
  have C : zw_Ok X ({ frames := 3, cells := 0, slots := 0, locals := 70 } : Room) cX1_fewest 4 RX1 cI cZ (some .int) := C
  show zw_G X 4 _ 0 0 _ 0 [some (.ref h0), none, none, none] []
  refine zw_bipush (v := -4) C dX1_fewest_0 (by decide) ?_
  refine zw_istore_n (i := 1) C dX1_fewest_2 rfl (by decide) ?_
  refine zw_aload_n (i := 0) C dX1_fewest_3 rfl rfl ?_
  refine zw_callv (q0 := 0) (n := 0) C (fun l D => zym_work hD hR l D) (lw_V q247 q249 qs12 q21 q250) rfl (by decide +kernel) ⟨Nat.le_of_ble_eq_true rfl, Nat.le_of_ble_eq_true rfl⟩ rfl rfl rfl (Nat.le_of_ble_eq_true rfl) ⟨Nat.le_of_ble_eq_true rfl, Nat.le_of_ble_eq_true rfl⟩ dX1_fewest_4 (fun u1 h1 => ?_)
  refine zw_iconst (v := 0) C dX1_fewest_7 (by decide) ?_
  refine zw_istore_n (i := 2) C dX1_fewest_8 rfl (by decide) ?_
  refine zw_loc 2 rfl (show (0 : Int32) = nI 0 from zw_0) ?_
  refine zyl_fewest C (P := zw_yes (zy_x u) n k) hD.1 (by rw [h1.1 4 (by decide)]; exact hD.2.2.1) h1.2.2 (fun x hx => ?_) (2 ^ n) 0 (-4) (by omega) zw_min_0
  refine zw_iload_n (i := 1) C dX1_fewest_51 rfl rfl ?_
  refine zw_iret C rfl dX1_fewest_52 ?_
  exact ⟨h1, hx⟩
theorem zyl_spare {X : zw_X} {h0 : Nat} {ad : Nat → Nat} {cI cZ : ClassId} {Q : State → Prop} (C : zw_Ok X ({ frames := 0, cells := 0, slots := 0, locals := 0 } : Room) cX1_spare 3 RX1 cI cZ (some .boolean)) {n s : Nat} {u : zw_St} (hn9 : n ≤ 9) (hu : u 4 0 = nI n) (hs : s < 2 ^ n) (K0 : (¬ ∃ f, f < n ∧ s.testBit f = true ∧ ¬ u 10 (s ^^^ 2 ^ f) = 0) → zw_G X 3 Q 0 0 (zy_w h0 ad cI cZ u) 39 [some (.ref h0), some (.int (nI s)), none] []) (K1 : (∃ f, f < n ∧ s.testBit f = true ∧ ¬ u 10 (s ^^^ 2 ^ f) = 0) → zw_G X 3 Q 0 0 (zy_w h0 ad cI cZ u) 31 [some (.ref h0), some (.int (nI s)), none] []) : ∀ (d f : Nat), f + d = n → (∀ f', f' < f → ¬ (s.testBit f' = true ∧ ¬ u 10 (s ^^^ 2 ^ f') = 0)) → zw_G X 3 Q 0 0 (zy_w h0 ad cI cZ u) 2 [some (.ref h0), some (.int (nI s)), some (.int (nI f))] [] := by
  have hs5 : s < 512 := Nat.lt_of_lt_of_le hs (zw_p2 hn9)
  intro d
  induction d with
  | zero =>
    intro f hf h
    refine zw_iload_n (i := 2) C dX1_spare_2 rfl rfl ?_
    refine zw_aload_n (i := 0) C dX1_spare_3 rfl rfl ?_
    refine zy_get_facts C dX1_spare_4 ?_
    refine zw_top hu ?_
    refine zw_icmp_ge (tgt := 39) C dX1_spare_7 (by decide) (fun c7 => ?_) (fun c7 => ?_)
    · refine zw_forget 2 ?_
      exact K0 (fun ⟨f', h1, h2⟩ => h f' (by omega) h2)
    · exact absurd ((nI_leI (a := n) (b := f) (by omega) (by omega)).mpr (by omega)) c7
  | succ d ih =>
    intro f hf h
    have hfn : f < n := by omega
    have go : ¬ (s.testBit f = true ∧ ¬ u 10 (s ^^^ 2 ^ f) = 0) → zw_G X 3 Q 0 0 (zy_w h0 ad cI cZ u) 33 [some (.ref h0), some (.int (nI s)), some (.int (nI f))] [] := by
      intro q
      refine zw_iinc (v := nI (f + 1)) C dX1_spare_33 rfl (nI_1 f) (by decide) ?_
      refine zw_goto (tgt := 2) C dX1_spare_36 (by decide) ?_
      refine ih (f + 1) (by omega) (fun f' hf' => ?_)
      by_cases e : f' = f
      · rw [e]; exact q
      · exact h f' (by omega)
    refine zw_iload_n (i := 2) C dX1_spare_2 rfl rfl ?_
    refine zw_aload_n (i := 0) C dX1_spare_3 rfl rfl ?_
    refine zy_get_facts C dX1_spare_4 ?_
    refine zw_top hu ?_
    refine zw_icmp_ge (tgt := 39) C dX1_spare_7 (by decide) (fun c7 => ?_) (fun c7 => ?_)
    · have := (nI_leI (a := n) (b := f) (by omega) (by omega)).mp c7
      omega
    · refine zw_iload_n (i := 1) C dX1_spare_10 rfl rfl ?_
      refine zw_iload_n (i := 2) C dX1_spare_11 rfl rfl ?_
      refine zw_ishr C dX1_spare_12 ?_
      refine zw_iconst (v := 1) C dX1_spare_13 (by decide) ?_
      refine zw_iand C dX1_spare_14 ?_
      refine zw_if_eq (tgt := 33) C dX1_spare_15 (by decide) (fun c15 => ?_) (fun c15 => ?_)
      · exact go (fun q => by
          rw [zw_bit1 hs5 (by omega) q.1] at c15
          exact zw_10 c15)
      · have hb : s.testBit f = true := Classical.byContradiction fun q => c15 (zw_bit0 hs5 (by omega) q)
        refine zw_aload_n (i := 0) C dX1_spare_18 rfl rfl ?_
        refine zy_get_yes C dX1_spare_19 ?_
        refine zw_iload_n (i := 1) C dX1_spare_22 rfl rfl ?_
        refine zw_iconst (v := 1) C dX1_spare_23 (by decide) ?_
        refine zw_iload_n (i := 2) C dX1_spare_24 rfl rfl ?_
        refine zw_ishl C dX1_spare_25 ?_
        refine zw_top (zw_shl f (by omega)) ?_
        refine zw_ixor C dX1_spare_26 ?_
        refine zw_top (zw_xor s (2 ^ f)) ?_
        refine zy_ld_yes C dX1_spare_27 (rfl) (Nat.lt_of_lt_of_le (zw_xlt hs hfn) (zw_p2 hn9)) ?_
        refine zw_if_eq (tgt := 33) C dX1_spare_28 (by decide) (fun c28 => ?_) (fun c28 => ?_)
        · exact go (fun q => q.2 c28)
        · refine zw_forget 2 ?_
          exact K1 ⟨f, hfn, hb, c28⟩
theorem zym_spare {h0 : Nat} {ad : Nat → Nat} {cI cZ : ClassId} {u : zw_St} (a : Int32) {n s : Nat} (ea : a = nI s) (hn9 : n ≤ 9) (hu : u 4 0 = nI n) (hs : s < 2 ^ n) (l : Launch) (D : va_G) : zw_Mi l yX1_spare cX1_spare 3 (some .boolean) 0 0 D (zy_w h0 ad cI cZ) cI cZ [.ref h0, .int a] u (fun r u' => u' = u ∧ r = zw_b (∃ f, f < n ∧ s.testBit f = true ∧ ¬ u 10 (s ^^^ 2 ^ f) = 0)) := by
  refine zw_Mi_of (by decide) (by simp [Value.category]) (Nat.le_of_ble_eq_true rfl) (fun X C => ?_) l D
  have C : zw_Ok X ({ frames := 0, cells := 0, slots := 0, locals := 0 } : Room) cX1_spare 3 RX1 cI cZ (some .boolean) := C
  show zw_G X 3 _ 0 0 _ 0 [some (.ref h0), some (.int a), none] []
  subst ea
  refine zw_iconst (v := 0) C dX1_spare_0 (by decide) ?_
  refine zw_istore_n (i := 2) C dX1_spare_1 rfl (by decide) ?_
  refine zw_loc 2 rfl (show (0 : Int32) = nI 0 from zw_0) ?_
  refine zyl_spare C hn9 hu hs (fun q => ?_) (fun q => ?_) n 0 (by omega) (fun f' hf' => absurd hf' (by omega))
  · refine zw_iconst (v := 0) C dX1_spare_39 (by decide) ?_
    refine zw_iret C rfl dX1_spare_40 ?_
    exact ⟨rfl, (zw_b0 q).symm⟩
  · refine zw_iconst (v := 1) C dX1_spare_31 (by decide) ?_
    refine zw_iret C rfl dX1_spare_32 ?_
    exact ⟨rfl, (zw_b1 q).symm⟩
theorem zyl_reasons {X : zw_X} {h0 : Nat} {ad : Nat → Nat} {cI cZ : ClassId} {Q : State → Prop} (C : zw_Ok X ({ frames := 3, cells := 0, slots := 0, locals := 70 } : Room) cX1_reasons 3 RX1 cI cZ (some .int)) {n : Nat} {P : Nat → Prop} {u : zw_St} (hn9 : n ≤ 9) (hu : u 4 0 = nI n) (hy : ∀ s, s < 2 ^ n → u 10 s = zw_b (P s)) (K : zw_G X 3 Q 0 0 (zy_w h0 ad cI cZ u) 44 [some (.ref h0), some (.int (zw_sum (fun s => zw_b (zw_rs P n s)) (2 ^ n))), none] []) : ∀ (d s : Nat) (x : Int32), s + d = 2 ^ n → x = zw_sum (fun s => zw_b (zw_rs P n s)) s → zw_G X 3 Q 0 0 (zy_w h0 ad cI cZ u) 8 [some (.ref h0), some (.int x), some (.int (nI s))] [] := by
  have hp := zw_p2 hn9
  intro d
  induction d with
  | zero =>
    intro s x hd h
    have e : s = 2 ^ n := by omega
    refine zw_iload_n (i := 2) C dX1_reasons_8 rfl rfl ?_
    refine zw_iconst (v := 1) C dX1_reasons_9 (by decide) ?_
    refine zw_aload_n (i := 0) C dX1_reasons_10 rfl rfl ?_
    refine zy_get_facts C dX1_reasons_11 ?_
    refine zw_top hu ?_
    refine zw_ishl C dX1_reasons_14 ?_
    refine zw_top (zw_shl n (by omega)) ?_
    refine zw_icmp_ge (tgt := 44) C dX1_reasons_15 (by decide) (fun c15 => ?_) (fun c15 => ?_)
    · refine zw_forget 2 ?_
      rw [h, e]
      exact K
    · exact absurd ((nI_leI (a := 2 ^ n) (b := s) (by omega) (by omega)).mpr (by omega)) c15
  | succ d ih =>
    intro s x hd h
    have hs : s < 2 ^ n := by omega
    refine zw_iload_n (i := 2) C dX1_reasons_8 rfl rfl ?_
    refine zw_iconst (v := 1) C dX1_reasons_9 (by decide) ?_
    refine zw_aload_n (i := 0) C dX1_reasons_10 rfl rfl ?_
    refine zy_get_facts C dX1_reasons_11 ?_
    refine zw_top hu ?_
    refine zw_ishl C dX1_reasons_14 ?_
    refine zw_top (zw_shl n (by omega)) ?_
    refine zw_icmp_ge (tgt := 44) C dX1_reasons_15 (by decide) (fun c15 => ?_) (fun c15 => ?_)
    · have := (nI_leI (a := 2 ^ n) (b := s) (by omega) (by omega)).mp c15
      omega
    · refine zw_aload_n (i := 0) C dX1_reasons_18 rfl rfl ?_
      refine zy_get_yes C dX1_reasons_19 ?_
      refine zw_iload_n (i := 2) C dX1_reasons_22 rfl rfl ?_
      refine zy_ld_yes C dX1_reasons_23 (rfl) (by omega) ?_
      refine zw_top (hy s hs) ?_
      refine zw_if_eq (tgt := 38) C dX1_reasons_24 (by decide) (fun c24 => ?_) (fun c24 => ?_)
      · refine zw_iinc (v := nI (s + 1)) C dX1_reasons_38 rfl (nI_1 s) (by decide) ?_
        refine zw_goto (tgt := 8) C dX1_reasons_41 (by decide) ?_
        refine ih (s + 1) x (by omega) ?_
        rw [h]
        exact zw_sum_b0 (f := fun s => zw_b (zw_rs P n s)) (zw_b0 (fun q => zw_b_0.mp c24 q.1))
      · refine zw_aload_n (i := 0) C dX1_reasons_27 rfl rfl ?_
        refine zw_iload_n (i := 2) C dX1_reasons_28 rfl rfl ?_
        refine zw_calli (q0 := 0) (n := 1) C (fun l D => zym_spare (nI s) rfl hn9 hu hs l D) (lw_V q291 q293 qs18 q21 q294) rfl (by decide +kernel) ⟨Nat.le_of_ble_eq_true rfl, Nat.le_of_ble_eq_true rfl⟩ rfl rfl rfl (Nat.le_of_ble_eq_true rfl) ⟨Nat.le_of_ble_eq_true rfl, Nat.le_of_ble_eq_true rfl⟩ dX1_reasons_29 (fun r1 u1 h1 => ?_)
        obtain ⟨rfl, rfl⟩ := h1
        have hbel : (∃ f, f < n ∧ s.testBit f = true ∧ ¬ u1 10 (s ^^^ 2 ^ f) = 0) ↔ ∃ f, f < n ∧ s.testBit f = true ∧ P (s ^^^ 2 ^ f) := by
          constructor
          · rintro ⟨f, a1, a2, a3⟩
            refine ⟨f, a1, a2, ?_⟩
            rw [hy _ (zw_xlt hs a1)] at a3
            exact zw_b_n a3
          · rintro ⟨f, a1, a2, a3⟩
            refine ⟨f, a1, a2, ?_⟩
            rw [hy _ (zw_xlt hs a1), zw_b1 a3]
            exact zw_10
        refine zw_if_ne (tgt := 38) C dX1_reasons_32 (by decide) (fun c32 => ?_) (fun c32 => ?_)
        · refine zw_iinc (v := nI (s + 1)) C dX1_reasons_38 rfl (nI_1 s) (by decide) ?_
          refine zw_goto (tgt := 8) C dX1_reasons_41 (by decide) ?_
          refine ih (s + 1) x (by omega) ?_
          rw [h]
          exact zw_sum_b0 (f := fun s => zw_b (zw_rs P n s)) (zw_b0 (fun q => q.2 (hbel.mp (zw_b_n c32))))
        · refine zw_iinc (v := x + 1) C dX1_reasons_35 rfl (rfl) (by decide) ?_
          refine zw_iinc (v := nI (s + 1)) C dX1_reasons_38 rfl (nI_1 s) (by decide) ?_
          refine zw_goto (tgt := 8) C dX1_reasons_41 (by decide) ?_
          refine ih (s + 1) _ (by omega) ?_
          rw [h]
          exact zw_sum_b1 (f := fun s => zw_b (zw_rs P n s)) (zw_b1 ⟨zw_b_n c24, fun q => zw_b_0.mp c32 (hbel.mpr q)⟩)
theorem zym_reasons {h0 : Nat} {ad : Nat → Nat} {cI cZ : ClassId} {u : zw_St} {n k : Nat} (hD : zw_D (zy_x u) n k) (hR : zy_rd u n k) (l : Launch) (D : va_G) : zw_Mi l yX1_reasons cX1_reasons 3 (some .int) 3 70 D (zy_w h0 ad cI cZ) cI cZ [.ref h0] u (fun r u' => zy_qp u n k u' ∧ r = zw_sum (fun s => zw_b (zw_rs (zw_yes (zy_x u) n k) n s)) (2 ^ n)) := by
  refine zw_Mi_of (by decide) (by simp [Value.category]) (Nat.le_of_ble_eq_true rfl) (fun X C => ?_) l D
  have C : zw_Ok X ({ frames := 3, cells := 0, slots := 0, locals := 70 } : Room) cX1_reasons 3 RX1 cI cZ (some .int) := C
  show zw_G X 3 _ 0 0 _ 0 [some (.ref h0), none, none] []
  refine zw_iconst (v := 0) C dX1_reasons_0 (by decide) ?_
  refine zw_istore_n (i := 1) C dX1_reasons_1 rfl (by decide) ?_
  refine zw_aload_n (i := 0) C dX1_reasons_2 rfl rfl ?_
  refine zw_callv (q0 := 0) (n := 0) C (fun l D => zym_work hD hR l D) (lw_V q247 q249 qs12 q21 q250) rfl (by decide +kernel) ⟨Nat.le_of_ble_eq_true rfl, Nat.le_of_ble_eq_true rfl⟩ rfl rfl rfl (Nat.le_of_ble_eq_true rfl) ⟨Nat.le_of_ble_eq_true rfl, Nat.le_of_ble_eq_true rfl⟩ dX1_reasons_3 (fun u1 h1 => ?_)
  refine zw_iconst (v := 0) C dX1_reasons_6 (by decide) ?_
  refine zw_istore_n (i := 2) C dX1_reasons_7 rfl (by decide) ?_
  refine zw_loc 2 rfl (show (0 : Int32) = nI 0 from zw_0) ?_
  refine zyl_reasons C (P := zw_yes (zy_x u) n k) hD.1 (by rw [h1.1 4 (by decide)]; exact hD.2.2.1) h1.2.2 ?_ (2 ^ n) 0 0 (by omega) rfl
  refine zw_iload_n (i := 1) C dX1_reasons_44 rfl rfl ?_
  refine zw_iret C rfl dX1_reasons_45 ?_
  exact ⟨h1, rfl⟩
end
section
/-! THE TWO SIDES ANSWER ALIKE: plain -/
set_option maxRecDepth 100000
/-- what holds between the law's two objects: n facts, k conditions -/
def zl_inv (u v : zw_St) (n k : Nat) : Prop := zw_D u n k ∧ zw_kp u (zy_x v) ∧ zw_rd u n k ∧ zy_rd v n k
theorem zl_kp_mk {u v : zw_St} (h0 : v 4 = u 0) (h1 : v 0 = u 1) (h2 : v 1 = u 2) (h3 : v 2 = u 3) (h4 : v 3 = u 4) (h5 : v 8 = u 5) (h6 : v 5 = u 6) (h7 : v 6 = u 7) (h8 : v 7 = u 8) : zw_kp u (zy_x v) := by
  intro a ha
  have h : a = 0 ∨ a = 1 ∨ a = 2 ∨ a = 3 ∨ a = 4 ∨ a = 5 ∨ a = 6 ∨ a = 7 ∨ a = 8 := by omega
  rcases h with rfl | rfl | rfl | rfl | rfl | rfl | rfl | rfl | rfl
  · exact h0
  · exact h1
  · exact h2
  · exact h3
  · exact h4
  · exact h5
  · exact h6
  · exact h7
  · exact h8
theorem zl_start : zl_inv (fun _ _ => 0) (fun _ _ => 0) 0 0 := by
  refine ⟨⟨by decide, by decide, zw_0, zw_0, fun i hi => absurd hi (by omega), fun i hi => absurd hi (by omega), fun i hi => absurd hi (by omega), fun i hi => absurd hi (by omega)⟩, zl_kp_mk rfl rfl rfl rfl rfl rfl rfl rfl rfl, Or.inl rfl, Or.inl rfl⟩
theorem zl_six {x : Int32} (h : ¬ (6 : Int32) ≤ x &&& 7) : ∃ a : Nat, a < 6 ∧ x &&& 7 = nI a := by
  obtain ⟨j, hj, e⟩ := pk_andE x (m := 7) 3 (by decide)
  refine ⟨j, ?_, e⟩
  rw [e] at h
  have h1 : j < 8 := hj
  rcases Nat.lt_or_ge j 6 with q | q
  · exact q
  · exact absurd ((nI_leI (a := 6) (b := j) (by omega) (by omega)).mpr q) h
theorem zl_up_rng {f : Nat → Int32} {n : Nat} {x : Int32} {P : Int32 → Prop} (h : ∀ i, i < n → P (f i)) (hx : P x) : ∀ i, i < n + 1 → P (upd f n x i) := by
  intro i hi
  by_cases e : i = n
  · rw [e, zw_upd_s]
    exact hx
  · rw [zw_upd_n e]
    exact h i (by omega)
theorem zl_fact {u v u' v' : zw_St} {n k : Nat} {e m r r' : Int32} (h : zl_inv u v n k) (hX : (zw_cn e ∧ r = -1 ∧ u' = u) ∨ (¬ zw_cn e ∧ zw_cm m ∧ r = -2 ∧ u' = u) ∨ (¬ zw_cn e ∧ ¬ zw_cm m ∧ n = 9 ∧ r = -3 ∧ u' = u) ∨ (¬ zw_cn e ∧ ¬ zw_cm m ∧ n < 9 ∧ r = nI n ∧ u' = zx_fact u n e m)) (hY : (zw_cn e ∧ r' = -1 ∧ v' = v) ∨ (¬ zw_cn e ∧ zw_cm m ∧ r' = -2 ∧ v' = v) ∨ (¬ zw_cn e ∧ ¬ zw_cm m ∧ n = 9 ∧ r' = -3 ∧ v' = v) ∨ (¬ zw_cn e ∧ ¬ zw_cm m ∧ n < 9 ∧ r' = nI n ∧ v' = zy_fact v n e m)) : r = r' ∧ ∃ n' k', zl_inv u' v' n' k' := by
  have real : ¬ zw_cn e → n < 9 → zl_inv (zx_fact u n e m) (zy_fact v n e m) (n + 1) k := by
    intro hc hn
    obtain ⟨⟨d1, d2, d3, d4, d5, d6, d7, d8⟩, hk, -, -⟩ := h
    refine ⟨⟨by omega, d2, rfl, d4, zl_up_rng (P := fun x => ∃ a : Nat, a < 6 ∧ x = nI a) d5 (zl_six (fun q => hc (Or.inl q))), zl_up_rng (P := fun x => ∃ a : Nat, a < 6 ∧ x = nI a) d6 (zl_six (fun q => hc (Or.inr q))), d7, d8⟩, ?_, Or.inl rfl, Or.inl rfl⟩
    exact zl_kp_mk (congrArg (fun f => upd f 0 (nI (n + 1))) (hk 0 (by decide))) (congrArg (fun f => upd f n (e &&& 7)) (hk 1 (by decide))) (congrArg (fun f => upd f n ((e >>> (3 &&& 31)) &&& 7)) (hk 2 (by decide))) (congrArg (fun f => upd f n ((e >>> (6 &&& 31)) &&& 1)) (hk 3 (by decide))) (congrArg (fun f => upd f n m) (hk 4 (by decide))) (hk 5 (by decide)) (hk 6 (by decide)) (hk 7 (by decide)) (hk 8 (by decide))
  rcases hX with ⟨a1, rfl, rfl⟩ | ⟨a1, a2, rfl, rfl⟩ | ⟨a1, a2, a3, rfl, rfl⟩ | ⟨a1, a2, a3, rfl, rfl⟩ <;> rcases hY with ⟨b1, rfl, rfl⟩ | ⟨b1, b2, rfl, rfl⟩ | ⟨b1, b2, b3, rfl, rfl⟩ | ⟨b1, b2, b3, rfl, rfl⟩ <;> first | exact absurd a1 b1 | exact absurd b1 a1 | exact absurd a2 b2 | exact absurd b2 a2 | omega | exact ⟨rfl, n, k, h⟩ | exact ⟨rfl, n + 1, k, real a1 a3⟩
theorem zl_likely {u v u' v' : zw_St} {n k : Nat} {f m r r' : Int32} (h : zl_inv u v n k) (hX : (¬ zw_isF n f ∧ r = -4 ∧ u' = u) ∨ (zw_isF n f ∧ zw_cm m ∧ r = -2 ∧ u' = u) ∨ (¬ zw_cm m ∧ ∃ j : Nat, j < n ∧ f = nI j ∧ r = u 4 j ∧ u' = zw_up u 4 j m)) (hY : (¬ zw_isF n f ∧ r' = -4 ∧ v' = v) ∨ (zw_isF n f ∧ zw_cm m ∧ r' = -2 ∧ v' = v) ∨ (¬ zw_cm m ∧ ∃ j : Nat, j < n ∧ f = nI j ∧ r' = v 3 j ∧ v' = zw_up v 3 j m)) : r = r' ∧ ∃ n' k', zl_inv u' v' n' k' := by
  have h' := h
  obtain ⟨hD, hk, hR, hR'⟩ := h
  have hn9 := hD.1
  rcases hX with ⟨a1, rfl, rfl⟩ | ⟨a1, a2, rfl, rfl⟩ | ⟨a2, j, hj, ej, rfl, rfl⟩
  · rcases hY with ⟨b1, rfl, rfl⟩ | ⟨b1, b2, rfl, rfl⟩ | ⟨b2, j', hj', ej', rfl, rfl⟩
    · exact ⟨rfl, n, k, h'⟩
    · exact absurd b1 a1
    · exact absurd ⟨j', hj', ej'⟩ a1
  · rcases hY with ⟨b1, rfl, rfl⟩ | ⟨b1, b2, rfl, rfl⟩ | ⟨b2, j', hj', ej', rfl, rfl⟩
    · exact absurd a1 b1
    · exact ⟨rfl, n, k, h'⟩
    · exact absurd a2 b2
  · rcases hY with ⟨b1, rfl, rfl⟩ | ⟨b1, b2, rfl, rfl⟩ | ⟨b2, j', hj', ej', rfl, rfl⟩
    · exact absurd ⟨j, hj, ej⟩ b1
    · exact absurd b2 a2
    · have e : j = j' := (nI_eq (by omega) (by omega)).mp (ej.symm.trans ej')
      subst e
      refine ⟨(congrFun (hk 4 (by decide)) j).symm, n, k, hD, ?_, ?_, ?_⟩
      · exact zl_kp_mk (hk 0 (by decide)) (hk 1 (by decide)) (hk 2 (by decide)) (hk 3 (by decide)) (congrArg (fun f => upd f j m) (hk 4 (by decide))) (hk 5 (by decide)) (hk 6 (by decide)) (hk 7 (by decide)) (hk 8 (by decide))
      · rcases hR with q | ⟨q1, q2, q3⟩
        · exact Or.inl q
        · refine Or.inr ⟨q1, fun s hs => ?_, fun s hs => ?_⟩
          · exact (q2 s hs).trans (zw_bc (zw_M_congr (u := u) (u' := zw_up u 4 j m) rfl rfl rfl rfl rfl rfl).symm)
          · exact (q3 s hs).trans (zw_bc (zw_yes_congr (u := u) (u' := zw_up u 4 j m) rfl rfl rfl rfl rfl rfl).symm)
      · rcases hR' with q | ⟨q1, q3⟩
        · exact Or.inl q
        · refine Or.inr ⟨q1, fun s hs => ?_⟩
          exact (q3 s hs).trans (zw_bc (zw_yes_congr (u := zy_x v) (u' := zy_x (zw_up v 3 j m)) rfl rfl rfl rfl rfl rfl).symm)
theorem zl_cond {u v u' v' : zw_St} {n k : Nat} {a x y r r' : Int32} (h : zl_inv u v n k) (hX : (¬ (zw_pl x ∧ zw_pl y) ∧ r = -1 ∧ u' = u) ∨ (zw_pl x ∧ zw_pl y ∧ k = 4 ∧ r = -3 ∧ u' = u) ∨ (zw_pl x ∧ zw_pl y ∧ k < 4 ∧ r = nI (k + 1) ∧ u' = zx_cond u k a x y)) (hY : (¬ (zw_pl x ∧ zw_pl y) ∧ r' = -1 ∧ v' = v) ∨ (zw_pl x ∧ zw_pl y ∧ k = 4 ∧ r' = -3 ∧ v' = v) ∨ (zw_pl x ∧ zw_pl y ∧ k < 4 ∧ r' = nI (k + 1) ∧ v' = zy_cond v k a x y)) : r = r' ∧ ∃ n' k', zl_inv u' v' n' k' := by
  have real : zw_pl x → zw_pl y → k < 4 → zl_inv (zx_cond u k a x y) (zy_cond v k a x y) n (k + 1) := by
    intro hx hy hk4
    obtain ⟨⟨d1, d2, d3, d4, d5, d6, d7, d8⟩, hk, -, -⟩ := h
    refine ⟨⟨d1, by omega, d3, rfl, d5, d6, zl_up_rng (P := zw_pl) d7 hx, zl_up_rng (P := zw_pl) d8 hy⟩, ?_, Or.inl rfl, Or.inl rfl⟩
    exact zl_kp_mk (hk 0 (by decide)) (hk 1 (by decide)) (hk 2 (by decide)) (hk 3 (by decide)) (hk 4 (by decide)) (congrArg (fun f => upd f 0 (nI (k + 1))) (hk 5 (by decide))) (congrArg (fun f => upd f k (a &&& 1)) (hk 6 (by decide))) (congrArg (fun f => upd f k x) (hk 7 (by decide))) (congrArg (fun f => upd f k y) (hk 8 (by decide)))
  rcases hX with ⟨a1, rfl, rfl⟩ | ⟨a1, a2, a3, rfl, rfl⟩ | ⟨a1, a2, a3, rfl, rfl⟩ <;> rcases hY with ⟨b1, rfl, rfl⟩ | ⟨b1, b2, b3, rfl, rfl⟩ | ⟨b1, b2, b3, rfl, rfl⟩ <;> first | exact ⟨rfl, n, k, h⟩ | exact absurd ⟨b1, b2⟩ a1 | exact absurd ⟨a1, a2⟩ b1 | omega | exact ⟨rfl, n, k + 1, real a1 a2 a3⟩
theorem zl_ask {u v u' v' : zw_St} {n k : Nat} (h : zl_inv u v n k) (hX : u' = zw_up (zw_up u 5 0 0) 12 0 0) (hY : v' = zw_up (zw_up v 8 0 0) 11 0 0) : ∃ n' k', zl_inv u' v' n' k' := by
  subst hX
  subst hY
  obtain ⟨⟨d1, d2, d3, d4, d5, d6, d7, d8⟩, hk, -, -⟩ := h
  refine ⟨n, 0, ⟨d1, by decide, d3, zw_0, d5, d6, fun c hc => absurd hc (by omega), fun c hc => absurd hc (by omega)⟩, ?_, Or.inl rfl, Or.inl rfl⟩
  exact zl_kp_mk (hk 0 (by decide)) (hk 1 (by decide)) (hk 2 (by decide)) (hk 3 (by decide)) (hk 4 (by decide)) (congrArg (fun f => upd f 0 0) (hk 5 (by decide))) (hk 6 (by decide)) (hk 7 (by decide)) (hk 8 (by decide))
theorem zl_drop {u v u' v' : zw_St} {n k : Nat} {r r' : Int32} (h : zl_inv u v n k) (hX : (n = 0 ∧ r = -4 ∧ u' = u) ∨ (∃ N' : Nat, n = N' + 1 ∧ r = nI N' ∧ u' = zw_up (zw_up u 0 0 (nI N')) 12 0 0)) (hY : (n = 0 ∧ r' = -4 ∧ v' = v) ∨ (∃ N' : Nat, n = N' + 1 ∧ r' = nI N' ∧ v' = zw_up (zw_up v 4 0 (nI N')) 11 0 0)) : r = r' ∧ ∃ n' k', zl_inv u' v' n' k' := by
  rcases hX with ⟨a1, rfl, rfl⟩ | ⟨N, a1, rfl, rfl⟩
  · rcases hY with ⟨b1, rfl, rfl⟩ | ⟨N', b1, rfl, rfl⟩
    · exact ⟨rfl, n, k, h⟩
    · omega
  · rcases hY with ⟨b1, rfl, rfl⟩ | ⟨N', b1, rfl, rfl⟩
    · omega
    · have e : N = N' := by omega
      subst e
      obtain ⟨⟨d1, d2, d3, d4, d5, d6, d7, d8⟩, hk, -, -⟩ := h
      refine ⟨rfl, N, k, ⟨by omega, d2, rfl, d4, fun i hi => d5 i (by omega), fun i hi => d6 i (by omega), d7, d8⟩, ?_, Or.inl rfl, Or.inl rfl⟩
      exact zl_kp_mk (congrArg (fun f => upd f 0 (nI N)) (hk 0 (by decide))) (hk 1 (by decide)) (hk 2 (by decide)) (hk 3 (by decide)) (hk 4 (by decide)) (hk 5 (by decide)) (hk 6 (by decide)) (hk 7 (by decide)) (hk 8 (by decide))
theorem zl_after {u v u' v' : zw_St} {n k : Nat} (h : zl_inv u v n k) (hX : zw_qp u n k u') (hY : zy_qp v n k v') : ∃ n' k', zl_inv u' v' n' k' := by
  obtain ⟨hD, hk, -, -⟩ := h
  have ex := hY.1.x
  refine ⟨n, k, hX.D hD, fun a ha => ?_, Or.inr hX.2, Or.inr ⟨hY.2.1, fun s hs => ?_⟩⟩
  · rw [ex, hk a ha, hX.1 a ha]
  · rw [ex]
    exact hY.2.2 s hs
theorem zl_yes {u v : zw_St} {n k : Nat} (h : zl_inv u v n k) : zw_yes (zy_x v) n k = zw_yes u n k := funext fun _ => propext h.2.1.yes
theorem zl_tot {u v : zw_St} {n k m : Nat} (h : zl_inv u v n k) : zw_tot (zy_x v) n k m = zw_tot u n k m := zw_tot_kp h.2.1
theorem zl_share {u v u' v' : zw_St} {n k : Nat} {r r' : Int32} (h : zl_inv u v n k) (hX : zw_qp u n k u' ∧ r = zw_tot u n k 0) (hY : zy_qp v n k v' ∧ r' = zw_tot (zy_x v) n k 0) : r = r' ∧ ∃ n' k', zl_inv u' v' n' k' := ⟨by rw [hX.2, hY.2, zl_tot h], zl_after h hX.1 hY.1⟩
theorem zl_all {u v u' v' : zw_St} {n k : Nat} {r r' : Int32} (h : zl_inv u v n k) (hX : u' = u ∧ r = nI (4 ^ n)) (hY : v' = v ∧ r' = nI (4 ^ n)) : r = r' ∧ ∃ n' k', zl_inv u' v' n' k' := ⟨by rw [hX.2, hY.2], n, k, by rw [hX.1, hY.1]; exact h⟩
theorem zl_shareWith {u v u' v' : zw_St} {n k : Nat} {f r r' : Int32} (h : zl_inv u v n k) (hX : (¬ zw_isF n f ∧ r = -4 ∧ u' = u) ∨ ∃ j : Nat, j < n ∧ f = nI j ∧ zw_qp u n k u' ∧ r = zw_tot u n k (2 ^ j)) (hY : (¬ zw_isF n f ∧ r' = -4 ∧ v' = v) ∨ ∃ j : Nat, j < n ∧ f = nI j ∧ zy_qp v n k v' ∧ r' = zw_tot (zy_x v) n k (2 ^ j)) : r = r' ∧ ∃ n' k', zl_inv u' v' n' k' := by
  have hn9 := h.1.1
  rcases hX with ⟨a1, rfl, rfl⟩ | ⟨j, hj, ej, hq, rfl⟩
  · rcases hY with ⟨b1, rfl, rfl⟩ | ⟨j', hj', ej', hq', rfl⟩
    · exact ⟨rfl, n, k, h⟩
    · exact absurd ⟨j', hj', ej'⟩ a1
  · rcases hY with ⟨b1, rfl, rfl⟩ | ⟨j', hj', ej', hq', rfl⟩
    · exact absurd ⟨j, hj, ej⟩ b1
    · have e : j = j' := (nI_eq (by omega) (by omega)).mp (ej.symm.trans ej')
      subst e
      exact ⟨(zl_tot h).symm, zl_after h hq hq'⟩
theorem zl_matters {u v u' v' : zw_St} {n k : Nat} {f r r' : Int32} (h : zl_inv u v n k) (hX : (¬ zw_isF n f ∧ r = 0 ∧ u' = u) ∨ ∃ j : Nat, j < n ∧ f = nI j ∧ zw_qp u n k u' ∧ r = zw_b (∃ s, s < 2 ^ n ∧ ¬ (zw_yes u n k s ↔ zw_yes u n k (s ||| 2 ^ j)))) (hY : (¬ zw_isF n f ∧ r' = 0 ∧ v' = v) ∨ ∃ j : Nat, j < n ∧ f = nI j ∧ zy_qp v n k v' ∧ r' = zw_b (∃ s, s < 2 ^ n ∧ ¬ (zw_yes (zy_x v) n k s ↔ zw_yes (zy_x v) n k (s ^^^ 2 ^ j)))) : r = r' ∧ ∃ n' k', zl_inv u' v' n' k' := by
  have hn9 := h.1.1
  rcases hX with ⟨a1, rfl, rfl⟩ | ⟨j, hj, ej, hq, rfl⟩
  · rcases hY with ⟨b1, rfl, rfl⟩ | ⟨j', hj', ej', hq', rfl⟩
    · exact ⟨rfl, n, k, h⟩
    · exact absurd ⟨j', hj', ej'⟩ a1
  · rcases hY with ⟨b1, rfl, rfl⟩ | ⟨j', hj', ej', hq', rfl⟩
    · exact absurd ⟨j, hj, ej⟩ b1
    · have e : j = j' := (nI_eq (by omega) (by omega)).mp (ej.symm.trans ej')
      subst e
      refine ⟨?_, zl_after h hq hq'⟩
      rw [zl_yes h]
      exact zw_bc (zw_matters hj)
theorem zl_fewest {u v u' v' : zw_St} {n k : Nat} {r r' : Int32} (h : zl_inv u v n k) (hX : zw_qp u n k u' ∧ zw_min (zw_M u n k) (2 ^ n) (fun s => zw_cnt s 9) r) (hY : zy_qp v n k v' ∧ zw_min (zw_yes (zy_x v) n k) (2 ^ n) (fun s => zw_cnt s 9) r') : r = r' ∧ ∃ n' k', zl_inv u' v' n' k' := by
  refine ⟨?_, zl_after h hX.1 hY.1⟩
  have h2 := hY.2
  rw [zl_yes h] at h2
  refine zw_min_eq hX.2 h2 (fun s _ q => zw_yes_ab.mpr ⟨s, q, fun _ z => z⟩) (fun s _ q => ?_)
  obtain ⟨m, m1, m2⟩ := zw_yes_ab.mp q
  exact ⟨m, zw_M_lt m1, m1, zw_cnt_sb m2 9⟩
theorem zl_reasons {u v u' v' : zw_St} {n k : Nat} {r r' : Int32} (h : zl_inv u v n k) (hX : zw_qp u n k u' ∧ r = zw_sum (fun s => zw_b (zw_rs (zw_yes u n k) n s)) (2 ^ n)) (hY : zy_qp v n k v' ∧ r' = zw_sum (fun s => zw_b (zw_rs (zw_yes (zy_x v) n k) n s)) (2 ^ n)) : r = r' ∧ ∃ n' k', zl_inv u' v' n' k' := ⟨by rw [hX.2, hY.2, zl_yes h], zl_after h hX.1 hY.1⟩
end
section
/-! CONSTRUCTORS, and the law's own rows -/
set_option maxRecDepth 100000
section ZI
variable {X : zw_X} {R0 : Room} {cc : ByteArray} {nL : Nat} {own : String} {cI cZ : ClassId} {rt : Option FieldType} {Q : State → Prop} {cs sl : Nat} {ws : va_W} {pc : Nat} {lv : List (Option Value)} {st : List Value}
theorem zw_objInit (C : zw_Ok X R0 cc nL own cI cZ rt) {idx b : Nat} (hq : Cond.methodLink own idx Lib.objectInit ∈ lw_all) (hf : 1 ≤ R0.frames) (hlo : 12 ≤ R0.locals) (hd : decode cc pc = .ok (.invokespecial idx, 3)) (k : zw_G X nL Q cs sl ws (pc + 3) lv []) : zw_G X nL Q cs sl ws pc lv [.ref b] := by
  obtain ⟨p, l, e, R, s, m, args, below, meth, c, A, D⟩ := X
  obtain ⟨rfl, hx, hb, hml, hown, hts, hA, hK, hr, hlk⟩ := C
  intro H locs ls hP hD hS hl
  exact W.objInit hx hb hown (hts _ hq) (hts _ q28) (hts _ q29) rfl (by rw [hml]; exact hl.1) rfl hd hf hlo (k H locs ls hP hD hS hl)
theorem zw_widen {a b : Nat} (h1 : cs ≤ a) (h2 : sl ≤ b) (k : zw_G X nL Q a b ws pc lv st) : zw_G X nL Q cs sl ws pc lv st := by
  obtain ⟨p, l, e, R, s, m, args, below, meth, c, A, D⟩ := X
  intro H locs ls hP hD hS hl
  exact W.widen h1 h2 (k H locs ls hP hD hS hl)
theorem zw_newc (C : zw_Ok X R0 cc nL own cI cZ rt) {ci N index : Nat} {Cn : String} {T : u_T} {ty0 : Nat → FieldType} {fs : List Value} (hin : ∀ w ∈ u_ws Cn T N, w ∈ lw_all) (hty : ∀ k, k < N → parseFieldDescriptor (T k).2.2.1 = some (ty0 k)) (hc : zw_cl[ci]? = some (Cn, T, N)) (h1 : Cond.classLink own index Cn ∈ lw_all) (h2 : Cond.instantiable Cn N ∈ lw_all) (h3 : Cond.initialized Cn ∈ lw_all) (hfs : ∀ j, j < N → defaultValue (ty0 j) = vp_V fs j) (hcs : cs + 1 ≤ R0.cells) (hsl : sl + N ≤ R0.slots) (hd : decode cc pc = .ok (.new index, 3)) (k : ∀ q : Nat, zw_G X nL Q (cs + 1) (sl + N) (ws ++ [(q, .inr (ci, fs))]) (pc + 3) lv (.ref q :: st)) : zw_G X nL Q cs sl ws pc lv st := by
  obtain ⟨p, l, e, R, s, m, args, below, meth, c, A, D⟩ := X
  obtain ⟨rfl, hx, hb, hml, hown, hts, hA, hK, hr, hlk⟩ := C
  intro H locs ls hP hD hS hl
  exact va_new (ci := ci) (fs := fs) (C := Cn) (T := T) (N := N) hx hb hts hin ty0 hty hown (hts _ h1) (hts _ h2) (hts _ h3) hK hP hD hS hA hc hfs hcs hsl hd (fun q H1 hP1 hD1 hS1 => k q H1 locs ls hP1 hD1 hS1 hl)
/-- a constructor's contract: of the new object's cell wc it makes the cells wn ad -/
def zw_MI (l : Launch) (y : MethodName) (cc : ByteArray) (nL fr lo mc ms : Nat) (D : va_G) (cI cZ : ClassId) (b : Nat) (wc : va_W) (wn : (Nat → Nat) → va_W) : Prop :=
  ∀ sz : Nat, Met l y (ws_ y cc nL none) ({ frames := fr, cells := mc, slots := ms, locals := lo }) (va_Pc [.ref b] (fun U => U.heap.size = sz ∧ va_P D zw_cl wc U.heap ∧ va_K D zw_cl (zw_ty cI cZ) U ∧ va_D (fun _ => True) wc)) (va_Qv (fun _ : Nat → Nat => True) (fun ad t => va_P D zw_cl (wn ad) t.heap ∧ va_K D zw_cl (zw_ty cI cZ) t ∧ va_D (va_A wc sz) (wn ad)) (va_A wc sz)) mc ms (va_A wc sz)
theorem zw_callI (C : zw_Ok X R0 cc nL own cI cZ rt) {y : MethodName} {cy : ByteArray} {ny fr lo mc ms idx b : Nat} {wc w2 : va_W} {wn : (Nat → Nat) → va_W} (hM : ∀ (l : Launch) (D : va_G), zw_MI l y cy ny fr lo mc ms D cI cZ b wc wn) (h1 : Cond.code y cy ny none ∈ lw_all) (h2 : Cond.initialized y.cls ∈ lw_all) (h3 : Cond.methodLink own idx y ∈ lw_all) (h4 : Cond.instanceMethod y ∈ lw_all) (hy1 : y.name = "<init>") (hd0 : y.cls ≠ "java/lang/invoke/MethodHandle" ∧ y.cls ≠ "java/lang/invoke/VarHandle" ∧ (parseMethodDescriptor y.desc).map (fun d => d.parameters.length) = some 0) (hR : fr + 1 ≤ R0.frames ∧ 8 + (ny + 11) + lo ≤ R0.locals) (hrest : (st.map fun v => v.category).sum ≤ 8) (hcs : cs + mc ≤ R0.cells ∧ sl + ms ≤ R0.slots) (hd : decode cc pc = .ok (.invokespecial idx, 3)) (k : ∀ ad : Nat → Nat, zw_G X nL Q (cs + mc) (sl + ms) (wn ad ++ w2) (pc + 3) lv st) : zw_G X nL Q cs sl (wc ++ w2) pc lv (.ref b :: st) := by
  obtain ⟨p, l, e, R, s, m, args, below, meth, c, A, D⟩ := X
  obtain ⟨rfl, hx, hb, hml, hown, hts, hA, hK, hr, hlk⟩ := C
  intro H locs ls hP hD hS hl
  have hPw := hP
  have hDw := hD
  have hP := zw_Pl hPw
  have hD := zw_Dl hDw
  have hF : ∀ q, va_A wc H.size q → A q := by
    intro q h
    rcases h with ⟨k', e', h⟩ | h
    · exact hD.2 k' (q, e') h
    · exact hA q (Nat.le_trans hS.1 h)
  refine va_callv (va_runI (As := []) (rest := st) ⟨hx, hb, hml, hown, hts⟩ (hM l D H.size) (cwI 0 hts (lw_meth h1) rfl rfl rfl (hts _ h2) (hts _ h3) (hts _ h4) hy1 hd0 hR) ⟨fun a U g mk q => by obtain ⟨q0, q1, qP, qK, qD⟩ := q; exact ⟨q0, q1, qP, va_K.moved (u := U) (U := U.calling g mk a) (Vm.Alike.refl U.vm) qK, qD⟩, fun U hU hW => ⟨rfl, by rw [hU], by rw [hU]; exact hP, va_K.moved hW.alike hK, hD.weaken (fun _ _ _ _ => trivial)⟩⟩ rfl rfl hl.1 rfl (lv_room hrest) hd hcs) hS (fun q _ h => hF q h) hF (fun ad t H1 locs1 ht hvm hw1 hB hz1 hk1 hS1 => ?_)
  obtain ⟨hP1, hK1, hD1⟩ := hB
  rw [ht] at hP1
  have hn : ∀ (k : Nat) (q : Nat × va_E), w2[k]? = some q → q.1 < H.size ∧ ¬ va_A wc H.size q.1 := by
    intro k' q hq
    have h1 := ((zw_Pr hPw) k' q hq).lt
    refine ⟨h1, fun h => ?_⟩
    rcases h with ⟨k2, e', h⟩ | h
    · exact zw_Dx hDw k2 k' (q.1, e') q h hq rfl
    · omega
  exact k ad H1 locs1 ls (va_P.app hP1 ((zw_Pr hPw).kept (fun k' q hq => hk1 q.1 (hn k' q hq).1 (hn k' q hq).2))) (va_D.app (hD1.weaken (fun k q _ h => hF q.1 h)) (zw_Dr hDw) (fun i j x y hx1 hy1 hxy => (hn j y hy1).2 (by rw [← hxy]; exact hD1.2 i x hx1))) hS1 hl
/-- the script: L ints xs at the cell b, which no cell of the walk is -/
def zw_SX (X : zw_X) (b L : Nat) (xs : Nat → Int32) : Prop :=
  match X with
  | (p, l, e, R, s, m, args, below, meth, c, A, D) => va_X b L xs s s.heap ∧ b < s.heap.size ∧ ¬ A b
theorem zw_sld (C : zw_Ok X R0 cc nL own cI cZ rt) {b L : Nat} {xs : Nat → Int32} (S : zw_SX X b L xs) (hL : L ≤ 256) {i : Int32} {j : Nat} (hd : decode cc pc = .ok (.iaload, 1)) (hi : i = nI j) (hj : j < L) (k : zw_G X nL Q cs sl ws (pc + 1) lv (.int (xs j) :: st)) : zw_G X nL Q cs sl ws pc lv (.int i :: .ref b :: st) := by
  obtain ⟨p, l, e, R, s, m, args, below, meth, c, A, D⟩ := X
  obtain ⟨rfl, hx, hb, hml, hown, hts, hA, hK, hr, hlk⟩ := C
  intro H locs ls hP hD hS hl
  obtain ⟨hX, hbl, hbA⟩ := S
  subst hi
  refine va_sld hx hb hX hbl hbA hS (vp_in_nI hj (by omega)) hd ?_
  rw [nI_clamp (by omega)]
  exact k H locs ls hP hD hS hl
theorem zw_slen (C : zw_Ok X R0 cc nL own cI cZ rt) {b L : Nat} {xs : Nat → Int32} (S : zw_SX X b L xs) (hd : decode cc pc = .ok (.arraylength, 1)) (k : zw_G X nL Q cs sl ws (pc + 1) lv (.int (nI L) :: st)) : zw_G X nL Q cs sl ws pc lv (.ref b :: st) := by
  obtain ⟨p, l, e, R, s, m, args, below, meth, c, A, D⟩ := X
  obtain ⟨rfl, hx, hb, hml, hown, hts, hA, hK, hr, hlk⟩ := C
  intro H locs ls hP hD hS hl
  obtain ⟨hX, hbl, hbA⟩ := S
  exact va_slen hx hb hX hbl hbA hS hd (k H locs ls hP hD hS hl)
theorem zw_tout (C : zw_Ok X R0 cc nL own cI cZ rt) {dflt lo hi : Int} {offs : Array Int} {len : Nat} {v : Int32} {tgt : Nat} (hd : decode cc pc = .ok (.tableswitch dflt lo hi offs, len)) (h : v.toInt < lo ∨ hi < v.toInt) (ht : (pc : Int) + dflt = (tgt : Int)) (k : zw_G X nL Q cs sl ws tgt lv st) : zw_G X nL Q cs sl ws pc lv (.int v :: st) := by
  obtain ⟨p, l, e, R, s, m, args, below, meth, c, A, D⟩ := X
  obtain ⟨rfl, hx, hb, hml, hown, hts, hA, hK, hr, hlk⟩ := C
  intro H locs ls hP hD hS hl
  exact lv_tableOut hx hb hd h ht (k H locs ls hP hD hS hl)
theorem zw_tin (C : zw_Ok X R0 cc nL own cI cZ rt) {dflt lo hi : Int} {offs : Array Int} {len : Nat} {v : Int32} {off : Int} {tgt : Nat} (hd : decode cc pc = .ok (.tableswitch dflt lo hi offs, len)) (h1 : ¬ v.toInt < lo) (h2 : ¬ hi < v.toInt) (ho : offs[(v.toInt - lo).toNat]? = some off) (ht : (pc : Int) + off = (tgt : Int)) (k : zw_G X nL Q cs sl ws tgt lv st) : zw_G X nL Q cs sl ws pc lv (.int v :: st) := by
  obtain ⟨p, l, e, R, s, m, args, below, meth, c, A, D⟩ := X
  obtain ⟨rfl, hx, hb, hml, hown, hts, hA, hK, hr, hlk⟩ := C
  intro H locs ls hP hD hS hl
  exact lv_tableIn hx hb hd h1 h2 ho ht (k H locs ls hP hD hS hl)
end ZI
theorem zw_up_z {k i : Nat} : zw_up (fun _ _ => 0) k i 0 = fun _ _ => 0 := by
  funext a b
  by_cases h : a = k
  · subst h
    rw [zw_up_s, zw_upd_a]
    split <;> rfl
  · rw [zw_up_n h]
abbrev zx_z (h0 : Nat) : va_W := [(h0, .inr (0, [.int 0, .null, .null, .null, .null, .int 0, .null, .null, .null, .null, .null, .null, .int 0, .null, .null, .null]))]
set_option maxHeartbeats 4000000 in
theorem zxl_init {X : zw_X} {h0 : Nat} {cI cZ : ClassId} {Q : State → Prop} (C : zw_Ok X ({ frames := 1, cells := 13, slots := 1597, locals := 12 } : Room) cX0_init 1 RX0 cI cZ none) (hi : X.2.2.2.2.2.2.2.2.1.name = "<init>") (K : ∀ ad : Nat → Nat, zw_G X 1 Q 13 1597 (zx_w h0 ad cI cZ (fun _ _ => 0)) 110 [some (.ref h0)] []) : zw_G X 1 Q 0 0 (zx_z h0) 0 [some (.ref h0)] [] := by
  refine zw_aload_n (i := 0) C dX0_init_0 rfl rfl ?_
  refine zw_objInit C q27 (Nat.le_of_ble_eq_true rfl) (Nat.le_of_ble_eq_true rfl) dX0_init_1 ?_
  refine zw_aload_n (i := 0) C dX0_init_4 rfl rfl ?_
  refine zw_bipush (v := 9) C dX0_init_5 (by decide) ?_
  refine zw_newI (N := 9) C rfl (by decide) (Nat.le_of_ble_eq_true rfl) (Nat.le_of_ble_eq_true rfl) dX0_init_7 (fun q_1 => ?_)
  refine zw_putF (ci := 0) (q0 := 0) (f := 1) (ty := .array .int) (ws' := [(h0, .inr (0, [.int 0, .ref q_1, .null, .null, .null, .int 0, .null, .null, .null, .null, .null, .null, .int 0, .null, .null, .null])), (q_1, .inl (cI, 9, .inl (fun _ => 0)))]) C hi in_X0 tyX0_ok nmX0 rfl rfl (by decide) q31 rfl rfl (by decide +kernel) rfl rfl (Nat.le_of_ble_eq_true rfl) rfl dX0_init_9 ?_
  refine zw_aload_n (i := 0) C dX0_init_12 rfl rfl ?_
  refine zw_bipush (v := 9) C dX0_init_13 (by decide) ?_
  refine zw_newI (N := 9) C rfl (by decide) (Nat.le_of_ble_eq_true rfl) (Nat.le_of_ble_eq_true rfl) dX0_init_15 (fun q_2 => ?_)
  refine zw_putF (ci := 0) (q0 := 0) (f := 2) (ty := .array .int) (ws' := [(h0, .inr (0, [.int 0, .ref q_1, .ref q_2, .null, .null, .int 0, .null, .null, .null, .null, .null, .null, .int 0, .null, .null, .null])), (q_1, .inl (cI, 9, .inl (fun _ => 0))), (q_2, .inl (cI, 9, .inl (fun _ => 0)))]) C hi in_X0 tyX0_ok nmX0 rfl rfl (by decide) q32 rfl rfl (by decide +kernel) rfl rfl (Nat.le_of_ble_eq_true rfl) rfl dX0_init_17 ?_
  refine zw_aload_n (i := 0) C dX0_init_20 rfl rfl ?_
  refine zw_bipush (v := 9) C dX0_init_21 (by decide) ?_
  refine zw_newI (N := 9) C rfl (by decide) (Nat.le_of_ble_eq_true rfl) (Nat.le_of_ble_eq_true rfl) dX0_init_23 (fun q_3 => ?_)
  refine zw_putF (ci := 0) (q0 := 0) (f := 3) (ty := .array .int) (ws' := [(h0, .inr (0, [.int 0, .ref q_1, .ref q_2, .ref q_3, .null, .int 0, .null, .null, .null, .null, .null, .null, .int 0, .null, .null, .null])), (q_1, .inl (cI, 9, .inl (fun _ => 0))), (q_2, .inl (cI, 9, .inl (fun _ => 0))), (q_3, .inl (cI, 9, .inl (fun _ => 0)))]) C hi in_X0 tyX0_ok nmX0 rfl rfl (by decide) q33 rfl rfl (by decide +kernel) rfl rfl (Nat.le_of_ble_eq_true rfl) rfl dX0_init_25 ?_
  refine zw_aload_n (i := 0) C dX0_init_28 rfl rfl ?_
  refine zw_bipush (v := 9) C dX0_init_29 (by decide) ?_
  refine zw_newI (N := 9) C rfl (by decide) (Nat.le_of_ble_eq_true rfl) (Nat.le_of_ble_eq_true rfl) dX0_init_31 (fun q_4 => ?_)
  refine zw_putF (ci := 0) (q0 := 0) (f := 4) (ty := .array .int) (ws' := [(h0, .inr (0, [.int 0, .ref q_1, .ref q_2, .ref q_3, .ref q_4, .int 0, .null, .null, .null, .null, .null, .null, .int 0, .null, .null, .null])), (q_1, .inl (cI, 9, .inl (fun _ => 0))), (q_2, .inl (cI, 9, .inl (fun _ => 0))), (q_3, .inl (cI, 9, .inl (fun _ => 0))), (q_4, .inl (cI, 9, .inl (fun _ => 0)))]) C hi in_X0 tyX0_ok nmX0 rfl rfl (by decide) q34 rfl rfl (by decide +kernel) rfl rfl (Nat.le_of_ble_eq_true rfl) rfl dX0_init_33 ?_
  refine zw_aload_n (i := 0) C dX0_init_36 rfl rfl ?_
  refine zw_iconst (v := 4) C dX0_init_37 (by decide) ?_
  refine zw_newI (N := 4) C rfl (by decide) (Nat.le_of_ble_eq_true rfl) (Nat.le_of_ble_eq_true rfl) dX0_init_38 (fun q_6 => ?_)
  refine zw_putF (ci := 0) (q0 := 0) (f := 6) (ty := .array .int) (ws' := [(h0, .inr (0, [.int 0, .ref q_1, .ref q_2, .ref q_3, .ref q_4, .int 0, .ref q_6, .null, .null, .null, .null, .null, .int 0, .null, .null, .null])), (q_1, .inl (cI, 9, .inl (fun _ => 0))), (q_2, .inl (cI, 9, .inl (fun _ => 0))), (q_3, .inl (cI, 9, .inl (fun _ => 0))), (q_4, .inl (cI, 9, .inl (fun _ => 0))), (q_6, .inl (cI, 4, .inl (fun _ => 0)))]) C hi in_X0 tyX0_ok nmX0 rfl rfl (by decide) q36 rfl rfl (by decide +kernel) rfl rfl (Nat.le_of_ble_eq_true rfl) rfl dX0_init_40 ?_
  refine zw_aload_n (i := 0) C dX0_init_43 rfl rfl ?_
  refine zw_iconst (v := 4) C dX0_init_44 (by decide) ?_
  refine zw_newI (N := 4) C rfl (by decide) (Nat.le_of_ble_eq_true rfl) (Nat.le_of_ble_eq_true rfl) dX0_init_45 (fun q_7 => ?_)
  refine zw_putF (ci := 0) (q0 := 0) (f := 7) (ty := .array .int) (ws' := [(h0, .inr (0, [.int 0, .ref q_1, .ref q_2, .ref q_3, .ref q_4, .int 0, .ref q_6, .ref q_7, .null, .null, .null, .null, .int 0, .null, .null, .null])), (q_1, .inl (cI, 9, .inl (fun _ => 0))), (q_2, .inl (cI, 9, .inl (fun _ => 0))), (q_3, .inl (cI, 9, .inl (fun _ => 0))), (q_4, .inl (cI, 9, .inl (fun _ => 0))), (q_6, .inl (cI, 4, .inl (fun _ => 0))), (q_7, .inl (cI, 4, .inl (fun _ => 0)))]) C hi in_X0 tyX0_ok nmX0 rfl rfl (by decide) q37 rfl rfl (by decide +kernel) rfl rfl (Nat.le_of_ble_eq_true rfl) rfl dX0_init_47 ?_
  refine zw_aload_n (i := 0) C dX0_init_50 rfl rfl ?_
  refine zw_iconst (v := 4) C dX0_init_51 (by decide) ?_
  refine zw_newI (N := 4) C rfl (by decide) (Nat.le_of_ble_eq_true rfl) (Nat.le_of_ble_eq_true rfl) dX0_init_52 (fun q_8 => ?_)
  refine zw_putF (ci := 0) (q0 := 0) (f := 8) (ty := .array .int) (ws' := [(h0, .inr (0, [.int 0, .ref q_1, .ref q_2, .ref q_3, .ref q_4, .int 0, .ref q_6, .ref q_7, .ref q_8, .null, .null, .null, .int 0, .null, .null, .null])), (q_1, .inl (cI, 9, .inl (fun _ => 0))), (q_2, .inl (cI, 9, .inl (fun _ => 0))), (q_3, .inl (cI, 9, .inl (fun _ => 0))), (q_4, .inl (cI, 9, .inl (fun _ => 0))), (q_6, .inl (cI, 4, .inl (fun _ => 0))), (q_7, .inl (cI, 4, .inl (fun _ => 0))), (q_8, .inl (cI, 4, .inl (fun _ => 0)))]) C hi in_X0 tyX0_ok nmX0 rfl rfl (by decide) q38 rfl rfl (by decide +kernel) rfl rfl (Nat.le_of_ble_eq_true rfl) rfl dX0_init_54 ?_
  refine zw_aload_n (i := 0) C dX0_init_57 rfl rfl ?_
  refine zw_iconst (v := 5) C dX0_init_58 (by decide) ?_
  refine zw_newI (N := 5) C rfl (by decide) (Nat.le_of_ble_eq_true rfl) (Nat.le_of_ble_eq_true rfl) dX0_init_59 (fun q_9 => ?_)
  refine zw_putF (ci := 0) (q0 := 0) (f := 9) (ty := .array .int) (ws' := [(h0, .inr (0, [.int 0, .ref q_1, .ref q_2, .ref q_3, .ref q_4, .int 0, .ref q_6, .ref q_7, .ref q_8, .ref q_9, .null, .null, .int 0, .null, .null, .null])), (q_1, .inl (cI, 9, .inl (fun _ => 0))), (q_2, .inl (cI, 9, .inl (fun _ => 0))), (q_3, .inl (cI, 9, .inl (fun _ => 0))), (q_4, .inl (cI, 9, .inl (fun _ => 0))), (q_6, .inl (cI, 4, .inl (fun _ => 0))), (q_7, .inl (cI, 4, .inl (fun _ => 0))), (q_8, .inl (cI, 4, .inl (fun _ => 0))), (q_9, .inl (cI, 5, .inl (fun _ => 0)))]) C hi in_X0 tyX0_ok nmX0 rfl rfl (by decide) q39 rfl rfl (by decide +kernel) rfl rfl (Nat.le_of_ble_eq_true rfl) rfl dX0_init_61 ?_
  refine zw_aload_n (i := 0) C dX0_init_64 rfl rfl ?_
  refine zw_iconst (v := 5) C dX0_init_65 (by decide) ?_
  refine zw_newI (N := 5) C rfl (by decide) (Nat.le_of_ble_eq_true rfl) (Nat.le_of_ble_eq_true rfl) dX0_init_66 (fun q_10 => ?_)
  refine zw_putF (ci := 0) (q0 := 0) (f := 10) (ty := .array .int) (ws' := [(h0, .inr (0, [.int 0, .ref q_1, .ref q_2, .ref q_3, .ref q_4, .int 0, .ref q_6, .ref q_7, .ref q_8, .ref q_9, .ref q_10, .null, .int 0, .null, .null, .null])), (q_1, .inl (cI, 9, .inl (fun _ => 0))), (q_2, .inl (cI, 9, .inl (fun _ => 0))), (q_3, .inl (cI, 9, .inl (fun _ => 0))), (q_4, .inl (cI, 9, .inl (fun _ => 0))), (q_6, .inl (cI, 4, .inl (fun _ => 0))), (q_7, .inl (cI, 4, .inl (fun _ => 0))), (q_8, .inl (cI, 4, .inl (fun _ => 0))), (q_9, .inl (cI, 5, .inl (fun _ => 0))), (q_10, .inl (cI, 5, .inl (fun _ => 0)))]) C hi in_X0 tyX0_ok nmX0 rfl rfl (by decide) q40 rfl rfl (by decide +kernel) rfl rfl (Nat.le_of_ble_eq_true rfl) rfl dX0_init_68 ?_
  refine zw_aload_n (i := 0) C dX0_init_71 rfl rfl ?_
  refine zw_iconst (v := 3) C dX0_init_72 (by decide) ?_
  refine zw_newI (N := 3) C rfl (by decide) (Nat.le_of_ble_eq_true rfl) (Nat.le_of_ble_eq_true rfl) dX0_init_73 (fun q_11 => ?_)
  refine zw_putF (ci := 0) (q0 := 0) (f := 11) (ty := .array .int) (ws' := [(h0, .inr (0, [.int 0, .ref q_1, .ref q_2, .ref q_3, .ref q_4, .int 0, .ref q_6, .ref q_7, .ref q_8, .ref q_9, .ref q_10, .ref q_11, .int 0, .null, .null, .null])), (q_1, .inl (cI, 9, .inl (fun _ => 0))), (q_2, .inl (cI, 9, .inl (fun _ => 0))), (q_3, .inl (cI, 9, .inl (fun _ => 0))), (q_4, .inl (cI, 9, .inl (fun _ => 0))), (q_6, .inl (cI, 4, .inl (fun _ => 0))), (q_7, .inl (cI, 4, .inl (fun _ => 0))), (q_8, .inl (cI, 4, .inl (fun _ => 0))), (q_9, .inl (cI, 5, .inl (fun _ => 0))), (q_10, .inl (cI, 5, .inl (fun _ => 0))), (q_11, .inl (cI, 3, .inl (fun _ => 0)))]) C hi in_X0 tyX0_ok nmX0 rfl rfl (by decide) q41 rfl rfl (by decide +kernel) rfl rfl (Nat.le_of_ble_eq_true rfl) rfl dX0_init_75 ?_
  refine zw_aload_n (i := 0) C dX0_init_78 rfl rfl ?_
  refine zw_sipush (v := 512) C dX0_init_79 (by decide) ?_
  refine zw_newZ (N := 512) C rfl (by decide) (Nat.le_of_ble_eq_true rfl) (Nat.le_of_ble_eq_true rfl) dX0_init_82 (fun q_13 => ?_)
  refine zw_putF (ci := 0) (q0 := 0) (f := 13) (ty := .array .boolean) (ws' := [(h0, .inr (0, [.int 0, .ref q_1, .ref q_2, .ref q_3, .ref q_4, .int 0, .ref q_6, .ref q_7, .ref q_8, .ref q_9, .ref q_10, .ref q_11, .int 0, .ref q_13, .null, .null])), (q_1, .inl (cI, 9, .inl (fun _ => 0))), (q_2, .inl (cI, 9, .inl (fun _ => 0))), (q_3, .inl (cI, 9, .inl (fun _ => 0))), (q_4, .inl (cI, 9, .inl (fun _ => 0))), (q_6, .inl (cI, 4, .inl (fun _ => 0))), (q_7, .inl (cI, 4, .inl (fun _ => 0))), (q_8, .inl (cI, 4, .inl (fun _ => 0))), (q_9, .inl (cI, 5, .inl (fun _ => 0))), (q_10, .inl (cI, 5, .inl (fun _ => 0))), (q_11, .inl (cI, 3, .inl (fun _ => 0))), (q_13, .inl (cZ, 512, .inl (fun _ => 0)))]) C hi in_X0 tyX0_ok nmX0 rfl rfl (by decide) q43 rfl rfl (by decide +kernel) rfl rfl (Nat.le_of_ble_eq_true rfl) rfl dX0_init_84 ?_
  refine zw_aload_n (i := 0) C dX0_init_87 rfl rfl ?_
  refine zw_sipush (v := 512) C dX0_init_88 (by decide) ?_
  refine zw_newZ (N := 512) C rfl (by decide) (Nat.le_of_ble_eq_true rfl) (Nat.le_of_ble_eq_true rfl) dX0_init_91 (fun q_14 => ?_)
  refine zw_putF (ci := 0) (q0 := 0) (f := 14) (ty := .array .boolean) (ws' := [(h0, .inr (0, [.int 0, .ref q_1, .ref q_2, .ref q_3, .ref q_4, .int 0, .ref q_6, .ref q_7, .ref q_8, .ref q_9, .ref q_10, .ref q_11, .int 0, .ref q_13, .ref q_14, .null])), (q_1, .inl (cI, 9, .inl (fun _ => 0))), (q_2, .inl (cI, 9, .inl (fun _ => 0))), (q_3, .inl (cI, 9, .inl (fun _ => 0))), (q_4, .inl (cI, 9, .inl (fun _ => 0))), (q_6, .inl (cI, 4, .inl (fun _ => 0))), (q_7, .inl (cI, 4, .inl (fun _ => 0))), (q_8, .inl (cI, 4, .inl (fun _ => 0))), (q_9, .inl (cI, 5, .inl (fun _ => 0))), (q_10, .inl (cI, 5, .inl (fun _ => 0))), (q_11, .inl (cI, 3, .inl (fun _ => 0))), (q_13, .inl (cZ, 512, .inl (fun _ => 0))), (q_14, .inl (cZ, 512, .inl (fun _ => 0)))]) C hi in_X0 tyX0_ok nmX0 rfl rfl (by decide) q44 rfl rfl (by decide +kernel) rfl rfl (Nat.le_of_ble_eq_true rfl) rfl dX0_init_93 ?_
  refine zw_aload_n (i := 0) C dX0_init_96 rfl rfl ?_
  refine zw_sipush (v := 512) C dX0_init_97 (by decide) ?_
  refine zw_newI (N := 512) C rfl (by decide) (Nat.le_of_ble_eq_true rfl) (Nat.le_of_ble_eq_true rfl) dX0_init_100 (fun q_15 => ?_)
  refine zw_putF (ci := 0) (q0 := 0) (f := 15) (ty := .array .int) (ws' := [(h0, .inr (0, [.int 0, .ref q_1, .ref q_2, .ref q_3, .ref q_4, .int 0, .ref q_6, .ref q_7, .ref q_8, .ref q_9, .ref q_10, .ref q_11, .int 0, .ref q_13, .ref q_14, .ref q_15])), (q_1, .inl (cI, 9, .inl (fun _ => 0))), (q_2, .inl (cI, 9, .inl (fun _ => 0))), (q_3, .inl (cI, 9, .inl (fun _ => 0))), (q_4, .inl (cI, 9, .inl (fun _ => 0))), (q_6, .inl (cI, 4, .inl (fun _ => 0))), (q_7, .inl (cI, 4, .inl (fun _ => 0))), (q_8, .inl (cI, 4, .inl (fun _ => 0))), (q_9, .inl (cI, 5, .inl (fun _ => 0))), (q_10, .inl (cI, 5, .inl (fun _ => 0))), (q_11, .inl (cI, 3, .inl (fun _ => 0))), (q_13, .inl (cZ, 512, .inl (fun _ => 0))), (q_14, .inl (cZ, 512, .inl (fun _ => 0))), (q_15, .inl (cI, 512, .inl (fun _ => 0)))]) C hi in_X0 tyX0_ok nmX0 rfl rfl (by decide) q45 rfl rfl (by decide +kernel) rfl rfl (Nat.le_of_ble_eq_true rfl) rfl dX0_init_102 ?_
  have k1 : zw_G X 1 Q 13 1597 (zx_w h0 (fun k => ([0, q_1, q_2, q_3, q_4, 0, q_6, q_7, q_8, q_9, q_10, q_11, 0, q_13, q_14, q_15] : List Nat).getD k 0) cI cZ (fun _ _ => 0)) 105 [some (.ref h0)] [] := by
    refine zw_aload_n (i := 0) C dX0_init_105 rfl rfl ?_
    refine zw_iconst (v := 0) C dX0_init_106 (by decide) ?_
    refine zx_put_ready C rfl rfl dX0_init_107 ?_
    rw [zw_up_z]
    exact K _
  exact k1
theorem zxm_init {h0 : Nat} {cI cZ : ClassId} (l : Launch) (D : va_G) : zw_MI l yX0_init cX0_init 1 1 12 13 1597 D cI cZ h0 (zx_z h0) (fun ad => zx_w h0 ad cI cZ (fun _ _ => 0)) := by
  intro sz
  refine Met.ofW (cc := cX0_init) (maxL := 1) (ret := none) (by decide) rfl ?_
  intro p e s m args below meth c s₁ B hml hv
  obtain ⟨rfl, hsz, hP, hK, hD0⟩ := hv
  have hts := atoms_spec (ws := ws_ yX0_init cX0_init 1 none) B.pre
  have hts : ∀ w ∈ lw_all, w.before _ s = true := fun w h => hts w (List.mem_cons_of_mem _ h)
  have hown : s.vm.findClass RX0 = some m.cls := findClass_of_methodNamed B.named
  have hin : meth.name = "<init>" := (name_of_methodNamed B.named B.method).1
  have hlk := B.notSynchronized
  subst hsz
  have hD := hD0.self (sz := s.heap.size)
  have hA : ∀ q : Nat, s.heap.size ≤ q → va_A (zx_z h0) s.heap.size q := fun q h => Or.inr h
  rw [lg_entry_eq]
  refine zxl_init (X := (p, l, e, _, s, m, [Value.ref h0].toArray, below, meth, c, va_A (zx_z h0) s.heap.size, D)) ⟨rfl, B.exec, B.bytes, hml, hown, hts, hA, hK, B.returns, hlk⟩ hin (fun ad => ?_) s.heap [] _ hP hD va_S.rf (zw_entry [.ref h0] 1 (by simp [Value.category]) (Nat.le_refl _))
  intro H locs ls hP hD hS hl
  exact W.vret B.exec B.bytes B.returns (fun t ht hW => ⟨⟨ad, rfl, trivial, by rw [ht]; exact hP, va_K.moved hW.alike hK, hD⟩, hS.F ht⟩) hS.2.2 dX0_init_110 (hlocks := hlk)
abbrev zy_z (h0 : Nat) : va_W := [(h0, .inr (1, [.null, .null, .null, .null, .int 0, .null, .null, .null, .int 0, .null, .null, .int 0]))]
set_option maxHeartbeats 4000000 in
theorem zyl_init {X : zw_X} {h0 : Nat} {cI cZ : ClassId} {Q : State → Prop} (C : zw_Ok X ({ frames := 1, cells := 9, slots := 564, locals := 12 } : Room) cX1_init 1 RX1 cI cZ none) (hi : X.2.2.2.2.2.2.2.2.1.name = "<init>") (K : ∀ ad : Nat → Nat, zw_G X 1 Q 9 564 (zy_w h0 ad cI cZ (fun _ _ => 0)) 73 [some (.ref h0)] []) : zw_G X 1 Q 0 0 (zy_z h0) 0 [some (.ref h0)] [] := by
  refine zw_aload_n (i := 0) C dX1_init_0 rfl rfl ?_
  refine zw_objInit C q173 (Nat.le_of_ble_eq_true rfl) (Nat.le_of_ble_eq_true rfl) dX1_init_1 ?_
  refine zw_aload_n (i := 0) C dX1_init_4 rfl rfl ?_
  refine zw_bipush (v := 9) C dX1_init_5 (by decide) ?_
  refine zw_newI (N := 9) C rfl (by decide) (Nat.le_of_ble_eq_true rfl) (Nat.le_of_ble_eq_true rfl) dX1_init_7 (fun q_0 => ?_)
  refine zw_putF (ci := 1) (q0 := 0) (f := 0) (ty := .array .int) (ws' := [(h0, .inr (1, [.ref q_0, .null, .null, .null, .int 0, .null, .null, .null, .int 0, .null, .null, .int 0])), (q_0, .inl (cI, 9, .inl (fun _ => 0)))]) C hi in_X1 tyX1_ok nmX1 rfl rfl (by decide) q174 rfl rfl (by decide +kernel) rfl rfl (Nat.le_of_ble_eq_true rfl) rfl dX1_init_9 ?_
  refine zw_aload_n (i := 0) C dX1_init_12 rfl rfl ?_
  refine zw_bipush (v := 9) C dX1_init_13 (by decide) ?_
  refine zw_newI (N := 9) C rfl (by decide) (Nat.le_of_ble_eq_true rfl) (Nat.le_of_ble_eq_true rfl) dX1_init_15 (fun q_1 => ?_)
  refine zw_putF (ci := 1) (q0 := 0) (f := 1) (ty := .array .int) (ws' := [(h0, .inr (1, [.ref q_0, .ref q_1, .null, .null, .int 0, .null, .null, .null, .int 0, .null, .null, .int 0])), (q_0, .inl (cI, 9, .inl (fun _ => 0))), (q_1, .inl (cI, 9, .inl (fun _ => 0)))]) C hi in_X1 tyX1_ok nmX1 rfl rfl (by decide) q175 rfl rfl (by decide +kernel) rfl rfl (Nat.le_of_ble_eq_true rfl) rfl dX1_init_17 ?_
  refine zw_aload_n (i := 0) C dX1_init_20 rfl rfl ?_
  refine zw_bipush (v := 9) C dX1_init_21 (by decide) ?_
  refine zw_newI (N := 9) C rfl (by decide) (Nat.le_of_ble_eq_true rfl) (Nat.le_of_ble_eq_true rfl) dX1_init_23 (fun q_2 => ?_)
  refine zw_putF (ci := 1) (q0 := 0) (f := 2) (ty := .array .int) (ws' := [(h0, .inr (1, [.ref q_0, .ref q_1, .ref q_2, .null, .int 0, .null, .null, .null, .int 0, .null, .null, .int 0])), (q_0, .inl (cI, 9, .inl (fun _ => 0))), (q_1, .inl (cI, 9, .inl (fun _ => 0))), (q_2, .inl (cI, 9, .inl (fun _ => 0)))]) C hi in_X1 tyX1_ok nmX1 rfl rfl (by decide) q176 rfl rfl (by decide +kernel) rfl rfl (Nat.le_of_ble_eq_true rfl) rfl dX1_init_25 ?_
  refine zw_aload_n (i := 0) C dX1_init_28 rfl rfl ?_
  refine zw_bipush (v := 9) C dX1_init_29 (by decide) ?_
  refine zw_newI (N := 9) C rfl (by decide) (Nat.le_of_ble_eq_true rfl) (Nat.le_of_ble_eq_true rfl) dX1_init_31 (fun q_3 => ?_)
  refine zw_putF (ci := 1) (q0 := 0) (f := 3) (ty := .array .int) (ws' := [(h0, .inr (1, [.ref q_0, .ref q_1, .ref q_2, .ref q_3, .int 0, .null, .null, .null, .int 0, .null, .null, .int 0])), (q_0, .inl (cI, 9, .inl (fun _ => 0))), (q_1, .inl (cI, 9, .inl (fun _ => 0))), (q_2, .inl (cI, 9, .inl (fun _ => 0))), (q_3, .inl (cI, 9, .inl (fun _ => 0)))]) C hi in_X1 tyX1_ok nmX1 rfl rfl (by decide) q177 rfl rfl (by decide +kernel) rfl rfl (Nat.le_of_ble_eq_true rfl) rfl dX1_init_33 ?_
  refine zw_aload_n (i := 0) C dX1_init_36 rfl rfl ?_
  refine zw_iconst (v := 4) C dX1_init_37 (by decide) ?_
  refine zw_newI (N := 4) C rfl (by decide) (Nat.le_of_ble_eq_true rfl) (Nat.le_of_ble_eq_true rfl) dX1_init_38 (fun q_5 => ?_)
  refine zw_putF (ci := 1) (q0 := 0) (f := 5) (ty := .array .int) (ws' := [(h0, .inr (1, [.ref q_0, .ref q_1, .ref q_2, .ref q_3, .int 0, .ref q_5, .null, .null, .int 0, .null, .null, .int 0])), (q_0, .inl (cI, 9, .inl (fun _ => 0))), (q_1, .inl (cI, 9, .inl (fun _ => 0))), (q_2, .inl (cI, 9, .inl (fun _ => 0))), (q_3, .inl (cI, 9, .inl (fun _ => 0))), (q_5, .inl (cI, 4, .inl (fun _ => 0)))]) C hi in_X1 tyX1_ok nmX1 rfl rfl (by decide) q179 rfl rfl (by decide +kernel) rfl rfl (Nat.le_of_ble_eq_true rfl) rfl dX1_init_40 ?_
  refine zw_aload_n (i := 0) C dX1_init_43 rfl rfl ?_
  refine zw_iconst (v := 4) C dX1_init_44 (by decide) ?_
  refine zw_newI (N := 4) C rfl (by decide) (Nat.le_of_ble_eq_true rfl) (Nat.le_of_ble_eq_true rfl) dX1_init_45 (fun q_6 => ?_)
  refine zw_putF (ci := 1) (q0 := 0) (f := 6) (ty := .array .int) (ws' := [(h0, .inr (1, [.ref q_0, .ref q_1, .ref q_2, .ref q_3, .int 0, .ref q_5, .ref q_6, .null, .int 0, .null, .null, .int 0])), (q_0, .inl (cI, 9, .inl (fun _ => 0))), (q_1, .inl (cI, 9, .inl (fun _ => 0))), (q_2, .inl (cI, 9, .inl (fun _ => 0))), (q_3, .inl (cI, 9, .inl (fun _ => 0))), (q_5, .inl (cI, 4, .inl (fun _ => 0))), (q_6, .inl (cI, 4, .inl (fun _ => 0)))]) C hi in_X1 tyX1_ok nmX1 rfl rfl (by decide) q180 rfl rfl (by decide +kernel) rfl rfl (Nat.le_of_ble_eq_true rfl) rfl dX1_init_47 ?_
  refine zw_aload_n (i := 0) C dX1_init_50 rfl rfl ?_
  refine zw_iconst (v := 4) C dX1_init_51 (by decide) ?_
  refine zw_newI (N := 4) C rfl (by decide) (Nat.le_of_ble_eq_true rfl) (Nat.le_of_ble_eq_true rfl) dX1_init_52 (fun q_7 => ?_)
  refine zw_putF (ci := 1) (q0 := 0) (f := 7) (ty := .array .int) (ws' := [(h0, .inr (1, [.ref q_0, .ref q_1, .ref q_2, .ref q_3, .int 0, .ref q_5, .ref q_6, .ref q_7, .int 0, .null, .null, .int 0])), (q_0, .inl (cI, 9, .inl (fun _ => 0))), (q_1, .inl (cI, 9, .inl (fun _ => 0))), (q_2, .inl (cI, 9, .inl (fun _ => 0))), (q_3, .inl (cI, 9, .inl (fun _ => 0))), (q_5, .inl (cI, 4, .inl (fun _ => 0))), (q_6, .inl (cI, 4, .inl (fun _ => 0))), (q_7, .inl (cI, 4, .inl (fun _ => 0)))]) C hi in_X1 tyX1_ok nmX1 rfl rfl (by decide) q181 rfl rfl (by decide +kernel) rfl rfl (Nat.le_of_ble_eq_true rfl) rfl dX1_init_54 ?_
  refine zw_aload_n (i := 0) C dX1_init_57 rfl rfl ?_
  refine zw_iconst (v := 4) C dX1_init_58 (by decide) ?_
  refine zw_newI (N := 4) C rfl (by decide) (Nat.le_of_ble_eq_true rfl) (Nat.le_of_ble_eq_true rfl) dX1_init_59 (fun q_9 => ?_)
  refine zw_putF (ci := 1) (q0 := 0) (f := 9) (ty := .array .int) (ws' := [(h0, .inr (1, [.ref q_0, .ref q_1, .ref q_2, .ref q_3, .int 0, .ref q_5, .ref q_6, .ref q_7, .int 0, .ref q_9, .null, .int 0])), (q_0, .inl (cI, 9, .inl (fun _ => 0))), (q_1, .inl (cI, 9, .inl (fun _ => 0))), (q_2, .inl (cI, 9, .inl (fun _ => 0))), (q_3, .inl (cI, 9, .inl (fun _ => 0))), (q_5, .inl (cI, 4, .inl (fun _ => 0))), (q_6, .inl (cI, 4, .inl (fun _ => 0))), (q_7, .inl (cI, 4, .inl (fun _ => 0))), (q_9, .inl (cI, 4, .inl (fun _ => 0)))]) C hi in_X1 tyX1_ok nmX1 rfl rfl (by decide) q183 rfl rfl (by decide +kernel) rfl rfl (Nat.le_of_ble_eq_true rfl) rfl dX1_init_61 ?_
  refine zw_aload_n (i := 0) C dX1_init_64 rfl rfl ?_
  refine zw_sipush (v := 512) C dX1_init_65 (by decide) ?_
  refine zw_newZ (N := 512) C rfl (by decide) (Nat.le_of_ble_eq_true rfl) (Nat.le_of_ble_eq_true rfl) dX1_init_68 (fun q_10 => ?_)
  refine zw_putF (ci := 1) (q0 := 0) (f := 10) (ty := .array .boolean) (ws' := [(h0, .inr (1, [.ref q_0, .ref q_1, .ref q_2, .ref q_3, .int 0, .ref q_5, .ref q_6, .ref q_7, .int 0, .ref q_9, .ref q_10, .int 0])), (q_0, .inl (cI, 9, .inl (fun _ => 0))), (q_1, .inl (cI, 9, .inl (fun _ => 0))), (q_2, .inl (cI, 9, .inl (fun _ => 0))), (q_3, .inl (cI, 9, .inl (fun _ => 0))), (q_5, .inl (cI, 4, .inl (fun _ => 0))), (q_6, .inl (cI, 4, .inl (fun _ => 0))), (q_7, .inl (cI, 4, .inl (fun _ => 0))), (q_9, .inl (cI, 4, .inl (fun _ => 0))), (q_10, .inl (cZ, 512, .inl (fun _ => 0)))]) C hi in_X1 tyX1_ok nmX1 rfl rfl (by decide) q184 rfl rfl (by decide +kernel) rfl rfl (Nat.le_of_ble_eq_true rfl) rfl dX1_init_70 ?_
  exact K (fun k => ([q_0, q_1, q_2, q_3, 0, q_5, q_6, q_7, 0, q_9, q_10, 0] : List Nat).getD k 0)
theorem zym_init {h0 : Nat} {cI cZ : ClassId} (l : Launch) (D : va_G) : zw_MI l yX1_init cX1_init 1 1 12 9 564 D cI cZ h0 (zy_z h0) (fun ad => zy_w h0 ad cI cZ (fun _ _ => 0)) := by
  intro sz
  refine Met.ofW (cc := cX1_init) (maxL := 1) (ret := none) (by decide) rfl ?_
  intro p e s m args below meth c s₁ B hml hv
  obtain ⟨rfl, hsz, hP, hK, hD0⟩ := hv
  have hts := atoms_spec (ws := ws_ yX1_init cX1_init 1 none) B.pre
  have hts : ∀ w ∈ lw_all, w.before _ s = true := fun w h => hts w (List.mem_cons_of_mem _ h)
  have hown : s.vm.findClass RX1 = some m.cls := findClass_of_methodNamed B.named
  have hin : meth.name = "<init>" := (name_of_methodNamed B.named B.method).1
  have hlk := B.notSynchronized
  subst hsz
  have hD := hD0.self (sz := s.heap.size)
  have hA : ∀ q : Nat, s.heap.size ≤ q → va_A (zy_z h0) s.heap.size q := fun q h => Or.inr h
  rw [lg_entry_eq]
  refine zyl_init (X := (p, l, e, _, s, m, [Value.ref h0].toArray, below, meth, c, va_A (zy_z h0) s.heap.size, D)) ⟨rfl, B.exec, B.bytes, hml, hown, hts, hA, hK, B.returns, hlk⟩ hin (fun ad => ?_) s.heap [] _ hP hD va_S.rf (zw_entry [.ref h0] 1 (by simp [Value.category]) (Nat.le_refl _))
  intro H locs ls hP hD hS hl
  exact W.vret B.exec B.bytes B.returns (fun t ht hW => ⟨⟨ad, rfl, trivial, by rw [ht]; exact hP, va_K.moved hW.alike hK, hD⟩, hS.F ht⟩) hS.2.2 dX1_init_73 (hlocks := hlk)
end
section
/-! THE CLAIM OUT OF ONE WALK OF THE LAW'S BODY. Your part is whole_start (and what it stands on); all else here is the same for every law, but numbers. -/
def R_law : String := "LineageWorldsLaw"
def lw_P (b : Addr) (xs : List Int32) (args : Array Value) (s : State) : Prop := args = #[.ref b] ∧ s.IntsAt b xs ∧ xs.length ≤ 256 ∧ (Jvm.Cond.and given_1 narrow_1).before args s = true
def lw_Q (_ : Array Value) (s : State) (o : Outcome) (t : State) : Prop := o = .returned (some (.int 1)) ∧ Framed s o t [] 600000 7290000
def lw_Z (below : List Frame) (a : Array Value) (s : State) : State → Prop := fun t => ∃ o, t.status = .running ∧ Ended t below o ∧ lw_Q a s o t
/-- the law's own end, with 1 on the stack, nothing written that was there before, its room as the claim has it -/
theorem lw_ret {p : Program} {l : Launch} {e : Env} {s : State} {m : MethodId} {below : List Frame} {meth : Method} {c : Code} {b : Nat} (hx : p.tables.exec = Jvm.exec) (hb : c.code = code) (hr : meth.sig.returnType = ret) (hlocks : meth.locks = false) {pc : Nat} {H : Heap} {ls : Array Slot} (hdg : decode code pc = .ok (.ireturn, 1)) : W p l e room_1 s m #[Value.ref b] below meth c H [] 600000 7290000 (lw_Z below #[Value.ref b] s) (F0 m pc ls [.int 1]) := by
  intro T hT X
  obtain ⟨fs, hret, hrun, hended, hW, hframe⟩ := X.leave (v := some (.int 1)) (hlocks := hlocks) (fun h => by rw [hr] at h; cases h)
  have hmeth' : T.vm.method? m = some meth := X.method'
  refine ⟨T.setFrames fs, ?_, .returned (some (.int 1)), hrun, hended, rfl, ⟨_, rfl⟩, hW, hframe⟩
  jvm_step X.here [X.here.top, hx, hb, hdg, hmeth', hr, ret, narrow_b1]
  (try refine ⟨rfl, ?_⟩); (try refine ⟨rfl, ?_⟩)
  first | (intro acts; rw [hret _ acts rfl rfl rfl]) | rw [hret _ _ rfl rfl rfl]
  exact Steps.refl _
/-- what holds at the law's entry: the machine, the code, the tables' words (any of lw_tbl by 'hts w (by decide +kernel)'), the script of L ints xs at the cell b, what the Statement gives of the start (any of its parts by flat_of_before) -/
def lw_At (p : Program) (s : State) (m : MethodId) (meth : Method) (c : Code) (b L : Nat) (xs : Nat → Int32) : Prop :=
  p.tables.exec = Jvm.exec ∧ c.code = code ∧ meth.sig.returnType = ret ∧ c.maxLocals = 4 ∧ s.vm.findClass R_law = some m.cls ∧ (∀ w ∈ lw_tbl, w.before #[Value.ref b] s = true) ∧ va_X b L xs s s.heap ∧ b < s.heap.size ∧ meth.locks = false ∧ (Jvm.Cond.and given_1 narrow_1).before #[Value.ref b] s = true
end
section
/-! THE LAW's LOOP -/
set_option maxRecDepth 100000
theorem zl_cmp {L i : Nat} (hL : L < 1000) (hi : i < 1000) : nI L - 4 < nI i ↔ L < i + 4 := by
  have h := pk_sub_toInt (a := L) (b := 4) (by omega) (by omega)
  have h2 : (nI L - 4 : Int32) = nI L - nI 4 := rfl
  rw [Int32.lt_iff_toInt_lt, nI_toInt (by omega), h2, h]
  omega
set_option maxHeartbeats 4000000 in
/-- the law's loop at its head: i ints read, both objects hold n facts and k conditions, the same -/
theorem zl_loop {X : zw_X} {cI cZ : ClassId} {Q : State → Prop} {b L : Nat} {xs : Nat → Int32} {qx qy : Nat} {ax ay : Nat → Nat} (C : zw_Ok X room_1 cL_law 4 R_law cI cZ ret) (S : zw_SX X b L xs) (hL : L ≤ 256) (K : ∀ u v : zw_St, zw_G X 4 Q 24 2189 (zx_w qx ax cI cZ u ++ zy_w qy ay cI cZ v) 329 [some (.ref b), some (.ref qx), some (.ref qy), none] []) :
    ∀ (d i : Nat) (u v : zw_St) (n k : Nat), L < i + 4 + d → i ≤ 256 → zl_inv u v n k → zw_G X 4 Q 24 2189 (zx_w qx ax cI cZ u ++ zy_w qy ay cI cZ v) 18 [some (.ref b), some (.ref qx), some (.ref qy), some (.int (nI i))] [] := by
  intro d
  induction d with
  | zero =>
    intro i u v n k hd hi h
    refine zw_iload_n (i := 3) C dL_law_18 rfl rfl ?_
    refine zw_aload_n (i := 0) C dL_law_19 rfl rfl ?_
    refine zw_slen C S dL_law_20 ?_
    refine zw_iconst (v := 4) C dL_law_21 (by decide) ?_
    refine zw_isub C dL_law_22 ?_
    refine zw_icmp_gt (tgt := 329) C dL_law_23 (by decide) (fun c23 => ?_) (fun c23 => ?_)
    · refine zw_forget 3 ?_
      exact K u v
    · exact absurd ((zl_cmp (by omega) (by omega)).mpr (by omega)) c23
  | succ d ih =>
    intro i u v n k hd hi h
    refine zw_iload_n (i := 3) C dL_law_18 rfl rfl ?_
    refine zw_aload_n (i := 0) C dL_law_19 rfl rfl ?_
    refine zw_slen C S dL_law_20 ?_
    refine zw_iconst (v := 4) C dL_law_21 (by decide) ?_
    refine zw_isub C dL_law_22 ?_
    refine zw_icmp_gt (tgt := 329) C dL_law_23 (by decide) (fun c23 => ?_) (fun c23 => ?_)
    · refine zw_forget 3 ?_
      exact K u v
    · have hiL : i + 4 ≤ L := by
        rcases Nat.lt_or_ge L (i + 4) with q | q
        · exact absurd ((zl_cmp (by omega) (by omega)).mpr q) c23
        · exact q
      have next : ∀ (u v : zw_St), (∃ n k, zl_inv u v n k) → zw_G X 4 Q 24 2189 (zx_w qx ax cI cZ u ++ zy_w qy ay cI cZ v) 323 [some (.ref b), some (.ref qx), some (.ref qy), some (.int (nI i))] [] := by
        intro u v hnk
        obtain ⟨n, k, h⟩ := hnk
        refine zw_iinc (v := nI (i + 4)) C dL_law_323 rfl (nI_add i 4) (by decide) ?_
        refine zw_goto (tgt := 18) C dL_law_326 (by decide) ?_
        exact ih (i + 4) u v n k (by omega) (by omega) h
      have hD := h.1
      have hDy : zw_D (zy_x v) n k := h.2.1.D hD
      have hR := h.2.2.1
      have hRy := h.2.2.2
      refine zw_aload_n (i := 0) C dL_law_26 rfl rfl ?_
      refine zw_iload_n (i := 3) C dL_law_27 rfl rfl ?_
      refine zw_sld C S hL dL_law_28 (rfl) (by omega) ?_
      refine zw_bipush (v := 15) C dL_law_29 (by decide) ?_
      refine zw_iand C dL_law_31 ?_
      obtain ⟨t, ht, et⟩ := pk_andE (xs i) (m := 15) 4 (by decide)
      refine zw_top et ?_
      have ht : t < 16 := ht
      have hcase : t = 0 ∨ t = 1 ∨ t = 2 ∨ t = 3 ∨ t = 4 ∨ t = 5 ∨ t = 6 ∨ t = 7 ∨ t = 8 ∨ t = 9 ∨ t = 10 ∨ 10 < t := by omega
      rcases hcase with rfl | rfl | rfl | rfl | rfl | rfl | rfl | rfl | rfl | rfl | rfl | hgt
      · refine zw_tin (off := 60) (tgt := 92) C dL_law_32 (by decide) (by decide) (by decide +kernel) (by decide) ?_
        refine zw_aload_n (i := 1) C dL_law_92 rfl rfl ?_
        refine zw_aload_n (i := 0) C dL_law_93 rfl rfl ?_
        refine zw_iload_n (i := 3) C dL_law_94 rfl rfl ?_
        refine zw_iconst (v := 1) C dL_law_95 (by decide) ?_
        refine zw_iadd C dL_law_96 ?_
        refine zw_sld C S hL dL_law_97 (nI_1 i) (by omega) ?_
        refine zw_aload_n (i := 0) C dL_law_98 rfl rfl ?_
        refine zw_iload_n (i := 3) C dL_law_99 rfl rfl ?_
        refine zw_iconst (v := 2) C dL_law_100 (by decide) ?_
        refine zw_iadd C dL_law_101 ?_
        refine zw_sld C S hL dL_law_102 (nI_add i 2) (by omega) ?_
        refine zw_callLi (q0 := 0) (n := 2) C (fun l D => zxm_fact (xs (i + 1)) (xs (i + 2)) hD.2.2.1 hD.1 l D) (lw_V q81 q82 q83 q20 q84) rfl (by decide +kernel) ⟨Nat.le_of_ble_eq_true rfl, Nat.le_of_ble_eq_true rfl⟩ rfl rfl rfl (Nat.le_of_ble_eq_true rfl) ⟨Nat.le_of_ble_eq_true rfl, Nat.le_of_ble_eq_true rfl⟩ dL_law_103 (fun r1 u1 h1 => ?_)
        refine zw_aload_n (i := 2) C dL_law_106 rfl rfl ?_
        refine zw_aload_n (i := 0) C dL_law_107 rfl rfl ?_
        refine zw_iload_n (i := 3) C dL_law_108 rfl rfl ?_
        refine zw_iconst (v := 1) C dL_law_109 (by decide) ?_
        refine zw_iadd C dL_law_110 ?_
        refine zw_sld C S hL dL_law_111 (nI_1 i) (by omega) ?_
        refine zw_aload_n (i := 0) C dL_law_112 rfl rfl ?_
        refine zw_iload_n (i := 3) C dL_law_113 rfl rfl ?_
        refine zw_iconst (v := 2) C dL_law_114 (by decide) ?_
        refine zw_iadd C dL_law_115 ?_
        refine zw_sld C S hL dL_law_116 (nI_add i 2) (by omega) ?_
        refine zw_swap ?_
        refine zw_callLi (q0 := 0) (n := 2) C (fun l D => zym_fact (xs (i + 1)) (xs (i + 2)) hDy.2.2.1 hD.1 l D) (lw_V q211 q212 q213 q21 q214) rfl (by decide +kernel) ⟨Nat.le_of_ble_eq_true rfl, Nat.le_of_ble_eq_true rfl⟩ rfl rfl rfl (Nat.le_of_ble_eq_true rfl) ⟨Nat.le_of_ble_eq_true rfl, Nat.le_of_ble_eq_true rfl⟩ dL_law_117 (fun r2 v1 h2 => ?_)
        refine zw_swap ?_
        refine zw_icmp_eq (tgt := 323) C dL_law_120 (by decide) (fun c120 => ?_) (fun c120 => ?_)
        · exact next u1 v1 (zl_fact h h1 h2).2
        · exact absurd (zl_fact h h1 h2).1 c120
      · refine zw_tin (off := 93) (tgt := 125) C dL_law_32 (by decide) (by decide) (by decide +kernel) (by decide) ?_
        refine zw_aload_n (i := 1) C dL_law_125 rfl rfl ?_
        refine zw_aload_n (i := 0) C dL_law_126 rfl rfl ?_
        refine zw_iload_n (i := 3) C dL_law_127 rfl rfl ?_
        refine zw_iconst (v := 1) C dL_law_128 (by decide) ?_
        refine zw_iadd C dL_law_129 ?_
        refine zw_sld C S hL dL_law_130 (nI_1 i) (by omega) ?_
        refine zw_aload_n (i := 0) C dL_law_131 rfl rfl ?_
        refine zw_iload_n (i := 3) C dL_law_132 rfl rfl ?_
        refine zw_iconst (v := 2) C dL_law_133 (by decide) ?_
        refine zw_iadd C dL_law_134 ?_
        refine zw_sld C S hL dL_law_135 (nI_add i 2) (by omega) ?_
        refine zw_callLi (q0 := 0) (n := 2) C (fun l D => zxm_likely (xs (i + 1)) (xs (i + 2)) hD.2.2.1 hD.1 l D) (lw_V q85 q86 q87 q20 q88) rfl (by decide +kernel) ⟨Nat.le_of_ble_eq_true rfl, Nat.le_of_ble_eq_true rfl⟩ rfl rfl rfl (Nat.le_of_ble_eq_true rfl) ⟨Nat.le_of_ble_eq_true rfl, Nat.le_of_ble_eq_true rfl⟩ dL_law_136 (fun r1 u1 h1 => ?_)
        refine zw_aload_n (i := 2) C dL_law_139 rfl rfl ?_
        refine zw_aload_n (i := 0) C dL_law_140 rfl rfl ?_
        refine zw_iload_n (i := 3) C dL_law_141 rfl rfl ?_
        refine zw_iconst (v := 1) C dL_law_142 (by decide) ?_
        refine zw_iadd C dL_law_143 ?_
        refine zw_sld C S hL dL_law_144 (nI_1 i) (by omega) ?_
        refine zw_aload_n (i := 0) C dL_law_145 rfl rfl ?_
        refine zw_iload_n (i := 3) C dL_law_146 rfl rfl ?_
        refine zw_iconst (v := 2) C dL_law_147 (by decide) ?_
        refine zw_iadd C dL_law_148 ?_
        refine zw_sld C S hL dL_law_149 (nI_add i 2) (by omega) ?_
        refine zw_swap ?_
        refine zw_callLi (q0 := 0) (n := 2) C (fun l D => zym_likely (xs (i + 1)) (xs (i + 2)) hDy.2.2.1 hD.1 l D) (lw_V q215 q216 q217 q21 q218) rfl (by decide +kernel) ⟨Nat.le_of_ble_eq_true rfl, Nat.le_of_ble_eq_true rfl⟩ rfl rfl rfl (Nat.le_of_ble_eq_true rfl) ⟨Nat.le_of_ble_eq_true rfl, Nat.le_of_ble_eq_true rfl⟩ dL_law_150 (fun r2 v1 h2 => ?_)
        refine zw_swap ?_
        refine zw_icmp_eq (tgt := 323) C dL_law_153 (by decide) (fun c153 => ?_) (fun c153 => ?_)
        · exact next u1 v1 (zl_likely h h1 h2).2
        · exact absurd (zl_likely h h1 h2).1 c153
      · refine zw_tin (off := 126) (tgt := 158) C dL_law_32 (by decide) (by decide) (by decide +kernel) (by decide) ?_
        refine zw_aload_n (i := 1) C dL_law_158 rfl rfl ?_
        refine zw_aload_n (i := 0) C dL_law_159 rfl rfl ?_
        refine zw_iload_n (i := 3) C dL_law_160 rfl rfl ?_
        refine zw_iconst (v := 1) C dL_law_161 (by decide) ?_
        refine zw_iadd C dL_law_162 ?_
        refine zw_sld C S hL dL_law_163 (nI_1 i) (by omega) ?_
        refine zw_aload_n (i := 0) C dL_law_164 rfl rfl ?_
        refine zw_iload_n (i := 3) C dL_law_165 rfl rfl ?_
        refine zw_iconst (v := 2) C dL_law_166 (by decide) ?_
        refine zw_iadd C dL_law_167 ?_
        refine zw_sld C S hL dL_law_168 (nI_add i 2) (by omega) ?_
        refine zw_aload_n (i := 0) C dL_law_169 rfl rfl ?_
        refine zw_iload_n (i := 3) C dL_law_170 rfl rfl ?_
        refine zw_iconst (v := 3) C dL_law_171 (by decide) ?_
        refine zw_iadd C dL_law_172 ?_
        refine zw_sld C S hL dL_law_173 (nI_add i 3) (by omega) ?_
        refine zw_callLi (q0 := 0) (n := 3) C (fun l D => zxm_condition (xs (i + 1)) (xs (i + 2)) (xs (i + 3)) hD.2.2.2.1 hD.2.1 l D) (lw_V q93 q94 q95 q20 q96) rfl (by decide +kernel) ⟨Nat.le_of_ble_eq_true rfl, Nat.le_of_ble_eq_true rfl⟩ rfl rfl rfl (Nat.le_of_ble_eq_true rfl) ⟨Nat.le_of_ble_eq_true rfl, Nat.le_of_ble_eq_true rfl⟩ dL_law_174 (fun r1 u1 h1 => ?_)
        refine zw_aload_n (i := 2) C dL_law_177 rfl rfl ?_
        refine zw_aload_n (i := 0) C dL_law_178 rfl rfl ?_
        refine zw_iload_n (i := 3) C dL_law_179 rfl rfl ?_
        refine zw_iconst (v := 1) C dL_law_180 (by decide) ?_
        refine zw_iadd C dL_law_181 ?_
        refine zw_sld C S hL dL_law_182 (nI_1 i) (by omega) ?_
        refine zw_aload_n (i := 0) C dL_law_183 rfl rfl ?_
        refine zw_iload_n (i := 3) C dL_law_184 rfl rfl ?_
        refine zw_iconst (v := 2) C dL_law_185 (by decide) ?_
        refine zw_iadd C dL_law_186 ?_
        refine zw_sld C S hL dL_law_187 (nI_add i 2) (by omega) ?_
        refine zw_aload_n (i := 0) C dL_law_188 rfl rfl ?_
        refine zw_iload_n (i := 3) C dL_law_189 rfl rfl ?_
        refine zw_iconst (v := 3) C dL_law_190 (by decide) ?_
        refine zw_iadd C dL_law_191 ?_
        refine zw_sld C S hL dL_law_192 (nI_add i 3) (by omega) ?_
        refine zw_swap ?_
        refine zw_callLi (q0 := 0) (n := 3) C (fun l D => zym_condition (xs (i + 1)) (xs (i + 2)) (xs (i + 3)) hDy.2.2.2.1 hD.2.1 l D) (lw_V q223 q224 q225 q21 q226) rfl (by decide +kernel) ⟨Nat.le_of_ble_eq_true rfl, Nat.le_of_ble_eq_true rfl⟩ rfl rfl rfl (Nat.le_of_ble_eq_true rfl) ⟨Nat.le_of_ble_eq_true rfl, Nat.le_of_ble_eq_true rfl⟩ dL_law_193 (fun r2 v1 h2 => ?_)
        refine zw_swap ?_
        refine zw_icmp_eq (tgt := 323) C dL_law_196 (by decide) (fun c196 => ?_) (fun c196 => ?_)
        · exact next u1 v1 (zl_cond h h1 h2).2
        · exact absurd (zl_cond h h1 h2).1 c196
      · refine zw_tin (off := 169) (tgt := 201) C dL_law_32 (by decide) (by decide) (by decide +kernel) (by decide) ?_
        refine zw_aload_n (i := 1) C dL_law_201 rfl rfl ?_
        refine zw_callLv (q0 := 0) (n := 0) C (fun l D => zxm_ask l D) (lw_V q100 q101 q102 q20 q103) rfl (by decide +kernel) ⟨Nat.le_of_ble_eq_true rfl, Nat.le_of_ble_eq_true rfl⟩ rfl rfl rfl (Nat.le_of_ble_eq_true rfl) ⟨Nat.le_of_ble_eq_true rfl, Nat.le_of_ble_eq_true rfl⟩ dL_law_202 (fun u1 h1 => ?_)
        refine zw_aload_n (i := 2) C dL_law_205 rfl rfl ?_
        refine zw_swap ?_
        refine zw_callLv (q0 := 0) (n := 0) C (fun l D => zym_ask l D) (lw_V q231 q232 q233 q21 q234) rfl (by decide +kernel) ⟨Nat.le_of_ble_eq_true rfl, Nat.le_of_ble_eq_true rfl⟩ rfl rfl rfl (Nat.le_of_ble_eq_true rfl) ⟨Nat.le_of_ble_eq_true rfl, Nat.le_of_ble_eq_true rfl⟩ dL_law_206 (fun v1 h2 => ?_)
        refine zw_swap ?_
        refine zw_goto (tgt := 323) C dL_law_209 (by decide) ?_
        exact next u1 v1 (zl_ask h h1 h2)
      · refine zw_tin (off := 180) (tgt := 212) C dL_law_32 (by decide) (by decide) (by decide +kernel) (by decide) ?_
        refine zw_aload_n (i := 1) C dL_law_212 rfl rfl ?_
        refine zw_callLi (q0 := 0) (n := 0) C (fun l D => zxm_drop hD.2.2.1 hD.1 l D) (lw_V q104 q105 q106 q20 q107) rfl (by decide +kernel) ⟨Nat.le_of_ble_eq_true rfl, Nat.le_of_ble_eq_true rfl⟩ rfl rfl rfl (Nat.le_of_ble_eq_true rfl) ⟨Nat.le_of_ble_eq_true rfl, Nat.le_of_ble_eq_true rfl⟩ dL_law_213 (fun r1 u1 h1 => ?_)
        refine zw_aload_n (i := 2) C dL_law_216 rfl rfl ?_
        refine zw_swap ?_
        refine zw_callLi (q0 := 0) (n := 0) C (fun l D => zym_drop hDy.2.2.1 hD.1 l D) (lw_V q235 q236 q237 q21 q238) rfl (by decide +kernel) ⟨Nat.le_of_ble_eq_true rfl, Nat.le_of_ble_eq_true rfl⟩ rfl rfl rfl (Nat.le_of_ble_eq_true rfl) ⟨Nat.le_of_ble_eq_true rfl, Nat.le_of_ble_eq_true rfl⟩ dL_law_217 (fun r2 v1 h2 => ?_)
        refine zw_swap ?_
        refine zw_icmp_eq (tgt := 323) C dL_law_220 (by decide) (fun c220 => ?_) (fun c220 => ?_)
        · exact next u1 v1 (zl_drop h h1 h2).2
        · exact absurd (zl_drop h h1 h2).1 c220
      · refine zw_tin (off := 193) (tgt := 225) C dL_law_32 (by decide) (by decide) (by decide +kernel) (by decide) ?_
        refine zw_aload_n (i := 1) C dL_law_225 rfl rfl ?_
        refine zw_callLi (q0 := 0) (n := 0) C (fun l D => zxm_share hD hR l D) (lw_V q108 q109 q110 q20 q111) rfl (by decide +kernel) ⟨Nat.le_of_ble_eq_true rfl, Nat.le_of_ble_eq_true rfl⟩ rfl rfl rfl (Nat.le_of_ble_eq_true rfl) ⟨Nat.le_of_ble_eq_true rfl, Nat.le_of_ble_eq_true rfl⟩ dL_law_226 (fun r1 u1 h1 => ?_)
        refine zw_aload_n (i := 2) C dL_law_229 rfl rfl ?_
        refine zw_swap ?_
        refine zw_callLi (q0 := 0) (n := 0) C (fun l D => zym_share hDy hRy l D) (lw_V q239 q240 q241 q21 q242) rfl (by decide +kernel) ⟨Nat.le_of_ble_eq_true rfl, Nat.le_of_ble_eq_true rfl⟩ rfl rfl rfl (Nat.le_of_ble_eq_true rfl) ⟨Nat.le_of_ble_eq_true rfl, Nat.le_of_ble_eq_true rfl⟩ dL_law_230 (fun r2 v1 h2 => ?_)
        refine zw_swap ?_
        refine zw_icmp_eq (tgt := 323) C dL_law_233 (by decide) (fun c233 => ?_) (fun c233 => ?_)
        · exact next u1 v1 (zl_share h h1 h2).2
        · exact absurd (zl_share h h1 h2).1 c233
      · refine zw_tin (off := 206) (tgt := 238) C dL_law_32 (by decide) (by decide) (by decide +kernel) (by decide) ?_
        refine zw_aload_n (i := 1) C dL_law_238 rfl rfl ?_
        refine zw_callLi (q0 := 0) (n := 0) C (fun l D => zxm_all hD.2.2.1 hD.1 l D) (lw_V q145 q146 q147 q20 q148) rfl (by decide +kernel) ⟨Nat.le_of_ble_eq_true rfl, Nat.le_of_ble_eq_true rfl⟩ rfl rfl rfl (Nat.le_of_ble_eq_true rfl) ⟨Nat.le_of_ble_eq_true rfl, Nat.le_of_ble_eq_true rfl⟩ dL_law_239 (fun r1 u1 h1 => ?_)
        refine zw_aload_n (i := 2) C dL_law_242 rfl rfl ?_
        refine zw_swap ?_
        refine zw_callLi (q0 := 0) (n := 0) C (fun l D => zym_all hDy.2.2.1 hD.1 l D) (lw_V q267 q268 q269 q21 q270) rfl (by decide +kernel) ⟨Nat.le_of_ble_eq_true rfl, Nat.le_of_ble_eq_true rfl⟩ rfl rfl rfl (Nat.le_of_ble_eq_true rfl) ⟨Nat.le_of_ble_eq_true rfl, Nat.le_of_ble_eq_true rfl⟩ dL_law_243 (fun r2 v1 h2 => ?_)
        refine zw_swap ?_
        refine zw_icmp_eq (tgt := 323) C dL_law_246 (by decide) (fun c246 => ?_) (fun c246 => ?_)
        · exact next u1 v1 (zl_all h h1 h2).2
        · exact absurd (zl_all h h1 h2).1 c246
      · refine zw_tin (off := 219) (tgt := 251) C dL_law_32 (by decide) (by decide) (by decide +kernel) (by decide) ?_
        refine zw_aload_n (i := 1) C dL_law_251 rfl rfl ?_
        refine zw_aload_n (i := 0) C dL_law_252 rfl rfl ?_
        refine zw_iload_n (i := 3) C dL_law_253 rfl rfl ?_
        refine zw_iconst (v := 1) C dL_law_254 (by decide) ?_
        refine zw_iadd C dL_law_255 ?_
        refine zw_sld C S hL dL_law_256 (nI_1 i) (by omega) ?_
        refine zw_callLi (q0 := 0) (n := 1) C (fun l D => zxm_shareWith (xs (i + 1)) hD hR l D) (lw_V q149 q150 q151 q20 q152) rfl (by decide +kernel) ⟨Nat.le_of_ble_eq_true rfl, Nat.le_of_ble_eq_true rfl⟩ rfl rfl rfl (Nat.le_of_ble_eq_true rfl) ⟨Nat.le_of_ble_eq_true rfl, Nat.le_of_ble_eq_true rfl⟩ dL_law_257 (fun r1 u1 h1 => ?_)
        refine zw_aload_n (i := 2) C dL_law_260 rfl rfl ?_
        refine zw_aload_n (i := 0) C dL_law_261 rfl rfl ?_
        refine zw_iload_n (i := 3) C dL_law_262 rfl rfl ?_
        refine zw_iconst (v := 1) C dL_law_263 (by decide) ?_
        refine zw_iadd C dL_law_264 ?_
        refine zw_sld C S hL dL_law_265 (nI_1 i) (by omega) ?_
        refine zw_swap ?_
        refine zw_callLi (q0 := 0) (n := 1) C (fun l D => zym_shareWith (xs (i + 1)) hDy hRy l D) (lw_V q271 q272 q273 q21 q274) rfl (by decide +kernel) ⟨Nat.le_of_ble_eq_true rfl, Nat.le_of_ble_eq_true rfl⟩ rfl rfl rfl (Nat.le_of_ble_eq_true rfl) ⟨Nat.le_of_ble_eq_true rfl, Nat.le_of_ble_eq_true rfl⟩ dL_law_266 (fun r2 v1 h2 => ?_)
        refine zw_swap ?_
        refine zw_icmp_eq (tgt := 323) C dL_law_269 (by decide) (fun c269 => ?_) (fun c269 => ?_)
        · exact next u1 v1 (zl_shareWith h h1 h2).2
        · exact absurd (zl_shareWith h h1 h2).1 c269
      · refine zw_tin (off := 242) (tgt := 274) C dL_law_32 (by decide) (by decide) (by decide +kernel) (by decide) ?_
        refine zw_aload_n (i := 1) C dL_law_274 rfl rfl ?_
        refine zw_aload_n (i := 0) C dL_law_275 rfl rfl ?_
        refine zw_iload_n (i := 3) C dL_law_276 rfl rfl ?_
        refine zw_iconst (v := 1) C dL_law_277 (by decide) ?_
        refine zw_iadd C dL_law_278 ?_
        refine zw_sld C S hL dL_law_279 (nI_1 i) (by omega) ?_
        refine zw_callLi (q0 := 0) (n := 1) C (fun l D => zxm_matters (xs (i + 1)) hD hR l D) (lw_V q153 q154 q155 q20 q156) rfl (by decide +kernel) ⟨Nat.le_of_ble_eq_true rfl, Nat.le_of_ble_eq_true rfl⟩ rfl rfl rfl (Nat.le_of_ble_eq_true rfl) ⟨Nat.le_of_ble_eq_true rfl, Nat.le_of_ble_eq_true rfl⟩ dL_law_280 (fun r1 u1 h1 => ?_)
        refine zw_aload_n (i := 2) C dL_law_283 rfl rfl ?_
        refine zw_aload_n (i := 0) C dL_law_284 rfl rfl ?_
        refine zw_iload_n (i := 3) C dL_law_285 rfl rfl ?_
        refine zw_iconst (v := 1) C dL_law_286 (by decide) ?_
        refine zw_iadd C dL_law_287 ?_
        refine zw_sld C S hL dL_law_288 (nI_1 i) (by omega) ?_
        refine zw_swap ?_
        refine zw_callLi (q0 := 0) (n := 1) C (fun l D => zym_matters (xs (i + 1)) hDy hRy l D) (lw_V q275 q276 q277 q21 q278) rfl (by decide +kernel) ⟨Nat.le_of_ble_eq_true rfl, Nat.le_of_ble_eq_true rfl⟩ rfl rfl rfl (Nat.le_of_ble_eq_true rfl) ⟨Nat.le_of_ble_eq_true rfl, Nat.le_of_ble_eq_true rfl⟩ dL_law_289 (fun r2 v1 h2 => ?_)
        refine zw_swap ?_
        refine zw_icmp_eq (tgt := 323) C dL_law_292 (by decide) (fun c292 => ?_) (fun c292 => ?_)
        · exact next u1 v1 (zl_matters h h1 h2).2
        · exact absurd (zl_matters h h1 h2).1 c292
      · refine zw_tin (off := 265) (tgt := 297) C dL_law_32 (by decide) (by decide) (by decide +kernel) (by decide) ?_
        refine zw_aload_n (i := 1) C dL_law_297 rfl rfl ?_
        refine zw_callLi (q0 := 0) (n := 0) C (fun l D => zxm_fewest hD hR l D) (lw_V q157 q158 q159 q20 q160) rfl (by decide +kernel) ⟨Nat.le_of_ble_eq_true rfl, Nat.le_of_ble_eq_true rfl⟩ rfl rfl rfl (Nat.le_of_ble_eq_true rfl) ⟨Nat.le_of_ble_eq_true rfl, Nat.le_of_ble_eq_true rfl⟩ dL_law_298 (fun r1 u1 h1 => ?_)
        refine zw_aload_n (i := 2) C dL_law_301 rfl rfl ?_
        refine zw_swap ?_
        refine zw_callLi (q0 := 0) (n := 0) C (fun l D => zym_fewest hDy hRy l D) (lw_V q279 q280 q281 q21 q282) rfl (by decide +kernel) ⟨Nat.le_of_ble_eq_true rfl, Nat.le_of_ble_eq_true rfl⟩ rfl rfl rfl (Nat.le_of_ble_eq_true rfl) ⟨Nat.le_of_ble_eq_true rfl, Nat.le_of_ble_eq_true rfl⟩ dL_law_302 (fun r2 v1 h2 => ?_)
        refine zw_swap ?_
        refine zw_icmp_eq (tgt := 323) C dL_law_305 (by decide) (fun c305 => ?_) (fun c305 => ?_)
        · exact next u1 v1 (zl_fewest h h1 h2).2
        · exact absurd (zl_fewest h h1 h2).1 c305
      · refine zw_tin (off := 278) (tgt := 310) C dL_law_32 (by decide) (by decide) (by decide +kernel) (by decide) ?_
        refine zw_aload_n (i := 1) C dL_law_310 rfl rfl ?_
        refine zw_callLi (q0 := 0) (n := 0) C (fun l D => zxm_reasons hD hR l D) (lw_V q164 q165 q166 q20 q167) rfl (by decide +kernel) ⟨Nat.le_of_ble_eq_true rfl, Nat.le_of_ble_eq_true rfl⟩ rfl rfl rfl (Nat.le_of_ble_eq_true rfl) ⟨Nat.le_of_ble_eq_true rfl, Nat.le_of_ble_eq_true rfl⟩ dL_law_311 (fun r1 u1 h1 => ?_)
        refine zw_aload_n (i := 2) C dL_law_314 rfl rfl ?_
        refine zw_swap ?_
        refine zw_callLi (q0 := 0) (n := 0) C (fun l D => zym_reasons hDy hRy l D) (lw_V q287 q288 q289 q21 q290) rfl (by decide +kernel) ⟨Nat.le_of_ble_eq_true rfl, Nat.le_of_ble_eq_true rfl⟩ rfl rfl rfl (Nat.le_of_ble_eq_true rfl) ⟨Nat.le_of_ble_eq_true rfl, Nat.le_of_ble_eq_true rfl⟩ dL_law_315 (fun r2 v1 h2 => ?_)
        refine zw_swap ?_
        refine zw_icmp_eq (tgt := 323) C dL_law_318 (by decide) (fun c318 => ?_) (fun c318 => ?_)
        · exact next u1 v1 (zl_reasons h h1 h2).2
        · exact absurd (zl_reasons h h1 h2).1 c318
      · refine zw_tout (tgt := 323) C dL_law_32 (Or.inr ?_) (by decide) ?_
        · rw [nI_toInt (by omega)]
          omega
        · exact next u v ⟨n, k, h⟩
end
section
/-! THE LAW FROM ITS ENTRY -/
set_option maxRecDepth 100000
theorem zl_arr {args : Array Value} {s : State} {ty : FieldType} (hb : ∀ C, ty ≠ .object C) (h : (Cond.arrayClass ty).before args s = true) : ∃ cA : ClassId, ArrOfT s cA ty ∧ va_RA s cA ty := by
  obtain ⟨cA, kA, comp, h1, h2, h3⟩ := Cond.arrayClass_spec h
  refine ⟨cA, fun n z => ⟨fun k h => (by cases h), kA, h2, comp, h3⟩, ?_⟩
  cases ty with
  | object C => exact absurd rfl (hb C)
  | _ => exact h1
set_option maxHeartbeats 4000000 in
/-- from the entry, for every script of at most 256 ints, the law comes to its end with true -/
theorem whole_start {p : Program} {e : Env} {s : State} {m : MethodId} {below : List Frame} {meth : Method} {c : Code} (l : Launch) {b L : Nat} {xs : Nat → Int32} (hL : L ≤ 256) (C0 : lw_At p s m meth c b L xs) : W p l e room_1 s m #[Value.ref b] below meth c s.heap [] 0 0 (lw_Z below #[Value.ref b] s) (entryFrame m ([Value.ref b] : List Value).toArray 4) := by
  obtain ⟨hx, hb, hr, hml, hown, hts0, hX, hbl, hlk, -⟩ := C0
  have hts : ∀ w ∈ lw_all, w.before #[Value.ref b] s = true := fun w h => hts0 w (lw_all_tbl h)
  obtain ⟨c0_, iS0, hKn0⟩ := u_known (C := RX0) (T := TX0) (N := 16) (n := 16) hts in_X0 (hts _ q23)
  obtain ⟨c1_, iS1, hKn1⟩ := u_known (C := RX1) (T := TX1) (N := 12) (n := 12) hts in_X1 (hts _ q169)
  obtain ⟨cI, hI1, hI2⟩ := zl_arr (fun C => by intro q; cases q) (hts _ q79)
  obtain ⟨cZ, hZ1, hZ2⟩ := zl_arr (fun C => by intro q; cases q) (hts _ q80)
  have hK : va_K ((fun k => if k = 0 then c0_ else c1_), (fun k => if k = 0 then iS0 else iS1)) zw_cl (zw_ty cI cZ) s := by
    refine ⟨fun k q hq => ?_, fun k q hq => ?_⟩
    · match k, hq with
      | 0, hq => cases hq; exact hKn0
      | 1, hq => cases hq; exact hKn1
      | k + 2, hq => simp [zw_cl] at hq
    · match k, hq with
      | 0, hq => cases hq; exact ⟨hI1, hI2⟩
      | 1, hq => cases hq; exact ⟨hZ1, hZ2⟩
      | k + 2, hq => simp [zw_ty] at hq
  rw [lg_entry_eq]
  have hmain : ∀ (X : zw_X), X = (p, l, e, room_1, s, m, #[Value.ref b], below, meth, c, (fun q => s.heap.size ≤ q), ((fun k => if k = 0 then c0_ else c1_), (fun k => if k = 0 then iS0 else iS1))) → zw_G X 4 (lw_Z below #[Value.ref b] s) 0 0 [] 0 [some (.ref b), none, none, none] [] := by
    intro X hXe
    have C : zw_Ok X room_1 cL_law 4 R_law cI cZ ret := by
      rw [hXe]
      exact ⟨rfl, hx, hb, hml, hown, hts, fun q h => h, hK, hr, hlk⟩
    have S : zw_SX X b L xs := by
      rw [hXe]
      exact ⟨hX, hbl, Nat.not_le.mpr hbl⟩
    refine zw_newc (ci := 0) (N := 16) (ty0 := tyX0) (fs := [.int 0, .null, .null, .null, .null, .int 0, .null, .null, .null, .null, .null, .null, .int 0, .null, .null, .null]) C in_X0 tyX0_ok rfl q22 q23 q20 ?_ (Nat.le_of_ble_eq_true rfl) (Nat.le_of_ble_eq_true rfl) dL_law_0 (fun qx => ?_)
    · intro j hj
      have h : j = 0 ∨ j = 1 ∨ j = 2 ∨ j = 3 ∨ j = 4 ∨ j = 5 ∨ j = 6 ∨ j = 7 ∨ j = 8 ∨ j = 9 ∨ j = 10 ∨ j = 11 ∨ j = 12 ∨ j = 13 ∨ j = 14 ∨ j = 15 := by omega
      rcases h with rfl | rfl | rfl | rfl | rfl | rfl | rfl | rfl | rfl | rfl | rfl | rfl | rfl | rfl | rfl | rfl <;> rfl
    refine zw_dup C dL_law_3 rfl ?_
    refine zw_callI (wc := zx_z qx) (w2 := []) C (fun l D => zxm_init l D) q26 q20 q24 q25 rfl (by decide +kernel) ⟨Nat.le_of_ble_eq_true rfl, Nat.le_of_ble_eq_true rfl⟩ (Nat.le_of_ble_eq_true rfl) ⟨Nat.le_of_ble_eq_true rfl, Nat.le_of_ble_eq_true rfl⟩ dL_law_4 (fun ax => ?_)
    refine zw_astore_n (i := 1) C dL_law_7 rfl (by decide) ?_
    refine zw_newc (ci := 1) (N := 12) (ty0 := tyX1) (fs := [.null, .null, .null, .null, .int 0, .null, .null, .null, .int 0, .null, .null, .int 0]) C in_X1 tyX1_ok rfl q168 q169 q21 ?_ (Nat.le_of_ble_eq_true rfl) (Nat.le_of_ble_eq_true rfl) dL_law_8 (fun qy => ?_)
    · intro j hj
      have h : j = 0 ∨ j = 1 ∨ j = 2 ∨ j = 3 ∨ j = 4 ∨ j = 5 ∨ j = 6 ∨ j = 7 ∨ j = 8 ∨ j = 9 ∨ j = 10 ∨ j = 11 := by omega
      rcases h with rfl | rfl | rfl | rfl | rfl | rfl | rfl | rfl | rfl | rfl | rfl | rfl <;> rfl
    refine zw_dup C dL_law_11 rfl ?_
    refine zw_swap ?_
    refine zw_callI (wc := zy_z qy) C (fun l D => zym_init l D) q172 q21 q170 q171 rfl (by decide +kernel) ⟨Nat.le_of_ble_eq_true rfl, Nat.le_of_ble_eq_true rfl⟩ (Nat.le_of_ble_eq_true rfl) ⟨Nat.le_of_ble_eq_true rfl, Nat.le_of_ble_eq_true rfl⟩ dL_law_12 (fun ay => ?_)
    refine zw_swap ?_
    rw [List.append_nil]
    refine zw_astore_n (i := 2) C dL_law_15 rfl (by decide) ?_
    refine zw_iconst (v := 0) C dL_law_16 (by decide) ?_
    refine zw_istore_n (i := 3) C dL_law_17 rfl (by decide) ?_
    refine zw_loc 3 rfl (show (0 : Int32) = nI 0 from zw_0) ?_
    refine zl_loop C S hL (fun u v => ?_) L 0 _ _ 0 0 (by omega) (by omega) zl_start
    refine zw_iconst (v := 1) C dL_law_329 (by decide) ?_
    subst hXe
    intro H locs ls hP hD hS hl
    refine va_forget hS.2.2 ?_
    refine W.widen (k := 600000) (n := 7290000) (by decide) (by decide) ?_
    exact lw_ret hx hb hr hlk dL_law_330
  exact hmain _ rfl s.heap [] _ (fun k q hk => by simp at hk) ⟨fun i j p q hi => by simp at hi, fun k q hk => by simp at hk⟩ va_S.rf (zw_entry [.ref b] 4 (by simp [Value.category]) (Nat.le_of_ble_eq_true rfl))
-- ===== YOUR PART ENDS =====
set_option maxHeartbeats 4000000 in
theorem lw_walk (l : Launch) (b : Addr) (xs : List Int32) : MetFree l x (headSpec (Jvm.Cond.code x code maxLocals ret :: tables_1) room_1) (lw_P b xs) (fun _ _ _ _ _ => True) lw_Q := by
  refine MetFree.of_bodyS (code := code) (maxLocals := maxLocals) (ret := ret) (by decide) ?_ ?_
  · intro args s m h hn
    obtain ⟨meth, c, h1, h2, h3, h4, h5, h6, -, -⟩ := Cond.code_spec hn (atoms_spec (ws := Jvm.Cond.code x code maxLocals ret :: tables_1) h _ List.mem_cons_self)
    exact ⟨meth, c, h1, h2, h3, h4, h5, h6⟩
  · intro p e s m args below meth c s₁ B hml0 hP _
    obtain ⟨rfl, hx, hbd, hgv⟩ := hP
    obtain ⟨scr, harrAt, hlist, hof, hsmall⟩ := hx
    obtain ⟨hcb, hkn, -, -⟩ := State.arrayAt?_spec harrAt
    have hown : s.vm.findClass R_law = some m.cls := findClass_of_methodNamed B.named
    have hts0 : ∀ c ∈ (Jvm.Cond.code x code maxLocals ret :: tables_1), c.before #[Value.ref b] s = true := atoms_spec (ws := Jvm.Cond.code x code maxLocals ret :: tables_1) B.pre
    have hts : ∀ w ∈ lw_tbl, w.before #[Value.ref b] s = true := k2_hts_sels lw_privs (fun w hw => hts0 w (List.mem_cons_of_mem _ hw)) lw_privs_ok
    have hml : c.maxLocals = 4 := B.maxLocals_eq (hts0 _ List.mem_cons_self)
    have X₀ : Stand p l e room_1 s m #[Value.ref b] below meth c s₁ [] 0 0 := Stand.of_body B
    have hh0 : s₁.heap = s.heap := by rw [B.state]; rfl
    have hsz : scr.slots.size = xs.length := by rw [← Array.length_toList, hlist, List.length_map]
    have hval : ∀ j : Nat, j < xs.length → scr.slots[j]? = some (.int (xs.getD j 0)) := fun j hj => by
      rw [← Array.getElem?_toList, hlist]
      simp [hj]
    have hbl : b < s.heap.size := (Array.getElem?_eq_some_iff.mp hcb).1
    have hX : va_X b xs.length (fun j => xs.getD j 0) s s.heap := ⟨scr, hcb, hof, hkn, hsz, hval⟩
    have K : W p l e room_1 s m #[Value.ref b] below meth c s₁.heap [] 0 0 (lw_Z below #[Value.ref b] s) (entryFrame m ([Value.ref b] : List Value).toArray 4) := by
      rw [hh0]
      exact whole_start l hbd ⟨B.exec, B.bytes, B.returns, hml, hown, hts, hX, hbl, B.notSynchronized, hgv⟩
    obtain ⟨t, a1, o, b1, b2, b3⟩ := K s₁ rfl X₀
    exact ⟨t, o, a1, b1, b2, b3⟩
theorem lw_pre_spec {args : Array Value} {s : State} (h : (Jvm.Cond.and given_1 narrow_1).before args s = true) (hr : rest_1_c.before args s = true) : ∃ (b : Addr) (xs : List Int32), lw_P b xs args s := by
  have hs := flat_of_before _ h
  have hq := flat_of_before _ hr
  have hc : (Cond.count 1).before args s = true := hs _ (by decide +kernel)
  have harr : (Cond.arrayOf (.arg 0) .int).before args s = true := hs _ (by decide +kernel)
  have hle : (Cond.le (.length (.arg 0)) (.int 256)).before args s = true := hs _ (by decide +kernel)
  have hlen : (Cond.isInt (.length (.arg 0))).before args s = true := hq _ (by decide +kernel)
  have hall : (Cond.all (.arg 0) (.isInt (.elem (.arg 0) (.index 0)))).before args s = true := hq _ (by decide +kernel)
  obtain ⟨b, xs, hb, hx⟩ := State.ints_of_pre rfl harr hlen hall
  have hsm : xs.length < 2 ^ 31 := hx.choose_spec.2.2.2
  have hev : (Term.length (.arg 0)).eval args s none [] s = some (.int xs.length.toInt32) := hx.length_eval hb
  have hv := Cond.le_ints hev (show (Term.int 256).eval args s none [] s = some (.int 256) from rfl)
  have hd : xs.length.toInt32 ≤ 256 := by
    simpa [Cond.before, Cond.holds, hv] using hle
  have hN : xs.length ≤ 256 := (Int32.ofNat_le_ofNat hsm (by decide)).mp (show Int32.ofNat xs.length ≤ Int32.ofNat 256 from hd)
  exact ⟨b, xs, Cond.one_arg hc (show args[0]? = some (.ref b) from hb), hx, hN, h⟩
theorem lw_comes (l : Launch) : Comes l x (Jvm.Cond.code x code maxLocals ret :: tables_1) room_1 (fun tb e args s => Calls_1 tb e args s ∧ rest_1 tb e args s ∧ Pre_1 tb e args s)
    (fun _ _ args s o t => lw_Q args s o t) := by
  intro p e ha hc hk s m args below hf hfit hheap happ hpre
  obtain ⟨b, xs, hP⟩ := lw_pre_spec hpre.2.2 hpre.2.1
  obtain ⟨k, o, h1, h2, h3, hQ⟩ := lw_walk l b xs p e ha hc hk s m args below hf ((Spec.applies_iff_loose hf).mp happ).1 hP trivial
  exact ⟨k, o, h1, h2, h3, hQ⟩
theorem lw_frame {s t : State} {o : Outcome} {args : Array Value} (h : Framed s o t [] 600000 7290000) :
    Framed s o t (fieldLocs frame_1_writes args s ++ arrayLocs frame_1_arrays args s ++ staticLocs frame_1_statics s) 600000 7290000 := h
theorem lw_limb (L : Cond) (hL : ∀ (args : Array Value) (s t : State), L.after args s (.returned (some (.int 1))) t = true) :
    ArmFor flags0 classFile x code maxLocals ret World_1 tables_1 room_1 Calls_1 rest_1 Pre_1
      (fun tb e a s o t => postC L tb e a s o t ∧ Framed s o t (fieldLocs frame_1_writes a s ++ arrayLocs frame_1_arrays a s ++ staticLocs frame_1_statics s) 600000 7290000) := by
  intro l _ _ _ p e ha hc hk s m args below hf hfit hheap happ hpre
  obtain ⟨k, o, h1, h2, h3, rfl, hF⟩ := lw_comes l p e ha hc hk s m args below hf hfit hheap happ hpre
  exact ⟨k, _, h1, h2, h3, hL args s _, lw_frame hF⟩
theorem i_vc : Claimed_1_1 ∧ Claimed_1_2 := ⟨lw_limb limb_1_1 (fun args s t => by simp [limb_1_1, Cond.after, Cond.holds, Cond.value]), lw_limb limb_1_2 (fun args s t => Cond.after_iff.mpr (by
  first | (rw [show limb_1_2 = Cond.eq .result (.int 1) from rfl, Cond.eq_ints (x := 1) (y := 1) rfl rfl]; simp; done) | (simp [limb_1_2, Cond.value, Term.eval]; done)))⟩
end
