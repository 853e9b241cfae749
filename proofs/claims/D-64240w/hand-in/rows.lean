section
-- ===== PART A: goes FIRST, ahead of the names: the tables' words, and 'selects' of the private methods out of them =====
/-- a private method of a class that the tables say can be made, by its rows of tables_1 -/
def lw_okq (q : MethodName × Nat) : Prop := (q.1.cls ≠ "java/lang/invoke/MethodHandle" ∧ q.1.cls ≠ "java/lang/invoke/VarHandle") ∧ Cond.instantiable q.1.cls q.2 ∈ tables_1 ∧ Cond.privateMethod q.1 ∈ tables_1 ∧ Cond.instanceMethod q.1 ∈ tables_1
set_option maxRecDepth 100000
theorem lw_t1 {w : Cond} (h : w ∈ tables_1_1) : w ∈ tables_1 := List.mem_append_left _ h
theorem lw_t2 {w : Cond} (h : w ∈ tables_1_2) : w ∈ tables_1 := List.mem_append_right _ h
theorem lw_p0 : lw_okq (⟨"TreePaths", "append", "(II)V"⟩, 8) := ⟨⟨by decide +kernel, by decide +kernel⟩, lw_t1 (List.mem_of_getElem? (i := 4) rfl), lw_t1 (List.mem_of_getElem? (i := 43) rfl), lw_t1 (List.mem_of_getElem? (i := 44) rfl)⟩
theorem lw_p1 : lw_okq (⟨"TreePaths", "forget", "()V"⟩, 8) := ⟨⟨by decide +kernel, by decide +kernel⟩, lw_t1 (List.mem_of_getElem? (i := 4) rfl), lw_t1 (List.mem_of_getElem? (i := 47) rfl), lw_t1 (List.mem_of_getElem? (i := 48) rfl)⟩
theorem lw_p2 : lw_okq (⟨"TreePaths", "passing", "(I)J"⟩, 8) := ⟨⟨by decide +kernel, by decide +kernel⟩, lw_t1 (List.mem_of_getElem? (i := 4) rfl), lw_t1 (List.mem_of_getElem? (i := 71) rfl), lw_t1 (List.mem_of_getElem? (i := 72) rfl)⟩
theorem lw_p3 : lw_okq (⟨"TreePaths", "allAlong", "(I)J"⟩, 8) := ⟨⟨by decide +kernel, by decide +kernel⟩, lw_t1 (List.mem_of_getElem? (i := 4) rfl), lw_t1 (List.mem_of_getElem? (i := 75) rfl), lw_t1 (List.mem_of_getElem? (i := 76) rfl)⟩
theorem lw_p4 : lw_okq (⟨"TreePaths", "allBelow", "(Z)J"⟩, 8) := ⟨⟨by decide +kernel, by decide +kernel⟩, lw_t1 (List.mem_of_getElem? (i := 4) rfl), lw_t1 (List.mem_of_getElem? (i := 79) rfl), lw_t1 (List.mem_of_getElem? (i := 80) rfl)⟩
theorem lw_p5 : lw_okq (⟨"TreePaths", "allAbove", "(Z)J"⟩, 8) := ⟨⟨by decide +kernel, by decide +kernel⟩, lw_t1 (List.mem_of_getElem? (i := 4) rfl), lw_t1 (List.mem_of_getElem? (i := 87) rfl), lw_t1 (List.mem_of_getElem? (i := 88) rfl)⟩
theorem lw_p6 : lw_okq (⟨"TreePaths", "leastEnd", "()I"⟩, 8) := ⟨⟨by decide +kernel, by decide +kernel⟩, lw_t1 (List.mem_of_getElem? (i := 4) rfl), lw_t1 (List.mem_of_getElem? (i := 91) rfl), lw_t1 (List.mem_of_getElem? (i := 92) rfl)⟩
theorem lw_p7 : lw_okq (⟨"TreePaths", "aside", "(II)J"⟩, 8) := ⟨⟨by decide +kernel, by decide +kernel⟩, lw_t1 (List.mem_of_getElem? (i := 4) rfl), lw_t1 (List.mem_of_getElem? (i := 101) rfl), lw_t1 (List.mem_of_getElem? (i := 102) rfl)⟩
theorem lw_p8 : lw_okq (⟨"TreePaths", "above", "(I)J"⟩, 8) := ⟨⟨by decide +kernel, by decide +kernel⟩, lw_t1 (List.mem_of_getElem? (i := 4) rfl), lw_t1 (List.mem_of_getElem? (i := 105) rfl), lw_t1 (List.mem_of_getElem? (i := 106) rfl)⟩
theorem lw_p9 : lw_okq (⟨"TreePaths", "row", "(II)J"⟩, 8) := ⟨⟨by decide +kernel, by decide +kernel⟩, lw_t1 (List.mem_of_getElem? (i := 4) rfl), lw_t1 (List.mem_of_getElem? (i := 109) rfl), lw_t1 (List.mem_of_getElem? (i := 110) rfl)⟩
theorem lw_p10 : lw_okq (⟨"TreePaths", "along", "(II)J"⟩, 8) := ⟨⟨by decide +kernel, by decide +kernel⟩, lw_t1 (List.mem_of_getElem? (i := 4) rfl), lw_t1 (List.mem_of_getElem? (i := 113) rfl), lw_t1 (List.mem_of_getElem? (i := 114) rfl)⟩
theorem lw_p11 : lw_okq (⟨"TreePaths", "placesAlong", "(IJI)J"⟩, 8) := ⟨⟨by decide +kernel, by decide +kernel⟩, lw_t1 (List.mem_of_getElem? (i := 4) rfl), lw_t1 (List.mem_of_getElem? (i := 117) rfl), lw_t1 (List.mem_of_getElem? (i := 118) rfl)⟩
theorem lw_p12 : lw_okq (⟨"TreePathsModel", "add", "(ZI)I"⟩, 7) := ⟨⟨by decide +kernel, by decide +kernel⟩, lw_t1 (List.mem_of_getElem? (i := 145) rfl), lw_t1 (List.mem_of_getElem? (i := 178) rfl), lw_t1 (List.mem_of_getElem? (i := 179) rfl)⟩
theorem lw_p13 : lw_okq (⟨"TreePathsModel", "reset", "()V"⟩, 7) := ⟨⟨by decide +kernel, by decide +kernel⟩, lw_t1 (List.mem_of_getElem? (i := 145) rfl), lw_t1 (List.mem_of_getElem? (i := 182) rfl), lw_t1 (List.mem_of_getElem? (i := 183) rfl)⟩
theorem lw_p14 : lw_okq (⟨"TreePathsModel", "above", "(II)Z"⟩, 7) := ⟨⟨by decide +kernel, by decide +kernel⟩, lw_t1 (List.mem_of_getElem? (i := 145) rfl), lw_t1 (List.mem_of_getElem? (i := 198) rfl), lw_t1 (List.mem_of_getElem? (i := 199) rfl)⟩
theorem lw_p15 : lw_okq (⟨"TreePathsModel", "found", "(IIII)J"⟩, 7) := ⟨⟨by decide +kernel, by decide +kernel⟩, lw_t1 (List.mem_of_getElem? (i := 145) rfl), lw_t1 (List.mem_of_getElem? (i := 213) rfl), lw_t1 (List.mem_of_getElem? (i := 214) rfl)⟩
def lw_privs_1 : List (MethodName × Nat) := [(⟨"TreePaths", "append", "(II)V"⟩, 8), (⟨"TreePaths", "forget", "()V"⟩, 8), (⟨"TreePaths", "passing", "(I)J"⟩, 8), (⟨"TreePaths", "allAlong", "(I)J"⟩, 8), (⟨"TreePaths", "allBelow", "(Z)J"⟩, 8), (⟨"TreePaths", "allAbove", "(Z)J"⟩, 8), (⟨"TreePaths", "leastEnd", "()I"⟩, 8), (⟨"TreePaths", "aside", "(II)J"⟩, 8), (⟨"TreePaths", "above", "(I)J"⟩, 8), (⟨"TreePaths", "row", "(II)J"⟩, 8), (⟨"TreePaths", "along", "(II)J"⟩, 8), (⟨"TreePaths", "placesAlong", "(IJI)J"⟩, 8), (⟨"TreePathsModel", "add", "(ZI)I"⟩, 7), (⟨"TreePathsModel", "reset", "()V"⟩, 7), (⟨"TreePathsModel", "above", "(II)Z"⟩, 7), (⟨"TreePathsModel", "found", "(IIII)J"⟩, 7)]
theorem lw_r1 : ∀ q ∈ lw_privs_1, lw_okq q := List.forall_mem_cons.mpr ⟨lw_p0, List.forall_mem_cons.mpr ⟨lw_p1, List.forall_mem_cons.mpr ⟨lw_p2, List.forall_mem_cons.mpr ⟨lw_p3, List.forall_mem_cons.mpr ⟨lw_p4, List.forall_mem_cons.mpr ⟨lw_p5, List.forall_mem_cons.mpr ⟨lw_p6, List.forall_mem_cons.mpr ⟨lw_p7, List.forall_mem_cons.mpr ⟨lw_p8, List.forall_mem_cons.mpr ⟨lw_p9, List.forall_mem_cons.mpr ⟨lw_p10, List.forall_mem_cons.mpr ⟨lw_p11, List.forall_mem_cons.mpr ⟨lw_p12, List.forall_mem_cons.mpr ⟨lw_p13, List.forall_mem_cons.mpr ⟨lw_p14, List.forall_mem_cons.mpr ⟨lw_p15, fun _ h => absurd h List.not_mem_nil⟩⟩⟩⟩⟩⟩⟩⟩⟩⟩⟩⟩⟩⟩⟩⟩
theorem lw_p16 : lw_okq (⟨"TreePathsModel", "leads", "(III)Z"⟩, 7) := ⟨⟨by decide +kernel, by decide +kernel⟩, lw_t1 (List.mem_of_getElem? (i := 145) rfl), lw_t1 (List.mem_of_getElem? (i := 217) rfl), lw_t1 (List.mem_of_getElem? (i := 218) rfl)⟩
theorem lw_p17 : lw_okq (⟨"TreePathsModel", "passes", "(II)Z"⟩, 7) := ⟨⟨by decide +kernel, by decide +kernel⟩, lw_t1 (List.mem_of_getElem? (i := 145) rfl), lw_t1 (List.mem_of_getElem? (i := 221) rfl), lw_t1 (List.mem_of_getElem? (i := 222) rfl)⟩
theorem lw_p18 : lw_okq (⟨"TreePathsModel", "size", "()I"⟩, 7) := ⟨⟨by decide +kernel, by decide +kernel⟩, lw_t1 (List.mem_of_getElem? (i := 145) rfl), lw_t1 (List.mem_of_getElem? (i := 228) rfl), lw_t1 (List.mem_of_getElem? (i := 229) rfl)⟩
def lw_privs_2 : List (MethodName × Nat) := [(⟨"TreePathsModel", "leads", "(III)Z"⟩, 7), (⟨"TreePathsModel", "passes", "(II)Z"⟩, 7), (⟨"TreePathsModel", "size", "()I"⟩, 7)]
theorem lw_r2 : ∀ q ∈ lw_privs_2, lw_okq q := List.forall_mem_cons.mpr ⟨lw_p16, List.forall_mem_cons.mpr ⟨lw_p17, List.forall_mem_cons.mpr ⟨lw_p18, fun _ h => absurd h List.not_mem_nil⟩⟩⟩
def lw_privs : List (MethodName × Nat) := lw_privs_1 ++ (lw_privs_2)
def lw_tbl : List Cond := k2_sels lw_privs ++ tables_1
theorem lw_privs_ok : ∀ q ∈ lw_privs, lw_okq q := by
  show ∀ q ∈ lw_privs_1 ++ (lw_privs_2), lw_okq q
  exact List.forall_mem_append.mpr ⟨lw_r1, lw_r2⟩
-- ===== ONE list of words for every method: the tables' words that hold all through a run =====
def lw_all : List Cond := lw_tbl.filter goodWord
/-- a word of the tables by its place: claim/WORDS.tsv -/
theorem lw_w {w : Cond} (i : Nat) (h : lw_tbl[i]? = some w) (g : goodWord w = true) : w ∈ lw_all := List.mem_filter.mpr ⟨List.mem_of_getElem? h, g⟩
theorem lw_all_tbl {w : Cond} (h : w ∈ lw_all) : w ∈ lw_tbl := (List.mem_filter.mp h).1
theorem lw_self : GoodIn lw_all lw_all := fun w h => ⟨h, good_of_word (List.mem_filter.mp h).2⟩
/-- a class's field words, by their places -/
theorem lw_in (ws : List Cond) (ps : List Nat) (hp : ws = ps.filterMap (fun i => lw_tbl[i]?)) (hg : ws.all goodWord = true) : ∀ w ∈ ws, w ∈ lw_all := by
  intro w h
  have h1 := List.all_eq_true.mp hg w h
  rw [hp] at h
  obtain ⟨i, -, hi⟩ := List.mem_filterMap.mp h
  exact lw_w i hi h1
/-- the words of a contract for the method y with code b, L locals, answer r -/
abbrev ws_ (y : MethodName) (b : ByteArray) (L : Nat) (r : Option FieldType) : List Cond := Cond.code y b L r :: lw_all
theorem lw_meth {y : MethodName} {b : ByteArray} {L : Nat} {r : Option FieldType} (h : Cond.code y b L r ∈ lw_all) : GoodIn lw_all (ws_ y b L r) := by
  intro w hw
  rcases List.mem_cons.mp hw with e | e
  · rw [e]
    exact lw_self _ h
  · exact lw_self _ e
theorem lw_app {a c : List Cond} (ha : ∀ w ∈ a, w ∈ lw_all) (hc : GoodIn lw_all c) : GoodIn lw_all (a ++ c) := by
  intro w hw
  rcases List.mem_append.mp hw with e | e
  · exact lw_self w (ha w e)
  · exact hc w e
/-- what a call through an object asks: cwV n hts (lw_V ..) -/
theorem lw_V {own : String} {idx : Nat} {C : String} {y : MethodName} {b : ByteArray} {L : Nat} {r : Option FieldType} (h1 : Cond.methodLink own idx y ∈ lw_all) (h2 : Cond.instanceMethod y ∈ lw_all) (h3 : Cond.selects C y y ∈ lw_all) (h4 : Cond.initialized C ∈ lw_all) (h5 : Cond.code y b L r ∈ lw_all) : GoodIn lw_all (wsV own idx C y (ws_ y b L r)) := by
  refine lw_app ?_ (lw_meth h5)
  intro w hw
  simp only [List.mem_cons, List.not_mem_nil, or_false] at hw
  rcases hw with e | e | e | e
  · rw [e]; exact h1
  · rw [e]; exact h2
  · rw [e]; exact h3
  · rw [e]; exact h4
/-- what a static call asks: va_cwS n hts (lw_S ..) -/
theorem lw_S {own : String} {idx : Nat} {y : MethodName} {b : ByteArray} {L : Nat} {r : Option FieldType} (h1 : Cond.methodLink own idx y ∈ lw_all) (h2 : Cond.static y ∈ lw_all) (h3 : Cond.initialized y.cls ∈ lw_all) (h4 : Cond.code y b L r ∈ lw_all) : GoodIn lw_all (va_wsS own idx y (ws_ y b L r)) := by
  refine lw_app ?_ (lw_meth h4)
  intro w hw
  simp only [List.mem_cons, List.not_mem_nil, or_false] at hw
  rcases hw with e | e | e
  · rw [e]; exact h1
  · rw [e]; exact h2
  · rw [e]; exact h3
/-- the words of a contract for a method WITH HANDLERS (hh: its table) -/
abbrev wsW_ (y : MethodName) (b : ByteArray) (L : Nat) (r : Option FieldType) (hh : List (Nat × Nat × Nat × Nat)) : List Cond := Cond.codeWith y b L r hh :: lw_all
theorem lw_methW {y : MethodName} {b : ByteArray} {L : Nat} {r : Option FieldType} {hh : List (Nat × Nat × Nat × Nat)} (h : Cond.codeWith y b L r hh ∈ lw_all) : GoodIn lw_all (wsW_ y b L r hh) := by
  intro w hw
  rcases List.mem_cons.mp hw with e | e
  · rw [e]
    exact lw_self _ h
  · exact lw_self _ e
/-- any list of words by their places (lw_in), good -/
theorem lw_good {ws : List Cond} (h : ∀ w ∈ ws, w ∈ lw_all) : GoodIn lw_all ws := fun w hw => lw_self w (h w hw)
/-- what a call of a method with handlers asks: vx_cwVW n hts (lw_VW ..), vx_cwSW n hts (lw_SW ..) -/
theorem lw_VW {own : String} {idx : Nat} {C : String} {y : MethodName} {b : ByteArray} {L : Nat} {r : Option FieldType} {hh : List (Nat × Nat × Nat × Nat)} (h1 : Cond.methodLink own idx y ∈ lw_all) (h2 : Cond.instanceMethod y ∈ lw_all) (h3 : Cond.selects C y y ∈ lw_all) (h4 : Cond.initialized C ∈ lw_all) (h5 : Cond.codeWith y b L r hh ∈ lw_all) : GoodIn lw_all (wsV own idx C y (wsW_ y b L r hh)) := by
  refine lw_app ?_ (lw_methW h5)
  intro w hw
  simp only [List.mem_cons, List.not_mem_nil, or_false] at hw
  rcases hw with e | e | e | e
  · rw [e]; exact h1
  · rw [e]; exact h2
  · rw [e]; exact h3
  · rw [e]; exact h4
theorem lw_SW {own : String} {idx : Nat} {y : MethodName} {b : ByteArray} {L : Nat} {r : Option FieldType} {hh : List (Nat × Nat × Nat × Nat)} (h1 : Cond.methodLink own idx y ∈ lw_all) (h2 : Cond.static y ∈ lw_all) (h3 : Cond.initialized y.cls ∈ lw_all) (h4 : Cond.codeWith y b L r hh ∈ lw_all) : GoodIn lw_all (va_wsS own idx y (wsW_ y b L r hh)) := by
  refine lw_app ?_ (lw_methW h4)
  intro w hw
  simp only [List.mem_cons, List.not_mem_nil, or_false] at hw
  rcases hw with e | e | e
  · rw [e]; exact h1
  · rw [e]; exact h2
  · rw [e]; exact h3
/-- a word by its place in its run of the tables -/
theorem lw_at {r : List Cond} (hr : ∀ w ∈ r, w ∈ lw_tbl) {w : Cond} (i : Nat) (h : r[i]? = some w) : w ∈ lw_tbl := hr w (List.mem_of_getElem? h)
theorem lw_g {w : Cond} (h : w ∈ lw_tbl) (g : goodWord w = true) : w ∈ lw_all := List.mem_filter.mpr ⟨h, g⟩
theorem lw_ms : ∀ w ∈ k2_sels lw_privs, w ∈ lw_tbl := fun w h => show w ∈ k2_sels lw_privs ++ tables_1 from List.mem_append_left _ h
theorem lw_m1 : ∀ w ∈ tables_1_1, w ∈ lw_tbl := fun w h => show w ∈ k2_sels lw_privs ++ tables_1 from List.mem_append_right (k2_sels lw_privs) (show w ∈ tables_1 from List.mem_append_left _ h)
theorem lw_m2 : ∀ w ∈ tables_1_2, w ∈ lw_tbl := fun w h => show w ∈ k2_sels lw_privs ++ tables_1 from List.mem_append_right (k2_sels lw_privs) (show w ∈ tables_1 from List.mem_append_right _ h)
theorem qs0 : (Cond.selects "TreePaths" ⟨"TreePaths", "append", "(II)V"⟩ ⟨"TreePaths", "append", "(II)V"⟩) ∈ lw_all := lw_g (lw_at lw_ms 0 rfl) rfl
theorem qs1 : (Cond.selects "TreePaths" ⟨"TreePaths", "forget", "()V"⟩ ⟨"TreePaths", "forget", "()V"⟩) ∈ lw_all := lw_g (lw_at lw_ms 1 rfl) rfl
theorem qs2 : (Cond.selects "TreePaths" ⟨"TreePaths", "passing", "(I)J"⟩ ⟨"TreePaths", "passing", "(I)J"⟩) ∈ lw_all := lw_g (lw_at lw_ms 2 rfl) rfl
theorem qs3 : (Cond.selects "TreePaths" ⟨"TreePaths", "allAlong", "(I)J"⟩ ⟨"TreePaths", "allAlong", "(I)J"⟩) ∈ lw_all := lw_g (lw_at lw_ms 3 rfl) rfl
theorem qs4 : (Cond.selects "TreePaths" ⟨"TreePaths", "allBelow", "(Z)J"⟩ ⟨"TreePaths", "allBelow", "(Z)J"⟩) ∈ lw_all := lw_g (lw_at lw_ms 4 rfl) rfl
theorem qs5 : (Cond.selects "TreePaths" ⟨"TreePaths", "allAbove", "(Z)J"⟩ ⟨"TreePaths", "allAbove", "(Z)J"⟩) ∈ lw_all := lw_g (lw_at lw_ms 5 rfl) rfl
theorem qs6 : (Cond.selects "TreePaths" ⟨"TreePaths", "leastEnd", "()I"⟩ ⟨"TreePaths", "leastEnd", "()I"⟩) ∈ lw_all := lw_g (lw_at lw_ms 6 rfl) rfl
theorem qs7 : (Cond.selects "TreePaths" ⟨"TreePaths", "aside", "(II)J"⟩ ⟨"TreePaths", "aside", "(II)J"⟩) ∈ lw_all := lw_g (lw_at lw_ms 7 rfl) rfl
theorem qs8 : (Cond.selects "TreePaths" ⟨"TreePaths", "above", "(I)J"⟩ ⟨"TreePaths", "above", "(I)J"⟩) ∈ lw_all := lw_g (lw_at lw_ms 8 rfl) rfl
theorem qs9 : (Cond.selects "TreePaths" ⟨"TreePaths", "row", "(II)J"⟩ ⟨"TreePaths", "row", "(II)J"⟩) ∈ lw_all := lw_g (lw_at lw_ms 9 rfl) rfl
theorem qs10 : (Cond.selects "TreePaths" ⟨"TreePaths", "along", "(II)J"⟩ ⟨"TreePaths", "along", "(II)J"⟩) ∈ lw_all := lw_g (lw_at lw_ms 10 rfl) rfl
theorem qs11 : (Cond.selects "TreePaths" ⟨"TreePaths", "placesAlong", "(IJI)J"⟩ ⟨"TreePaths", "placesAlong", "(IJI)J"⟩) ∈ lw_all := lw_g (lw_at lw_ms 11 rfl) rfl
theorem qs12 : (Cond.selects "TreePathsModel" ⟨"TreePathsModel", "add", "(ZI)I"⟩ ⟨"TreePathsModel", "add", "(ZI)I"⟩) ∈ lw_all := lw_g (lw_at lw_ms 12 rfl) rfl
theorem qs13 : (Cond.selects "TreePathsModel" ⟨"TreePathsModel", "reset", "()V"⟩ ⟨"TreePathsModel", "reset", "()V"⟩) ∈ lw_all := lw_g (lw_at lw_ms 13 rfl) rfl
theorem qs14 : (Cond.selects "TreePathsModel" ⟨"TreePathsModel", "above", "(II)Z"⟩ ⟨"TreePathsModel", "above", "(II)Z"⟩) ∈ lw_all := lw_g (lw_at lw_ms 14 rfl) rfl
theorem qs15 : (Cond.selects "TreePathsModel" ⟨"TreePathsModel", "found", "(IIII)J"⟩ ⟨"TreePathsModel", "found", "(IIII)J"⟩) ∈ lw_all := lw_g (lw_at lw_ms 15 rfl) rfl
theorem qs16 : (Cond.selects "TreePathsModel" ⟨"TreePathsModel", "leads", "(III)Z"⟩ ⟨"TreePathsModel", "leads", "(III)Z"⟩) ∈ lw_all := lw_g (lw_at lw_ms 16 rfl) rfl
theorem qs17 : (Cond.selects "TreePathsModel" ⟨"TreePathsModel", "passes", "(II)Z"⟩ ⟨"TreePathsModel", "passes", "(II)Z"⟩) ∈ lw_all := lw_g (lw_at lw_ms 17 rfl) rfl
theorem qs18 : (Cond.selects "TreePathsModel" ⟨"TreePathsModel", "size", "()I"⟩ ⟨"TreePathsModel", "size", "()I"⟩) ∈ lw_all := lw_g (lw_at lw_ms 18 rfl) rfl
end
section
set_option maxRecDepth 100000
def RX0 : String := "TreePaths"
def TX0 : u_T := fun k => match k with
  | 0 => ("TreePaths", "count", "I", false)
  | 1 => ("TreePaths", "openNode", "I", false)
  | 2 => ("TreePaths", "nameOf", "[I", true)
  | 3 => ("TreePaths", "valueOf", "[I", true)
  | 4 => ("TreePaths", "parentOf", "[I", true)
  | 5 => ("TreePaths", "endOf", "[I", true)
  | 6 => ("TreePaths", "set", "J", false)
  | _ => ("TreePaths", "kept", "[J", true)
def tyX0 : Nat → FieldType := fun k => match k with
  | 0 => .int
  | 1 => .int
  | 2 => .array .int
  | 3 => .array .int
  | 4 => .array .int
  | 5 => .array .int
  | 6 => .long
  | _ => .array .long
abbrev wsX00 : List Cond := u_ws RX0 TX0 8
theorem nmX0 : ∀ a, a < 8 → ∀ b, b < 8 → a ≠ b → (TX0 a).2.1 ≠ (TX0 b).2.1 := by decide +kernel
theorem tyX0_ok : ∀ k, k < 8 → parseFieldDescriptor (TX0 k).2.2.1 = some (tyX0 k) := by decide +kernel
abbrev cX0_init : ByteArray := prog_1_method_1_code
def yX0_init : MethodName := ⟨RX0, "<init>", "()V"⟩
abbrev cX0_open : ByteArray := prog_1_method_2_code
def yX0_open : MethodName := ⟨RX0, "open", "(I)I"⟩
abbrev cX0_append : ByteArray := prog_1_method_5_code
def yX0_append : MethodName := ⟨RX0, "append", "(II)V"⟩
abbrev cX0_forget : ByteArray := prog_1_method_7_code
def yX0_forget : MethodName := ⟨RX0, "forget", "()V"⟩
abbrev cX0_text : ByteArray := prog_1_method_3_code
def yX0_text : MethodName := ⟨RX0, "text", "(I)I"⟩
abbrev cX0_close : ByteArray := prog_1_method_4_code
def yX0_close : MethodName := ⟨RX0, "close", "()I"⟩
abbrev cX0_remove : ByteArray := prog_1_method_6_code
def yX0_remove : MethodName := ⟨RX0, "remove", "(I)I"⟩
abbrev cX0_start : ByteArray := prog_1_method_8_code
def yX0_start : MethodName := ⟨RX0, "start", "()V"⟩
abbrev cX0_step : ByteArray := prog_1_method_9_code
def yX0_step : MethodName := ⟨RX0, "step", "(III)I"⟩
abbrev cX0_passing : ByteArray := prog_1_method_19_code
def yX0_passing : MethodName := ⟨RX0, "passing", "(I)J"⟩
abbrev cX0_allAlong : ByteArray := prog_1_method_24_code
def yX0_allAlong : MethodName := ⟨RX0, "allAlong", "(I)J"⟩
abbrev cX0_allBelow : ByteArray := prog_1_method_25_code
def yX0_allBelow : MethodName := ⟨RX0, "allBelow", "(Z)J"⟩
abbrev cX0_stretch : ByteArray := prog_1_method_16_code
def yX0_stretch : MethodName := ⟨RX0, "stretch", "(II)J"⟩
abbrev cX0_allAbove : ByteArray := prog_1_method_26_code
def yX0_allAbove : MethodName := ⟨RX0, "allAbove", "(Z)J"⟩
abbrev cX0_leastEnd : ByteArray := prog_1_method_27_code
def yX0_leastEnd : MethodName := ⟨RX0, "leastEnd", "()I"⟩
abbrev cX0_size : ByteArray := prog_1_method_17_code
def yX0_size : MethodName := ⟨RX0, "size", "(J)I"⟩
abbrev cX0_ranked : ByteArray := prog_1_method_18_code
def yX0_ranked : MethodName := ⟨RX0, "ranked", "(JI)I"⟩
abbrev cX0_aside : ByteArray := prog_1_method_21_code
def yX0_aside : MethodName := ⟨RX0, "aside", "(II)J"⟩
abbrev cX0_above : ByteArray := prog_1_method_23_code
def yX0_above : MethodName := ⟨RX0, "above", "(I)J"⟩
abbrev cX0_row : ByteArray := prog_1_method_22_code
def yX0_row : MethodName := ⟨RX0, "row", "(II)J"⟩
abbrev cX0_along : ByteArray := prog_1_method_20_code
def yX0_along : MethodName := ⟨RX0, "along", "(II)J"⟩
abbrev cX0_placesAlong : ByteArray := prog_1_method_28_code
def yX0_placesAlong : MethodName := ⟨RX0, "placesAlong", "(IJI)J"⟩
abbrev cX0_having : ByteArray := prog_1_method_10_code
def yX0_having : MethodName := ⟨RX0, "having", "(IIZ)I"⟩
abbrev cX0_valued : ByteArray := prog_1_method_11_code
def yX0_valued : MethodName := ⟨RX0, "valued", "(II)I"⟩
abbrev cX0_keep : ByteArray := prog_1_method_12_code
def yX0_keep : MethodName := ⟨RX0, "keep", "(I)V"⟩
abbrev cX0_mix : ByteArray := prog_1_method_13_code
def yX0_mix : MethodName := ⟨RX0, "mix", "(II)I"⟩
abbrev cX0_node : ByteArray := prog_1_method_14_code
def yX0_node : MethodName := ⟨RX0, "node", "(I)I"⟩
abbrev cX0_sum : ByteArray := prog_1_method_15_code
def yX0_sum : MethodName := ⟨RX0, "sum", "()I"⟩
theorem q20 : (Jvm.Cond.initialized "TreePaths") ∈ lw_all := lw_g (lw_at lw_m1 1 rfl) rfl
theorem q23 : (Jvm.Cond.instantiable "TreePaths" (8 : Nat)) ∈ lw_all := lw_g (lw_at lw_m1 4 rfl) rfl
theorem q25 : (Jvm.Cond.instanceMethod ({ cls := "TreePaths", name := "<init>", desc := "()V" } : Jvm.MethodName)) ∈ lw_all := lw_g (lw_at lw_m1 6 rfl) rfl
theorem q26 : (Jvm.Cond.code ({ cls := "TreePaths", name := "<init>", desc := "()V" } : Jvm.MethodName) prog_1_method_1_code (1 : Nat) (Option.none : Option Jvm.ClassFile.FieldType)) ∈ lw_all := lw_g (lw_at lw_m1 7 rfl) rfl
theorem q27 : (Jvm.Cond.methodLink "TreePaths" (1 : Nat) ({ cls := "java/lang/Object", name := "<init>", desc := "()V" } : Jvm.MethodName)) ∈ lw_all := lw_g (lw_at lw_m1 8 rfl) rfl
theorem q30 : (Jvm.Cond.fieldLink "TreePaths" (26 : Nat) "TreePaths" "count" "I") ∈ lw_all := lw_g (lw_at lw_m1 11 rfl) rfl
theorem q31 : (Jvm.Cond.fieldLink "TreePaths" (38 : Nat) "TreePaths" "openNode" "I") ∈ lw_all := lw_g (lw_at lw_m1 12 rfl) rfl
theorem q32 : (Jvm.Cond.fieldLink "TreePaths" (7 : Nat) "TreePaths" "nameOf" "[I") ∈ lw_all := lw_g (lw_at lw_m1 13 rfl) rfl
theorem q33 : (Jvm.Cond.fieldLink "TreePaths" (13 : Nat) "TreePaths" "valueOf" "[I") ∈ lw_all := lw_g (lw_at lw_m1 14 rfl) rfl
theorem q34 : (Jvm.Cond.fieldLink "TreePaths" (16 : Nat) "TreePaths" "parentOf" "[I") ∈ lw_all := lw_g (lw_at lw_m1 15 rfl) rfl
theorem q35 : (Jvm.Cond.fieldLink "TreePaths" (19 : Nat) "TreePaths" "endOf" "[I") ∈ lw_all := lw_g (lw_at lw_m1 16 rfl) rfl
theorem q36 : (Jvm.Cond.fieldLink "TreePaths" (30 : Nat) "TreePaths" "set" "J") ∈ lw_all := lw_g (lw_at lw_m1 17 rfl) rfl
theorem q37 : (Jvm.Cond.fieldLink "TreePaths" (22 : Nat) "TreePaths" "kept" "[J") ∈ lw_all := lw_g (lw_at lw_m1 18 rfl) rfl
theorem q38 : (Jvm.Cond.lays "TreePaths" "TreePaths" "count" "I") ∈ lw_all := lw_g (lw_at lw_m1 19 rfl) rfl
theorem q39 : (Jvm.Cond.soleField "TreePaths" "count") ∈ lw_all := lw_g (lw_at lw_m1 20 rfl) rfl
theorem q40 : (Jvm.Cond.lays "TreePaths" "TreePaths" "openNode" "I") ∈ lw_all := lw_g (lw_at lw_m1 21 rfl) rfl
theorem q41 : (Jvm.Cond.soleField "TreePaths" "openNode") ∈ lw_all := lw_g (lw_at lw_m1 22 rfl) rfl
theorem q42 : (Jvm.Cond.laysFinal "TreePaths" "TreePaths" "nameOf" "[I") ∈ lw_all := lw_g (lw_at lw_m1 23 rfl) rfl
theorem q43 : (Jvm.Cond.soleField "TreePaths" "nameOf") ∈ lw_all := lw_g (lw_at lw_m1 24 rfl) rfl
theorem q44 : (Jvm.Cond.laysFinal "TreePaths" "TreePaths" "valueOf" "[I") ∈ lw_all := lw_g (lw_at lw_m1 25 rfl) rfl
theorem q45 : (Jvm.Cond.soleField "TreePaths" "valueOf") ∈ lw_all := lw_g (lw_at lw_m1 26 rfl) rfl
theorem q46 : (Jvm.Cond.laysFinal "TreePaths" "TreePaths" "parentOf" "[I") ∈ lw_all := lw_g (lw_at lw_m1 27 rfl) rfl
theorem q47 : (Jvm.Cond.soleField "TreePaths" "parentOf") ∈ lw_all := lw_g (lw_at lw_m1 28 rfl) rfl
theorem q48 : (Jvm.Cond.laysFinal "TreePaths" "TreePaths" "endOf" "[I") ∈ lw_all := lw_g (lw_at lw_m1 29 rfl) rfl
theorem q49 : (Jvm.Cond.soleField "TreePaths" "endOf") ∈ lw_all := lw_g (lw_at lw_m1 30 rfl) rfl
theorem q50 : (Jvm.Cond.lays "TreePaths" "TreePaths" "set" "J") ∈ lw_all := lw_g (lw_at lw_m1 31 rfl) rfl
theorem q51 : (Jvm.Cond.soleField "TreePaths" "set") ∈ lw_all := lw_g (lw_at lw_m1 32 rfl) rfl
theorem q52 : (Jvm.Cond.laysFinal "TreePaths" "TreePaths" "kept" "[J") ∈ lw_all := lw_g (lw_at lw_m1 33 rfl) rfl
theorem q53 : (Jvm.Cond.soleField "TreePaths" "kept") ∈ lw_all := lw_g (lw_at lw_m1 34 rfl) rfl
theorem q54 : (Jvm.Cond.superclass "TreePaths" "java/lang/Object") ∈ lw_all := lw_g (lw_at lw_m1 35 rfl) rfl
theorem q58 : (Jvm.Cond.instanceMethod ({ cls := "TreePaths", name := "open", desc := "(I)I" } : Jvm.MethodName)) ∈ lw_all := lw_g (lw_at lw_m1 39 rfl) rfl
theorem q59 : (Jvm.Cond.selects "TreePaths" ({ cls := "TreePaths", name := "open", desc := "(I)I" } : Jvm.MethodName) ({ cls := "TreePaths", name := "open", desc := "(I)I" } : Jvm.MethodName)) ∈ lw_all := lw_g (lw_at lw_m1 40 rfl) rfl
theorem q60 : (Jvm.Cond.code ({ cls := "TreePaths", name := "open", desc := "(I)I" } : Jvm.MethodName) prog_1_method_2_code (2 : Nat) (Option.some Jvm.ClassFile.FieldType.int)) ∈ lw_all := lw_g (lw_at lw_m1 41 rfl) rfl
theorem q61 : (Jvm.Cond.methodLink "TreePaths" (34 : Nat) ({ cls := "TreePaths", name := "append", desc := "(II)V" } : Jvm.MethodName)) ∈ lw_all := lw_g (lw_at lw_m1 42 rfl) rfl
theorem q62 : (Jvm.Cond.privateMethod ({ cls := "TreePaths", name := "append", desc := "(II)V" } : Jvm.MethodName)) ∈ lw_tbl := lw_at lw_m1 43 rfl
theorem q63 : (Jvm.Cond.instanceMethod ({ cls := "TreePaths", name := "append", desc := "(II)V" } : Jvm.MethodName)) ∈ lw_all := lw_g (lw_at lw_m1 44 rfl) rfl
theorem q64 : (Jvm.Cond.code ({ cls := "TreePaths", name := "append", desc := "(II)V" } : Jvm.MethodName) prog_1_method_5_code (6 : Nat) (Option.none : Option Jvm.ClassFile.FieldType)) ∈ lw_all := lw_g (lw_at lw_m1 45 rfl) rfl
theorem q65 : (Jvm.Cond.methodLink "TreePaths" (41 : Nat) ({ cls := "TreePaths", name := "forget", desc := "()V" } : Jvm.MethodName)) ∈ lw_all := lw_g (lw_at lw_m1 46 rfl) rfl
theorem q66 : (Jvm.Cond.privateMethod ({ cls := "TreePaths", name := "forget", desc := "()V" } : Jvm.MethodName)) ∈ lw_tbl := lw_at lw_m1 47 rfl
theorem q67 : (Jvm.Cond.instanceMethod ({ cls := "TreePaths", name := "forget", desc := "()V" } : Jvm.MethodName)) ∈ lw_all := lw_g (lw_at lw_m1 48 rfl) rfl
theorem q68 : (Jvm.Cond.code ({ cls := "TreePaths", name := "forget", desc := "()V" } : Jvm.MethodName) prog_1_method_7_code (1 : Nat) (Option.none : Option Jvm.ClassFile.FieldType)) ∈ lw_all := lw_g (lw_at lw_m1 49 rfl) rfl
theorem q70 : (Jvm.Cond.instanceMethod ({ cls := "TreePaths", name := "text", desc := "(I)I" } : Jvm.MethodName)) ∈ lw_all := lw_g (lw_at lw_m1 51 rfl) rfl
theorem q71 : (Jvm.Cond.selects "TreePaths" ({ cls := "TreePaths", name := "text", desc := "(I)I" } : Jvm.MethodName) ({ cls := "TreePaths", name := "text", desc := "(I)I" } : Jvm.MethodName)) ∈ lw_all := lw_g (lw_at lw_m1 52 rfl) rfl
theorem q72 : (Jvm.Cond.code ({ cls := "TreePaths", name := "text", desc := "(I)I" } : Jvm.MethodName) prog_1_method_3_code (2 : Nat) (Option.some Jvm.ClassFile.FieldType.int)) ∈ lw_all := lw_g (lw_at lw_m1 53 rfl) rfl
theorem q74 : (Jvm.Cond.instanceMethod ({ cls := "TreePaths", name := "close", desc := "()I" } : Jvm.MethodName)) ∈ lw_all := lw_g (lw_at lw_m1 55 rfl) rfl
theorem q75 : (Jvm.Cond.selects "TreePaths" ({ cls := "TreePaths", name := "close", desc := "()I" } : Jvm.MethodName) ({ cls := "TreePaths", name := "close", desc := "()I" } : Jvm.MethodName)) ∈ lw_all := lw_g (lw_at lw_m1 56 rfl) rfl
theorem q76 : (Jvm.Cond.code ({ cls := "TreePaths", name := "close", desc := "()I" } : Jvm.MethodName) prog_1_method_4_code (1 : Nat) (Option.some Jvm.ClassFile.FieldType.int)) ∈ lw_all := lw_g (lw_at lw_m1 57 rfl) rfl
theorem q78 : (Jvm.Cond.instanceMethod ({ cls := "TreePaths", name := "remove", desc := "(I)I" } : Jvm.MethodName)) ∈ lw_all := lw_g (lw_at lw_m1 59 rfl) rfl
theorem q79 : (Jvm.Cond.selects "TreePaths" ({ cls := "TreePaths", name := "remove", desc := "(I)I" } : Jvm.MethodName) ({ cls := "TreePaths", name := "remove", desc := "(I)I" } : Jvm.MethodName)) ∈ lw_all := lw_g (lw_at lw_m1 60 rfl) rfl
theorem q80 : (Jvm.Cond.code ({ cls := "TreePaths", name := "remove", desc := "(I)I" } : Jvm.MethodName) prog_1_method_6_code (5 : Nat) (Option.some Jvm.ClassFile.FieldType.int)) ∈ lw_all := lw_g (lw_at lw_m1 61 rfl) rfl
theorem q82 : (Jvm.Cond.instanceMethod ({ cls := "TreePaths", name := "start", desc := "()V" } : Jvm.MethodName)) ∈ lw_all := lw_g (lw_at lw_m1 63 rfl) rfl
theorem q83 : (Jvm.Cond.selects "TreePaths" ({ cls := "TreePaths", name := "start", desc := "()V" } : Jvm.MethodName) ({ cls := "TreePaths", name := "start", desc := "()V" } : Jvm.MethodName)) ∈ lw_all := lw_g (lw_at lw_m1 64 rfl) rfl
theorem q84 : (Jvm.Cond.code ({ cls := "TreePaths", name := "start", desc := "()V" } : Jvm.MethodName) prog_1_method_8_code (1 : Nat) (Option.none : Option Jvm.ClassFile.FieldType)) ∈ lw_all := lw_g (lw_at lw_m1 65 rfl) rfl
theorem q86 : (Jvm.Cond.instanceMethod ({ cls := "TreePaths", name := "step", desc := "(III)I" } : Jvm.MethodName)) ∈ lw_all := lw_g (lw_at lw_m1 67 rfl) rfl
theorem q87 : (Jvm.Cond.selects "TreePaths" ({ cls := "TreePaths", name := "step", desc := "(III)I" } : Jvm.MethodName) ({ cls := "TreePaths", name := "step", desc := "(III)I" } : Jvm.MethodName)) ∈ lw_all := lw_g (lw_at lw_m1 68 rfl) rfl
theorem q88 : (Jvm.Cond.code ({ cls := "TreePaths", name := "step", desc := "(III)I" } : Jvm.MethodName) prog_1_method_9_code (6 : Nat) (Option.some Jvm.ClassFile.FieldType.int)) ∈ lw_all := lw_g (lw_at lw_m1 69 rfl) rfl
theorem q89 : (Jvm.Cond.methodLink "TreePaths" (44 : Nat) ({ cls := "TreePaths", name := "passing", desc := "(I)J" } : Jvm.MethodName)) ∈ lw_all := lw_g (lw_at lw_m1 70 rfl) rfl
theorem q90 : (Jvm.Cond.privateMethod ({ cls := "TreePaths", name := "passing", desc := "(I)J" } : Jvm.MethodName)) ∈ lw_tbl := lw_at lw_m1 71 rfl
theorem q91 : (Jvm.Cond.instanceMethod ({ cls := "TreePaths", name := "passing", desc := "(I)J" } : Jvm.MethodName)) ∈ lw_all := lw_g (lw_at lw_m1 72 rfl) rfl
theorem q92 : (Jvm.Cond.code ({ cls := "TreePaths", name := "passing", desc := "(I)J" } : Jvm.MethodName) prog_1_method_19_code (6 : Nat) (Option.some Jvm.ClassFile.FieldType.long)) ∈ lw_all := lw_g (lw_at lw_m1 73 rfl) rfl
theorem q93 : (Jvm.Cond.methodLink "TreePaths" (48 : Nat) ({ cls := "TreePaths", name := "allAlong", desc := "(I)J" } : Jvm.MethodName)) ∈ lw_all := lw_g (lw_at lw_m1 74 rfl) rfl
theorem q94 : (Jvm.Cond.privateMethod ({ cls := "TreePaths", name := "allAlong", desc := "(I)J" } : Jvm.MethodName)) ∈ lw_tbl := lw_at lw_m1 75 rfl
theorem q95 : (Jvm.Cond.instanceMethod ({ cls := "TreePaths", name := "allAlong", desc := "(I)J" } : Jvm.MethodName)) ∈ lw_all := lw_g (lw_at lw_m1 76 rfl) rfl
theorem q96 : (Jvm.Cond.code ({ cls := "TreePaths", name := "allAlong", desc := "(I)J" } : Jvm.MethodName) prog_1_method_24_code (5 : Nat) (Option.some Jvm.ClassFile.FieldType.long)) ∈ lw_all := lw_g (lw_at lw_m1 77 rfl) rfl
theorem q97 : (Jvm.Cond.methodLink "TreePaths" (81 : Nat) ({ cls := "TreePaths", name := "allBelow", desc := "(Z)J" } : Jvm.MethodName)) ∈ lw_all := lw_g (lw_at lw_m1 78 rfl) rfl
theorem q98 : (Jvm.Cond.privateMethod ({ cls := "TreePaths", name := "allBelow", desc := "(Z)J" } : Jvm.MethodName)) ∈ lw_tbl := lw_at lw_m1 79 rfl
theorem q99 : (Jvm.Cond.instanceMethod ({ cls := "TreePaths", name := "allBelow", desc := "(Z)J" } : Jvm.MethodName)) ∈ lw_all := lw_g (lw_at lw_m1 80 rfl) rfl
theorem q100 : (Jvm.Cond.code ({ cls := "TreePaths", name := "allBelow", desc := "(Z)J" } : Jvm.MethodName) prog_1_method_25_code (6 : Nat) (Option.some Jvm.ClassFile.FieldType.long)) ∈ lw_all := lw_g (lw_at lw_m1 81 rfl) rfl
theorem q101 : (Jvm.Cond.methodLink "TreePaths" (65 : Nat) ({ cls := "TreePaths", name := "stretch", desc := "(II)J" } : Jvm.MethodName)) ∈ lw_all := lw_g (lw_at lw_m1 82 rfl) rfl
theorem q102 : (Jvm.Cond.static ({ cls := "TreePaths", name := "stretch", desc := "(II)J" } : Jvm.MethodName)) ∈ lw_all := lw_g (lw_at lw_m1 83 rfl) rfl
theorem q103 : (Jvm.Cond.code ({ cls := "TreePaths", name := "stretch", desc := "(II)J" } : Jvm.MethodName) prog_1_method_16_code (2 : Nat) (Option.some Jvm.ClassFile.FieldType.long)) ∈ lw_all := lw_g (lw_at lw_m1 84 rfl) rfl
theorem q104 : (Jvm.Cond.constantLong "TreePaths" (63 : Nat) (-1 : Int64)) ∈ lw_all := lw_g (lw_at lw_m1 85 rfl) rfl
theorem q105 : (Jvm.Cond.methodLink "TreePaths" (85 : Nat) ({ cls := "TreePaths", name := "allAbove", desc := "(Z)J" } : Jvm.MethodName)) ∈ lw_all := lw_g (lw_at lw_m1 86 rfl) rfl
theorem q106 : (Jvm.Cond.privateMethod ({ cls := "TreePaths", name := "allAbove", desc := "(Z)J" } : Jvm.MethodName)) ∈ lw_tbl := lw_at lw_m1 87 rfl
theorem q107 : (Jvm.Cond.instanceMethod ({ cls := "TreePaths", name := "allAbove", desc := "(Z)J" } : Jvm.MethodName)) ∈ lw_all := lw_g (lw_at lw_m1 88 rfl) rfl
theorem q108 : (Jvm.Cond.code ({ cls := "TreePaths", name := "allAbove", desc := "(Z)J" } : Jvm.MethodName) prog_1_method_26_code (7 : Nat) (Option.some Jvm.ClassFile.FieldType.long)) ∈ lw_all := lw_g (lw_at lw_m1 89 rfl) rfl
theorem q109 : (Jvm.Cond.methodLink "TreePaths" (88 : Nat) ({ cls := "TreePaths", name := "leastEnd", desc := "()I" } : Jvm.MethodName)) ∈ lw_all := lw_g (lw_at lw_m1 90 rfl) rfl
theorem q110 : (Jvm.Cond.privateMethod ({ cls := "TreePaths", name := "leastEnd", desc := "()I" } : Jvm.MethodName)) ∈ lw_tbl := lw_at lw_m1 91 rfl
theorem q111 : (Jvm.Cond.instanceMethod ({ cls := "TreePaths", name := "leastEnd", desc := "()I" } : Jvm.MethodName)) ∈ lw_all := lw_g (lw_at lw_m1 92 rfl) rfl
theorem q112 : (Jvm.Cond.code ({ cls := "TreePaths", name := "leastEnd", desc := "()I" } : Jvm.MethodName) prog_1_method_27_code (4 : Nat) (Option.some Jvm.ClassFile.FieldType.int)) ∈ lw_all := lw_g (lw_at lw_m1 93 rfl) rfl
theorem q113 : (Jvm.Cond.methodLink "TreePaths" (55 : Nat) ({ cls := "TreePaths", name := "size", desc := "(J)I" } : Jvm.MethodName)) ∈ lw_all := lw_g (lw_at lw_m1 94 rfl) rfl
theorem q114 : (Jvm.Cond.static ({ cls := "TreePaths", name := "size", desc := "(J)I" } : Jvm.MethodName)) ∈ lw_all := lw_g (lw_at lw_m1 95 rfl) rfl
theorem q115 : (Jvm.Cond.code ({ cls := "TreePaths", name := "size", desc := "(J)I" } : Jvm.MethodName) prog_1_method_17_code (4 : Nat) (Option.some Jvm.ClassFile.FieldType.int)) ∈ lw_all := lw_g (lw_at lw_m1 96 rfl) rfl
theorem q116 : (Jvm.Cond.methodLink "TreePaths" (68 : Nat) ({ cls := "TreePaths", name := "ranked", desc := "(JI)I" } : Jvm.MethodName)) ∈ lw_all := lw_g (lw_at lw_m1 97 rfl) rfl
theorem q117 : (Jvm.Cond.static ({ cls := "TreePaths", name := "ranked", desc := "(JI)I" } : Jvm.MethodName)) ∈ lw_all := lw_g (lw_at lw_m1 98 rfl) rfl
theorem q118 : (Jvm.Cond.code ({ cls := "TreePaths", name := "ranked", desc := "(JI)I" } : Jvm.MethodName) prog_1_method_18_code (5 : Nat) (Option.some Jvm.ClassFile.FieldType.int)) ∈ lw_all := lw_g (lw_at lw_m1 99 rfl) rfl
theorem q119 : (Jvm.Cond.methodLink "TreePaths" (78 : Nat) ({ cls := "TreePaths", name := "aside", desc := "(II)J" } : Jvm.MethodName)) ∈ lw_all := lw_g (lw_at lw_m1 100 rfl) rfl
theorem q120 : (Jvm.Cond.privateMethod ({ cls := "TreePaths", name := "aside", desc := "(II)J" } : Jvm.MethodName)) ∈ lw_tbl := lw_at lw_m1 101 rfl
theorem q121 : (Jvm.Cond.instanceMethod ({ cls := "TreePaths", name := "aside", desc := "(II)J" } : Jvm.MethodName)) ∈ lw_all := lw_g (lw_at lw_m1 102 rfl) rfl
theorem q122 : (Jvm.Cond.code ({ cls := "TreePaths", name := "aside", desc := "(II)J" } : Jvm.MethodName) prog_1_method_21_code (5 : Nat) (Option.some Jvm.ClassFile.FieldType.long)) ∈ lw_all := lw_g (lw_at lw_m1 103 rfl) rfl
theorem q123 : (Jvm.Cond.methodLink "TreePaths" (75 : Nat) ({ cls := "TreePaths", name := "above", desc := "(I)J" } : Jvm.MethodName)) ∈ lw_all := lw_g (lw_at lw_m1 104 rfl) rfl
theorem q124 : (Jvm.Cond.privateMethod ({ cls := "TreePaths", name := "above", desc := "(I)J" } : Jvm.MethodName)) ∈ lw_tbl := lw_at lw_m1 105 rfl
theorem q125 : (Jvm.Cond.instanceMethod ({ cls := "TreePaths", name := "above", desc := "(I)J" } : Jvm.MethodName)) ∈ lw_all := lw_g (lw_at lw_m1 106 rfl) rfl
theorem q126 : (Jvm.Cond.code ({ cls := "TreePaths", name := "above", desc := "(I)J" } : Jvm.MethodName) prog_1_method_23_code (6 : Nat) (Option.some Jvm.ClassFile.FieldType.long)) ∈ lw_all := lw_g (lw_at lw_m1 107 rfl) rfl
theorem q127 : (Jvm.Cond.methodLink "TreePaths" (72 : Nat) ({ cls := "TreePaths", name := "row", desc := "(II)J" } : Jvm.MethodName)) ∈ lw_all := lw_g (lw_at lw_m1 108 rfl) rfl
theorem q128 : (Jvm.Cond.privateMethod ({ cls := "TreePaths", name := "row", desc := "(II)J" } : Jvm.MethodName)) ∈ lw_tbl := lw_at lw_m1 109 rfl
theorem q129 : (Jvm.Cond.instanceMethod ({ cls := "TreePaths", name := "row", desc := "(II)J" } : Jvm.MethodName)) ∈ lw_all := lw_g (lw_at lw_m1 110 rfl) rfl
theorem q130 : (Jvm.Cond.code ({ cls := "TreePaths", name := "row", desc := "(II)J" } : Jvm.MethodName) prog_1_method_22_code (7 : Nat) (Option.some Jvm.ClassFile.FieldType.long)) ∈ lw_all := lw_g (lw_at lw_m1 111 rfl) rfl
theorem q131 : (Jvm.Cond.methodLink "TreePaths" (59 : Nat) ({ cls := "TreePaths", name := "along", desc := "(II)J" } : Jvm.MethodName)) ∈ lw_all := lw_g (lw_at lw_m1 112 rfl) rfl
theorem q132 : (Jvm.Cond.privateMethod ({ cls := "TreePaths", name := "along", desc := "(II)J" } : Jvm.MethodName)) ∈ lw_tbl := lw_at lw_m1 113 rfl
theorem q133 : (Jvm.Cond.instanceMethod ({ cls := "TreePaths", name := "along", desc := "(II)J" } : Jvm.MethodName)) ∈ lw_all := lw_g (lw_at lw_m1 114 rfl) rfl
theorem q134 : (Jvm.Cond.code ({ cls := "TreePaths", name := "along", desc := "(II)J" } : Jvm.MethodName) prog_1_method_20_code (5 : Nat) (Option.some Jvm.ClassFile.FieldType.long)) ∈ lw_all := lw_g (lw_at lw_m1 115 rfl) rfl
theorem q135 : (Jvm.Cond.methodLink "TreePaths" (51 : Nat) ({ cls := "TreePaths", name := "placesAlong", desc := "(IJI)J" } : Jvm.MethodName)) ∈ lw_all := lw_g (lw_at lw_m1 116 rfl) rfl
theorem q136 : (Jvm.Cond.privateMethod ({ cls := "TreePaths", name := "placesAlong", desc := "(IJI)J" } : Jvm.MethodName)) ∈ lw_tbl := lw_at lw_m1 117 rfl
theorem q137 : (Jvm.Cond.instanceMethod ({ cls := "TreePaths", name := "placesAlong", desc := "(IJI)J" } : Jvm.MethodName)) ∈ lw_all := lw_g (lw_at lw_m1 118 rfl) rfl
theorem q138 : (Jvm.Cond.code ({ cls := "TreePaths", name := "placesAlong", desc := "(IJI)J" } : Jvm.MethodName) prog_1_method_28_code (14 : Nat) (Option.some Jvm.ClassFile.FieldType.long)) ∈ lw_all := lw_g (lw_at lw_m1 119 rfl) rfl
theorem q140 : (Jvm.Cond.instanceMethod ({ cls := "TreePaths", name := "having", desc := "(IIZ)I" } : Jvm.MethodName)) ∈ lw_all := lw_g (lw_at lw_m1 121 rfl) rfl
theorem q141 : (Jvm.Cond.selects "TreePaths" ({ cls := "TreePaths", name := "having", desc := "(IIZ)I" } : Jvm.MethodName) ({ cls := "TreePaths", name := "having", desc := "(IIZ)I" } : Jvm.MethodName)) ∈ lw_all := lw_g (lw_at lw_m1 122 rfl) rfl
theorem q142 : (Jvm.Cond.code ({ cls := "TreePaths", name := "having", desc := "(IIZ)I" } : Jvm.MethodName) prog_1_method_10_code (9 : Nat) (Option.some Jvm.ClassFile.FieldType.int)) ∈ lw_all := lw_g (lw_at lw_m1 123 rfl) rfl
theorem q144 : (Jvm.Cond.instanceMethod ({ cls := "TreePaths", name := "valued", desc := "(II)I" } : Jvm.MethodName)) ∈ lw_all := lw_g (lw_at lw_m1 125 rfl) rfl
theorem q145 : (Jvm.Cond.selects "TreePaths" ({ cls := "TreePaths", name := "valued", desc := "(II)I" } : Jvm.MethodName) ({ cls := "TreePaths", name := "valued", desc := "(II)I" } : Jvm.MethodName)) ∈ lw_all := lw_g (lw_at lw_m1 126 rfl) rfl
theorem q146 : (Jvm.Cond.code ({ cls := "TreePaths", name := "valued", desc := "(II)I" } : Jvm.MethodName) prog_1_method_11_code (10 : Nat) (Option.some Jvm.ClassFile.FieldType.int)) ∈ lw_all := lw_g (lw_at lw_m1 127 rfl) rfl
theorem q148 : (Jvm.Cond.instanceMethod ({ cls := "TreePaths", name := "keep", desc := "(I)V" } : Jvm.MethodName)) ∈ lw_all := lw_g (lw_at lw_m1 129 rfl) rfl
theorem q149 : (Jvm.Cond.selects "TreePaths" ({ cls := "TreePaths", name := "keep", desc := "(I)V" } : Jvm.MethodName) ({ cls := "TreePaths", name := "keep", desc := "(I)V" } : Jvm.MethodName)) ∈ lw_all := lw_g (lw_at lw_m1 130 rfl) rfl
theorem q150 : (Jvm.Cond.code ({ cls := "TreePaths", name := "keep", desc := "(I)V" } : Jvm.MethodName) prog_1_method_12_code (2 : Nat) (Option.none : Option Jvm.ClassFile.FieldType)) ∈ lw_all := lw_g (lw_at lw_m1 131 rfl) rfl
theorem q152 : (Jvm.Cond.instanceMethod ({ cls := "TreePaths", name := "mix", desc := "(II)I" } : Jvm.MethodName)) ∈ lw_all := lw_g (lw_at lw_m1 133 rfl) rfl
theorem q153 : (Jvm.Cond.selects "TreePaths" ({ cls := "TreePaths", name := "mix", desc := "(II)I" } : Jvm.MethodName) ({ cls := "TreePaths", name := "mix", desc := "(II)I" } : Jvm.MethodName)) ∈ lw_all := lw_g (lw_at lw_m1 134 rfl) rfl
theorem q154 : (Jvm.Cond.code ({ cls := "TreePaths", name := "mix", desc := "(II)I" } : Jvm.MethodName) prog_1_method_13_code (5 : Nat) (Option.some Jvm.ClassFile.FieldType.int)) ∈ lw_all := lw_g (lw_at lw_m1 135 rfl) rfl
theorem q156 : (Jvm.Cond.instanceMethod ({ cls := "TreePaths", name := "node", desc := "(I)I" } : Jvm.MethodName)) ∈ lw_all := lw_g (lw_at lw_m1 137 rfl) rfl
theorem q157 : (Jvm.Cond.selects "TreePaths" ({ cls := "TreePaths", name := "node", desc := "(I)I" } : Jvm.MethodName) ({ cls := "TreePaths", name := "node", desc := "(I)I" } : Jvm.MethodName)) ∈ lw_all := lw_g (lw_at lw_m1 138 rfl) rfl
theorem q158 : (Jvm.Cond.code ({ cls := "TreePaths", name := "node", desc := "(I)I" } : Jvm.MethodName) prog_1_method_14_code (2 : Nat) (Option.some Jvm.ClassFile.FieldType.int)) ∈ lw_all := lw_g (lw_at lw_m1 139 rfl) rfl
theorem q160 : (Jvm.Cond.instanceMethod ({ cls := "TreePaths", name := "sum", desc := "()I" } : Jvm.MethodName)) ∈ lw_all := lw_g (lw_at lw_m1 141 rfl) rfl
theorem q161 : (Jvm.Cond.selects "TreePaths" ({ cls := "TreePaths", name := "sum", desc := "()I" } : Jvm.MethodName) ({ cls := "TreePaths", name := "sum", desc := "()I" } : Jvm.MethodName)) ∈ lw_all := lw_g (lw_at lw_m1 142 rfl) rfl
theorem q162 : (Jvm.Cond.code ({ cls := "TreePaths", name := "sum", desc := "()I" } : Jvm.MethodName) prog_1_method_15_code (3 : Nat) (Option.some Jvm.ClassFile.FieldType.int)) ∈ lw_all := lw_g (lw_at lw_m1 143 rfl) rfl
theorem in_X0 : ∀ w ∈ wsX00, w ∈ lw_all := lw_in wsX00 [38, 40, 42, 44, 46, 48, 50, 52] (by decide +kernel) (by decide +kernel)
def RX1 : String := "TreePathsModel"
def TX1 : u_T := fun k => match k with
  | 0 => ("TreePathsModel", "nodes", "I", false)
  | 1 => ("TreePathsModel", "parents", "[I", true)
  | 2 => ("TreePathsModel", "texts", "[Z", true)
  | 3 => ("TreePathsModel", "words", "[I", true)
  | 4 => ("TreePathsModel", "current", "I", false)
  | 5 => ("TreePathsModel", "set", "J", false)
  | _ => ("TreePathsModel", "kept", "[J", true)
def tyX1 : Nat → FieldType := fun k => match k with
  | 0 => .int
  | 1 => .array .int
  | 2 => .array .boolean
  | 3 => .array .int
  | 4 => .int
  | 5 => .long
  | _ => .array .long
abbrev wsX10 : List Cond := u_ws RX1 TX1 7
theorem nmX1 : ∀ a, a < 7 → ∀ b, b < 7 → a ≠ b → (TX1 a).2.1 ≠ (TX1 b).2.1 := by decide +kernel
theorem tyX1_ok : ∀ k, k < 7 → parseFieldDescriptor (TX1 k).2.2.1 = some (tyX1 k) := by decide +kernel
abbrev cX1_init : ByteArray := prog_3_method_1_code
def yX1_init : MethodName := ⟨RX1, "<init>", "()V"⟩
abbrev cX1_open : ByteArray := prog_3_method_4_code
def yX1_open : MethodName := ⟨RX1, "open", "(I)I"⟩
abbrev cX1_add : ByteArray := prog_3_method_3_code
def yX1_add : MethodName := ⟨RX1, "add", "(ZI)I"⟩
abbrev cX1_reset : ByteArray := prog_3_method_2_code
def yX1_reset : MethodName := ⟨RX1, "reset", "()V"⟩
abbrev cX1_text : ByteArray := prog_3_method_5_code
def yX1_text : MethodName := ⟨RX1, "text", "(I)I"⟩
abbrev cX1_close : ByteArray := prog_3_method_6_code
def yX1_close : MethodName := ⟨RX1, "close", "()I"⟩
abbrev cX1_remove : ByteArray := prog_3_method_8_code
def yX1_remove : MethodName := ⟨RX1, "remove", "(I)I"⟩
abbrev cX1_above : ByteArray := prog_3_method_7_code
def yX1_above : MethodName := ⟨RX1, "above", "(II)Z"⟩
abbrev cX1_start : ByteArray := prog_3_method_9_code
def yX1_start : MethodName := ⟨RX1, "start", "()V"⟩
abbrev cX1_step : ByteArray := prog_3_method_16_code
def yX1_step : MethodName := ⟨RX1, "step", "(III)I"⟩
abbrev cX1_refused : ByteArray := prog_3_method_15_code
def yX1_refused : MethodName := ⟨RX1, "refused", "(II)Z"⟩
abbrev cX1_found : ByteArray := prog_3_method_13_code
def yX1_found : MethodName := ⟨RX1, "found", "(IIII)J"⟩
abbrev cX1_leads : ByteArray := prog_3_method_10_code
def yX1_leads : MethodName := ⟨RX1, "leads", "(III)Z"⟩
abbrev cX1_passes : ByteArray := prog_3_method_11_code
def yX1_passes : MethodName := ⟨RX1, "passes", "(II)Z"⟩
abbrev cX1_backwards : ByteArray := prog_3_method_12_code
def yX1_backwards : MethodName := ⟨RX1, "backwards", "(I)Z"⟩
abbrev cX1_size : ByteArray := prog_3_method_14_code
def yX1_size : MethodName := ⟨RX1, "size", "()I"⟩
abbrev cX1_having : ByteArray := prog_3_method_17_code
def yX1_having : MethodName := ⟨RX1, "having", "(IIZ)I"⟩
abbrev cX1_valued : ByteArray := prog_3_method_18_code
def yX1_valued : MethodName := ⟨RX1, "valued", "(II)I"⟩
abbrev cX1_keep : ByteArray := prog_3_method_19_code
def yX1_keep : MethodName := ⟨RX1, "keep", "(I)V"⟩
abbrev cX1_mix : ByteArray := prog_3_method_20_code
def yX1_mix : MethodName := ⟨RX1, "mix", "(II)I"⟩
abbrev cX1_node : ByteArray := prog_3_method_21_code
def yX1_node : MethodName := ⟨RX1, "node", "(I)I"⟩
abbrev cX1_sum : ByteArray := prog_3_method_22_code
def yX1_sum : MethodName := ⟨RX1, "sum", "()I"⟩
theorem q21 : (Jvm.Cond.initialized "TreePathsModel") ∈ lw_all := lw_g (lw_at lw_m1 2 rfl) rfl
theorem q164 : (Jvm.Cond.instantiable "TreePathsModel" (7 : Nat)) ∈ lw_all := lw_g (lw_at lw_m1 145 rfl) rfl
theorem q166 : (Jvm.Cond.instanceMethod ({ cls := "TreePathsModel", name := "<init>", desc := "()V" } : Jvm.MethodName)) ∈ lw_all := lw_g (lw_at lw_m1 147 rfl) rfl
theorem q167 : (Jvm.Cond.code ({ cls := "TreePathsModel", name := "<init>", desc := "()V" } : Jvm.MethodName) prog_3_method_1_code (1 : Nat) (Option.none : Option Jvm.ClassFile.FieldType)) ∈ lw_all := lw_g (lw_at lw_m1 148 rfl) rfl
theorem q168 : (Jvm.Cond.methodLink "TreePathsModel" (1 : Nat) ({ cls := "java/lang/Object", name := "<init>", desc := "()V" } : Jvm.MethodName)) ∈ lw_all := lw_g (lw_at lw_m1 149 rfl) rfl
theorem q169 : (Jvm.Cond.fieldLink "TreePathsModel" (7 : Nat) "TreePathsModel" "nodes" "I") ∈ lw_all := lw_g (lw_at lw_m1 150 rfl) rfl
theorem q170 : (Jvm.Cond.fieldLink "TreePathsModel" (13 : Nat) "TreePathsModel" "parents" "[I") ∈ lw_all := lw_g (lw_at lw_m1 151 rfl) rfl
theorem q171 : (Jvm.Cond.fieldLink "TreePathsModel" (17 : Nat) "TreePathsModel" "texts" "[Z") ∈ lw_all := lw_g (lw_at lw_m1 152 rfl) rfl
theorem q172 : (Jvm.Cond.fieldLink "TreePathsModel" (21 : Nat) "TreePathsModel" "words" "[I") ∈ lw_all := lw_g (lw_at lw_m1 153 rfl) rfl
theorem q173 : (Jvm.Cond.fieldLink "TreePathsModel" (32 : Nat) "TreePathsModel" "current" "I") ∈ lw_all := lw_g (lw_at lw_m1 154 rfl) rfl
theorem q174 : (Jvm.Cond.fieldLink "TreePathsModel" (24 : Nat) "TreePathsModel" "set" "J") ∈ lw_all := lw_g (lw_at lw_m1 155 rfl) rfl
theorem q175 : (Jvm.Cond.fieldLink "TreePathsModel" (28 : Nat) "TreePathsModel" "kept" "[J") ∈ lw_all := lw_g (lw_at lw_m1 156 rfl) rfl
theorem q176 : (Jvm.Cond.lays "TreePathsModel" "TreePathsModel" "nodes" "I") ∈ lw_all := lw_g (lw_at lw_m1 157 rfl) rfl
theorem q177 : (Jvm.Cond.soleField "TreePathsModel" "nodes") ∈ lw_all := lw_g (lw_at lw_m1 158 rfl) rfl
theorem q178 : (Jvm.Cond.laysFinal "TreePathsModel" "TreePathsModel" "parents" "[I") ∈ lw_all := lw_g (lw_at lw_m1 159 rfl) rfl
theorem q179 : (Jvm.Cond.soleField "TreePathsModel" "parents") ∈ lw_all := lw_g (lw_at lw_m1 160 rfl) rfl
theorem q180 : (Jvm.Cond.laysFinal "TreePathsModel" "TreePathsModel" "texts" "[Z") ∈ lw_all := lw_g (lw_at lw_m1 161 rfl) rfl
theorem q181 : (Jvm.Cond.soleField "TreePathsModel" "texts") ∈ lw_all := lw_g (lw_at lw_m1 162 rfl) rfl
theorem q182 : (Jvm.Cond.laysFinal "TreePathsModel" "TreePathsModel" "words" "[I") ∈ lw_all := lw_g (lw_at lw_m1 163 rfl) rfl
theorem q183 : (Jvm.Cond.soleField "TreePathsModel" "words") ∈ lw_all := lw_g (lw_at lw_m1 164 rfl) rfl
theorem q184 : (Jvm.Cond.lays "TreePathsModel" "TreePathsModel" "current" "I") ∈ lw_all := lw_g (lw_at lw_m1 165 rfl) rfl
theorem q185 : (Jvm.Cond.soleField "TreePathsModel" "current") ∈ lw_all := lw_g (lw_at lw_m1 166 rfl) rfl
theorem q186 : (Jvm.Cond.lays "TreePathsModel" "TreePathsModel" "set" "J") ∈ lw_all := lw_g (lw_at lw_m1 167 rfl) rfl
theorem q187 : (Jvm.Cond.soleField "TreePathsModel" "set") ∈ lw_all := lw_g (lw_at lw_m1 168 rfl) rfl
theorem q188 : (Jvm.Cond.laysFinal "TreePathsModel" "TreePathsModel" "kept" "[J") ∈ lw_all := lw_g (lw_at lw_m1 169 rfl) rfl
theorem q189 : (Jvm.Cond.soleField "TreePathsModel" "kept") ∈ lw_all := lw_g (lw_at lw_m1 170 rfl) rfl
theorem q190 : (Jvm.Cond.superclass "TreePathsModel" "java/lang/Object") ∈ lw_all := lw_g (lw_at lw_m1 171 rfl) rfl
theorem q193 : (Jvm.Cond.instanceMethod ({ cls := "TreePathsModel", name := "open", desc := "(I)I" } : Jvm.MethodName)) ∈ lw_all := lw_g (lw_at lw_m1 174 rfl) rfl
theorem q194 : (Jvm.Cond.selects "TreePathsModel" ({ cls := "TreePathsModel", name := "open", desc := "(I)I" } : Jvm.MethodName) ({ cls := "TreePathsModel", name := "open", desc := "(I)I" } : Jvm.MethodName)) ∈ lw_all := lw_g (lw_at lw_m1 175 rfl) rfl
theorem q195 : (Jvm.Cond.code ({ cls := "TreePathsModel", name := "open", desc := "(I)I" } : Jvm.MethodName) prog_3_method_4_code (2 : Nat) (Option.some Jvm.ClassFile.FieldType.int)) ∈ lw_all := lw_g (lw_at lw_m1 176 rfl) rfl
theorem q196 : (Jvm.Cond.methodLink "TreePathsModel" (38 : Nat) ({ cls := "TreePathsModel", name := "add", desc := "(ZI)I" } : Jvm.MethodName)) ∈ lw_all := lw_g (lw_at lw_m1 177 rfl) rfl
theorem q197 : (Jvm.Cond.privateMethod ({ cls := "TreePathsModel", name := "add", desc := "(ZI)I" } : Jvm.MethodName)) ∈ lw_tbl := lw_at lw_m1 178 rfl
theorem q198 : (Jvm.Cond.instanceMethod ({ cls := "TreePathsModel", name := "add", desc := "(ZI)I" } : Jvm.MethodName)) ∈ lw_all := lw_g (lw_at lw_m1 179 rfl) rfl
theorem q199 : (Jvm.Cond.code ({ cls := "TreePathsModel", name := "add", desc := "(ZI)I" } : Jvm.MethodName) prog_3_method_3_code (3 : Nat) (Option.some Jvm.ClassFile.FieldType.int)) ∈ lw_all := lw_g (lw_at lw_m1 180 rfl) rfl
theorem q200 : (Jvm.Cond.methodLink "TreePathsModel" (35 : Nat) ({ cls := "TreePathsModel", name := "reset", desc := "()V" } : Jvm.MethodName)) ∈ lw_all := lw_g (lw_at lw_m1 181 rfl) rfl
theorem q201 : (Jvm.Cond.privateMethod ({ cls := "TreePathsModel", name := "reset", desc := "()V" } : Jvm.MethodName)) ∈ lw_tbl := lw_at lw_m1 182 rfl
theorem q202 : (Jvm.Cond.instanceMethod ({ cls := "TreePathsModel", name := "reset", desc := "()V" } : Jvm.MethodName)) ∈ lw_all := lw_g (lw_at lw_m1 183 rfl) rfl
theorem q203 : (Jvm.Cond.code ({ cls := "TreePathsModel", name := "reset", desc := "()V" } : Jvm.MethodName) prog_3_method_2_code (1 : Nat) (Option.none : Option Jvm.ClassFile.FieldType)) ∈ lw_all := lw_g (lw_at lw_m1 184 rfl) rfl
theorem q205 : (Jvm.Cond.instanceMethod ({ cls := "TreePathsModel", name := "text", desc := "(I)I" } : Jvm.MethodName)) ∈ lw_all := lw_g (lw_at lw_m1 186 rfl) rfl
theorem q206 : (Jvm.Cond.selects "TreePathsModel" ({ cls := "TreePathsModel", name := "text", desc := "(I)I" } : Jvm.MethodName) ({ cls := "TreePathsModel", name := "text", desc := "(I)I" } : Jvm.MethodName)) ∈ lw_all := lw_g (lw_at lw_m1 187 rfl) rfl
theorem q207 : (Jvm.Cond.code ({ cls := "TreePathsModel", name := "text", desc := "(I)I" } : Jvm.MethodName) prog_3_method_5_code (2 : Nat) (Option.some Jvm.ClassFile.FieldType.int)) ∈ lw_all := lw_g (lw_at lw_m1 188 rfl) rfl
theorem q209 : (Jvm.Cond.instanceMethod ({ cls := "TreePathsModel", name := "close", desc := "()I" } : Jvm.MethodName)) ∈ lw_all := lw_g (lw_at lw_m1 190 rfl) rfl
theorem q210 : (Jvm.Cond.selects "TreePathsModel" ({ cls := "TreePathsModel", name := "close", desc := "()I" } : Jvm.MethodName) ({ cls := "TreePathsModel", name := "close", desc := "()I" } : Jvm.MethodName)) ∈ lw_all := lw_g (lw_at lw_m1 191 rfl) rfl
theorem q211 : (Jvm.Cond.code ({ cls := "TreePathsModel", name := "close", desc := "()I" } : Jvm.MethodName) prog_3_method_6_code (1 : Nat) (Option.some Jvm.ClassFile.FieldType.int)) ∈ lw_all := lw_g (lw_at lw_m1 192 rfl) rfl
theorem q213 : (Jvm.Cond.instanceMethod ({ cls := "TreePathsModel", name := "remove", desc := "(I)I" } : Jvm.MethodName)) ∈ lw_all := lw_g (lw_at lw_m1 194 rfl) rfl
theorem q214 : (Jvm.Cond.selects "TreePathsModel" ({ cls := "TreePathsModel", name := "remove", desc := "(I)I" } : Jvm.MethodName) ({ cls := "TreePathsModel", name := "remove", desc := "(I)I" } : Jvm.MethodName)) ∈ lw_all := lw_g (lw_at lw_m1 195 rfl) rfl
theorem q215 : (Jvm.Cond.code ({ cls := "TreePathsModel", name := "remove", desc := "(I)I" } : Jvm.MethodName) prog_3_method_8_code (5 : Nat) (Option.some Jvm.ClassFile.FieldType.int)) ∈ lw_all := lw_g (lw_at lw_m1 196 rfl) rfl
theorem q216 : (Jvm.Cond.methodLink "TreePathsModel" (42 : Nat) ({ cls := "TreePathsModel", name := "above", desc := "(II)Z" } : Jvm.MethodName)) ∈ lw_all := lw_g (lw_at lw_m1 197 rfl) rfl
theorem q217 : (Jvm.Cond.privateMethod ({ cls := "TreePathsModel", name := "above", desc := "(II)Z" } : Jvm.MethodName)) ∈ lw_tbl := lw_at lw_m1 198 rfl
theorem q218 : (Jvm.Cond.instanceMethod ({ cls := "TreePathsModel", name := "above", desc := "(II)Z" } : Jvm.MethodName)) ∈ lw_all := lw_g (lw_at lw_m1 199 rfl) rfl
theorem q219 : (Jvm.Cond.code ({ cls := "TreePathsModel", name := "above", desc := "(II)Z" } : Jvm.MethodName) prog_3_method_7_code (4 : Nat) (Option.some Jvm.ClassFile.FieldType.boolean)) ∈ lw_all := lw_g (lw_at lw_m1 200 rfl) rfl
theorem q221 : (Jvm.Cond.instanceMethod ({ cls := "TreePathsModel", name := "start", desc := "()V" } : Jvm.MethodName)) ∈ lw_all := lw_g (lw_at lw_m1 202 rfl) rfl
theorem q222 : (Jvm.Cond.selects "TreePathsModel" ({ cls := "TreePathsModel", name := "start", desc := "()V" } : Jvm.MethodName) ({ cls := "TreePathsModel", name := "start", desc := "()V" } : Jvm.MethodName)) ∈ lw_all := lw_g (lw_at lw_m1 203 rfl) rfl
theorem q223 : (Jvm.Cond.code ({ cls := "TreePathsModel", name := "start", desc := "()V" } : Jvm.MethodName) prog_3_method_9_code (1 : Nat) (Option.none : Option Jvm.ClassFile.FieldType)) ∈ lw_all := lw_g (lw_at lw_m1 204 rfl) rfl
theorem q225 : (Jvm.Cond.instanceMethod ({ cls := "TreePathsModel", name := "step", desc := "(III)I" } : Jvm.MethodName)) ∈ lw_all := lw_g (lw_at lw_m1 206 rfl) rfl
theorem q226 : (Jvm.Cond.selects "TreePathsModel" ({ cls := "TreePathsModel", name := "step", desc := "(III)I" } : Jvm.MethodName) ({ cls := "TreePathsModel", name := "step", desc := "(III)I" } : Jvm.MethodName)) ∈ lw_all := lw_g (lw_at lw_m1 207 rfl) rfl
theorem q227 : (Jvm.Cond.code ({ cls := "TreePathsModel", name := "step", desc := "(III)I" } : Jvm.MethodName) prog_3_method_16_code (7 : Nat) (Option.some Jvm.ClassFile.FieldType.int)) ∈ lw_all := lw_g (lw_at lw_m1 208 rfl) rfl
theorem q228 : (Jvm.Cond.methodLink "TreePathsModel" (57 : Nat) ({ cls := "TreePathsModel", name := "refused", desc := "(II)Z" } : Jvm.MethodName)) ∈ lw_all := lw_g (lw_at lw_m1 209 rfl) rfl
theorem q229 : (Jvm.Cond.static ({ cls := "TreePathsModel", name := "refused", desc := "(II)Z" } : Jvm.MethodName)) ∈ lw_all := lw_g (lw_at lw_m1 210 rfl) rfl
theorem q230 : (Jvm.Cond.code ({ cls := "TreePathsModel", name := "refused", desc := "(II)Z" } : Jvm.MethodName) prog_3_method_15_code (2 : Nat) (Option.some Jvm.ClassFile.FieldType.boolean)) ∈ lw_all := lw_g (lw_at lw_m1 211 rfl) rfl
theorem q231 : (Jvm.Cond.methodLink "TreePathsModel" (60 : Nat) ({ cls := "TreePathsModel", name := "found", desc := "(IIII)J" } : Jvm.MethodName)) ∈ lw_all := lw_g (lw_at lw_m1 212 rfl) rfl
theorem q232 : (Jvm.Cond.privateMethod ({ cls := "TreePathsModel", name := "found", desc := "(IIII)J" } : Jvm.MethodName)) ∈ lw_tbl := lw_at lw_m1 213 rfl
theorem q233 : (Jvm.Cond.instanceMethod ({ cls := "TreePathsModel", name := "found", desc := "(IIII)J" } : Jvm.MethodName)) ∈ lw_all := lw_g (lw_at lw_m1 214 rfl) rfl
theorem q234 : (Jvm.Cond.code ({ cls := "TreePathsModel", name := "found", desc := "(IIII)J" } : Jvm.MethodName) prog_3_method_13_code (12 : Nat) (Option.some Jvm.ClassFile.FieldType.long)) ∈ lw_all := lw_g (lw_at lw_m1 215 rfl) rfl
theorem q235 : (Jvm.Cond.methodLink "TreePathsModel" (46 : Nat) ({ cls := "TreePathsModel", name := "leads", desc := "(III)Z" } : Jvm.MethodName)) ∈ lw_all := lw_g (lw_at lw_m1 216 rfl) rfl
theorem q236 : (Jvm.Cond.privateMethod ({ cls := "TreePathsModel", name := "leads", desc := "(III)Z" } : Jvm.MethodName)) ∈ lw_tbl := lw_at lw_m1 217 rfl
theorem q237 : (Jvm.Cond.instanceMethod ({ cls := "TreePathsModel", name := "leads", desc := "(III)Z" } : Jvm.MethodName)) ∈ lw_all := lw_g (lw_at lw_m1 218 rfl) rfl
theorem q238 : (Jvm.Cond.code ({ cls := "TreePathsModel", name := "leads", desc := "(III)Z" } : Jvm.MethodName) prog_3_method_10_code (5 : Nat) (Option.some Jvm.ClassFile.FieldType.boolean)) ∈ lw_all := lw_g (lw_at lw_m1 219 rfl) rfl
theorem q239 : (Jvm.Cond.methodLink "TreePathsModel" (50 : Nat) ({ cls := "TreePathsModel", name := "passes", desc := "(II)Z" } : Jvm.MethodName)) ∈ lw_all := lw_g (lw_at lw_m1 220 rfl) rfl
theorem q240 : (Jvm.Cond.privateMethod ({ cls := "TreePathsModel", name := "passes", desc := "(II)Z" } : Jvm.MethodName)) ∈ lw_tbl := lw_at lw_m1 221 rfl
theorem q241 : (Jvm.Cond.instanceMethod ({ cls := "TreePathsModel", name := "passes", desc := "(II)Z" } : Jvm.MethodName)) ∈ lw_all := lw_g (lw_at lw_m1 222 rfl) rfl
theorem q242 : (Jvm.Cond.code ({ cls := "TreePathsModel", name := "passes", desc := "(II)Z" } : Jvm.MethodName) prog_3_method_11_code (3 : Nat) (Option.some Jvm.ClassFile.FieldType.boolean)) ∈ lw_all := lw_g (lw_at lw_m1 223 rfl) rfl
theorem q243 : (Jvm.Cond.methodLink "TreePathsModel" (53 : Nat) ({ cls := "TreePathsModel", name := "backwards", desc := "(I)Z" } : Jvm.MethodName)) ∈ lw_all := lw_g (lw_at lw_m1 224 rfl) rfl
theorem q244 : (Jvm.Cond.static ({ cls := "TreePathsModel", name := "backwards", desc := "(I)Z" } : Jvm.MethodName)) ∈ lw_all := lw_g (lw_at lw_m1 225 rfl) rfl
theorem q245 : (Jvm.Cond.code ({ cls := "TreePathsModel", name := "backwards", desc := "(I)Z" } : Jvm.MethodName) prog_3_method_12_code (1 : Nat) (Option.some Jvm.ClassFile.FieldType.boolean)) ∈ lw_all := lw_g (lw_at lw_m1 226 rfl) rfl
theorem q246 : (Jvm.Cond.methodLink "TreePathsModel" (64 : Nat) ({ cls := "TreePathsModel", name := "size", desc := "()I" } : Jvm.MethodName)) ∈ lw_all := lw_g (lw_at lw_m1 227 rfl) rfl
theorem q247 : (Jvm.Cond.privateMethod ({ cls := "TreePathsModel", name := "size", desc := "()I" } : Jvm.MethodName)) ∈ lw_tbl := lw_at lw_m1 228 rfl
theorem q248 : (Jvm.Cond.instanceMethod ({ cls := "TreePathsModel", name := "size", desc := "()I" } : Jvm.MethodName)) ∈ lw_all := lw_g (lw_at lw_m1 229 rfl) rfl
theorem q249 : (Jvm.Cond.code ({ cls := "TreePathsModel", name := "size", desc := "()I" } : Jvm.MethodName) prog_3_method_14_code (3 : Nat) (Option.some Jvm.ClassFile.FieldType.int)) ∈ lw_all := lw_g (lw_at lw_m1 230 rfl) rfl
theorem q251 : (Jvm.Cond.instanceMethod ({ cls := "TreePathsModel", name := "having", desc := "(IIZ)I" } : Jvm.MethodName)) ∈ lw_all := lw_g (lw_at lw_m1 232 rfl) rfl
theorem q252 : (Jvm.Cond.selects "TreePathsModel" ({ cls := "TreePathsModel", name := "having", desc := "(IIZ)I" } : Jvm.MethodName) ({ cls := "TreePathsModel", name := "having", desc := "(IIZ)I" } : Jvm.MethodName)) ∈ lw_all := lw_g (lw_at lw_m1 233 rfl) rfl
theorem q253 : (Jvm.Cond.code ({ cls := "TreePathsModel", name := "having", desc := "(IIZ)I" } : Jvm.MethodName) prog_3_method_17_code (6 : Nat) (Option.some Jvm.ClassFile.FieldType.int)) ∈ lw_all := lw_g (lw_at lw_m1 234 rfl) rfl
theorem q254 : (Jvm.Cond.constantLong "TreePathsModel" (68 : Nat) (-1 : Int64)) ∈ lw_all := lw_g (lw_at lw_m1 235 rfl) rfl
theorem q256 : (Jvm.Cond.instanceMethod ({ cls := "TreePathsModel", name := "valued", desc := "(II)I" } : Jvm.MethodName)) ∈ lw_all := lw_g (lw_at lw_m1 237 rfl) rfl
theorem q257 : (Jvm.Cond.selects "TreePathsModel" ({ cls := "TreePathsModel", name := "valued", desc := "(II)I" } : Jvm.MethodName) ({ cls := "TreePathsModel", name := "valued", desc := "(II)I" } : Jvm.MethodName)) ∈ lw_all := lw_g (lw_at lw_m1 238 rfl) rfl
theorem q258 : (Jvm.Cond.code ({ cls := "TreePathsModel", name := "valued", desc := "(II)I" } : Jvm.MethodName) prog_3_method_18_code (7 : Nat) (Option.some Jvm.ClassFile.FieldType.int)) ∈ lw_all := lw_g (lw_at lw_m1 239 rfl) rfl
theorem q260 : (Jvm.Cond.instanceMethod ({ cls := "TreePathsModel", name := "keep", desc := "(I)V" } : Jvm.MethodName)) ∈ lw_all := lw_g (lw_at lw_m2 1 rfl) rfl
theorem q261 : (Jvm.Cond.selects "TreePathsModel" ({ cls := "TreePathsModel", name := "keep", desc := "(I)V" } : Jvm.MethodName) ({ cls := "TreePathsModel", name := "keep", desc := "(I)V" } : Jvm.MethodName)) ∈ lw_all := lw_g (lw_at lw_m2 2 rfl) rfl
theorem q262 : (Jvm.Cond.code ({ cls := "TreePathsModel", name := "keep", desc := "(I)V" } : Jvm.MethodName) prog_3_method_19_code (2 : Nat) (Option.none : Option Jvm.ClassFile.FieldType)) ∈ lw_all := lw_g (lw_at lw_m2 3 rfl) rfl
theorem q264 : (Jvm.Cond.instanceMethod ({ cls := "TreePathsModel", name := "mix", desc := "(II)I" } : Jvm.MethodName)) ∈ lw_all := lw_g (lw_at lw_m2 5 rfl) rfl
theorem q265 : (Jvm.Cond.selects "TreePathsModel" ({ cls := "TreePathsModel", name := "mix", desc := "(II)I" } : Jvm.MethodName) ({ cls := "TreePathsModel", name := "mix", desc := "(II)I" } : Jvm.MethodName)) ∈ lw_all := lw_g (lw_at lw_m2 6 rfl) rfl
theorem q266 : (Jvm.Cond.code ({ cls := "TreePathsModel", name := "mix", desc := "(II)I" } : Jvm.MethodName) prog_3_method_20_code (5 : Nat) (Option.some Jvm.ClassFile.FieldType.int)) ∈ lw_all := lw_g (lw_at lw_m2 7 rfl) rfl
theorem q268 : (Jvm.Cond.instanceMethod ({ cls := "TreePathsModel", name := "node", desc := "(I)I" } : Jvm.MethodName)) ∈ lw_all := lw_g (lw_at lw_m2 9 rfl) rfl
theorem q269 : (Jvm.Cond.selects "TreePathsModel" ({ cls := "TreePathsModel", name := "node", desc := "(I)I" } : Jvm.MethodName) ({ cls := "TreePathsModel", name := "node", desc := "(I)I" } : Jvm.MethodName)) ∈ lw_all := lw_g (lw_at lw_m2 10 rfl) rfl
theorem q270 : (Jvm.Cond.code ({ cls := "TreePathsModel", name := "node", desc := "(I)I" } : Jvm.MethodName) prog_3_method_21_code (4 : Nat) (Option.some Jvm.ClassFile.FieldType.int)) ∈ lw_all := lw_g (lw_at lw_m2 11 rfl) rfl
theorem q272 : (Jvm.Cond.instanceMethod ({ cls := "TreePathsModel", name := "sum", desc := "()I" } : Jvm.MethodName)) ∈ lw_all := lw_g (lw_at lw_m2 13 rfl) rfl
theorem q273 : (Jvm.Cond.selects "TreePathsModel" ({ cls := "TreePathsModel", name := "sum", desc := "()I" } : Jvm.MethodName) ({ cls := "TreePathsModel", name := "sum", desc := "()I" } : Jvm.MethodName)) ∈ lw_all := lw_g (lw_at lw_m2 14 rfl) rfl
theorem q274 : (Jvm.Cond.code ({ cls := "TreePathsModel", name := "sum", desc := "()I" } : Jvm.MethodName) prog_3_method_22_code (3 : Nat) (Option.some Jvm.ClassFile.FieldType.int)) ∈ lw_all := lw_g (lw_at lw_m2 15 rfl) rfl
theorem in_X1 : ∀ w ∈ wsX10, w ∈ lw_all := lw_in wsX10 [176, 178, 180, 182, 184, 186, 188] (by decide +kernel) (by decide +kernel)
def RJ0 : String := "java/lang/Object"
abbrev cJ0_init : ByteArray := object_method_1_code
def yJ0_init : MethodName := ⟨RJ0, "<init>", "()V"⟩
theorem q28 : (Jvm.Cond.instanceMethod ({ cls := "java/lang/Object", name := "<init>", desc := "()V" } : Jvm.MethodName)) ∈ lw_all := lw_g (lw_at lw_m1 9 rfl) rfl
theorem q29 : (Jvm.Cond.code ({ cls := "java/lang/Object", name := "<init>", desc := "()V" } : Jvm.MethodName) object_method_1_code (1 : Nat) (Option.none : Option Jvm.ClassFile.FieldType)) ∈ lw_all := lw_g (lw_at lw_m1 10 rfl) rfl
theorem dJ0_init_0 : decode cJ0_init 0 = .ok (.return_, 1) := by decide +kernel
abbrev cL_law : ByteArray := code
theorem q55 : (Jvm.Cond.arrayClass Jvm.ClassFile.FieldType.int) ∈ lw_all := lw_g (lw_at lw_m1 36 rfl) rfl
theorem q56 : (Jvm.Cond.arrayClass Jvm.ClassFile.FieldType.long) ∈ lw_all := lw_g (lw_at lw_m1 37 rfl) rfl
theorem q191 : (Jvm.Cond.arrayClass Jvm.ClassFile.FieldType.boolean) ∈ lw_all := lw_g (lw_at lw_m1 172 rfl) rfl
theorem q19 : (Jvm.Cond.initialized "TreePathsLaw") ∈ lw_all := lw_g (lw_at lw_m1 0 rfl) rfl
theorem q22 : (Jvm.Cond.classLink "TreePathsLaw" (7 : Nat) "TreePaths") ∈ lw_all := lw_g (lw_at lw_m1 3 rfl) rfl
theorem q24 : (Jvm.Cond.methodLink "TreePathsLaw" (9 : Nat) ({ cls := "TreePaths", name := "<init>", desc := "()V" } : Jvm.MethodName)) ∈ lw_all := lw_g (lw_at lw_m1 5 rfl) rfl
theorem q57 : (Jvm.Cond.methodLink "TreePathsLaw" (13 : Nat) ({ cls := "TreePaths", name := "open", desc := "(I)I" } : Jvm.MethodName)) ∈ lw_all := lw_g (lw_at lw_m1 38 rfl) rfl
theorem q69 : (Jvm.Cond.methodLink "TreePathsLaw" (18 : Nat) ({ cls := "TreePaths", name := "text", desc := "(I)I" } : Jvm.MethodName)) ∈ lw_all := lw_g (lw_at lw_m1 50 rfl) rfl
theorem q73 : (Jvm.Cond.methodLink "TreePathsLaw" (22 : Nat) ({ cls := "TreePaths", name := "close", desc := "()I" } : Jvm.MethodName)) ∈ lw_all := lw_g (lw_at lw_m1 54 rfl) rfl
theorem q77 : (Jvm.Cond.methodLink "TreePathsLaw" (27 : Nat) ({ cls := "TreePaths", name := "remove", desc := "(I)I" } : Jvm.MethodName)) ∈ lw_all := lw_g (lw_at lw_m1 58 rfl) rfl
theorem q81 : (Jvm.Cond.methodLink "TreePathsLaw" (31 : Nat) ({ cls := "TreePaths", name := "start", desc := "()V" } : Jvm.MethodName)) ∈ lw_all := lw_g (lw_at lw_m1 62 rfl) rfl
theorem q85 : (Jvm.Cond.methodLink "TreePathsLaw" (35 : Nat) ({ cls := "TreePaths", name := "step", desc := "(III)I" } : Jvm.MethodName)) ∈ lw_all := lw_g (lw_at lw_m1 66 rfl) rfl
theorem q139 : (Jvm.Cond.methodLink "TreePathsLaw" (40 : Nat) ({ cls := "TreePaths", name := "having", desc := "(IIZ)I" } : Jvm.MethodName)) ∈ lw_all := lw_g (lw_at lw_m1 120 rfl) rfl
theorem q143 : (Jvm.Cond.methodLink "TreePathsLaw" (45 : Nat) ({ cls := "TreePaths", name := "valued", desc := "(II)I" } : Jvm.MethodName)) ∈ lw_all := lw_g (lw_at lw_m1 124 rfl) rfl
theorem q147 : (Jvm.Cond.methodLink "TreePathsLaw" (50 : Nat) ({ cls := "TreePaths", name := "keep", desc := "(I)V" } : Jvm.MethodName)) ∈ lw_all := lw_g (lw_at lw_m1 128 rfl) rfl
theorem q151 : (Jvm.Cond.methodLink "TreePathsLaw" (55 : Nat) ({ cls := "TreePaths", name := "mix", desc := "(II)I" } : Jvm.MethodName)) ∈ lw_all := lw_g (lw_at lw_m1 132 rfl) rfl
theorem q155 : (Jvm.Cond.methodLink "TreePathsLaw" (59 : Nat) ({ cls := "TreePaths", name := "node", desc := "(I)I" } : Jvm.MethodName)) ∈ lw_all := lw_g (lw_at lw_m1 136 rfl) rfl
theorem q159 : (Jvm.Cond.methodLink "TreePathsLaw" (63 : Nat) ({ cls := "TreePaths", name := "sum", desc := "()I" } : Jvm.MethodName)) ∈ lw_all := lw_g (lw_at lw_m1 140 rfl) rfl
theorem q163 : (Jvm.Cond.classLink "TreePathsLaw" (10 : Nat) "TreePathsModel") ∈ lw_all := lw_g (lw_at lw_m1 144 rfl) rfl
theorem q165 : (Jvm.Cond.methodLink "TreePathsLaw" (12 : Nat) ({ cls := "TreePathsModel", name := "<init>", desc := "()V" } : Jvm.MethodName)) ∈ lw_all := lw_g (lw_at lw_m1 146 rfl) rfl
theorem q192 : (Jvm.Cond.methodLink "TreePathsLaw" (17 : Nat) ({ cls := "TreePathsModel", name := "open", desc := "(I)I" } : Jvm.MethodName)) ∈ lw_all := lw_g (lw_at lw_m1 173 rfl) rfl
theorem q204 : (Jvm.Cond.methodLink "TreePathsLaw" (21 : Nat) ({ cls := "TreePathsModel", name := "text", desc := "(I)I" } : Jvm.MethodName)) ∈ lw_all := lw_g (lw_at lw_m1 185 rfl) rfl
theorem q208 : (Jvm.Cond.methodLink "TreePathsLaw" (26 : Nat) ({ cls := "TreePathsModel", name := "close", desc := "()I" } : Jvm.MethodName)) ∈ lw_all := lw_g (lw_at lw_m1 189 rfl) rfl
theorem q212 : (Jvm.Cond.methodLink "TreePathsLaw" (30 : Nat) ({ cls := "TreePathsModel", name := "remove", desc := "(I)I" } : Jvm.MethodName)) ∈ lw_all := lw_g (lw_at lw_m1 193 rfl) rfl
theorem q220 : (Jvm.Cond.methodLink "TreePathsLaw" (34 : Nat) ({ cls := "TreePathsModel", name := "start", desc := "()V" } : Jvm.MethodName)) ∈ lw_all := lw_g (lw_at lw_m1 201 rfl) rfl
theorem q224 : (Jvm.Cond.methodLink "TreePathsLaw" (39 : Nat) ({ cls := "TreePathsModel", name := "step", desc := "(III)I" } : Jvm.MethodName)) ∈ lw_all := lw_g (lw_at lw_m1 205 rfl) rfl
theorem q250 : (Jvm.Cond.methodLink "TreePathsLaw" (44 : Nat) ({ cls := "TreePathsModel", name := "having", desc := "(IIZ)I" } : Jvm.MethodName)) ∈ lw_all := lw_g (lw_at lw_m1 231 rfl) rfl
theorem q255 : (Jvm.Cond.methodLink "TreePathsLaw" (49 : Nat) ({ cls := "TreePathsModel", name := "valued", desc := "(II)I" } : Jvm.MethodName)) ∈ lw_all := lw_g (lw_at lw_m1 236 rfl) rfl
theorem q259 : (Jvm.Cond.methodLink "TreePathsLaw" (54 : Nat) ({ cls := "TreePathsModel", name := "keep", desc := "(I)V" } : Jvm.MethodName)) ∈ lw_all := lw_g (lw_at lw_m2 0 rfl) rfl
theorem q263 : (Jvm.Cond.methodLink "TreePathsLaw" (58 : Nat) ({ cls := "TreePathsModel", name := "mix", desc := "(II)I" } : Jvm.MethodName)) ∈ lw_all := lw_g (lw_at lw_m2 4 rfl) rfl
theorem q267 : (Jvm.Cond.methodLink "TreePathsLaw" (62 : Nat) ({ cls := "TreePathsModel", name := "node", desc := "(I)I" } : Jvm.MethodName)) ∈ lw_all := lw_g (lw_at lw_m2 8 rfl) rfl
theorem q271 : (Jvm.Cond.methodLink "TreePathsLaw" (66 : Nat) ({ cls := "TreePathsModel", name := "sum", desc := "()I" } : Jvm.MethodName)) ∈ lw_all := lw_g (lw_at lw_m2 12 rfl) rfl
end
section
set_option maxRecDepth 100000
theorem dX0_init_0 : decode cX0_init 0 = .ok (.aload_n 0, 1) := by decide +kernel
theorem dX0_init_1 : decode cX0_init 1 = .ok (.invokespecial 1, 3) := by decide +kernel
theorem dX0_init_4 : decode cX0_init 4 = .ok (.aload_n 0, 1) := by decide +kernel
theorem dX0_init_5 : decode cX0_init 5 = .ok (.bipush 48, 2) := by decide +kernel
theorem dX0_init_7 : decode cX0_init 7 = .ok (.newarray .int, 2) := by decide +kernel
theorem dX0_init_9 : decode cX0_init 9 = .ok (.putfield 7, 3) := by decide +kernel
theorem dX0_init_12 : decode cX0_init 12 = .ok (.aload_n 0, 1) := by decide +kernel
theorem dX0_init_13 : decode cX0_init 13 = .ok (.bipush 48, 2) := by decide +kernel
theorem dX0_init_15 : decode cX0_init 15 = .ok (.newarray .int, 2) := by decide +kernel
theorem dX0_init_17 : decode cX0_init 17 = .ok (.putfield 13, 3) := by decide +kernel
theorem dX0_init_20 : decode cX0_init 20 = .ok (.aload_n 0, 1) := by decide +kernel
theorem dX0_init_21 : decode cX0_init 21 = .ok (.bipush 48, 2) := by decide +kernel
theorem dX0_init_23 : decode cX0_init 23 = .ok (.newarray .int, 2) := by decide +kernel
theorem dX0_init_25 : decode cX0_init 25 = .ok (.putfield 16, 3) := by decide +kernel
theorem dX0_init_28 : decode cX0_init 28 = .ok (.aload_n 0, 1) := by decide +kernel
theorem dX0_init_29 : decode cX0_init 29 = .ok (.bipush 48, 2) := by decide +kernel
theorem dX0_init_31 : decode cX0_init 31 = .ok (.newarray .int, 2) := by decide +kernel
theorem dX0_init_33 : decode cX0_init 33 = .ok (.putfield 19, 3) := by decide +kernel
theorem dX0_init_36 : decode cX0_init 36 = .ok (.aload_n 0, 1) := by decide +kernel
theorem dX0_init_37 : decode cX0_init 37 = .ok (.iconst 2, 1) := by decide +kernel
theorem dX0_init_38 : decode cX0_init 38 = .ok (.newarray .long, 2) := by decide +kernel
theorem dX0_init_40 : decode cX0_init 40 = .ok (.putfield 22, 3) := by decide +kernel
theorem dX0_init_43 : decode cX0_init 43 = .ok (.aload_n 0, 1) := by decide +kernel
theorem dX0_init_44 : decode cX0_init 44 = .ok (.iconst 1, 1) := by decide +kernel
theorem dX0_init_45 : decode cX0_init 45 = .ok (.putfield 26, 3) := by decide +kernel
theorem dX0_init_48 : decode cX0_init 48 = .ok (.aload_n 0, 1) := by decide +kernel
theorem dX0_init_49 : decode cX0_init 49 = .ok (.getfield 16, 3) := by decide +kernel
theorem dX0_init_52 : decode cX0_init 52 = .ok (.iconst 0, 1) := by decide +kernel
theorem dX0_init_53 : decode cX0_init 53 = .ok (.iconst (-1), 1) := by decide +kernel
theorem dX0_init_54 : decode cX0_init 54 = .ok (.iastore, 1) := by decide +kernel
theorem dX0_init_55 : decode cX0_init 55 = .ok (.aload_n 0, 1) := by decide +kernel
theorem dX0_init_56 : decode cX0_init 56 = .ok (.getfield 19, 3) := by decide +kernel
theorem dX0_init_59 : decode cX0_init 59 = .ok (.iconst 0, 1) := by decide +kernel
theorem dX0_init_60 : decode cX0_init 60 = .ok (.iconst 1, 1) := by decide +kernel
theorem dX0_init_61 : decode cX0_init 61 = .ok (.iastore, 1) := by decide +kernel
theorem dX0_init_62 : decode cX0_init 62 = .ok (.aload_n 0, 1) := by decide +kernel
theorem dX0_init_63 : decode cX0_init 63 = .ok (.lconst 1, 1) := by decide +kernel
theorem dX0_init_64 : decode cX0_init 64 = .ok (.putfield 30, 3) := by decide +kernel
theorem dX0_init_67 : decode cX0_init 67 = .ok (.return_, 1) := by decide +kernel
theorem dX0_open_0 : decode cX0_open 0 = .ok (.aload_n 0, 1) := by decide +kernel
theorem dX0_open_1 : decode cX0_open 1 = .ok (.getfield 26, 3) := by decide +kernel
theorem dX0_open_4 : decode cX0_open 4 = .ok (.bipush 48, 2) := by decide +kernel
theorem dX0_open_6 : decode cX0_open 6 = .ok (.if_icmp .lt 5, 3) := by decide +kernel
theorem dX0_open_9 : decode cX0_open 9 = .ok (.iconst (-1), 1) := by decide +kernel
theorem dX0_open_10 : decode cX0_open 10 = .ok (.ireturn, 1) := by decide +kernel
theorem dX0_open_11 : decode cX0_open 11 = .ok (.aload_n 0, 1) := by decide +kernel
theorem dX0_open_12 : decode cX0_open 12 = .ok (.iload_n 1, 1) := by decide +kernel
theorem dX0_open_13 : decode cX0_open 13 = .ok (.bipush 7, 2) := by decide +kernel
theorem dX0_open_15 : decode cX0_open 15 = .ok (.iand, 1) := by decide +kernel
theorem dX0_open_16 : decode cX0_open 16 = .ok (.iconst 0, 1) := by decide +kernel
theorem dX0_open_17 : decode cX0_open 17 = .ok (.invokevirtual 34, 3) := by decide +kernel
theorem dX0_open_20 : decode cX0_open 20 = .ok (.aload_n 0, 1) := by decide +kernel
theorem dX0_open_21 : decode cX0_open 21 = .ok (.aload_n 0, 1) := by decide +kernel
theorem dX0_open_22 : decode cX0_open 22 = .ok (.getfield 26, 3) := by decide +kernel
theorem dX0_open_25 : decode cX0_open 25 = .ok (.iconst 1, 1) := by decide +kernel
theorem dX0_open_26 : decode cX0_open 26 = .ok (.isub, 1) := by decide +kernel
theorem dX0_open_27 : decode cX0_open 27 = .ok (.putfield 38, 3) := by decide +kernel
theorem dX0_open_30 : decode cX0_open 30 = .ok (.aload_n 0, 1) := by decide +kernel
theorem dX0_open_31 : decode cX0_open 31 = .ok (.getfield 26, 3) := by decide +kernel
theorem dX0_open_34 : decode cX0_open 34 = .ok (.ireturn, 1) := by decide +kernel
theorem dX0_append_0 : decode cX0_append 0 = .ok (.aload_n 0, 1) := by decide +kernel
theorem dX0_append_1 : decode cX0_append 1 = .ok (.getfield 26, 3) := by decide +kernel
theorem dX0_append_4 : decode cX0_append 4 = .ok (.istore_n 3, 1) := by decide +kernel
theorem dX0_append_5 : decode cX0_append 5 = .ok (.aload_n 0, 1) := by decide +kernel
theorem dX0_append_6 : decode cX0_append 6 = .ok (.getfield 7, 3) := by decide +kernel
theorem dX0_append_9 : decode cX0_append 9 = .ok (.iload_n 3, 1) := by decide +kernel
theorem dX0_append_10 : decode cX0_append 10 = .ok (.iload_n 1, 1) := by decide +kernel
theorem dX0_append_11 : decode cX0_append 11 = .ok (.iastore, 1) := by decide +kernel
theorem dX0_append_12 : decode cX0_append 12 = .ok (.aload_n 0, 1) := by decide +kernel
theorem dX0_append_13 : decode cX0_append 13 = .ok (.getfield 13, 3) := by decide +kernel
theorem dX0_append_16 : decode cX0_append 16 = .ok (.iload_n 3, 1) := by decide +kernel
theorem dX0_append_17 : decode cX0_append 17 = .ok (.iload_n 2, 1) := by decide +kernel
theorem dX0_append_18 : decode cX0_append 18 = .ok (.iastore, 1) := by decide +kernel
theorem dX0_append_19 : decode cX0_append 19 = .ok (.aload_n 0, 1) := by decide +kernel
theorem dX0_append_20 : decode cX0_append 20 = .ok (.getfield 16, 3) := by decide +kernel
theorem dX0_append_23 : decode cX0_append 23 = .ok (.iload_n 3, 1) := by decide +kernel
theorem dX0_append_24 : decode cX0_append 24 = .ok (.aload_n 0, 1) := by decide +kernel
theorem dX0_append_25 : decode cX0_append 25 = .ok (.getfield 38, 3) := by decide +kernel
theorem dX0_append_28 : decode cX0_append 28 = .ok (.iastore, 1) := by decide +kernel
theorem dX0_append_29 : decode cX0_append 29 = .ok (.aload_n 0, 1) := by decide +kernel
theorem dX0_append_30 : decode cX0_append 30 = .ok (.getfield 19, 3) := by decide +kernel
theorem dX0_append_33 : decode cX0_append 33 = .ok (.iload_n 3, 1) := by decide +kernel
theorem dX0_append_34 : decode cX0_append 34 = .ok (.iload_n 3, 1) := by decide +kernel
theorem dX0_append_35 : decode cX0_append 35 = .ok (.iconst 1, 1) := by decide +kernel
theorem dX0_append_36 : decode cX0_append 36 = .ok (.iadd, 1) := by decide +kernel
theorem dX0_append_37 : decode cX0_append 37 = .ok (.iastore, 1) := by decide +kernel
theorem dX0_append_38 : decode cX0_append 38 = .ok (.aload_n 0, 1) := by decide +kernel
theorem dX0_append_39 : decode cX0_append 39 = .ok (.dup, 1) := by decide +kernel
theorem dX0_append_40 : decode cX0_append 40 = .ok (.getfield 26, 3) := by decide +kernel
theorem dX0_append_43 : decode cX0_append 43 = .ok (.iconst 1, 1) := by decide +kernel
theorem dX0_append_44 : decode cX0_append 44 = .ok (.iadd, 1) := by decide +kernel
theorem dX0_append_45 : decode cX0_append 45 = .ok (.putfield 26, 3) := by decide +kernel
theorem dX0_append_48 : decode cX0_append 48 = .ok (.aload_n 0, 1) := by decide +kernel
theorem dX0_append_49 : decode cX0_append 49 = .ok (.getfield 38, 3) := by decide +kernel
theorem dX0_append_52 : decode cX0_append 52 = .ok (.istore 4, 2) := by decide +kernel
theorem dX0_append_54 : decode cX0_append 54 = .ok (.iconst 0, 1) := by decide +kernel
theorem dX0_append_55 : decode cX0_append 55 = .ok (.istore 5, 2) := by decide +kernel
theorem dX0_append_57 : decode cX0_append 57 = .ok (.iload 5, 2) := by decide +kernel
theorem dX0_append_59 : decode cX0_append 59 = .ok (.bipush 48, 2) := by decide +kernel
theorem dX0_append_61 : decode cX0_append 61 = .ok (.if_icmp .ge 34, 3) := by decide +kernel
theorem dX0_append_64 : decode cX0_append 64 = .ok (.iload 4, 2) := by decide +kernel
theorem dX0_append_66 : decode cX0_append 66 = .ok (.ifCond .lt 29, 3) := by decide +kernel
theorem dX0_append_69 : decode cX0_append 69 = .ok (.aload_n 0, 1) := by decide +kernel
theorem dX0_append_70 : decode cX0_append 70 = .ok (.getfield 19, 3) := by decide +kernel
theorem dX0_append_73 : decode cX0_append 73 = .ok (.iload 4, 2) := by decide +kernel
theorem dX0_append_75 : decode cX0_append 75 = .ok (.aload_n 0, 1) := by decide +kernel
theorem dX0_append_76 : decode cX0_append 76 = .ok (.getfield 26, 3) := by decide +kernel
theorem dX0_append_79 : decode cX0_append 79 = .ok (.iastore, 1) := by decide +kernel
theorem dX0_append_80 : decode cX0_append 80 = .ok (.aload_n 0, 1) := by decide +kernel
theorem dX0_append_81 : decode cX0_append 81 = .ok (.getfield 16, 3) := by decide +kernel
theorem dX0_append_84 : decode cX0_append 84 = .ok (.iload 4, 2) := by decide +kernel
theorem dX0_append_86 : decode cX0_append 86 = .ok (.iaload, 1) := by decide +kernel
theorem dX0_append_87 : decode cX0_append 87 = .ok (.istore 4, 2) := by decide +kernel
theorem dX0_append_89 : decode cX0_append 89 = .ok (.iinc 5 1, 3) := by decide +kernel
theorem dX0_append_92 : decode cX0_append 92 = .ok (.goto (-35), 3) := by decide +kernel
theorem dX0_append_95 : decode cX0_append 95 = .ok (.aload_n 0, 1) := by decide +kernel
theorem dX0_append_96 : decode cX0_append 96 = .ok (.invokevirtual 41, 3) := by decide +kernel
theorem dX0_append_99 : decode cX0_append 99 = .ok (.return_, 1) := by decide +kernel
theorem dX0_forget_0 : decode cX0_forget 0 = .ok (.aload_n 0, 1) := by decide +kernel
theorem dX0_forget_1 : decode cX0_forget 1 = .ok (.lconst 1, 1) := by decide +kernel
theorem dX0_forget_2 : decode cX0_forget 2 = .ok (.putfield 30, 3) := by decide +kernel
theorem dX0_forget_5 : decode cX0_forget 5 = .ok (.aload_n 0, 1) := by decide +kernel
theorem dX0_forget_6 : decode cX0_forget 6 = .ok (.getfield 22, 3) := by decide +kernel
theorem dX0_forget_9 : decode cX0_forget 9 = .ok (.iconst 0, 1) := by decide +kernel
theorem dX0_forget_10 : decode cX0_forget 10 = .ok (.lconst 0, 1) := by decide +kernel
theorem dX0_forget_11 : decode cX0_forget 11 = .ok (.lastore, 1) := by decide +kernel
theorem dX0_forget_12 : decode cX0_forget 12 = .ok (.aload_n 0, 1) := by decide +kernel
theorem dX0_forget_13 : decode cX0_forget 13 = .ok (.getfield 22, 3) := by decide +kernel
theorem dX0_forget_16 : decode cX0_forget 16 = .ok (.iconst 1, 1) := by decide +kernel
theorem dX0_forget_17 : decode cX0_forget 17 = .ok (.lconst 0, 1) := by decide +kernel
theorem dX0_forget_18 : decode cX0_forget 18 = .ok (.lastore, 1) := by decide +kernel
theorem dX0_forget_19 : decode cX0_forget 19 = .ok (.return_, 1) := by decide +kernel
theorem dX0_text_0 : decode cX0_text 0 = .ok (.aload_n 0, 1) := by decide +kernel
theorem dX0_text_1 : decode cX0_text 1 = .ok (.getfield 26, 3) := by decide +kernel
theorem dX0_text_4 : decode cX0_text 4 = .ok (.bipush 48, 2) := by decide +kernel
theorem dX0_text_6 : decode cX0_text 6 = .ok (.if_icmp .lt 5, 3) := by decide +kernel
theorem dX0_text_9 : decode cX0_text 9 = .ok (.iconst (-1), 1) := by decide +kernel
theorem dX0_text_10 : decode cX0_text 10 = .ok (.ireturn, 1) := by decide +kernel
theorem dX0_text_11 : decode cX0_text 11 = .ok (.aload_n 0, 1) := by decide +kernel
theorem dX0_text_12 : decode cX0_text 12 = .ok (.bipush 8, 2) := by decide +kernel
theorem dX0_text_14 : decode cX0_text 14 = .ok (.iload_n 1, 1) := by decide +kernel
theorem dX0_text_15 : decode cX0_text 15 = .ok (.invokevirtual 34, 3) := by decide +kernel
theorem dX0_text_18 : decode cX0_text 18 = .ok (.aload_n 0, 1) := by decide +kernel
theorem dX0_text_19 : decode cX0_text 19 = .ok (.getfield 26, 3) := by decide +kernel
theorem dX0_text_22 : decode cX0_text 22 = .ok (.ireturn, 1) := by decide +kernel
theorem dX0_close_0 : decode cX0_close 0 = .ok (.aload_n 0, 1) := by decide +kernel
theorem dX0_close_1 : decode cX0_close 1 = .ok (.getfield 38, 3) := by decide +kernel
theorem dX0_close_4 : decode cX0_close 4 = .ok (.ifCond .ne 5, 3) := by decide +kernel
theorem dX0_close_7 : decode cX0_close 7 = .ok (.iconst (-1), 1) := by decide +kernel
theorem dX0_close_8 : decode cX0_close 8 = .ok (.ireturn, 1) := by decide +kernel
theorem dX0_close_9 : decode cX0_close 9 = .ok (.aload_n 0, 1) := by decide +kernel
theorem dX0_close_10 : decode cX0_close 10 = .ok (.aload_n 0, 1) := by decide +kernel
theorem dX0_close_11 : decode cX0_close 11 = .ok (.getfield 16, 3) := by decide +kernel
theorem dX0_close_14 : decode cX0_close 14 = .ok (.aload_n 0, 1) := by decide +kernel
theorem dX0_close_15 : decode cX0_close 15 = .ok (.getfield 38, 3) := by decide +kernel
theorem dX0_close_18 : decode cX0_close 18 = .ok (.iaload, 1) := by decide +kernel
theorem dX0_close_19 : decode cX0_close 19 = .ok (.putfield 38, 3) := by decide +kernel
theorem dX0_close_22 : decode cX0_close 22 = .ok (.iconst 0, 1) := by decide +kernel
theorem dX0_close_23 : decode cX0_close 23 = .ok (.ireturn, 1) := by decide +kernel
theorem dX0_remove_0 : decode cX0_remove 0 = .ok (.iload_n 1, 1) := by decide +kernel
theorem dX0_remove_1 : decode cX0_remove 1 = .ok (.iconst 1, 1) := by decide +kernel
theorem dX0_remove_2 : decode cX0_remove 2 = .ok (.if_icmp .lt 32, 3) := by decide +kernel
theorem dX0_remove_5 : decode cX0_remove 5 = .ok (.iload_n 1, 1) := by decide +kernel
theorem dX0_remove_6 : decode cX0_remove 6 = .ok (.aload_n 0, 1) := by decide +kernel
theorem dX0_remove_7 : decode cX0_remove 7 = .ok (.getfield 26, 3) := by decide +kernel
theorem dX0_remove_10 : decode cX0_remove 10 = .ok (.if_icmp .ge 24, 3) := by decide +kernel
theorem dX0_remove_13 : decode cX0_remove 13 = .ok (.aload_n 0, 1) := by decide +kernel
theorem dX0_remove_14 : decode cX0_remove 14 = .ok (.getfield 38, 3) := by decide +kernel
theorem dX0_remove_17 : decode cX0_remove 17 = .ok (.iload_n 1, 1) := by decide +kernel
theorem dX0_remove_18 : decode cX0_remove 18 = .ok (.if_icmp .lt 18, 3) := by decide +kernel
theorem dX0_remove_21 : decode cX0_remove 21 = .ok (.aload_n 0, 1) := by decide +kernel
theorem dX0_remove_22 : decode cX0_remove 22 = .ok (.getfield 38, 3) := by decide +kernel
theorem dX0_remove_25 : decode cX0_remove 25 = .ok (.aload_n 0, 1) := by decide +kernel
theorem dX0_remove_26 : decode cX0_remove 26 = .ok (.getfield 19, 3) := by decide +kernel
theorem dX0_remove_29 : decode cX0_remove 29 = .ok (.iload_n 1, 1) := by decide +kernel
theorem dX0_remove_30 : decode cX0_remove 30 = .ok (.iaload, 1) := by decide +kernel
theorem dX0_remove_31 : decode cX0_remove 31 = .ok (.if_icmp .ge 5, 3) := by decide +kernel
theorem dX0_remove_34 : decode cX0_remove 34 = .ok (.iconst (-1), 1) := by decide +kernel
theorem dX0_remove_35 : decode cX0_remove 35 = .ok (.ireturn, 1) := by decide +kernel
theorem dX0_remove_36 : decode cX0_remove 36 = .ok (.aload_n 0, 1) := by decide +kernel
theorem dX0_remove_37 : decode cX0_remove 37 = .ok (.getfield 19, 3) := by decide +kernel
theorem dX0_remove_40 : decode cX0_remove 40 = .ok (.iload_n 1, 1) := by decide +kernel
theorem dX0_remove_41 : decode cX0_remove 41 = .ok (.iaload, 1) := by decide +kernel
theorem dX0_remove_42 : decode cX0_remove 42 = .ok (.istore_n 2, 1) := by decide +kernel
theorem dX0_remove_43 : decode cX0_remove 43 = .ok (.iload_n 2, 1) := by decide +kernel
theorem dX0_remove_44 : decode cX0_remove 44 = .ok (.iload_n 1, 1) := by decide +kernel
theorem dX0_remove_45 : decode cX0_remove 45 = .ok (.isub, 1) := by decide +kernel
theorem dX0_remove_46 : decode cX0_remove 46 = .ok (.istore_n 3, 1) := by decide +kernel
theorem dX0_remove_47 : decode cX0_remove 47 = .ok (.iconst 0, 1) := by decide +kernel
theorem dX0_remove_48 : decode cX0_remove 48 = .ok (.istore 4, 2) := by decide +kernel
theorem dX0_remove_50 : decode cX0_remove 50 = .ok (.iload 4, 2) := by decide +kernel
theorem dX0_remove_52 : decode cX0_remove 52 = .ok (.iload_n 1, 1) := by decide +kernel
theorem dX0_remove_53 : decode cX0_remove 53 = .ok (.if_icmp .ge 35, 3) := by decide +kernel
theorem dX0_remove_56 : decode cX0_remove 56 = .ok (.aload_n 0, 1) := by decide +kernel
theorem dX0_remove_57 : decode cX0_remove 57 = .ok (.getfield 19, 3) := by decide +kernel
theorem dX0_remove_60 : decode cX0_remove 60 = .ok (.iload 4, 2) := by decide +kernel
theorem dX0_remove_62 : decode cX0_remove 62 = .ok (.dup2, 1) := by decide +kernel
theorem dX0_remove_63 : decode cX0_remove 63 = .ok (.iaload, 1) := by decide +kernel
theorem dX0_remove_64 : decode cX0_remove 64 = .ok (.aload_n 0, 1) := by decide +kernel
theorem dX0_remove_65 : decode cX0_remove 65 = .ok (.getfield 19, 3) := by decide +kernel
theorem dX0_remove_68 : decode cX0_remove 68 = .ok (.iload 4, 2) := by decide +kernel
theorem dX0_remove_70 : decode cX0_remove 70 = .ok (.iaload, 1) := by decide +kernel
theorem dX0_remove_71 : decode cX0_remove 71 = .ok (.iload_n 2, 1) := by decide +kernel
theorem dX0_remove_72 : decode cX0_remove 72 = .ok (.if_icmp .lt 7, 3) := by decide +kernel
theorem dX0_remove_75 : decode cX0_remove 75 = .ok (.iload_n 3, 1) := by decide +kernel
theorem dX0_remove_76 : decode cX0_remove 76 = .ok (.goto 4, 3) := by decide +kernel
theorem dX0_remove_79 : decode cX0_remove 79 = .ok (.iconst 0, 1) := by decide +kernel
theorem dX0_remove_80 : decode cX0_remove 80 = .ok (.isub, 1) := by decide +kernel
theorem dX0_remove_81 : decode cX0_remove 81 = .ok (.iastore, 1) := by decide +kernel
theorem dX0_remove_82 : decode cX0_remove 82 = .ok (.iinc 4 1, 3) := by decide +kernel
theorem dX0_remove_85 : decode cX0_remove 85 = .ok (.goto (-35), 3) := by decide +kernel
theorem dX0_remove_88 : decode cX0_remove 88 = .ok (.iload_n 2, 1) := by decide +kernel
theorem dX0_remove_89 : decode cX0_remove 89 = .ok (.istore 4, 2) := by decide +kernel
theorem dX0_remove_91 : decode cX0_remove 91 = .ok (.iload 4, 2) := by decide +kernel
theorem dX0_remove_93 : decode cX0_remove 93 = .ok (.aload_n 0, 1) := by decide +kernel
theorem dX0_remove_94 : decode cX0_remove 94 = .ok (.getfield 26, 3) := by decide +kernel
theorem dX0_remove_97 : decode cX0_remove 97 = .ok (.if_icmp .ge 98, 3) := by decide +kernel
theorem dX0_remove_100 : decode cX0_remove 100 = .ok (.aload_n 0, 1) := by decide +kernel
theorem dX0_remove_101 : decode cX0_remove 101 = .ok (.getfield 7, 3) := by decide +kernel
theorem dX0_remove_104 : decode cX0_remove 104 = .ok (.iload 4, 2) := by decide +kernel
theorem dX0_remove_106 : decode cX0_remove 106 = .ok (.iload_n 3, 1) := by decide +kernel
theorem dX0_remove_107 : decode cX0_remove 107 = .ok (.isub, 1) := by decide +kernel
theorem dX0_remove_108 : decode cX0_remove 108 = .ok (.aload_n 0, 1) := by decide +kernel
theorem dX0_remove_109 : decode cX0_remove 109 = .ok (.getfield 7, 3) := by decide +kernel
theorem dX0_remove_112 : decode cX0_remove 112 = .ok (.iload 4, 2) := by decide +kernel
theorem dX0_remove_114 : decode cX0_remove 114 = .ok (.iaload, 1) := by decide +kernel
theorem dX0_remove_115 : decode cX0_remove 115 = .ok (.iastore, 1) := by decide +kernel
theorem dX0_remove_116 : decode cX0_remove 116 = .ok (.aload_n 0, 1) := by decide +kernel
theorem dX0_remove_117 : decode cX0_remove 117 = .ok (.getfield 13, 3) := by decide +kernel
theorem dX0_remove_120 : decode cX0_remove 120 = .ok (.iload 4, 2) := by decide +kernel
theorem dX0_remove_122 : decode cX0_remove 122 = .ok (.iload_n 3, 1) := by decide +kernel
theorem dX0_remove_123 : decode cX0_remove 123 = .ok (.isub, 1) := by decide +kernel
theorem dX0_remove_124 : decode cX0_remove 124 = .ok (.aload_n 0, 1) := by decide +kernel
theorem dX0_remove_125 : decode cX0_remove 125 = .ok (.getfield 13, 3) := by decide +kernel
theorem dX0_remove_128 : decode cX0_remove 128 = .ok (.iload 4, 2) := by decide +kernel
theorem dX0_remove_130 : decode cX0_remove 130 = .ok (.iaload, 1) := by decide +kernel
theorem dX0_remove_131 : decode cX0_remove 131 = .ok (.iastore, 1) := by decide +kernel
theorem dX0_remove_132 : decode cX0_remove 132 = .ok (.aload_n 0, 1) := by decide +kernel
theorem dX0_remove_133 : decode cX0_remove 133 = .ok (.getfield 16, 3) := by decide +kernel
theorem dX0_remove_136 : decode cX0_remove 136 = .ok (.iload 4, 2) := by decide +kernel
theorem dX0_remove_138 : decode cX0_remove 138 = .ok (.iload_n 3, 1) := by decide +kernel
theorem dX0_remove_139 : decode cX0_remove 139 = .ok (.isub, 1) := by decide +kernel
theorem dX0_remove_140 : decode cX0_remove 140 = .ok (.aload_n 0, 1) := by decide +kernel
theorem dX0_remove_141 : decode cX0_remove 141 = .ok (.getfield 16, 3) := by decide +kernel
theorem dX0_remove_144 : decode cX0_remove 144 = .ok (.iload 4, 2) := by decide +kernel
theorem dX0_remove_146 : decode cX0_remove 146 = .ok (.iaload, 1) := by decide +kernel
theorem dX0_remove_147 : decode cX0_remove 147 = .ok (.iload_n 2, 1) := by decide +kernel
theorem dX0_remove_148 : decode cX0_remove 148 = .ok (.if_icmp .lt 15, 3) := by decide +kernel
theorem dX0_remove_151 : decode cX0_remove 151 = .ok (.aload_n 0, 1) := by decide +kernel
theorem dX0_remove_152 : decode cX0_remove 152 = .ok (.getfield 16, 3) := by decide +kernel
theorem dX0_remove_155 : decode cX0_remove 155 = .ok (.iload 4, 2) := by decide +kernel
theorem dX0_remove_157 : decode cX0_remove 157 = .ok (.iaload, 1) := by decide +kernel
theorem dX0_remove_158 : decode cX0_remove 158 = .ok (.iload_n 3, 1) := by decide +kernel
theorem dX0_remove_159 : decode cX0_remove 159 = .ok (.isub, 1) := by decide +kernel
theorem dX0_remove_160 : decode cX0_remove 160 = .ok (.goto 10, 3) := by decide +kernel
theorem dX0_remove_163 : decode cX0_remove 163 = .ok (.aload_n 0, 1) := by decide +kernel
theorem dX0_remove_164 : decode cX0_remove 164 = .ok (.getfield 16, 3) := by decide +kernel
theorem dX0_remove_167 : decode cX0_remove 167 = .ok (.iload 4, 2) := by decide +kernel
theorem dX0_remove_169 : decode cX0_remove 169 = .ok (.iaload, 1) := by decide +kernel
theorem dX0_remove_170 : decode cX0_remove 170 = .ok (.iastore, 1) := by decide +kernel
theorem dX0_remove_171 : decode cX0_remove 171 = .ok (.aload_n 0, 1) := by decide +kernel
theorem dX0_remove_172 : decode cX0_remove 172 = .ok (.getfield 19, 3) := by decide +kernel
theorem dX0_remove_175 : decode cX0_remove 175 = .ok (.iload 4, 2) := by decide +kernel
theorem dX0_remove_177 : decode cX0_remove 177 = .ok (.iload_n 3, 1) := by decide +kernel
theorem dX0_remove_178 : decode cX0_remove 178 = .ok (.isub, 1) := by decide +kernel
theorem dX0_remove_179 : decode cX0_remove 179 = .ok (.aload_n 0, 1) := by decide +kernel
theorem dX0_remove_180 : decode cX0_remove 180 = .ok (.getfield 19, 3) := by decide +kernel
theorem dX0_remove_183 : decode cX0_remove 183 = .ok (.iload 4, 2) := by decide +kernel
theorem dX0_remove_185 : decode cX0_remove 185 = .ok (.iaload, 1) := by decide +kernel
theorem dX0_remove_186 : decode cX0_remove 186 = .ok (.iload_n 3, 1) := by decide +kernel
theorem dX0_remove_187 : decode cX0_remove 187 = .ok (.isub, 1) := by decide +kernel
theorem dX0_remove_188 : decode cX0_remove 188 = .ok (.iastore, 1) := by decide +kernel
theorem dX0_remove_189 : decode cX0_remove 189 = .ok (.iinc 4 1, 3) := by decide +kernel
theorem dX0_remove_192 : decode cX0_remove 192 = .ok (.goto (-101), 3) := by decide +kernel
theorem dX0_remove_195 : decode cX0_remove 195 = .ok (.aload_n 0, 1) := by decide +kernel
theorem dX0_remove_196 : decode cX0_remove 196 = .ok (.dup, 1) := by decide +kernel
theorem dX0_remove_197 : decode cX0_remove 197 = .ok (.getfield 26, 3) := by decide +kernel
theorem dX0_remove_200 : decode cX0_remove 200 = .ok (.iload_n 3, 1) := by decide +kernel
theorem dX0_remove_201 : decode cX0_remove 201 = .ok (.isub, 1) := by decide +kernel
theorem dX0_remove_202 : decode cX0_remove 202 = .ok (.putfield 26, 3) := by decide +kernel
theorem dX0_remove_205 : decode cX0_remove 205 = .ok (.aload_n 0, 1) := by decide +kernel
theorem dX0_remove_206 : decode cX0_remove 206 = .ok (.dup, 1) := by decide +kernel
theorem dX0_remove_207 : decode cX0_remove 207 = .ok (.getfield 38, 3) := by decide +kernel
theorem dX0_remove_210 : decode cX0_remove 210 = .ok (.aload_n 0, 1) := by decide +kernel
theorem dX0_remove_211 : decode cX0_remove 211 = .ok (.getfield 38, 3) := by decide +kernel
theorem dX0_remove_214 : decode cX0_remove 214 = .ok (.iload_n 2, 1) := by decide +kernel
theorem dX0_remove_215 : decode cX0_remove 215 = .ok (.if_icmp .lt 7, 3) := by decide +kernel
theorem dX0_remove_218 : decode cX0_remove 218 = .ok (.iload_n 3, 1) := by decide +kernel
theorem dX0_remove_219 : decode cX0_remove 219 = .ok (.goto 4, 3) := by decide +kernel
theorem dX0_remove_222 : decode cX0_remove 222 = .ok (.iconst 0, 1) := by decide +kernel
theorem dX0_remove_223 : decode cX0_remove 223 = .ok (.isub, 1) := by decide +kernel
theorem dX0_remove_224 : decode cX0_remove 224 = .ok (.putfield 38, 3) := by decide +kernel
theorem dX0_remove_227 : decode cX0_remove 227 = .ok (.aload_n 0, 1) := by decide +kernel
theorem dX0_remove_228 : decode cX0_remove 228 = .ok (.invokevirtual 41, 3) := by decide +kernel
theorem dX0_remove_231 : decode cX0_remove 231 = .ok (.aload_n 0, 1) := by decide +kernel
theorem dX0_remove_232 : decode cX0_remove 232 = .ok (.getfield 26, 3) := by decide +kernel
theorem dX0_remove_235 : decode cX0_remove 235 = .ok (.ireturn, 1) := by decide +kernel
theorem dX0_start_0 : decode cX0_start 0 = .ok (.aload_n 0, 1) := by decide +kernel
theorem dX0_start_1 : decode cX0_start 1 = .ok (.lconst 1, 1) := by decide +kernel
theorem dX0_start_2 : decode cX0_start 2 = .ok (.putfield 30, 3) := by decide +kernel
theorem dX0_start_5 : decode cX0_start 5 = .ok (.return_, 1) := by decide +kernel
theorem dX0_step_0 : decode cX0_step 0 = .ok (.iload_n 1, 1) := by decide +kernel
theorem dX0_step_1 : decode cX0_step 1 = .ok (.ifCond .lt 31, 3) := by decide +kernel
theorem dX0_step_4 : decode cX0_step 4 = .ok (.iload_n 1, 1) := by decide +kernel
theorem dX0_step_5 : decode cX0_step 5 = .ok (.bipush 10, 2) := by decide +kernel
theorem dX0_step_7 : decode cX0_step 7 = .ok (.if_icmp .gt 25, 3) := by decide +kernel
theorem dX0_step_10 : decode cX0_step 10 = .ok (.iload_n 2, 1) := by decide +kernel
theorem dX0_step_11 : decode cX0_step 11 = .ok (.ifCond .lt 21, 3) := by decide +kernel
theorem dX0_step_14 : decode cX0_step 14 = .ok (.iload_n 2, 1) := by decide +kernel
theorem dX0_step_15 : decode cX0_step 15 = .ok (.bipush 10, 2) := by decide +kernel
theorem dX0_step_17 : decode cX0_step 17 = .ok (.if_icmp .gt 15, 3) := by decide +kernel
theorem dX0_step_20 : decode cX0_step 20 = .ok (.iload_n 3, 1) := by decide +kernel
theorem dX0_step_21 : decode cX0_step 21 = .ok (.bipush (-48), 2) := by decide +kernel
theorem dX0_step_23 : decode cX0_step 23 = .ok (.if_icmp .lt 9, 3) := by decide +kernel
theorem dX0_step_26 : decode cX0_step 26 = .ok (.iload_n 3, 1) := by decide +kernel
theorem dX0_step_27 : decode cX0_step 27 = .ok (.bipush 48, 2) := by decide +kernel
theorem dX0_step_29 : decode cX0_step 29 = .ok (.if_icmp .le 5, 3) := by decide +kernel
theorem dX0_step_32 : decode cX0_step 32 = .ok (.iconst (-1), 1) := by decide +kernel
theorem dX0_step_33 : decode cX0_step 33 = .ok (.ireturn, 1) := by decide +kernel
theorem dX0_step_34 : decode cX0_step 34 = .ok (.aload_n 0, 1) := by decide +kernel
theorem dX0_step_35 : decode cX0_step 35 = .ok (.iload_n 2, 1) := by decide +kernel
theorem dX0_step_36 : decode cX0_step 36 = .ok (.invokevirtual 44, 3) := by decide +kernel
theorem dX0_step_39 : decode cX0_step 39 = .ok (.lstore 4, 2) := by decide +kernel
theorem dX0_step_41 : decode cX0_step 41 = .ok (.aload_n 0, 1) := by decide +kernel
theorem dX0_step_42 : decode cX0_step 42 = .ok (.iload_n 3, 1) := by decide +kernel
theorem dX0_step_43 : decode cX0_step 43 = .ok (.ifCond .ne 14, 3) := by decide +kernel
theorem dX0_step_46 : decode cX0_step 46 = .ok (.aload_n 0, 1) := by decide +kernel
theorem dX0_step_47 : decode cX0_step 47 = .ok (.iload_n 1, 1) := by decide +kernel
theorem dX0_step_48 : decode cX0_step 48 = .ok (.invokevirtual 48, 3) := by decide +kernel
theorem dX0_step_51 : decode cX0_step 51 = .ok (.lload 4, 2) := by decide +kernel
theorem dX0_step_53 : decode cX0_step 53 = .ok (.land, 1) := by decide +kernel
theorem dX0_step_54 : decode cX0_step 54 = .ok (.goto 11, 3) := by decide +kernel
theorem dX0_step_57 : decode cX0_step 57 = .ok (.aload_n 0, 1) := by decide +kernel
theorem dX0_step_58 : decode cX0_step 58 = .ok (.iload_n 1, 1) := by decide +kernel
theorem dX0_step_59 : decode cX0_step 59 = .ok (.lload 4, 2) := by decide +kernel
theorem dX0_step_61 : decode cX0_step 61 = .ok (.iload_n 3, 1) := by decide +kernel
theorem dX0_step_62 : decode cX0_step 62 = .ok (.invokevirtual 51, 3) := by decide +kernel
theorem dX0_step_65 : decode cX0_step 65 = .ok (.putfield 30, 3) := by decide +kernel
theorem dX0_step_68 : decode cX0_step 68 = .ok (.aload_n 0, 1) := by decide +kernel
theorem dX0_step_69 : decode cX0_step 69 = .ok (.getfield 30, 3) := by decide +kernel
theorem dX0_step_72 : decode cX0_step 72 = .ok (.invokestatic 55, 3) := by decide +kernel
theorem dX0_step_75 : decode cX0_step 75 = .ok (.ireturn, 1) := by decide +kernel
theorem dX0_passing_0 : decode cX0_passing 0 = .ok (.lconst 0, 1) := by decide +kernel
theorem dX0_passing_1 : decode cX0_passing 1 = .ok (.lstore_n 2, 1) := by decide +kernel
theorem dX0_passing_2 : decode cX0_passing 2 = .ok (.iconst 0, 1) := by decide +kernel
theorem dX0_passing_3 : decode cX0_passing 3 = .ok (.istore 4, 2) := by decide +kernel
theorem dX0_passing_5 : decode cX0_passing 5 = .ok (.iload 4, 2) := by decide +kernel
theorem dX0_passing_7 : decode cX0_passing 7 = .ok (.aload_n 0, 1) := by decide +kernel
theorem dX0_passing_8 : decode cX0_passing 8 = .ok (.getfield 26, 3) := by decide +kernel
theorem dX0_passing_11 : decode cX0_passing 11 = .ok (.if_icmp .ge 67, 3) := by decide +kernel
theorem dX0_passing_14 : decode cX0_passing 14 = .ok (.iload_n 1, 1) := by decide +kernel
theorem dX0_passing_15 : decode cX0_passing 15 = .ok (.bipush 10, 2) := by decide +kernel
theorem dX0_passing_17 : decode cX0_passing 17 = .ok (.if_icmp .eq 32, 3) := by decide +kernel
theorem dX0_passing_20 : decode cX0_passing 20 = .ok (.iload_n 1, 1) := by decide +kernel
theorem dX0_passing_21 : decode cX0_passing 21 = .ok (.bipush 9, 2) := by decide +kernel
theorem dX0_passing_23 : decode cX0_passing 23 = .ok (.if_icmp .ne 15, 3) := by decide +kernel
theorem dX0_passing_26 : decode cX0_passing 26 = .ok (.aload_n 0, 1) := by decide +kernel
theorem dX0_passing_27 : decode cX0_passing 27 = .ok (.getfield 7, 3) := by decide +kernel
theorem dX0_passing_30 : decode cX0_passing 30 = .ok (.iload 4, 2) := by decide +kernel
theorem dX0_passing_32 : decode cX0_passing 32 = .ok (.iaload, 1) := by decide +kernel
theorem dX0_passing_33 : decode cX0_passing 33 = .ok (.bipush 8, 2) := by decide +kernel
theorem dX0_passing_35 : decode cX0_passing 35 = .ok (.if_icmp .ne 14, 3) := by decide +kernel
theorem dX0_passing_38 : decode cX0_passing 38 = .ok (.iload_n 1, 1) := by decide +kernel
theorem dX0_passing_39 : decode cX0_passing 39 = .ok (.aload_n 0, 1) := by decide +kernel
theorem dX0_passing_40 : decode cX0_passing 40 = .ok (.getfield 7, 3) := by decide +kernel
theorem dX0_passing_43 : decode cX0_passing 43 = .ok (.iload 4, 2) := by decide +kernel
theorem dX0_passing_45 : decode cX0_passing 45 = .ok (.iaload, 1) := by decide +kernel
theorem dX0_passing_46 : decode cX0_passing 46 = .ok (.if_icmp .ne 7, 3) := by decide +kernel
theorem dX0_passing_49 : decode cX0_passing 49 = .ok (.iconst 1, 1) := by decide +kernel
theorem dX0_passing_50 : decode cX0_passing 50 = .ok (.goto 4, 3) := by decide +kernel
theorem dX0_passing_53 : decode cX0_passing 53 = .ok (.iconst 0, 1) := by decide +kernel
theorem dX0_passing_54 : decode cX0_passing 54 = .ok (.istore 5, 2) := by decide +kernel
theorem dX0_passing_56 : decode cX0_passing 56 = .ok (.lload_n 2, 1) := by decide +kernel
theorem dX0_passing_57 : decode cX0_passing 57 = .ok (.iload 5, 2) := by decide +kernel
theorem dX0_passing_59 : decode cX0_passing 59 = .ok (.ifCond .eq 10, 3) := by decide +kernel
theorem dX0_passing_62 : decode cX0_passing 62 = .ok (.lconst 1, 1) := by decide +kernel
theorem dX0_passing_63 : decode cX0_passing 63 = .ok (.iload 4, 2) := by decide +kernel
theorem dX0_passing_65 : decode cX0_passing 65 = .ok (.lshl, 1) := by decide +kernel
theorem dX0_passing_66 : decode cX0_passing 66 = .ok (.goto 4, 3) := by decide +kernel
theorem dX0_passing_69 : decode cX0_passing 69 = .ok (.lconst 0, 1) := by decide +kernel
theorem dX0_passing_70 : decode cX0_passing 70 = .ok (.lor, 1) := by decide +kernel
theorem dX0_passing_71 : decode cX0_passing 71 = .ok (.lstore_n 2, 1) := by decide +kernel
theorem dX0_passing_72 : decode cX0_passing 72 = .ok (.iinc 4 1, 3) := by decide +kernel
theorem dX0_passing_75 : decode cX0_passing 75 = .ok (.goto (-70), 3) := by decide +kernel
theorem dX0_passing_78 : decode cX0_passing 78 = .ok (.lload_n 2, 1) := by decide +kernel
theorem dX0_passing_79 : decode cX0_passing 79 = .ok (.lreturn, 1) := by decide +kernel
theorem dX0_allAlong_0 : decode cX0_allAlong 0 = .ok (.aload_n 0, 1) := by decide +kernel
theorem dX0_allAlong_1 : decode cX0_allAlong 1 = .ok (.getfield 30, 3) := by decide +kernel
theorem dX0_allAlong_4 : decode cX0_allAlong 4 = .ok (.lconst 0, 1) := by decide +kernel
theorem dX0_allAlong_5 : decode cX0_allAlong 5 = .ok (.lcmp, 1) := by decide +kernel
theorem dX0_allAlong_6 : decode cX0_allAlong 6 = .ok (.ifCond .ne 5, 3) := by decide +kernel
theorem dX0_allAlong_9 : decode cX0_allAlong 9 = .ok (.lconst 0, 1) := by decide +kernel
theorem dX0_allAlong_10 : decode cX0_allAlong 10 = .ok (.lreturn, 1) := by decide +kernel
theorem dX0_allAlong_11 : decode cX0_allAlong 11 = .ok (.iload_n 1, 1) := by decide +kernel
theorem dX0_allAlong_12 : decode cX0_allAlong 12 = .ok (.iconst 3, 1) := by decide +kernel
theorem dX0_allAlong_13 : decode cX0_allAlong 13 = .ok (.if_icmp .eq 9, 3) := by decide +kernel
theorem dX0_allAlong_16 : decode cX0_allAlong 16 = .ok (.iload_n 1, 1) := by decide +kernel
theorem dX0_allAlong_17 : decode cX0_allAlong 17 = .ok (.bipush 9, 2) := by decide +kernel
theorem dX0_allAlong_19 : decode cX0_allAlong 19 = .ok (.if_icmp .ne 19, 3) := by decide +kernel
theorem dX0_allAlong_22 : decode cX0_allAlong 22 = .ok (.aload_n 0, 1) := by decide +kernel
theorem dX0_allAlong_23 : decode cX0_allAlong 23 = .ok (.iload_n 1, 1) := by decide +kernel
theorem dX0_allAlong_24 : decode cX0_allAlong 24 = .ok (.bipush 9, 2) := by decide +kernel
theorem dX0_allAlong_26 : decode cX0_allAlong 26 = .ok (.if_icmp .ne 7, 3) := by decide +kernel
theorem dX0_allAlong_29 : decode cX0_allAlong 29 = .ok (.iconst 1, 1) := by decide +kernel
theorem dX0_allAlong_30 : decode cX0_allAlong 30 = .ok (.goto 4, 3) := by decide +kernel
theorem dX0_allAlong_33 : decode cX0_allAlong 33 = .ok (.iconst 0, 1) := by decide +kernel
theorem dX0_allAlong_34 : decode cX0_allAlong 34 = .ok (.invokevirtual 81, 3) := by decide +kernel
theorem dX0_allAlong_37 : decode cX0_allAlong 37 = .ok (.lreturn, 1) := by decide +kernel
theorem dX0_allAlong_38 : decode cX0_allAlong 38 = .ok (.iload_n 1, 1) := by decide +kernel
theorem dX0_allAlong_39 : decode cX0_allAlong 39 = .ok (.iconst 4, 1) := by decide +kernel
theorem dX0_allAlong_40 : decode cX0_allAlong 40 = .ok (.if_icmp .eq 9, 3) := by decide +kernel
theorem dX0_allAlong_43 : decode cX0_allAlong 43 = .ok (.iload_n 1, 1) := by decide +kernel
theorem dX0_allAlong_44 : decode cX0_allAlong 44 = .ok (.bipush 10, 2) := by decide +kernel
theorem dX0_allAlong_46 : decode cX0_allAlong 46 = .ok (.if_icmp .ne 19, 3) := by decide +kernel
theorem dX0_allAlong_49 : decode cX0_allAlong 49 = .ok (.aload_n 0, 1) := by decide +kernel
theorem dX0_allAlong_50 : decode cX0_allAlong 50 = .ok (.iload_n 1, 1) := by decide +kernel
theorem dX0_allAlong_51 : decode cX0_allAlong 51 = .ok (.bipush 10, 2) := by decide +kernel
theorem dX0_allAlong_53 : decode cX0_allAlong 53 = .ok (.if_icmp .ne 7, 3) := by decide +kernel
theorem dX0_allAlong_56 : decode cX0_allAlong 56 = .ok (.iconst 1, 1) := by decide +kernel
theorem dX0_allAlong_57 : decode cX0_allAlong 57 = .ok (.goto 4, 3) := by decide +kernel
end
section
set_option maxRecDepth 100000
theorem dX0_allAlong_60 : decode cX0_allAlong 60 = .ok (.iconst 0, 1) := by decide +kernel
theorem dX0_allAlong_61 : decode cX0_allAlong 61 = .ok (.invokevirtual 85, 3) := by decide +kernel
theorem dX0_allAlong_64 : decode cX0_allAlong 64 = .ok (.lreturn, 1) := by decide +kernel
theorem dX0_allAlong_65 : decode cX0_allAlong 65 = .ok (.iload_n 1, 1) := by decide +kernel
theorem dX0_allAlong_66 : decode cX0_allAlong 66 = .ok (.bipush 7, 2) := by decide +kernel
theorem dX0_allAlong_68 : decode cX0_allAlong 68 = .ok (.if_icmp .ne 17, 3) := by decide +kernel
theorem dX0_allAlong_71 : decode cX0_allAlong 71 = .ok (.aload_n 0, 1) := by decide +kernel
theorem dX0_allAlong_72 : decode cX0_allAlong 72 = .ok (.invokevirtual 88, 3) := by decide +kernel
theorem dX0_allAlong_75 : decode cX0_allAlong 75 = .ok (.istore_n 2, 1) := by decide +kernel
theorem dX0_allAlong_76 : decode cX0_allAlong 76 = .ok (.iload_n 2, 1) := by decide +kernel
theorem dX0_allAlong_77 : decode cX0_allAlong 77 = .ok (.aload_n 0, 1) := by decide +kernel
theorem dX0_allAlong_78 : decode cX0_allAlong 78 = .ok (.getfield 26, 3) := by decide +kernel
theorem dX0_allAlong_81 : decode cX0_allAlong 81 = .ok (.invokestatic 65, 3) := by decide +kernel
theorem dX0_allAlong_84 : decode cX0_allAlong 84 = .ok (.lreturn, 1) := by decide +kernel
theorem dX0_allAlong_85 : decode cX0_allAlong 85 = .ok (.iload_n 1, 1) := by decide +kernel
theorem dX0_allAlong_86 : decode cX0_allAlong 86 = .ok (.bipush 8, 2) := by decide +kernel
theorem dX0_allAlong_88 : decode cX0_allAlong 88 = .ok (.if_icmp .ne 30, 3) := by decide +kernel
theorem dX0_allAlong_91 : decode cX0_allAlong 91 = .ok (.aload_n 0, 1) := by decide +kernel
theorem dX0_allAlong_92 : decode cX0_allAlong 92 = .ok (.getfield 30, 3) := by decide +kernel
theorem dX0_allAlong_95 : decode cX0_allAlong 95 = .ok (.invokestatic 55, 3) := by decide +kernel
theorem dX0_allAlong_98 : decode cX0_allAlong 98 = .ok (.istore_n 2, 1) := by decide +kernel
theorem dX0_allAlong_99 : decode cX0_allAlong 99 = .ok (.aload_n 0, 1) := by decide +kernel
theorem dX0_allAlong_100 : decode cX0_allAlong 100 = .ok (.getfield 30, 3) := by decide +kernel
theorem dX0_allAlong_103 : decode cX0_allAlong 103 = .ok (.iload_n 2, 1) := by decide +kernel
theorem dX0_allAlong_104 : decode cX0_allAlong 104 = .ok (.iconst 1, 1) := by decide +kernel
theorem dX0_allAlong_105 : decode cX0_allAlong 105 = .ok (.isub, 1) := by decide +kernel
theorem dX0_allAlong_106 : decode cX0_allAlong 106 = .ok (.invokestatic 68, 3) := by decide +kernel
theorem dX0_allAlong_109 : decode cX0_allAlong 109 = .ok (.istore_n 3, 1) := by decide +kernel
theorem dX0_allAlong_110 : decode cX0_allAlong 110 = .ok (.aload_n 0, 1) := by decide +kernel
theorem dX0_allAlong_111 : decode cX0_allAlong 111 = .ok (.bipush 8, 2) := by decide +kernel
theorem dX0_allAlong_113 : decode cX0_allAlong 113 = .ok (.iload_n 3, 1) := by decide +kernel
theorem dX0_allAlong_114 : decode cX0_allAlong 114 = .ok (.invokevirtual 78, 3) := by decide +kernel
theorem dX0_allAlong_117 : decode cX0_allAlong 117 = .ok (.lreturn, 1) := by decide +kernel
theorem dX0_allAlong_118 : decode cX0_allAlong 118 = .ok (.lconst 0, 1) := by decide +kernel
theorem dX0_allAlong_119 : decode cX0_allAlong 119 = .ok (.lstore_n 2, 1) := by decide +kernel
theorem dX0_allAlong_120 : decode cX0_allAlong 120 = .ok (.iconst 0, 1) := by decide +kernel
theorem dX0_allAlong_121 : decode cX0_allAlong 121 = .ok (.istore 4, 2) := by decide +kernel
theorem dX0_allAlong_123 : decode cX0_allAlong 123 = .ok (.iload 4, 2) := by decide +kernel
theorem dX0_allAlong_125 : decode cX0_allAlong 125 = .ok (.aload_n 0, 1) := by decide +kernel
theorem dX0_allAlong_126 : decode cX0_allAlong 126 = .ok (.getfield 26, 3) := by decide +kernel
theorem dX0_allAlong_129 : decode cX0_allAlong 129 = .ok (.if_icmp .ge 37, 3) := by decide +kernel
theorem dX0_allAlong_132 : decode cX0_allAlong 132 = .ok (.lload_n 2, 1) := by decide +kernel
theorem dX0_allAlong_133 : decode cX0_allAlong 133 = .ok (.aload_n 0, 1) := by decide +kernel
theorem dX0_allAlong_134 : decode cX0_allAlong 134 = .ok (.getfield 30, 3) := by decide +kernel
theorem dX0_allAlong_137 : decode cX0_allAlong 137 = .ok (.iload 4, 2) := by decide +kernel
theorem dX0_allAlong_139 : decode cX0_allAlong 139 = .ok (.lushr, 1) := by decide +kernel
theorem dX0_allAlong_140 : decode cX0_allAlong 140 = .ok (.lconst 1, 1) := by decide +kernel
theorem dX0_allAlong_141 : decode cX0_allAlong 141 = .ok (.land, 1) := by decide +kernel
theorem dX0_allAlong_142 : decode cX0_allAlong 142 = .ok (.lconst 0, 1) := by decide +kernel
theorem dX0_allAlong_143 : decode cX0_allAlong 143 = .ok (.lcmp, 1) := by decide +kernel
theorem dX0_allAlong_144 : decode cX0_allAlong 144 = .ok (.ifCond .eq 13, 3) := by decide +kernel
theorem dX0_allAlong_147 : decode cX0_allAlong 147 = .ok (.aload_n 0, 1) := by decide +kernel
theorem dX0_allAlong_148 : decode cX0_allAlong 148 = .ok (.iload_n 1, 1) := by decide +kernel
theorem dX0_allAlong_149 : decode cX0_allAlong 149 = .ok (.iload 4, 2) := by decide +kernel
theorem dX0_allAlong_151 : decode cX0_allAlong 151 = .ok (.invokevirtual 59, 3) := by decide +kernel
theorem dX0_allAlong_154 : decode cX0_allAlong 154 = .ok (.goto 4, 3) := by decide +kernel
theorem dX0_allAlong_157 : decode cX0_allAlong 157 = .ok (.lconst 0, 1) := by decide +kernel
theorem dX0_allAlong_158 : decode cX0_allAlong 158 = .ok (.lor, 1) := by decide +kernel
theorem dX0_allAlong_159 : decode cX0_allAlong 159 = .ok (.lstore_n 2, 1) := by decide +kernel
theorem dX0_allAlong_160 : decode cX0_allAlong 160 = .ok (.iinc 4 1, 3) := by decide +kernel
theorem dX0_allAlong_163 : decode cX0_allAlong 163 = .ok (.goto (-40), 3) := by decide +kernel
theorem dX0_allAlong_166 : decode cX0_allAlong 166 = .ok (.lload_n 2, 1) := by decide +kernel
theorem dX0_allAlong_167 : decode cX0_allAlong 167 = .ok (.lreturn, 1) := by decide +kernel
theorem dX0_allBelow_0 : decode cX0_allBelow 0 = .ok (.iload_n 1, 1) := by decide +kernel
theorem dX0_allBelow_1 : decode cX0_allBelow 1 = .ok (.ifCond .eq 10, 3) := by decide +kernel
theorem dX0_allBelow_4 : decode cX0_allBelow 4 = .ok (.aload_n 0, 1) := by decide +kernel
theorem dX0_allBelow_5 : decode cX0_allBelow 5 = .ok (.getfield 30, 3) := by decide +kernel
theorem dX0_allBelow_8 : decode cX0_allBelow 8 = .ok (.goto 4, 3) := by decide +kernel
theorem dX0_allBelow_11 : decode cX0_allBelow 11 = .ok (.lconst 0, 1) := by decide +kernel
theorem dX0_allBelow_12 : decode cX0_allBelow 12 = .ok (.lstore_n 2, 1) := by decide +kernel
theorem dX0_allBelow_13 : decode cX0_allBelow 13 = .ok (.iconst 0, 1) := by decide +kernel
theorem dX0_allBelow_14 : decode cX0_allBelow 14 = .ok (.istore 4, 2) := by decide +kernel
theorem dX0_allBelow_16 : decode cX0_allBelow 16 = .ok (.iconst 0, 1) := by decide +kernel
theorem dX0_allBelow_17 : decode cX0_allBelow 17 = .ok (.istore 5, 2) := by decide +kernel
theorem dX0_allBelow_19 : decode cX0_allBelow 19 = .ok (.iload 5, 2) := by decide +kernel
theorem dX0_allBelow_21 : decode cX0_allBelow 21 = .ok (.aload_n 0, 1) := by decide +kernel
theorem dX0_allBelow_22 : decode cX0_allBelow 22 = .ok (.getfield 26, 3) := by decide +kernel
theorem dX0_allBelow_25 : decode cX0_allBelow 25 = .ok (.if_icmp .ge 61, 3) := by decide +kernel
theorem dX0_allBelow_28 : decode cX0_allBelow 28 = .ok (.aload_n 0, 1) := by decide +kernel
theorem dX0_allBelow_29 : decode cX0_allBelow 29 = .ok (.getfield 30, 3) := by decide +kernel
theorem dX0_allBelow_32 : decode cX0_allBelow 32 = .ok (.iload 5, 2) := by decide +kernel
theorem dX0_allBelow_34 : decode cX0_allBelow 34 = .ok (.lushr, 1) := by decide +kernel
theorem dX0_allBelow_35 : decode cX0_allBelow 35 = .ok (.lconst 1, 1) := by decide +kernel
theorem dX0_allBelow_36 : decode cX0_allBelow 36 = .ok (.land, 1) := by decide +kernel
theorem dX0_allBelow_37 : decode cX0_allBelow 37 = .ok (.lconst 0, 1) := by decide +kernel
theorem dX0_allBelow_38 : decode cX0_allBelow 38 = .ok (.lcmp, 1) := by decide +kernel
theorem dX0_allBelow_39 : decode cX0_allBelow 39 = .ok (.ifCond .eq 41, 3) := by decide +kernel
theorem dX0_allBelow_42 : decode cX0_allBelow 42 = .ok (.aload_n 0, 1) := by decide +kernel
theorem dX0_allBelow_43 : decode cX0_allBelow 43 = .ok (.getfield 19, 3) := by decide +kernel
theorem dX0_allBelow_46 : decode cX0_allBelow 46 = .ok (.iload 5, 2) := by decide +kernel
theorem dX0_allBelow_48 : decode cX0_allBelow 48 = .ok (.iaload, 1) := by decide +kernel
theorem dX0_allBelow_49 : decode cX0_allBelow 49 = .ok (.iload 4, 2) := by decide +kernel
theorem dX0_allBelow_51 : decode cX0_allBelow 51 = .ok (.if_icmp .le 29, 3) := by decide +kernel
theorem dX0_allBelow_54 : decode cX0_allBelow 54 = .ok (.lload_n 2, 1) := by decide +kernel
theorem dX0_allBelow_55 : decode cX0_allBelow 55 = .ok (.iload 5, 2) := by decide +kernel
theorem dX0_allBelow_57 : decode cX0_allBelow 57 = .ok (.iconst 1, 1) := by decide +kernel
theorem dX0_allBelow_58 : decode cX0_allBelow 58 = .ok (.iadd, 1) := by decide +kernel
theorem dX0_allBelow_59 : decode cX0_allBelow 59 = .ok (.aload_n 0, 1) := by decide +kernel
theorem dX0_allBelow_60 : decode cX0_allBelow 60 = .ok (.getfield 19, 3) := by decide +kernel
theorem dX0_allBelow_63 : decode cX0_allBelow 63 = .ok (.iload 5, 2) := by decide +kernel
theorem dX0_allBelow_65 : decode cX0_allBelow 65 = .ok (.iaload, 1) := by decide +kernel
theorem dX0_allBelow_66 : decode cX0_allBelow 66 = .ok (.invokestatic 65, 3) := by decide +kernel
theorem dX0_allBelow_69 : decode cX0_allBelow 69 = .ok (.lor, 1) := by decide +kernel
theorem dX0_allBelow_70 : decode cX0_allBelow 70 = .ok (.lstore_n 2, 1) := by decide +kernel
theorem dX0_allBelow_71 : decode cX0_allBelow 71 = .ok (.aload_n 0, 1) := by decide +kernel
theorem dX0_allBelow_72 : decode cX0_allBelow 72 = .ok (.getfield 19, 3) := by decide +kernel
theorem dX0_allBelow_75 : decode cX0_allBelow 75 = .ok (.iload 5, 2) := by decide +kernel
theorem dX0_allBelow_77 : decode cX0_allBelow 77 = .ok (.iaload, 1) := by decide +kernel
theorem dX0_allBelow_78 : decode cX0_allBelow 78 = .ok (.istore 4, 2) := by decide +kernel
theorem dX0_allBelow_80 : decode cX0_allBelow 80 = .ok (.iinc 5 1, 3) := by decide +kernel
theorem dX0_allBelow_83 : decode cX0_allBelow 83 = .ok (.goto (-64), 3) := by decide +kernel
theorem dX0_allBelow_86 : decode cX0_allBelow 86 = .ok (.lload_n 2, 1) := by decide +kernel
theorem dX0_allBelow_87 : decode cX0_allBelow 87 = .ok (.lreturn, 1) := by decide +kernel
theorem dX0_stretch_0 : decode cX0_stretch 0 = .ok (.iload_n 0, 1) := by decide +kernel
theorem dX0_stretch_1 : decode cX0_stretch 1 = .ok (.iload_n 1, 1) := by decide +kernel
theorem dX0_stretch_2 : decode cX0_stretch 2 = .ok (.if_icmp .lt 7, 3) := by decide +kernel
theorem dX0_stretch_5 : decode cX0_stretch 5 = .ok (.lconst 0, 1) := by decide +kernel
theorem dX0_stretch_6 : decode cX0_stretch 6 = .ok (.goto 18, 3) := by decide +kernel
theorem dX0_stretch_9 : decode cX0_stretch 9 = .ok (.lconst 1, 1) := by decide +kernel
theorem dX0_stretch_10 : decode cX0_stretch 10 = .ok (.iload_n 1, 1) := by decide +kernel
theorem dX0_stretch_11 : decode cX0_stretch 11 = .ok (.lshl, 1) := by decide +kernel
theorem dX0_stretch_12 : decode cX0_stretch 12 = .ok (.lconst 1, 1) := by decide +kernel
theorem dX0_stretch_13 : decode cX0_stretch 13 = .ok (.lsub, 1) := by decide +kernel
theorem dX0_stretch_14 : decode cX0_stretch 14 = .ok (.lconst 1, 1) := by decide +kernel
theorem dX0_stretch_15 : decode cX0_stretch 15 = .ok (.iload_n 0, 1) := by decide +kernel
theorem dX0_stretch_16 : decode cX0_stretch 16 = .ok (.lshl, 1) := by decide +kernel
theorem dX0_stretch_17 : decode cX0_stretch 17 = .ok (.lconst 1, 1) := by decide +kernel
theorem dX0_stretch_18 : decode cX0_stretch 18 = .ok (.lsub, 1) := by decide +kernel
theorem dX0_stretch_19 : decode cX0_stretch 19 = .ok (.ldc2_w 63, 3) := by decide +kernel
theorem dX0_stretch_22 : decode cX0_stretch 22 = .ok (.lxor, 1) := by decide +kernel
theorem dX0_stretch_23 : decode cX0_stretch 23 = .ok (.land, 1) := by decide +kernel
theorem dX0_stretch_24 : decode cX0_stretch 24 = .ok (.lreturn, 1) := by decide +kernel
theorem dX0_allAbove_0 : decode cX0_allAbove 0 = .ok (.lconst 0, 1) := by decide +kernel
theorem dX0_allAbove_1 : decode cX0_allAbove 1 = .ok (.lstore_n 2, 1) := by decide +kernel
theorem dX0_allAbove_2 : decode cX0_allAbove 2 = .ok (.iconst 0, 1) := by decide +kernel
theorem dX0_allAbove_3 : decode cX0_allAbove 3 = .ok (.istore 4, 2) := by decide +kernel
theorem dX0_allAbove_5 : decode cX0_allAbove 5 = .ok (.iload 4, 2) := by decide +kernel
theorem dX0_allAbove_7 : decode cX0_allAbove 7 = .ok (.aload_n 0, 1) := by decide +kernel
theorem dX0_allAbove_8 : decode cX0_allAbove 8 = .ok (.getfield 26, 3) := by decide +kernel
theorem dX0_allAbove_11 : decode cX0_allAbove 11 = .ok (.if_icmp .ge 84, 3) := by decide +kernel
theorem dX0_allAbove_14 : decode cX0_allAbove 14 = .ok (.aload_n 0, 1) := by decide +kernel
theorem dX0_allAbove_15 : decode cX0_allAbove 15 = .ok (.getfield 30, 3) := by decide +kernel
theorem dX0_allAbove_18 : decode cX0_allAbove 18 = .ok (.iload 4, 2) := by decide +kernel
theorem dX0_allAbove_20 : decode cX0_allAbove 20 = .ok (.lushr, 1) := by decide +kernel
theorem dX0_allAbove_21 : decode cX0_allAbove 21 = .ok (.lconst 1, 1) := by decide +kernel
theorem dX0_allAbove_22 : decode cX0_allAbove 22 = .ok (.land, 1) := by decide +kernel
theorem dX0_allAbove_23 : decode cX0_allAbove 23 = .ok (.lconst 0, 1) := by decide +kernel
theorem dX0_allAbove_24 : decode cX0_allAbove 24 = .ok (.lcmp, 1) := by decide +kernel
theorem dX0_allAbove_25 : decode cX0_allAbove 25 = .ok (.ifCond .eq 13, 3) := by decide +kernel
theorem dX0_allAbove_28 : decode cX0_allAbove 28 = .ok (.aload_n 0, 1) := by decide +kernel
theorem dX0_allAbove_29 : decode cX0_allAbove 29 = .ok (.getfield 16, 3) := by decide +kernel
theorem dX0_allAbove_32 : decode cX0_allAbove 32 = .ok (.iload 4, 2) := by decide +kernel
theorem dX0_allAbove_34 : decode cX0_allAbove 34 = .ok (.iaload, 1) := by decide +kernel
theorem dX0_allAbove_35 : decode cX0_allAbove 35 = .ok (.goto 4, 3) := by decide +kernel
theorem dX0_allAbove_38 : decode cX0_allAbove 38 = .ok (.iconst (-1), 1) := by decide +kernel
theorem dX0_allAbove_39 : decode cX0_allAbove 39 = .ok (.istore 5, 2) := by decide +kernel
theorem dX0_allAbove_41 : decode cX0_allAbove 41 = .ok (.iconst 0, 1) := by decide +kernel
theorem dX0_allAbove_42 : decode cX0_allAbove 42 = .ok (.istore 6, 2) := by decide +kernel
theorem dX0_allAbove_44 : decode cX0_allAbove 44 = .ok (.iload 6, 2) := by decide +kernel
theorem dX0_allAbove_46 : decode cX0_allAbove 46 = .ok (.bipush 48, 2) := by decide +kernel
theorem dX0_allAbove_48 : decode cX0_allAbove 48 = .ok (.if_icmp .ge 41, 3) := by decide +kernel
theorem dX0_allAbove_51 : decode cX0_allAbove 51 = .ok (.iload 5, 2) := by decide +kernel
theorem dX0_allAbove_53 : decode cX0_allAbove 53 = .ok (.ifCond .lt 36, 3) := by decide +kernel
theorem dX0_allAbove_56 : decode cX0_allAbove 56 = .ok (.lload_n 2, 1) := by decide +kernel
theorem dX0_allAbove_57 : decode cX0_allAbove 57 = .ok (.iload 5, 2) := by decide +kernel
theorem dX0_allAbove_59 : decode cX0_allAbove 59 = .ok (.lushr, 1) := by decide +kernel
theorem dX0_allAbove_60 : decode cX0_allAbove 60 = .ok (.lconst 1, 1) := by decide +kernel
theorem dX0_allAbove_61 : decode cX0_allAbove 61 = .ok (.land, 1) := by decide +kernel
theorem dX0_allAbove_62 : decode cX0_allAbove 62 = .ok (.lconst 0, 1) := by decide +kernel
theorem dX0_allAbove_63 : decode cX0_allAbove 63 = .ok (.lcmp, 1) := by decide +kernel
theorem dX0_allAbove_64 : decode cX0_allAbove 64 = .ok (.ifCond .ne 25, 3) := by decide +kernel
theorem dX0_allAbove_67 : decode cX0_allAbove 67 = .ok (.lload_n 2, 1) := by decide +kernel
theorem dX0_allAbove_68 : decode cX0_allAbove 68 = .ok (.lconst 1, 1) := by decide +kernel
theorem dX0_allAbove_69 : decode cX0_allAbove 69 = .ok (.iload 5, 2) := by decide +kernel
theorem dX0_allAbove_71 : decode cX0_allAbove 71 = .ok (.lshl, 1) := by decide +kernel
theorem dX0_allAbove_72 : decode cX0_allAbove 72 = .ok (.lor, 1) := by decide +kernel
theorem dX0_allAbove_73 : decode cX0_allAbove 73 = .ok (.lstore_n 2, 1) := by decide +kernel
theorem dX0_allAbove_74 : decode cX0_allAbove 74 = .ok (.aload_n 0, 1) := by decide +kernel
theorem dX0_allAbove_75 : decode cX0_allAbove 75 = .ok (.getfield 16, 3) := by decide +kernel
theorem dX0_allAbove_78 : decode cX0_allAbove 78 = .ok (.iload 5, 2) := by decide +kernel
theorem dX0_allAbove_80 : decode cX0_allAbove 80 = .ok (.iaload, 1) := by decide +kernel
theorem dX0_allAbove_81 : decode cX0_allAbove 81 = .ok (.istore 5, 2) := by decide +kernel
theorem dX0_allAbove_83 : decode cX0_allAbove 83 = .ok (.iinc 6 1, 3) := by decide +kernel
theorem dX0_allAbove_86 : decode cX0_allAbove 86 = .ok (.goto (-42), 3) := by decide +kernel
theorem dX0_allAbove_89 : decode cX0_allAbove 89 = .ok (.iinc 4 1, 3) := by decide +kernel
theorem dX0_allAbove_92 : decode cX0_allAbove 92 = .ok (.goto (-87), 3) := by decide +kernel
theorem dX0_allAbove_95 : decode cX0_allAbove 95 = .ok (.iload_n 1, 1) := by decide +kernel
theorem dX0_allAbove_96 : decode cX0_allAbove 96 = .ok (.ifCond .eq 12, 3) := by decide +kernel
theorem dX0_allAbove_99 : decode cX0_allAbove 99 = .ok (.lload_n 2, 1) := by decide +kernel
theorem dX0_allAbove_100 : decode cX0_allAbove 100 = .ok (.aload_n 0, 1) := by decide +kernel
theorem dX0_allAbove_101 : decode cX0_allAbove 101 = .ok (.getfield 30, 3) := by decide +kernel
theorem dX0_allAbove_104 : decode cX0_allAbove 104 = .ok (.lor, 1) := by decide +kernel
theorem dX0_allAbove_105 : decode cX0_allAbove 105 = .ok (.goto 4, 3) := by decide +kernel
theorem dX0_allAbove_108 : decode cX0_allAbove 108 = .ok (.lload_n 2, 1) := by decide +kernel
theorem dX0_allAbove_109 : decode cX0_allAbove 109 = .ok (.lreturn, 1) := by decide +kernel
theorem dX0_leastEnd_0 : decode cX0_leastEnd 0 = .ok (.aload_n 0, 1) := by decide +kernel
theorem dX0_leastEnd_1 : decode cX0_leastEnd 1 = .ok (.getfield 26, 3) := by decide +kernel
theorem dX0_leastEnd_4 : decode cX0_leastEnd 4 = .ok (.istore_n 1, 1) := by decide +kernel
theorem dX0_leastEnd_5 : decode cX0_leastEnd 5 = .ok (.iconst 0, 1) := by decide +kernel
theorem dX0_leastEnd_6 : decode cX0_leastEnd 6 = .ok (.istore_n 2, 1) := by decide +kernel
theorem dX0_leastEnd_7 : decode cX0_leastEnd 7 = .ok (.iload_n 2, 1) := by decide +kernel
theorem dX0_leastEnd_8 : decode cX0_leastEnd 8 = .ok (.aload_n 0, 1) := by decide +kernel
theorem dX0_leastEnd_9 : decode cX0_leastEnd 9 = .ok (.getfield 26, 3) := by decide +kernel
theorem dX0_leastEnd_12 : decode cX0_leastEnd 12 = .ok (.if_icmp .ge 53, 3) := by decide +kernel
theorem dX0_leastEnd_15 : decode cX0_leastEnd 15 = .ok (.aload_n 0, 1) := by decide +kernel
theorem dX0_leastEnd_16 : decode cX0_leastEnd 16 = .ok (.getfield 30, 3) := by decide +kernel
theorem dX0_leastEnd_19 : decode cX0_leastEnd 19 = .ok (.iload_n 2, 1) := by decide +kernel
theorem dX0_leastEnd_20 : decode cX0_leastEnd 20 = .ok (.lushr, 1) := by decide +kernel
theorem dX0_leastEnd_21 : decode cX0_leastEnd 21 = .ok (.lconst 1, 1) := by decide +kernel
theorem dX0_leastEnd_22 : decode cX0_leastEnd 22 = .ok (.land, 1) := by decide +kernel
theorem dX0_leastEnd_23 : decode cX0_leastEnd 23 = .ok (.lconst 0, 1) := by decide +kernel
theorem dX0_leastEnd_24 : decode cX0_leastEnd 24 = .ok (.lcmp, 1) := by decide +kernel
theorem dX0_leastEnd_25 : decode cX0_leastEnd 25 = .ok (.ifCond .eq 17, 3) := by decide +kernel
theorem dX0_leastEnd_28 : decode cX0_leastEnd 28 = .ok (.aload_n 0, 1) := by decide +kernel
theorem dX0_leastEnd_29 : decode cX0_leastEnd 29 = .ok (.getfield 19, 3) := by decide +kernel
theorem dX0_leastEnd_32 : decode cX0_leastEnd 32 = .ok (.iload_n 2, 1) := by decide +kernel
theorem dX0_leastEnd_33 : decode cX0_leastEnd 33 = .ok (.iaload, 1) := by decide +kernel
theorem dX0_leastEnd_34 : decode cX0_leastEnd 34 = .ok (.iload_n 1, 1) := by decide +kernel
theorem dX0_leastEnd_35 : decode cX0_leastEnd 35 = .ok (.if_icmp .ge 7, 3) := by decide +kernel
theorem dX0_leastEnd_38 : decode cX0_leastEnd 38 = .ok (.iconst 1, 1) := by decide +kernel
theorem dX0_leastEnd_39 : decode cX0_leastEnd 39 = .ok (.goto 4, 3) := by decide +kernel
theorem dX0_leastEnd_42 : decode cX0_leastEnd 42 = .ok (.iconst 0, 1) := by decide +kernel
theorem dX0_leastEnd_43 : decode cX0_leastEnd 43 = .ok (.istore_n 3, 1) := by decide +kernel
theorem dX0_leastEnd_44 : decode cX0_leastEnd 44 = .ok (.iload_n 3, 1) := by decide +kernel
theorem dX0_leastEnd_45 : decode cX0_leastEnd 45 = .ok (.ifCond .eq 12, 3) := by decide +kernel
theorem dX0_leastEnd_48 : decode cX0_leastEnd 48 = .ok (.aload_n 0, 1) := by decide +kernel
theorem dX0_leastEnd_49 : decode cX0_leastEnd 49 = .ok (.getfield 19, 3) := by decide +kernel
theorem dX0_leastEnd_52 : decode cX0_leastEnd 52 = .ok (.iload_n 2, 1) := by decide +kernel
theorem dX0_leastEnd_53 : decode cX0_leastEnd 53 = .ok (.iaload, 1) := by decide +kernel
theorem dX0_leastEnd_54 : decode cX0_leastEnd 54 = .ok (.goto 4, 3) := by decide +kernel
theorem dX0_leastEnd_57 : decode cX0_leastEnd 57 = .ok (.iload_n 1, 1) := by decide +kernel
theorem dX0_leastEnd_58 : decode cX0_leastEnd 58 = .ok (.istore_n 1, 1) := by decide +kernel
theorem dX0_leastEnd_59 : decode cX0_leastEnd 59 = .ok (.iinc 2 1, 3) := by decide +kernel
theorem dX0_leastEnd_62 : decode cX0_leastEnd 62 = .ok (.goto (-55), 3) := by decide +kernel
theorem dX0_leastEnd_65 : decode cX0_leastEnd 65 = .ok (.iload_n 1, 1) := by decide +kernel
theorem dX0_leastEnd_66 : decode cX0_leastEnd 66 = .ok (.ireturn, 1) := by decide +kernel
theorem dX0_size_0 : decode cX0_size 0 = .ok (.iconst 0, 1) := by decide +kernel
theorem dX0_size_1 : decode cX0_size 1 = .ok (.istore_n 2, 1) := by decide +kernel
theorem dX0_size_2 : decode cX0_size 2 = .ok (.iconst 0, 1) := by decide +kernel
theorem dX0_size_3 : decode cX0_size 3 = .ok (.istore_n 3, 1) := by decide +kernel
theorem dX0_size_4 : decode cX0_size 4 = .ok (.iload_n 3, 1) := by decide +kernel
theorem dX0_size_5 : decode cX0_size 5 = .ok (.bipush 48, 2) := by decide +kernel
theorem dX0_size_7 : decode cX0_size 7 = .ok (.if_icmp .ge 18, 3) := by decide +kernel
theorem dX0_size_10 : decode cX0_size 10 = .ok (.iload_n 2, 1) := by decide +kernel
theorem dX0_size_11 : decode cX0_size 11 = .ok (.lload_n 0, 1) := by decide +kernel
theorem dX0_size_12 : decode cX0_size 12 = .ok (.iload_n 3, 1) := by decide +kernel
theorem dX0_size_13 : decode cX0_size 13 = .ok (.lushr, 1) := by decide +kernel
theorem dX0_size_14 : decode cX0_size 14 = .ok (.l2i, 1) := by decide +kernel
theorem dX0_size_15 : decode cX0_size 15 = .ok (.iconst 1, 1) := by decide +kernel
theorem dX0_size_16 : decode cX0_size 16 = .ok (.iand, 1) := by decide +kernel
theorem dX0_size_17 : decode cX0_size 17 = .ok (.iadd, 1) := by decide +kernel
theorem dX0_size_18 : decode cX0_size 18 = .ok (.istore_n 2, 1) := by decide +kernel
theorem dX0_size_19 : decode cX0_size 19 = .ok (.iinc 3 1, 3) := by decide +kernel
theorem dX0_size_22 : decode cX0_size 22 = .ok (.goto (-18), 3) := by decide +kernel
theorem dX0_size_25 : decode cX0_size 25 = .ok (.iload_n 2, 1) := by decide +kernel
theorem dX0_size_26 : decode cX0_size 26 = .ok (.ireturn, 1) := by decide +kernel
theorem dX0_ranked_0 : decode cX0_ranked 0 = .ok (.iload_n 2, 1) := by decide +kernel
theorem dX0_ranked_1 : decode cX0_ranked 1 = .ok (.istore_n 3, 1) := by decide +kernel
theorem dX0_ranked_2 : decode cX0_ranked 2 = .ok (.iconst 0, 1) := by decide +kernel
theorem dX0_ranked_3 : decode cX0_ranked 3 = .ok (.istore 4, 2) := by decide +kernel
theorem dX0_ranked_5 : decode cX0_ranked 5 = .ok (.iload 4, 2) := by decide +kernel
theorem dX0_ranked_7 : decode cX0_ranked 7 = .ok (.bipush 48, 2) := by decide +kernel
theorem dX0_ranked_9 : decode cX0_ranked 9 = .ok (.if_icmp .ge 30, 3) := by decide +kernel
theorem dX0_ranked_12 : decode cX0_ranked 12 = .ok (.lload_n 0, 1) := by decide +kernel
theorem dX0_ranked_13 : decode cX0_ranked 13 = .ok (.iload 4, 2) := by decide +kernel
theorem dX0_ranked_15 : decode cX0_ranked 15 = .ok (.lushr, 1) := by decide +kernel
theorem dX0_ranked_16 : decode cX0_ranked 16 = .ok (.lconst 1, 1) := by decide +kernel
theorem dX0_ranked_17 : decode cX0_ranked 17 = .ok (.land, 1) := by decide +kernel
theorem dX0_ranked_18 : decode cX0_ranked 18 = .ok (.lconst 0, 1) := by decide +kernel
theorem dX0_ranked_19 : decode cX0_ranked 19 = .ok (.lcmp, 1) := by decide +kernel
theorem dX0_ranked_20 : decode cX0_ranked 20 = .ok (.ifCond .eq 13, 3) := by decide +kernel
theorem dX0_ranked_23 : decode cX0_ranked 23 = .ok (.iload_n 3, 1) := by decide +kernel
theorem dX0_ranked_24 : decode cX0_ranked 24 = .ok (.ifCond .ne 6, 3) := by decide +kernel
theorem dX0_ranked_27 : decode cX0_ranked 27 = .ok (.iload 4, 2) := by decide +kernel
theorem dX0_ranked_29 : decode cX0_ranked 29 = .ok (.ireturn, 1) := by decide +kernel
theorem dX0_ranked_30 : decode cX0_ranked 30 = .ok (.iinc 3 (-1), 3) := by decide +kernel
theorem dX0_ranked_33 : decode cX0_ranked 33 = .ok (.iinc 4 1, 3) := by decide +kernel
theorem dX0_ranked_36 : decode cX0_ranked 36 = .ok (.goto (-31), 3) := by decide +kernel
theorem dX0_ranked_39 : decode cX0_ranked 39 = .ok (.iconst (-1), 1) := by decide +kernel
theorem dX0_ranked_40 : decode cX0_ranked 40 = .ok (.ireturn, 1) := by decide +kernel
theorem dX0_aside_0 : decode cX0_aside 0 = .ok (.iload_n 1, 1) := by decide +kernel
theorem dX0_aside_1 : decode cX0_aside 1 = .ok (.bipush 7, 2) := by decide +kernel
theorem dX0_aside_3 : decode cX0_aside 3 = .ok (.if_icmp .ne 17, 3) := by decide +kernel
theorem dX0_aside_6 : decode cX0_aside 6 = .ok (.aload_n 0, 1) := by decide +kernel
theorem dX0_aside_7 : decode cX0_aside 7 = .ok (.getfield 19, 3) := by decide +kernel
theorem dX0_aside_10 : decode cX0_aside 10 = .ok (.iload_n 2, 1) := by decide +kernel
theorem dX0_aside_11 : decode cX0_aside 11 = .ok (.iaload, 1) := by decide +kernel
theorem dX0_aside_12 : decode cX0_aside 12 = .ok (.aload_n 0, 1) := by decide +kernel
theorem dX0_aside_13 : decode cX0_aside 13 = .ok (.getfield 26, 3) := by decide +kernel
theorem dX0_aside_16 : decode cX0_aside 16 = .ok (.invokestatic 65, 3) := by decide +kernel
theorem dX0_aside_19 : decode cX0_aside 19 = .ok (.lreturn, 1) := by decide +kernel
theorem dX0_aside_20 : decode cX0_aside 20 = .ok (.iload_n 1, 1) := by decide +kernel
theorem dX0_aside_21 : decode cX0_aside 21 = .ok (.bipush 8, 2) := by decide +kernel
theorem dX0_aside_23 : decode cX0_aside 23 = .ok (.if_icmp .ne 21, 3) := by decide +kernel
theorem dX0_aside_26 : decode cX0_aside 26 = .ok (.aload_n 0, 1) := by decide +kernel
theorem dX0_aside_27 : decode cX0_aside 27 = .ok (.iload_n 2, 1) := by decide +kernel
theorem dX0_aside_28 : decode cX0_aside 28 = .ok (.invokevirtual 75, 3) := by decide +kernel
theorem dX0_aside_31 : decode cX0_aside 31 = .ok (.lstore_n 3, 1) := by decide +kernel
theorem dX0_aside_32 : decode cX0_aside 32 = .ok (.iconst 0, 1) := by decide +kernel
theorem dX0_aside_33 : decode cX0_aside 33 = .ok (.iload_n 2, 1) := by decide +kernel
theorem dX0_aside_34 : decode cX0_aside 34 = .ok (.invokestatic 65, 3) := by decide +kernel
theorem dX0_aside_37 : decode cX0_aside 37 = .ok (.lload_n 3, 1) := by decide +kernel
theorem dX0_aside_38 : decode cX0_aside 38 = .ok (.ldc2_w 63, 3) := by decide +kernel
theorem dX0_aside_41 : decode cX0_aside 41 = .ok (.lxor, 1) := by decide +kernel
theorem dX0_aside_42 : decode cX0_aside 42 = .ok (.land, 1) := by decide +kernel
theorem dX0_aside_43 : decode cX0_aside 43 = .ok (.lreturn, 1) := by decide +kernel
theorem dX0_aside_44 : decode cX0_aside 44 = .ok (.iload_n 2, 1) := by decide +kernel
theorem dX0_aside_45 : decode cX0_aside 45 = .ok (.ifCond .ne 5, 3) := by decide +kernel
theorem dX0_aside_48 : decode cX0_aside 48 = .ok (.lconst 0, 1) := by decide +kernel
theorem dX0_aside_49 : decode cX0_aside 49 = .ok (.lreturn, 1) := by decide +kernel
theorem dX0_aside_50 : decode cX0_aside 50 = .ok (.aload_n 0, 1) := by decide +kernel
theorem dX0_aside_51 : decode cX0_aside 51 = .ok (.getfield 16, 3) := by decide +kernel
theorem dX0_aside_54 : decode cX0_aside 54 = .ok (.iload_n 2, 1) := by decide +kernel
theorem dX0_aside_55 : decode cX0_aside 55 = .ok (.iaload, 1) := by decide +kernel
theorem dX0_aside_56 : decode cX0_aside 56 = .ok (.istore_n 3, 1) := by decide +kernel
theorem dX0_aside_57 : decode cX0_aside 57 = .ok (.iload_n 1, 1) := by decide +kernel
theorem dX0_aside_58 : decode cX0_aside 58 = .ok (.iconst 5, 1) := by decide +kernel
theorem dX0_aside_59 : decode cX0_aside 59 = .ok (.if_icmp .ne 22, 3) := by decide +kernel
theorem dX0_aside_62 : decode cX0_aside 62 = .ok (.aload_n 0, 1) := by decide +kernel
theorem dX0_aside_63 : decode cX0_aside 63 = .ok (.aload_n 0, 1) := by decide +kernel
theorem dX0_aside_64 : decode cX0_aside 64 = .ok (.getfield 19, 3) := by decide +kernel
theorem dX0_aside_67 : decode cX0_aside 67 = .ok (.iload_n 2, 1) := by decide +kernel
theorem dX0_aside_68 : decode cX0_aside 68 = .ok (.iaload, 1) := by decide +kernel
theorem dX0_aside_69 : decode cX0_aside 69 = .ok (.aload_n 0, 1) := by decide +kernel
theorem dX0_aside_70 : decode cX0_aside 70 = .ok (.getfield 19, 3) := by decide +kernel
theorem dX0_aside_73 : decode cX0_aside 73 = .ok (.iload_n 3, 1) := by decide +kernel
theorem dX0_aside_74 : decode cX0_aside 74 = .ok (.iaload, 1) := by decide +kernel
theorem dX0_aside_75 : decode cX0_aside 75 = .ok (.invokevirtual 72, 3) := by decide +kernel
theorem dX0_aside_78 : decode cX0_aside 78 = .ok (.goto 11, 3) := by decide +kernel
theorem dX0_aside_81 : decode cX0_aside 81 = .ok (.aload_n 0, 1) := by decide +kernel
theorem dX0_aside_82 : decode cX0_aside 82 = .ok (.iload_n 3, 1) := by decide +kernel
theorem dX0_aside_83 : decode cX0_aside 83 = .ok (.iconst 1, 1) := by decide +kernel
theorem dX0_aside_84 : decode cX0_aside 84 = .ok (.iadd, 1) := by decide +kernel
theorem dX0_aside_85 : decode cX0_aside 85 = .ok (.iload_n 2, 1) := by decide +kernel
theorem dX0_aside_86 : decode cX0_aside 86 = .ok (.invokevirtual 72, 3) := by decide +kernel
theorem dX0_aside_89 : decode cX0_aside 89 = .ok (.lreturn, 1) := by decide +kernel
theorem dX0_above_0 : decode cX0_above 0 = .ok (.lconst 0, 1) := by decide +kernel
theorem dX0_above_1 : decode cX0_above 1 = .ok (.lstore_n 2, 1) := by decide +kernel
theorem dX0_above_2 : decode cX0_above 2 = .ok (.aload_n 0, 1) := by decide +kernel
theorem dX0_above_3 : decode cX0_above 3 = .ok (.getfield 16, 3) := by decide +kernel
theorem dX0_above_6 : decode cX0_above 6 = .ok (.iload_n 1, 1) := by decide +kernel
theorem dX0_above_7 : decode cX0_above 7 = .ok (.iaload, 1) := by decide +kernel
theorem dX0_above_8 : decode cX0_above 8 = .ok (.istore 4, 2) := by decide +kernel
theorem dX0_above_10 : decode cX0_above 10 = .ok (.iconst 0, 1) := by decide +kernel
theorem dX0_above_11 : decode cX0_above 11 = .ok (.istore 5, 2) := by decide +kernel
theorem dX0_above_13 : decode cX0_above 13 = .ok (.iload 5, 2) := by decide +kernel
theorem dX0_above_15 : decode cX0_above 15 = .ok (.bipush 48, 2) := by decide +kernel
theorem dX0_above_17 : decode cX0_above 17 = .ok (.if_icmp .ge 30, 3) := by decide +kernel
theorem dX0_above_20 : decode cX0_above 20 = .ok (.iload 4, 2) := by decide +kernel
theorem dX0_above_22 : decode cX0_above 22 = .ok (.ifCond .lt 25, 3) := by decide +kernel
theorem dX0_above_25 : decode cX0_above 25 = .ok (.lload_n 2, 1) := by decide +kernel
theorem dX0_above_26 : decode cX0_above 26 = .ok (.lconst 1, 1) := by decide +kernel
theorem dX0_above_27 : decode cX0_above 27 = .ok (.iload 4, 2) := by decide +kernel
theorem dX0_above_29 : decode cX0_above 29 = .ok (.lshl, 1) := by decide +kernel
theorem dX0_above_30 : decode cX0_above 30 = .ok (.lor, 1) := by decide +kernel
theorem dX0_above_31 : decode cX0_above 31 = .ok (.lstore_n 2, 1) := by decide +kernel
theorem dX0_above_32 : decode cX0_above 32 = .ok (.aload_n 0, 1) := by decide +kernel
theorem dX0_above_33 : decode cX0_above 33 = .ok (.getfield 16, 3) := by decide +kernel
theorem dX0_above_36 : decode cX0_above 36 = .ok (.iload 4, 2) := by decide +kernel
theorem dX0_above_38 : decode cX0_above 38 = .ok (.iaload, 1) := by decide +kernel
theorem dX0_above_39 : decode cX0_above 39 = .ok (.istore 4, 2) := by decide +kernel
theorem dX0_above_41 : decode cX0_above 41 = .ok (.iinc 5 1, 3) := by decide +kernel
theorem dX0_above_44 : decode cX0_above 44 = .ok (.goto (-31), 3) := by decide +kernel
theorem dX0_above_47 : decode cX0_above 47 = .ok (.lload_n 2, 1) := by decide +kernel
theorem dX0_above_48 : decode cX0_above 48 = .ok (.lreturn, 1) := by decide +kernel
theorem dX0_row_0 : decode cX0_row 0 = .ok (.lconst 0, 1) := by decide +kernel
theorem dX0_row_1 : decode cX0_row 1 = .ok (.lstore_n 3, 1) := by decide +kernel
theorem dX0_row_2 : decode cX0_row 2 = .ok (.iload_n 1, 1) := by decide +kernel
theorem dX0_row_3 : decode cX0_row 3 = .ok (.istore 5, 2) := by decide +kernel
theorem dX0_row_5 : decode cX0_row 5 = .ok (.iconst 0, 1) := by decide +kernel
theorem dX0_row_6 : decode cX0_row 6 = .ok (.istore 6, 2) := by decide +kernel
theorem dX0_row_8 : decode cX0_row 8 = .ok (.iload 6, 2) := by decide +kernel
theorem dX0_row_10 : decode cX0_row 10 = .ok (.bipush 48, 2) := by decide +kernel
theorem dX0_row_12 : decode cX0_row 12 = .ok (.if_icmp .ge 31, 3) := by decide +kernel
theorem dX0_row_15 : decode cX0_row 15 = .ok (.iload 5, 2) := by decide +kernel
theorem dX0_row_17 : decode cX0_row 17 = .ok (.iload_n 2, 1) := by decide +kernel
theorem dX0_row_18 : decode cX0_row 18 = .ok (.if_icmp .ge 25, 3) := by decide +kernel
theorem dX0_row_21 : decode cX0_row 21 = .ok (.lload_n 3, 1) := by decide +kernel
theorem dX0_row_22 : decode cX0_row 22 = .ok (.lconst 1, 1) := by decide +kernel
theorem dX0_row_23 : decode cX0_row 23 = .ok (.iload 5, 2) := by decide +kernel
theorem dX0_row_25 : decode cX0_row 25 = .ok (.lshl, 1) := by decide +kernel
theorem dX0_row_26 : decode cX0_row 26 = .ok (.lor, 1) := by decide +kernel
theorem dX0_row_27 : decode cX0_row 27 = .ok (.lstore_n 3, 1) := by decide +kernel
theorem dX0_row_28 : decode cX0_row 28 = .ok (.aload_n 0, 1) := by decide +kernel
theorem dX0_row_29 : decode cX0_row 29 = .ok (.getfield 19, 3) := by decide +kernel
theorem dX0_row_32 : decode cX0_row 32 = .ok (.iload 5, 2) := by decide +kernel
theorem dX0_row_34 : decode cX0_row 34 = .ok (.iaload, 1) := by decide +kernel
theorem dX0_row_35 : decode cX0_row 35 = .ok (.istore 5, 2) := by decide +kernel
theorem dX0_row_37 : decode cX0_row 37 = .ok (.iinc 6 1, 3) := by decide +kernel
theorem dX0_row_40 : decode cX0_row 40 = .ok (.goto (-32), 3) := by decide +kernel
theorem dX0_row_43 : decode cX0_row 43 = .ok (.lload_n 3, 1) := by decide +kernel
theorem dX0_row_44 : decode cX0_row 44 = .ok (.lreturn, 1) := by decide +kernel
theorem dX0_along_0 : decode cX0_along 0 = .ok (.iload_n 1, 1) := by decide +kernel
theorem dX0_along_1 : decode cX0_along 1 = .ok (.ifCond .ne 7, 3) := by decide +kernel
theorem dX0_along_4 : decode cX0_along 4 = .ok (.lconst 1, 1) := by decide +kernel
theorem dX0_along_5 : decode cX0_along 5 = .ok (.iload_n 2, 1) := by decide +kernel
theorem dX0_along_6 : decode cX0_along 6 = .ok (.lshl, 1) := by decide +kernel
theorem dX0_along_7 : decode cX0_along 7 = .ok (.lreturn, 1) := by decide +kernel
theorem dX0_along_8 : decode cX0_along 8 = .ok (.iload_n 1, 1) := by decide +kernel
theorem dX0_along_9 : decode cX0_along 9 = .ok (.iconst 1, 1) := by decide +kernel
theorem dX0_along_10 : decode cX0_along 10 = .ok (.if_icmp .ne 17, 3) := by decide +kernel
theorem dX0_along_13 : decode cX0_along 13 = .ok (.aload_n 0, 1) := by decide +kernel
theorem dX0_along_14 : decode cX0_along 14 = .ok (.iload_n 2, 1) := by decide +kernel
theorem dX0_along_15 : decode cX0_along 15 = .ok (.iconst 1, 1) := by decide +kernel
theorem dX0_along_16 : decode cX0_along 16 = .ok (.iadd, 1) := by decide +kernel
theorem dX0_along_17 : decode cX0_along 17 = .ok (.aload_n 0, 1) := by decide +kernel
theorem dX0_along_18 : decode cX0_along 18 = .ok (.getfield 19, 3) := by decide +kernel
theorem dX0_along_21 : decode cX0_along 21 = .ok (.iload_n 2, 1) := by decide +kernel
theorem dX0_along_22 : decode cX0_along 22 = .ok (.iaload, 1) := by decide +kernel
theorem dX0_along_23 : decode cX0_along 23 = .ok (.invokevirtual 72, 3) := by decide +kernel
theorem dX0_along_26 : decode cX0_along 26 = .ok (.lreturn, 1) := by decide +kernel
theorem dX0_along_27 : decode cX0_along 27 = .ok (.iload_n 1, 1) := by decide +kernel
theorem dX0_along_28 : decode cX0_along 28 = .ok (.iconst 2, 1) := by decide +kernel
theorem dX0_along_29 : decode cX0_along 29 = .ok (.if_icmp .ne 20, 3) := by decide +kernel
theorem dX0_along_32 : decode cX0_along 32 = .ok (.iload_n 2, 1) := by decide +kernel
theorem dX0_along_33 : decode cX0_along 33 = .ok (.ifCond .ne 7, 3) := by decide +kernel
theorem dX0_along_36 : decode cX0_along 36 = .ok (.lconst 0, 1) := by decide +kernel
theorem dX0_along_37 : decode cX0_along 37 = .ok (.goto 11, 3) := by decide +kernel
theorem dX0_along_40 : decode cX0_along 40 = .ok (.lconst 1, 1) := by decide +kernel
theorem dX0_along_41 : decode cX0_along 41 = .ok (.aload_n 0, 1) := by decide +kernel
end
section
set_option maxRecDepth 100000
theorem dX0_along_42 : decode cX0_along 42 = .ok (.getfield 16, 3) := by decide +kernel
theorem dX0_along_45 : decode cX0_along 45 = .ok (.iload_n 2, 1) := by decide +kernel
theorem dX0_along_46 : decode cX0_along 46 = .ok (.iaload, 1) := by decide +kernel
theorem dX0_along_47 : decode cX0_along 47 = .ok (.lshl, 1) := by decide +kernel
theorem dX0_along_48 : decode cX0_along 48 = .ok (.lreturn, 1) := by decide +kernel
theorem dX0_along_49 : decode cX0_along 49 = .ok (.iload_n 1, 1) := by decide +kernel
theorem dX0_along_50 : decode cX0_along 50 = .ok (.iconst 3, 1) := by decide +kernel
theorem dX0_along_51 : decode cX0_along 51 = .ok (.if_icmp .eq 9, 3) := by decide +kernel
theorem dX0_along_54 : decode cX0_along 54 = .ok (.iload_n 1, 1) := by decide +kernel
theorem dX0_along_55 : decode cX0_along 55 = .ok (.bipush 9, 2) := by decide +kernel
theorem dX0_along_57 : decode cX0_along 57 = .ok (.if_icmp .ne 25, 3) := by decide +kernel
theorem dX0_along_60 : decode cX0_along 60 = .ok (.iload_n 1, 1) := by decide +kernel
theorem dX0_along_61 : decode cX0_along 61 = .ok (.iconst 3, 1) := by decide +kernel
theorem dX0_along_62 : decode cX0_along 62 = .ok (.if_icmp .ne 9, 3) := by decide +kernel
theorem dX0_along_65 : decode cX0_along 65 = .ok (.iload_n 2, 1) := by decide +kernel
theorem dX0_along_66 : decode cX0_along 66 = .ok (.iconst 1, 1) := by decide +kernel
theorem dX0_along_67 : decode cX0_along 67 = .ok (.iadd, 1) := by decide +kernel
theorem dX0_along_68 : decode cX0_along 68 = .ok (.goto 4, 3) := by decide +kernel
theorem dX0_along_71 : decode cX0_along 71 = .ok (.iload_n 2, 1) := by decide +kernel
theorem dX0_along_72 : decode cX0_along 72 = .ok (.aload_n 0, 1) := by decide +kernel
theorem dX0_along_73 : decode cX0_along 73 = .ok (.getfield 19, 3) := by decide +kernel
theorem dX0_along_76 : decode cX0_along 76 = .ok (.iload_n 2, 1) := by decide +kernel
theorem dX0_along_77 : decode cX0_along 77 = .ok (.iaload, 1) := by decide +kernel
theorem dX0_along_78 : decode cX0_along 78 = .ok (.invokestatic 65, 3) := by decide +kernel
theorem dX0_along_81 : decode cX0_along 81 = .ok (.lreturn, 1) := by decide +kernel
theorem dX0_along_82 : decode cX0_along 82 = .ok (.iload_n 1, 1) := by decide +kernel
theorem dX0_along_83 : decode cX0_along 83 = .ok (.iconst 4, 1) := by decide +kernel
theorem dX0_along_84 : decode cX0_along 84 = .ok (.if_icmp .eq 9, 3) := by decide +kernel
theorem dX0_along_87 : decode cX0_along 87 = .ok (.iload_n 1, 1) := by decide +kernel
theorem dX0_along_88 : decode cX0_along 88 = .ok (.bipush 10, 2) := by decide +kernel
theorem dX0_along_90 : decode cX0_along 90 = .ok (.if_icmp .ne 24, 3) := by decide +kernel
theorem dX0_along_93 : decode cX0_along 93 = .ok (.aload_n 0, 1) := by decide +kernel
theorem dX0_along_94 : decode cX0_along 94 = .ok (.iload_n 2, 1) := by decide +kernel
theorem dX0_along_95 : decode cX0_along 95 = .ok (.invokevirtual 75, 3) := by decide +kernel
theorem dX0_along_98 : decode cX0_along 98 = .ok (.lstore_n 3, 1) := by decide +kernel
theorem dX0_along_99 : decode cX0_along 99 = .ok (.iload_n 1, 1) := by decide +kernel
theorem dX0_along_100 : decode cX0_along 100 = .ok (.iconst 4, 1) := by decide +kernel
theorem dX0_along_101 : decode cX0_along 101 = .ok (.if_icmp .ne 7, 3) := by decide +kernel
theorem dX0_along_104 : decode cX0_along 104 = .ok (.lload_n 3, 1) := by decide +kernel
theorem dX0_along_105 : decode cX0_along 105 = .ok (.goto 8, 3) := by decide +kernel
theorem dX0_along_108 : decode cX0_along 108 = .ok (.lload_n 3, 1) := by decide +kernel
theorem dX0_along_109 : decode cX0_along 109 = .ok (.lconst 1, 1) := by decide +kernel
theorem dX0_along_110 : decode cX0_along 110 = .ok (.iload_n 2, 1) := by decide +kernel
theorem dX0_along_111 : decode cX0_along 111 = .ok (.lshl, 1) := by decide +kernel
theorem dX0_along_112 : decode cX0_along 112 = .ok (.lor, 1) := by decide +kernel
theorem dX0_along_113 : decode cX0_along 113 = .ok (.lreturn, 1) := by decide +kernel
theorem dX0_along_114 : decode cX0_along 114 = .ok (.aload_n 0, 1) := by decide +kernel
theorem dX0_along_115 : decode cX0_along 115 = .ok (.iload_n 1, 1) := by decide +kernel
theorem dX0_along_116 : decode cX0_along 116 = .ok (.iload_n 2, 1) := by decide +kernel
theorem dX0_along_117 : decode cX0_along 117 = .ok (.invokevirtual 78, 3) := by decide +kernel
theorem dX0_along_120 : decode cX0_along 120 = .ok (.lreturn, 1) := by decide +kernel
theorem dX0_placesAlong_0 : decode cX0_placesAlong 0 = .ok (.iload_n 1, 1) := by decide +kernel
theorem dX0_placesAlong_1 : decode cX0_placesAlong 1 = .ok (.iconst 4, 1) := by decide +kernel
theorem dX0_placesAlong_2 : decode cX0_placesAlong 2 = .ok (.if_icmp .eq 21, 3) := by decide +kernel
theorem dX0_placesAlong_5 : decode cX0_placesAlong 5 = .ok (.iload_n 1, 1) := by decide +kernel
theorem dX0_placesAlong_6 : decode cX0_placesAlong 6 = .ok (.bipush 6, 2) := by decide +kernel
theorem dX0_placesAlong_8 : decode cX0_placesAlong 8 = .ok (.if_icmp .eq 15, 3) := by decide +kernel
theorem dX0_placesAlong_11 : decode cX0_placesAlong 11 = .ok (.iload_n 1, 1) := by decide +kernel
theorem dX0_placesAlong_12 : decode cX0_placesAlong 12 = .ok (.bipush 8, 2) := by decide +kernel
theorem dX0_placesAlong_14 : decode cX0_placesAlong 14 = .ok (.if_icmp .eq 9, 3) := by decide +kernel
theorem dX0_placesAlong_17 : decode cX0_placesAlong 17 = .ok (.iload_n 1, 1) := by decide +kernel
theorem dX0_placesAlong_18 : decode cX0_placesAlong 18 = .ok (.bipush 10, 2) := by decide +kernel
theorem dX0_placesAlong_20 : decode cX0_placesAlong 20 = .ok (.if_icmp .ne 7, 3) := by decide +kernel
theorem dX0_placesAlong_23 : decode cX0_placesAlong 23 = .ok (.iconst 1, 1) := by decide +kernel
theorem dX0_placesAlong_24 : decode cX0_placesAlong 24 = .ok (.goto 4, 3) := by decide +kernel
theorem dX0_placesAlong_27 : decode cX0_placesAlong 27 = .ok (.iconst 0, 1) := by decide +kernel
theorem dX0_placesAlong_28 : decode cX0_placesAlong 28 = .ok (.istore 5, 2) := by decide +kernel
theorem dX0_placesAlong_30 : decode cX0_placesAlong 30 = .ok (.lconst 0, 1) := by decide +kernel
theorem dX0_placesAlong_31 : decode cX0_placesAlong 31 = .ok (.lstore 6, 2) := by decide +kernel
theorem dX0_placesAlong_33 : decode cX0_placesAlong 33 = .ok (.iconst 0, 1) := by decide +kernel
theorem dX0_placesAlong_34 : decode cX0_placesAlong 34 = .ok (.istore 8, 2) := by decide +kernel
theorem dX0_placesAlong_36 : decode cX0_placesAlong 36 = .ok (.iload 8, 2) := by decide +kernel
theorem dX0_placesAlong_38 : decode cX0_placesAlong 38 = .ok (.aload_n 0, 1) := by decide +kernel
theorem dX0_placesAlong_39 : decode cX0_placesAlong 39 = .ok (.getfield 26, 3) := by decide +kernel
theorem dX0_placesAlong_42 : decode cX0_placesAlong 42 = .ok (.if_icmp .ge 122, 3) := by decide +kernel
theorem dX0_placesAlong_45 : decode cX0_placesAlong 45 = .ok (.aload_n 0, 1) := by decide +kernel
theorem dX0_placesAlong_46 : decode cX0_placesAlong 46 = .ok (.getfield 30, 3) := by decide +kernel
theorem dX0_placesAlong_49 : decode cX0_placesAlong 49 = .ok (.iload 8, 2) := by decide +kernel
theorem dX0_placesAlong_51 : decode cX0_placesAlong 51 = .ok (.lushr, 1) := by decide +kernel
theorem dX0_placesAlong_52 : decode cX0_placesAlong 52 = .ok (.lconst 1, 1) := by decide +kernel
theorem dX0_placesAlong_53 : decode cX0_placesAlong 53 = .ok (.land, 1) := by decide +kernel
theorem dX0_placesAlong_54 : decode cX0_placesAlong 54 = .ok (.lconst 0, 1) := by decide +kernel
theorem dX0_placesAlong_55 : decode cX0_placesAlong 55 = .ok (.lcmp, 1) := by decide +kernel
theorem dX0_placesAlong_56 : decode cX0_placesAlong 56 = .ok (.ifCond .eq 102, 3) := by decide +kernel
theorem dX0_placesAlong_59 : decode cX0_placesAlong 59 = .ok (.aload_n 0, 1) := by decide +kernel
theorem dX0_placesAlong_60 : decode cX0_placesAlong 60 = .ok (.iload_n 1, 1) := by decide +kernel
theorem dX0_placesAlong_61 : decode cX0_placesAlong 61 = .ok (.iload 8, 2) := by decide +kernel
theorem dX0_placesAlong_63 : decode cX0_placesAlong 63 = .ok (.invokevirtual 59, 3) := by decide +kernel
theorem dX0_placesAlong_66 : decode cX0_placesAlong 66 = .ok (.lload_n 2, 1) := by decide +kernel
theorem dX0_placesAlong_67 : decode cX0_placesAlong 67 = .ok (.land, 1) := by decide +kernel
theorem dX0_placesAlong_68 : decode cX0_placesAlong 68 = .ok (.lstore 9, 2) := by decide +kernel
theorem dX0_placesAlong_70 : decode cX0_placesAlong 70 = .ok (.lload 9, 2) := by decide +kernel
theorem dX0_placesAlong_72 : decode cX0_placesAlong 72 = .ok (.invokestatic 55, 3) := by decide +kernel
theorem dX0_placesAlong_75 : decode cX0_placesAlong 75 = .ok (.istore 11, 2) := by decide +kernel
theorem dX0_placesAlong_77 : decode cX0_placesAlong 77 = .ok (.iload 4, 2) := by decide +kernel
theorem dX0_placesAlong_79 : decode cX0_placesAlong 79 = .ok (.ifCond .le 10, 3) := by decide +kernel
theorem dX0_placesAlong_82 : decode cX0_placesAlong 82 = .ok (.iload 4, 2) := by decide +kernel
theorem dX0_placesAlong_84 : decode cX0_placesAlong 84 = .ok (.iconst 1, 1) := by decide +kernel
theorem dX0_placesAlong_85 : decode cX0_placesAlong 85 = .ok (.isub, 1) := by decide +kernel
theorem dX0_placesAlong_86 : decode cX0_placesAlong 86 = .ok (.goto 8, 3) := by decide +kernel
theorem dX0_placesAlong_89 : decode cX0_placesAlong 89 = .ok (.iload 11, 2) := by decide +kernel
theorem dX0_placesAlong_91 : decode cX0_placesAlong 91 = .ok (.iload 4, 2) := by decide +kernel
theorem dX0_placesAlong_93 : decode cX0_placesAlong 93 = .ok (.iadd, 1) := by decide +kernel
theorem dX0_placesAlong_94 : decode cX0_placesAlong 94 = .ok (.istore 12, 2) := by decide +kernel
theorem dX0_placesAlong_96 : decode cX0_placesAlong 96 = .ok (.iload 5, 2) := by decide +kernel
theorem dX0_placesAlong_98 : decode cX0_placesAlong 98 = .ok (.ifCond .eq 13, 3) := by decide +kernel
theorem dX0_placesAlong_101 : decode cX0_placesAlong 101 = .ok (.iload 11, 2) := by decide +kernel
theorem dX0_placesAlong_103 : decode cX0_placesAlong 103 = .ok (.iconst 1, 1) := by decide +kernel
theorem dX0_placesAlong_104 : decode cX0_placesAlong 104 = .ok (.isub, 1) := by decide +kernel
theorem dX0_placesAlong_105 : decode cX0_placesAlong 105 = .ok (.iload 12, 2) := by decide +kernel
theorem dX0_placesAlong_107 : decode cX0_placesAlong 107 = .ok (.isub, 1) := by decide +kernel
theorem dX0_placesAlong_108 : decode cX0_placesAlong 108 = .ok (.goto 5, 3) := by decide +kernel
theorem dX0_placesAlong_111 : decode cX0_placesAlong 111 = .ok (.iload 12, 2) := by decide +kernel
theorem dX0_placesAlong_113 : decode cX0_placesAlong 113 = .ok (.istore 12, 2) := by decide +kernel
theorem dX0_placesAlong_115 : decode cX0_placesAlong 115 = .ok (.iload 12, 2) := by decide +kernel
theorem dX0_placesAlong_117 : decode cX0_placesAlong 117 = .ok (.ifCond .lt 10, 3) := by decide +kernel
theorem dX0_placesAlong_120 : decode cX0_placesAlong 120 = .ok (.iload 12, 2) := by decide +kernel
theorem dX0_placesAlong_122 : decode cX0_placesAlong 122 = .ok (.iload 11, 2) := by decide +kernel
theorem dX0_placesAlong_124 : decode cX0_placesAlong 124 = .ok (.if_icmp .lt 7, 3) := by decide +kernel
theorem dX0_placesAlong_127 : decode cX0_placesAlong 127 = .ok (.iconst (-1), 1) := by decide +kernel
theorem dX0_placesAlong_128 : decode cX0_placesAlong 128 = .ok (.goto 10, 3) := by decide +kernel
theorem dX0_placesAlong_131 : decode cX0_placesAlong 131 = .ok (.lload 9, 2) := by decide +kernel
theorem dX0_placesAlong_133 : decode cX0_placesAlong 133 = .ok (.iload 12, 2) := by decide +kernel
theorem dX0_placesAlong_135 : decode cX0_placesAlong 135 = .ok (.invokestatic 68, 3) := by decide +kernel
theorem dX0_placesAlong_138 : decode cX0_placesAlong 138 = .ok (.istore 13, 2) := by decide +kernel
theorem dX0_placesAlong_140 : decode cX0_placesAlong 140 = .ok (.lload 6, 2) := by decide +kernel
theorem dX0_placesAlong_142 : decode cX0_placesAlong 142 = .ok (.iload 13, 2) := by decide +kernel
theorem dX0_placesAlong_144 : decode cX0_placesAlong 144 = .ok (.ifCond .ge 7, 3) := by decide +kernel
theorem dX0_placesAlong_147 : decode cX0_placesAlong 147 = .ok (.lconst 0, 1) := by decide +kernel
theorem dX0_placesAlong_148 : decode cX0_placesAlong 148 = .ok (.goto 7, 3) := by decide +kernel
theorem dX0_placesAlong_151 : decode cX0_placesAlong 151 = .ok (.lconst 1, 1) := by decide +kernel
theorem dX0_placesAlong_152 : decode cX0_placesAlong 152 = .ok (.iload 13, 2) := by decide +kernel
theorem dX0_placesAlong_154 : decode cX0_placesAlong 154 = .ok (.lshl, 1) := by decide +kernel
theorem dX0_placesAlong_155 : decode cX0_placesAlong 155 = .ok (.lor, 1) := by decide +kernel
theorem dX0_placesAlong_156 : decode cX0_placesAlong 156 = .ok (.lstore 6, 2) := by decide +kernel
theorem dX0_placesAlong_158 : decode cX0_placesAlong 158 = .ok (.iinc 8 1, 3) := by decide +kernel
theorem dX0_placesAlong_161 : decode cX0_placesAlong 161 = .ok (.goto (-125), 3) := by decide +kernel
theorem dX0_placesAlong_164 : decode cX0_placesAlong 164 = .ok (.lload 6, 2) := by decide +kernel
theorem dX0_placesAlong_166 : decode cX0_placesAlong 166 = .ok (.lreturn, 1) := by decide +kernel
theorem dX0_having_0 : decode cX0_having 0 = .ok (.iload_n 1, 1) := by decide +kernel
theorem dX0_having_1 : decode cX0_having 1 = .ok (.ifCond .lt 19, 3) := by decide +kernel
theorem dX0_having_4 : decode cX0_having 4 = .ok (.iload_n 1, 1) := by decide +kernel
theorem dX0_having_5 : decode cX0_having 5 = .ok (.bipush 10, 2) := by decide +kernel
theorem dX0_having_7 : decode cX0_having 7 = .ok (.if_icmp .gt 13, 3) := by decide +kernel
theorem dX0_having_10 : decode cX0_having 10 = .ok (.iload_n 2, 1) := by decide +kernel
theorem dX0_having_11 : decode cX0_having 11 = .ok (.ifCond .lt 9, 3) := by decide +kernel
theorem dX0_having_14 : decode cX0_having 14 = .ok (.iload_n 2, 1) := by decide +kernel
theorem dX0_having_15 : decode cX0_having 15 = .ok (.bipush 10, 2) := by decide +kernel
theorem dX0_having_17 : decode cX0_having 17 = .ok (.if_icmp .le 5, 3) := by decide +kernel
theorem dX0_having_20 : decode cX0_having 20 = .ok (.iconst (-1), 1) := by decide +kernel
theorem dX0_having_21 : decode cX0_having 21 = .ok (.ireturn, 1) := by decide +kernel
theorem dX0_having_22 : decode cX0_having 22 = .ok (.aload_n 0, 1) := by decide +kernel
theorem dX0_having_23 : decode cX0_having 23 = .ok (.iload_n 2, 1) := by decide +kernel
theorem dX0_having_24 : decode cX0_having 24 = .ok (.invokevirtual 44, 3) := by decide +kernel
theorem dX0_having_27 : decode cX0_having 27 = .ok (.lstore 4, 2) := by decide +kernel
theorem dX0_having_29 : decode cX0_having 29 = .ok (.iconst 0, 1) := by decide +kernel
theorem dX0_having_30 : decode cX0_having 30 = .ok (.istore 6, 2) := by decide +kernel
theorem dX0_having_32 : decode cX0_having 32 = .ok (.iload 6, 2) := by decide +kernel
theorem dX0_having_34 : decode cX0_having 34 = .ok (.aload_n 0, 1) := by decide +kernel
theorem dX0_having_35 : decode cX0_having 35 = .ok (.getfield 26, 3) := by decide +kernel
theorem dX0_having_38 : decode cX0_having 38 = .ok (.if_icmp .ge 74, 3) := by decide +kernel
theorem dX0_having_41 : decode cX0_having 41 = .ok (.aload_n 0, 1) := by decide +kernel
theorem dX0_having_42 : decode cX0_having 42 = .ok (.getfield 30, 3) := by decide +kernel
theorem dX0_having_45 : decode cX0_having 45 = .ok (.iload 6, 2) := by decide +kernel
theorem dX0_having_47 : decode cX0_having 47 = .ok (.lushr, 1) := by decide +kernel
theorem dX0_having_48 : decode cX0_having 48 = .ok (.lconst 1, 1) := by decide +kernel
theorem dX0_having_49 : decode cX0_having 49 = .ok (.land, 1) := by decide +kernel
theorem dX0_having_50 : decode cX0_having 50 = .ok (.lconst 0, 1) := by decide +kernel
theorem dX0_having_51 : decode cX0_having 51 = .ok (.lcmp, 1) := by decide +kernel
theorem dX0_having_52 : decode cX0_having 52 = .ok (.ifCond .eq 54, 3) := by decide +kernel
theorem dX0_having_55 : decode cX0_having 55 = .ok (.aload_n 0, 1) := by decide +kernel
theorem dX0_having_56 : decode cX0_having 56 = .ok (.iload_n 1, 1) := by decide +kernel
theorem dX0_having_57 : decode cX0_having 57 = .ok (.iload 6, 2) := by decide +kernel
theorem dX0_having_59 : decode cX0_having 59 = .ok (.invokevirtual 59, 3) := by decide +kernel
theorem dX0_having_62 : decode cX0_having 62 = .ok (.lload 4, 2) := by decide +kernel
theorem dX0_having_64 : decode cX0_having 64 = .ok (.land, 1) := by decide +kernel
theorem dX0_having_65 : decode cX0_having 65 = .ok (.lstore 7, 2) := by decide +kernel
theorem dX0_having_67 : decode cX0_having 67 = .ok (.aload_n 0, 1) := by decide +kernel
theorem dX0_having_68 : decode cX0_having 68 = .ok (.dup, 1) := by decide +kernel
theorem dX0_having_69 : decode cX0_having 69 = .ok (.getfield 30, 3) := by decide +kernel
theorem dX0_having_72 : decode cX0_having 72 = .ok (.lload 7, 2) := by decide +kernel
theorem dX0_having_74 : decode cX0_having 74 = .ok (.lconst 0, 1) := by decide +kernel
theorem dX0_having_75 : decode cX0_having 75 = .ok (.lcmp, 1) := by decide +kernel
theorem dX0_having_76 : decode cX0_having 76 = .ok (.ifCond .eq 7, 3) := by decide +kernel
theorem dX0_having_79 : decode cX0_having 79 = .ok (.iconst 1, 1) := by decide +kernel
theorem dX0_having_80 : decode cX0_having 80 = .ok (.goto 4, 3) := by decide +kernel
theorem dX0_having_83 : decode cX0_having 83 = .ok (.iconst 0, 1) := by decide +kernel
theorem dX0_having_84 : decode cX0_having 84 = .ok (.iload_n 3, 1) := by decide +kernel
theorem dX0_having_85 : decode cX0_having 85 = .ok (.if_icmp .ne 9, 3) := by decide +kernel
theorem dX0_having_88 : decode cX0_having 88 = .ok (.ldc2_w 63, 3) := by decide +kernel
theorem dX0_having_91 : decode cX0_having 91 = .ok (.goto 11, 3) := by decide +kernel
theorem dX0_having_94 : decode cX0_having 94 = .ok (.lconst 1, 1) := by decide +kernel
theorem dX0_having_95 : decode cX0_having 95 = .ok (.iload 6, 2) := by decide +kernel
theorem dX0_having_97 : decode cX0_having 97 = .ok (.lshl, 1) := by decide +kernel
theorem dX0_having_98 : decode cX0_having 98 = .ok (.ldc2_w 63, 3) := by decide +kernel
theorem dX0_having_101 : decode cX0_having 101 = .ok (.lxor, 1) := by decide +kernel
theorem dX0_having_102 : decode cX0_having 102 = .ok (.land, 1) := by decide +kernel
theorem dX0_having_103 : decode cX0_having 103 = .ok (.putfield 30, 3) := by decide +kernel
theorem dX0_having_106 : decode cX0_having 106 = .ok (.iinc 6 1, 3) := by decide +kernel
theorem dX0_having_109 : decode cX0_having 109 = .ok (.goto (-77), 3) := by decide +kernel
theorem dX0_having_112 : decode cX0_having 112 = .ok (.aload_n 0, 1) := by decide +kernel
theorem dX0_having_113 : decode cX0_having 113 = .ok (.getfield 30, 3) := by decide +kernel
theorem dX0_having_116 : decode cX0_having 116 = .ok (.invokestatic 55, 3) := by decide +kernel
theorem dX0_having_119 : decode cX0_having 119 = .ok (.ireturn, 1) := by decide +kernel
theorem dX0_valued_0 : decode cX0_valued 0 = .ok (.lconst 0, 1) := by decide +kernel
theorem dX0_valued_1 : decode cX0_valued 1 = .ok (.lstore_n 3, 1) := by decide +kernel
theorem dX0_valued_2 : decode cX0_valued 2 = .ok (.iconst 0, 1) := by decide +kernel
theorem dX0_valued_3 : decode cX0_valued 3 = .ok (.istore 5, 2) := by decide +kernel
theorem dX0_valued_5 : decode cX0_valued 5 = .ok (.iload 5, 2) := by decide +kernel
theorem dX0_valued_7 : decode cX0_valued 7 = .ok (.aload_n 0, 1) := by decide +kernel
theorem dX0_valued_8 : decode cX0_valued 8 = .ok (.getfield 26, 3) := by decide +kernel
theorem dX0_valued_11 : decode cX0_valued 11 = .ok (.if_icmp .ge 66, 3) := by decide +kernel
theorem dX0_valued_14 : decode cX0_valued 14 = .ok (.aload_n 0, 1) := by decide +kernel
theorem dX0_valued_15 : decode cX0_valued 15 = .ok (.getfield 7, 3) := by decide +kernel
theorem dX0_valued_18 : decode cX0_valued 18 = .ok (.iload 5, 2) := by decide +kernel
theorem dX0_valued_20 : decode cX0_valued 20 = .ok (.iaload, 1) := by decide +kernel
theorem dX0_valued_21 : decode cX0_valued 21 = .ok (.bipush 8, 2) := by decide +kernel
theorem dX0_valued_23 : decode cX0_valued 23 = .ok (.if_icmp .ne 29, 3) := by decide +kernel
theorem dX0_valued_26 : decode cX0_valued 26 = .ok (.iload_n 1, 1) := by decide +kernel
theorem dX0_valued_27 : decode cX0_valued 27 = .ok (.aload_n 0, 1) := by decide +kernel
theorem dX0_valued_28 : decode cX0_valued 28 = .ok (.getfield 13, 3) := by decide +kernel
theorem dX0_valued_31 : decode cX0_valued 31 = .ok (.iload 5, 2) := by decide +kernel
theorem dX0_valued_33 : decode cX0_valued 33 = .ok (.iaload, 1) := by decide +kernel
theorem dX0_valued_34 : decode cX0_valued 34 = .ok (.if_icmp .gt 18, 3) := by decide +kernel
theorem dX0_valued_37 : decode cX0_valued 37 = .ok (.aload_n 0, 1) := by decide +kernel
theorem dX0_valued_38 : decode cX0_valued 38 = .ok (.getfield 13, 3) := by decide +kernel
theorem dX0_valued_41 : decode cX0_valued 41 = .ok (.iload 5, 2) := by decide +kernel
theorem dX0_valued_43 : decode cX0_valued 43 = .ok (.iaload, 1) := by decide +kernel
theorem dX0_valued_44 : decode cX0_valued 44 = .ok (.iload_n 2, 1) := by decide +kernel
theorem dX0_valued_45 : decode cX0_valued 45 = .ok (.if_icmp .gt 7, 3) := by decide +kernel
theorem dX0_valued_48 : decode cX0_valued 48 = .ok (.iconst 1, 1) := by decide +kernel
theorem dX0_valued_49 : decode cX0_valued 49 = .ok (.goto 4, 3) := by decide +kernel
theorem dX0_valued_52 : decode cX0_valued 52 = .ok (.iconst 0, 1) := by decide +kernel
theorem dX0_valued_53 : decode cX0_valued 53 = .ok (.istore 6, 2) := by decide +kernel
theorem dX0_valued_55 : decode cX0_valued 55 = .ok (.lload_n 3, 1) := by decide +kernel
theorem dX0_valued_56 : decode cX0_valued 56 = .ok (.iload 6, 2) := by decide +kernel
theorem dX0_valued_58 : decode cX0_valued 58 = .ok (.ifCond .eq 10, 3) := by decide +kernel
theorem dX0_valued_61 : decode cX0_valued 61 = .ok (.lconst 1, 1) := by decide +kernel
theorem dX0_valued_62 : decode cX0_valued 62 = .ok (.iload 5, 2) := by decide +kernel
theorem dX0_valued_64 : decode cX0_valued 64 = .ok (.lshl, 1) := by decide +kernel
theorem dX0_valued_65 : decode cX0_valued 65 = .ok (.goto 4, 3) := by decide +kernel
theorem dX0_valued_68 : decode cX0_valued 68 = .ok (.lconst 0, 1) := by decide +kernel
theorem dX0_valued_69 : decode cX0_valued 69 = .ok (.lor, 1) := by decide +kernel
theorem dX0_valued_70 : decode cX0_valued 70 = .ok (.lstore_n 3, 1) := by decide +kernel
theorem dX0_valued_71 : decode cX0_valued 71 = .ok (.iinc 5 1, 3) := by decide +kernel
theorem dX0_valued_74 : decode cX0_valued 74 = .ok (.goto (-69), 3) := by decide +kernel
theorem dX0_valued_77 : decode cX0_valued 77 = .ok (.lconst 0, 1) := by decide +kernel
theorem dX0_valued_78 : decode cX0_valued 78 = .ok (.lstore 5, 2) := by decide +kernel
theorem dX0_valued_80 : decode cX0_valued 80 = .ok (.iconst 0, 1) := by decide +kernel
theorem dX0_valued_81 : decode cX0_valued 81 = .ok (.istore 7, 2) := by decide +kernel
theorem dX0_valued_83 : decode cX0_valued 83 = .ok (.iload 7, 2) := by decide +kernel
theorem dX0_valued_85 : decode cX0_valued 85 = .ok (.aload_n 0, 1) := by decide +kernel
theorem dX0_valued_86 : decode cX0_valued 86 = .ok (.getfield 26, 3) := by decide +kernel
theorem dX0_valued_89 : decode cX0_valued 89 = .ok (.if_icmp .ge 45, 3) := by decide +kernel
theorem dX0_valued_92 : decode cX0_valued 92 = .ok (.lload_n 3, 1) := by decide +kernel
theorem dX0_valued_93 : decode cX0_valued 93 = .ok (.iload 7, 2) := by decide +kernel
theorem dX0_valued_95 : decode cX0_valued 95 = .ok (.aload_n 0, 1) := by decide +kernel
theorem dX0_valued_96 : decode cX0_valued 96 = .ok (.getfield 19, 3) := by decide +kernel
theorem dX0_valued_99 : decode cX0_valued 99 = .ok (.iload 7, 2) := by decide +kernel
theorem dX0_valued_101 : decode cX0_valued 101 = .ok (.iaload, 1) := by decide +kernel
theorem dX0_valued_102 : decode cX0_valued 102 = .ok (.invokestatic 65, 3) := by decide +kernel
theorem dX0_valued_105 : decode cX0_valued 105 = .ok (.land, 1) := by decide +kernel
theorem dX0_valued_106 : decode cX0_valued 106 = .ok (.lstore 8, 2) := by decide +kernel
theorem dX0_valued_108 : decode cX0_valued 108 = .ok (.lload 5, 2) := by decide +kernel
theorem dX0_valued_110 : decode cX0_valued 110 = .ok (.lload 8, 2) := by decide +kernel
theorem dX0_valued_112 : decode cX0_valued 112 = .ok (.lconst 0, 1) := by decide +kernel
theorem dX0_valued_113 : decode cX0_valued 113 = .ok (.lcmp, 1) := by decide +kernel
theorem dX0_valued_114 : decode cX0_valued 114 = .ok (.ifCond .eq 10, 3) := by decide +kernel
theorem dX0_valued_117 : decode cX0_valued 117 = .ok (.lconst 1, 1) := by decide +kernel
theorem dX0_valued_118 : decode cX0_valued 118 = .ok (.iload 7, 2) := by decide +kernel
theorem dX0_valued_120 : decode cX0_valued 120 = .ok (.lshl, 1) := by decide +kernel
theorem dX0_valued_121 : decode cX0_valued 121 = .ok (.goto 4, 3) := by decide +kernel
theorem dX0_valued_124 : decode cX0_valued 124 = .ok (.lconst 0, 1) := by decide +kernel
theorem dX0_valued_125 : decode cX0_valued 125 = .ok (.lor, 1) := by decide +kernel
theorem dX0_valued_126 : decode cX0_valued 126 = .ok (.lstore 5, 2) := by decide +kernel
theorem dX0_valued_128 : decode cX0_valued 128 = .ok (.iinc 7 1, 3) := by decide +kernel
theorem dX0_valued_131 : decode cX0_valued 131 = .ok (.goto (-48), 3) := by decide +kernel
theorem dX0_valued_134 : decode cX0_valued 134 = .ok (.aload_n 0, 1) := by decide +kernel
theorem dX0_valued_135 : decode cX0_valued 135 = .ok (.dup, 1) := by decide +kernel
theorem dX0_valued_136 : decode cX0_valued 136 = .ok (.getfield 30, 3) := by decide +kernel
theorem dX0_valued_139 : decode cX0_valued 139 = .ok (.lload 5, 2) := by decide +kernel
theorem dX0_valued_141 : decode cX0_valued 141 = .ok (.land, 1) := by decide +kernel
theorem dX0_valued_142 : decode cX0_valued 142 = .ok (.putfield 30, 3) := by decide +kernel
theorem dX0_valued_145 : decode cX0_valued 145 = .ok (.aload_n 0, 1) := by decide +kernel
theorem dX0_valued_146 : decode cX0_valued 146 = .ok (.getfield 30, 3) := by decide +kernel
theorem dX0_valued_149 : decode cX0_valued 149 = .ok (.invokestatic 55, 3) := by decide +kernel
theorem dX0_valued_152 : decode cX0_valued 152 = .ok (.ireturn, 1) := by decide +kernel
theorem dX0_keep_0 : decode cX0_keep 0 = .ok (.aload_n 0, 1) := by decide +kernel
theorem dX0_keep_1 : decode cX0_keep 1 = .ok (.getfield 22, 3) := by decide +kernel
theorem dX0_keep_4 : decode cX0_keep 4 = .ok (.iload_n 1, 1) := by decide +kernel
theorem dX0_keep_5 : decode cX0_keep 5 = .ok (.iconst 1, 1) := by decide +kernel
theorem dX0_keep_6 : decode cX0_keep 6 = .ok (.iand, 1) := by decide +kernel
theorem dX0_keep_7 : decode cX0_keep 7 = .ok (.aload_n 0, 1) := by decide +kernel
theorem dX0_keep_8 : decode cX0_keep 8 = .ok (.getfield 30, 3) := by decide +kernel
theorem dX0_keep_11 : decode cX0_keep 11 = .ok (.lastore, 1) := by decide +kernel
theorem dX0_keep_12 : decode cX0_keep 12 = .ok (.return_, 1) := by decide +kernel
theorem dX0_mix_0 : decode cX0_mix 0 = .ok (.iload_n 2, 1) := by decide +kernel
theorem dX0_mix_1 : decode cX0_mix 1 = .ok (.ifCond .lt 8, 3) := by decide +kernel
theorem dX0_mix_4 : decode cX0_mix 4 = .ok (.iload_n 2, 1) := by decide +kernel
theorem dX0_mix_5 : decode cX0_mix 5 = .ok (.iconst 2, 1) := by decide +kernel
theorem dX0_mix_6 : decode cX0_mix 6 = .ok (.if_icmp .le 5, 3) := by decide +kernel
theorem dX0_mix_9 : decode cX0_mix 9 = .ok (.iconst (-1), 1) := by decide +kernel
theorem dX0_mix_10 : decode cX0_mix 10 = .ok (.ireturn, 1) := by decide +kernel
theorem dX0_mix_11 : decode cX0_mix 11 = .ok (.aload_n 0, 1) := by decide +kernel
theorem dX0_mix_12 : decode cX0_mix 12 = .ok (.getfield 22, 3) := by decide +kernel
theorem dX0_mix_15 : decode cX0_mix 15 = .ok (.iload_n 1, 1) := by decide +kernel
theorem dX0_mix_16 : decode cX0_mix 16 = .ok (.iconst 1, 1) := by decide +kernel
theorem dX0_mix_17 : decode cX0_mix 17 = .ok (.iand, 1) := by decide +kernel
theorem dX0_mix_18 : decode cX0_mix 18 = .ok (.laload, 1) := by decide +kernel
theorem dX0_mix_19 : decode cX0_mix 19 = .ok (.lstore_n 3, 1) := by decide +kernel
theorem dX0_mix_20 : decode cX0_mix 20 = .ok (.aload_n 0, 1) := by decide +kernel
theorem dX0_mix_21 : decode cX0_mix 21 = .ok (.iload_n 2, 1) := by decide +kernel
theorem dX0_mix_22 : decode cX0_mix 22 = .ok (.ifCond .ne 12, 3) := by decide +kernel
theorem dX0_mix_25 : decode cX0_mix 25 = .ok (.aload_n 0, 1) := by decide +kernel
theorem dX0_mix_26 : decode cX0_mix 26 = .ok (.getfield 30, 3) := by decide +kernel
theorem dX0_mix_29 : decode cX0_mix 29 = .ok (.lload_n 3, 1) := by decide +kernel
theorem dX0_mix_30 : decode cX0_mix 30 = .ok (.land, 1) := by decide +kernel
theorem dX0_mix_31 : decode cX0_mix 31 = .ok (.goto 27, 3) := by decide +kernel
theorem dX0_mix_34 : decode cX0_mix 34 = .ok (.iload_n 2, 1) := by decide +kernel
theorem dX0_mix_35 : decode cX0_mix 35 = .ok (.iconst 1, 1) := by decide +kernel
theorem dX0_mix_36 : decode cX0_mix 36 = .ok (.if_icmp .ne 12, 3) := by decide +kernel
theorem dX0_mix_39 : decode cX0_mix 39 = .ok (.aload_n 0, 1) := by decide +kernel
theorem dX0_mix_40 : decode cX0_mix 40 = .ok (.getfield 30, 3) := by decide +kernel
theorem dX0_mix_43 : decode cX0_mix 43 = .ok (.lload_n 3, 1) := by decide +kernel
theorem dX0_mix_44 : decode cX0_mix 44 = .ok (.lor, 1) := by decide +kernel
theorem dX0_mix_45 : decode cX0_mix 45 = .ok (.goto 13, 3) := by decide +kernel
theorem dX0_mix_48 : decode cX0_mix 48 = .ok (.aload_n 0, 1) := by decide +kernel
theorem dX0_mix_49 : decode cX0_mix 49 = .ok (.getfield 30, 3) := by decide +kernel
theorem dX0_mix_52 : decode cX0_mix 52 = .ok (.lload_n 3, 1) := by decide +kernel
theorem dX0_mix_53 : decode cX0_mix 53 = .ok (.ldc2_w 63, 3) := by decide +kernel
theorem dX0_mix_56 : decode cX0_mix 56 = .ok (.lxor, 1) := by decide +kernel
theorem dX0_mix_57 : decode cX0_mix 57 = .ok (.land, 1) := by decide +kernel
theorem dX0_mix_58 : decode cX0_mix 58 = .ok (.putfield 30, 3) := by decide +kernel
theorem dX0_mix_61 : decode cX0_mix 61 = .ok (.aload_n 0, 1) := by decide +kernel
theorem dX0_mix_62 : decode cX0_mix 62 = .ok (.getfield 30, 3) := by decide +kernel
theorem dX0_mix_65 : decode cX0_mix 65 = .ok (.invokestatic 55, 3) := by decide +kernel
theorem dX0_mix_68 : decode cX0_mix 68 = .ok (.ireturn, 1) := by decide +kernel
theorem dX0_node_0 : decode cX0_node 0 = .ok (.iload_n 1, 1) := by decide +kernel
theorem dX0_node_1 : decode cX0_node 1 = .ok (.ifCond .lt 9, 3) := by decide +kernel
theorem dX0_node_4 : decode cX0_node 4 = .ok (.iload_n 1, 1) := by decide +kernel
theorem dX0_node_5 : decode cX0_node 5 = .ok (.bipush 48, 2) := by decide +kernel
theorem dX0_node_7 : decode cX0_node 7 = .ok (.if_icmp .lt 7, 3) := by decide +kernel
theorem dX0_node_10 : decode cX0_node 10 = .ok (.iconst (-1), 1) := by decide +kernel
theorem dX0_node_11 : decode cX0_node 11 = .ok (.goto 11, 3) := by decide +kernel
theorem dX0_node_14 : decode cX0_node 14 = .ok (.aload_n 0, 1) := by decide +kernel
theorem dX0_node_15 : decode cX0_node 15 = .ok (.getfield 30, 3) := by decide +kernel
theorem dX0_node_18 : decode cX0_node 18 = .ok (.iload_n 1, 1) := by decide +kernel
theorem dX0_node_19 : decode cX0_node 19 = .ok (.invokestatic 68, 3) := by decide +kernel
theorem dX0_node_22 : decode cX0_node 22 = .ok (.ireturn, 1) := by decide +kernel
theorem dX0_sum_0 : decode cX0_sum 0 = .ok (.iconst 0, 1) := by decide +kernel
theorem dX0_sum_1 : decode cX0_sum 1 = .ok (.istore_n 1, 1) := by decide +kernel
theorem dX0_sum_2 : decode cX0_sum 2 = .ok (.iconst 0, 1) := by decide +kernel
theorem dX0_sum_3 : decode cX0_sum 3 = .ok (.istore_n 2, 1) := by decide +kernel
theorem dX0_sum_4 : decode cX0_sum 4 = .ok (.iload_n 2, 1) := by decide +kernel
theorem dX0_sum_5 : decode cX0_sum 5 = .ok (.aload_n 0, 1) := by decide +kernel
theorem dX0_sum_6 : decode cX0_sum 6 = .ok (.getfield 26, 3) := by decide +kernel
theorem dX0_sum_9 : decode cX0_sum 9 = .ok (.if_icmp .ge 46, 3) := by decide +kernel
theorem dX0_sum_12 : decode cX0_sum 12 = .ok (.iload_n 1, 1) := by decide +kernel
theorem dX0_sum_13 : decode cX0_sum 13 = .ok (.aload_n 0, 1) := by decide +kernel
theorem dX0_sum_14 : decode cX0_sum 14 = .ok (.getfield 30, 3) := by decide +kernel
theorem dX0_sum_17 : decode cX0_sum 17 = .ok (.iload_n 2, 1) := by decide +kernel
theorem dX0_sum_18 : decode cX0_sum 18 = .ok (.lushr, 1) := by decide +kernel
theorem dX0_sum_19 : decode cX0_sum 19 = .ok (.lconst 1, 1) := by decide +kernel
theorem dX0_sum_20 : decode cX0_sum 20 = .ok (.land, 1) := by decide +kernel
theorem dX0_sum_21 : decode cX0_sum 21 = .ok (.lconst 0, 1) := by decide +kernel
theorem dX0_sum_22 : decode cX0_sum 22 = .ok (.lcmp, 1) := by decide +kernel
theorem dX0_sum_23 : decode cX0_sum 23 = .ok (.ifCond .eq 23, 3) := by decide +kernel
theorem dX0_sum_26 : decode cX0_sum 26 = .ok (.aload_n 0, 1) := by decide +kernel
theorem dX0_sum_27 : decode cX0_sum 27 = .ok (.getfield 7, 3) := by decide +kernel
theorem dX0_sum_30 : decode cX0_sum 30 = .ok (.iload_n 2, 1) := by decide +kernel
theorem dX0_sum_31 : decode cX0_sum 31 = .ok (.iaload, 1) := by decide +kernel
theorem dX0_sum_32 : decode cX0_sum 32 = .ok (.bipush 8, 2) := by decide +kernel
theorem dX0_sum_34 : decode cX0_sum 34 = .ok (.if_icmp .ne 12, 3) := by decide +kernel
theorem dX0_sum_37 : decode cX0_sum 37 = .ok (.aload_n 0, 1) := by decide +kernel
theorem dX0_sum_38 : decode cX0_sum 38 = .ok (.getfield 13, 3) := by decide +kernel
theorem dX0_sum_41 : decode cX0_sum 41 = .ok (.iload_n 2, 1) := by decide +kernel
theorem dX0_sum_42 : decode cX0_sum 42 = .ok (.iaload, 1) := by decide +kernel
theorem dX0_sum_43 : decode cX0_sum 43 = .ok (.goto 4, 3) := by decide +kernel
theorem dX0_sum_46 : decode cX0_sum 46 = .ok (.iconst 0, 1) := by decide +kernel
theorem dX0_sum_47 : decode cX0_sum 47 = .ok (.iadd, 1) := by decide +kernel
theorem dX0_sum_48 : decode cX0_sum 48 = .ok (.istore_n 1, 1) := by decide +kernel
theorem dX0_sum_49 : decode cX0_sum 49 = .ok (.iinc 2 1, 3) := by decide +kernel
theorem dX0_sum_52 : decode cX0_sum 52 = .ok (.goto (-48), 3) := by decide +kernel
theorem dX0_sum_55 : decode cX0_sum 55 = .ok (.iload_n 1, 1) := by decide +kernel
theorem dX0_sum_56 : decode cX0_sum 56 = .ok (.ireturn, 1) := by decide +kernel
end
section
set_option maxRecDepth 100000
theorem dX1_init_0 : decode cX1_init 0 = .ok (.aload_n 0, 1) := by decide +kernel
theorem dX1_init_1 : decode cX1_init 1 = .ok (.invokespecial 1, 3) := by decide +kernel
theorem dX1_init_4 : decode cX1_init 4 = .ok (.aload_n 0, 1) := by decide +kernel
theorem dX1_init_5 : decode cX1_init 5 = .ok (.iconst 1, 1) := by decide +kernel
theorem dX1_init_6 : decode cX1_init 6 = .ok (.putfield 7, 3) := by decide +kernel
theorem dX1_init_9 : decode cX1_init 9 = .ok (.aload_n 0, 1) := by decide +kernel
theorem dX1_init_10 : decode cX1_init 10 = .ok (.bipush 48, 2) := by decide +kernel
theorem dX1_init_12 : decode cX1_init 12 = .ok (.newarray .int, 2) := by decide +kernel
theorem dX1_init_14 : decode cX1_init 14 = .ok (.putfield 13, 3) := by decide +kernel
theorem dX1_init_17 : decode cX1_init 17 = .ok (.aload_n 0, 1) := by decide +kernel
theorem dX1_init_18 : decode cX1_init 18 = .ok (.bipush 48, 2) := by decide +kernel
theorem dX1_init_20 : decode cX1_init 20 = .ok (.newarray .boolean, 2) := by decide +kernel
theorem dX1_init_22 : decode cX1_init 22 = .ok (.putfield 17, 3) := by decide +kernel
theorem dX1_init_25 : decode cX1_init 25 = .ok (.aload_n 0, 1) := by decide +kernel
theorem dX1_init_26 : decode cX1_init 26 = .ok (.bipush 48, 2) := by decide +kernel
theorem dX1_init_28 : decode cX1_init 28 = .ok (.newarray .int, 2) := by decide +kernel
theorem dX1_init_30 : decode cX1_init 30 = .ok (.putfield 21, 3) := by decide +kernel
theorem dX1_init_33 : decode cX1_init 33 = .ok (.aload_n 0, 1) := by decide +kernel
theorem dX1_init_34 : decode cX1_init 34 = .ok (.lconst 1, 1) := by decide +kernel
theorem dX1_init_35 : decode cX1_init 35 = .ok (.putfield 24, 3) := by decide +kernel
theorem dX1_init_38 : decode cX1_init 38 = .ok (.aload_n 0, 1) := by decide +kernel
theorem dX1_init_39 : decode cX1_init 39 = .ok (.iconst 2, 1) := by decide +kernel
theorem dX1_init_40 : decode cX1_init 40 = .ok (.newarray .long, 2) := by decide +kernel
theorem dX1_init_42 : decode cX1_init 42 = .ok (.putfield 28, 3) := by decide +kernel
theorem dX1_init_45 : decode cX1_init 45 = .ok (.aload_n 0, 1) := by decide +kernel
theorem dX1_init_46 : decode cX1_init 46 = .ok (.getfield 13, 3) := by decide +kernel
theorem dX1_init_49 : decode cX1_init 49 = .ok (.iconst 0, 1) := by decide +kernel
theorem dX1_init_50 : decode cX1_init 50 = .ok (.iconst (-1), 1) := by decide +kernel
theorem dX1_init_51 : decode cX1_init 51 = .ok (.iastore, 1) := by decide +kernel
theorem dX1_init_52 : decode cX1_init 52 = .ok (.return_, 1) := by decide +kernel
theorem dX1_open_0 : decode cX1_open 0 = .ok (.aload_n 0, 1) := by decide +kernel
theorem dX1_open_1 : decode cX1_open 1 = .ok (.iconst 0, 1) := by decide +kernel
theorem dX1_open_2 : decode cX1_open 2 = .ok (.iload_n 1, 1) := by decide +kernel
theorem dX1_open_3 : decode cX1_open 3 = .ok (.bipush 7, 2) := by decide +kernel
theorem dX1_open_5 : decode cX1_open 5 = .ok (.iand, 1) := by decide +kernel
theorem dX1_open_6 : decode cX1_open 6 = .ok (.invokevirtual 38, 3) := by decide +kernel
theorem dX1_open_9 : decode cX1_open 9 = .ok (.ireturn, 1) := by decide +kernel
theorem dX1_add_0 : decode cX1_add 0 = .ok (.aload_n 0, 1) := by decide +kernel
theorem dX1_add_1 : decode cX1_add 1 = .ok (.getfield 7, 3) := by decide +kernel
theorem dX1_add_4 : decode cX1_add 4 = .ok (.bipush 48, 2) := by decide +kernel
theorem dX1_add_6 : decode cX1_add 6 = .ok (.if_icmp .ne 5, 3) := by decide +kernel
theorem dX1_add_9 : decode cX1_add 9 = .ok (.iconst (-1), 1) := by decide +kernel
theorem dX1_add_10 : decode cX1_add 10 = .ok (.ireturn, 1) := by decide +kernel
theorem dX1_add_11 : decode cX1_add 11 = .ok (.aload_n 0, 1) := by decide +kernel
theorem dX1_add_12 : decode cX1_add 12 = .ok (.getfield 13, 3) := by decide +kernel
theorem dX1_add_15 : decode cX1_add 15 = .ok (.aload_n 0, 1) := by decide +kernel
theorem dX1_add_16 : decode cX1_add 16 = .ok (.getfield 7, 3) := by decide +kernel
theorem dX1_add_19 : decode cX1_add 19 = .ok (.aload_n 0, 1) := by decide +kernel
theorem dX1_add_20 : decode cX1_add 20 = .ok (.getfield 32, 3) := by decide +kernel
theorem dX1_add_23 : decode cX1_add 23 = .ok (.iastore, 1) := by decide +kernel
theorem dX1_add_24 : decode cX1_add 24 = .ok (.aload_n 0, 1) := by decide +kernel
theorem dX1_add_25 : decode cX1_add 25 = .ok (.getfield 17, 3) := by decide +kernel
theorem dX1_add_28 : decode cX1_add 28 = .ok (.aload_n 0, 1) := by decide +kernel
theorem dX1_add_29 : decode cX1_add 29 = .ok (.getfield 7, 3) := by decide +kernel
theorem dX1_add_32 : decode cX1_add 32 = .ok (.iload_n 1, 1) := by decide +kernel
theorem dX1_add_33 : decode cX1_add 33 = .ok (.bastore, 1) := by decide +kernel
theorem dX1_add_34 : decode cX1_add 34 = .ok (.aload_n 0, 1) := by decide +kernel
theorem dX1_add_35 : decode cX1_add 35 = .ok (.getfield 21, 3) := by decide +kernel
theorem dX1_add_38 : decode cX1_add 38 = .ok (.aload_n 0, 1) := by decide +kernel
theorem dX1_add_39 : decode cX1_add 39 = .ok (.getfield 7, 3) := by decide +kernel
theorem dX1_add_42 : decode cX1_add 42 = .ok (.iload_n 2, 1) := by decide +kernel
theorem dX1_add_43 : decode cX1_add 43 = .ok (.iastore, 1) := by decide +kernel
theorem dX1_add_44 : decode cX1_add 44 = .ok (.iload_n 1, 1) := by decide +kernel
theorem dX1_add_45 : decode cX1_add 45 = .ok (.ifCond .ne 11, 3) := by decide +kernel
theorem dX1_add_48 : decode cX1_add 48 = .ok (.aload_n 0, 1) := by decide +kernel
theorem dX1_add_49 : decode cX1_add 49 = .ok (.aload_n 0, 1) := by decide +kernel
theorem dX1_add_50 : decode cX1_add 50 = .ok (.getfield 7, 3) := by decide +kernel
theorem dX1_add_53 : decode cX1_add 53 = .ok (.putfield 32, 3) := by decide +kernel
theorem dX1_add_56 : decode cX1_add 56 = .ok (.aload_n 0, 1) := by decide +kernel
theorem dX1_add_57 : decode cX1_add 57 = .ok (.dup, 1) := by decide +kernel
theorem dX1_add_58 : decode cX1_add 58 = .ok (.getfield 7, 3) := by decide +kernel
theorem dX1_add_61 : decode cX1_add 61 = .ok (.iconst 1, 1) := by decide +kernel
theorem dX1_add_62 : decode cX1_add 62 = .ok (.iadd, 1) := by decide +kernel
theorem dX1_add_63 : decode cX1_add 63 = .ok (.putfield 7, 3) := by decide +kernel
theorem dX1_add_66 : decode cX1_add 66 = .ok (.aload_n 0, 1) := by decide +kernel
theorem dX1_add_67 : decode cX1_add 67 = .ok (.invokevirtual 35, 3) := by decide +kernel
theorem dX1_add_70 : decode cX1_add 70 = .ok (.aload_n 0, 1) := by decide +kernel
theorem dX1_add_71 : decode cX1_add 71 = .ok (.getfield 7, 3) := by decide +kernel
theorem dX1_add_74 : decode cX1_add 74 = .ok (.ireturn, 1) := by decide +kernel
theorem dX1_reset_0 : decode cX1_reset 0 = .ok (.aload_n 0, 1) := by decide +kernel
theorem dX1_reset_1 : decode cX1_reset 1 = .ok (.lconst 1, 1) := by decide +kernel
theorem dX1_reset_2 : decode cX1_reset 2 = .ok (.putfield 24, 3) := by decide +kernel
theorem dX1_reset_5 : decode cX1_reset 5 = .ok (.aload_n 0, 1) := by decide +kernel
theorem dX1_reset_6 : decode cX1_reset 6 = .ok (.getfield 28, 3) := by decide +kernel
theorem dX1_reset_9 : decode cX1_reset 9 = .ok (.iconst 0, 1) := by decide +kernel
theorem dX1_reset_10 : decode cX1_reset 10 = .ok (.lconst 0, 1) := by decide +kernel
theorem dX1_reset_11 : decode cX1_reset 11 = .ok (.lastore, 1) := by decide +kernel
theorem dX1_reset_12 : decode cX1_reset 12 = .ok (.aload_n 0, 1) := by decide +kernel
theorem dX1_reset_13 : decode cX1_reset 13 = .ok (.getfield 28, 3) := by decide +kernel
theorem dX1_reset_16 : decode cX1_reset 16 = .ok (.iconst 1, 1) := by decide +kernel
theorem dX1_reset_17 : decode cX1_reset 17 = .ok (.lconst 0, 1) := by decide +kernel
theorem dX1_reset_18 : decode cX1_reset 18 = .ok (.lastore, 1) := by decide +kernel
theorem dX1_reset_19 : decode cX1_reset 19 = .ok (.return_, 1) := by decide +kernel
theorem dX1_text_0 : decode cX1_text 0 = .ok (.aload_n 0, 1) := by decide +kernel
theorem dX1_text_1 : decode cX1_text 1 = .ok (.iconst 1, 1) := by decide +kernel
theorem dX1_text_2 : decode cX1_text 2 = .ok (.iload_n 1, 1) := by decide +kernel
theorem dX1_text_3 : decode cX1_text 3 = .ok (.invokevirtual 38, 3) := by decide +kernel
theorem dX1_text_6 : decode cX1_text 6 = .ok (.ireturn, 1) := by decide +kernel
theorem dX1_close_0 : decode cX1_close 0 = .ok (.aload_n 0, 1) := by decide +kernel
theorem dX1_close_1 : decode cX1_close 1 = .ok (.getfield 32, 3) := by decide +kernel
theorem dX1_close_4 : decode cX1_close 4 = .ok (.ifCond .ne 5, 3) := by decide +kernel
theorem dX1_close_7 : decode cX1_close 7 = .ok (.iconst (-1), 1) := by decide +kernel
theorem dX1_close_8 : decode cX1_close 8 = .ok (.ireturn, 1) := by decide +kernel
theorem dX1_close_9 : decode cX1_close 9 = .ok (.aload_n 0, 1) := by decide +kernel
theorem dX1_close_10 : decode cX1_close 10 = .ok (.aload_n 0, 1) := by decide +kernel
theorem dX1_close_11 : decode cX1_close 11 = .ok (.getfield 13, 3) := by decide +kernel
theorem dX1_close_14 : decode cX1_close 14 = .ok (.aload_n 0, 1) := by decide +kernel
theorem dX1_close_15 : decode cX1_close 15 = .ok (.getfield 32, 3) := by decide +kernel
theorem dX1_close_18 : decode cX1_close 18 = .ok (.iaload, 1) := by decide +kernel
theorem dX1_close_19 : decode cX1_close 19 = .ok (.putfield 32, 3) := by decide +kernel
theorem dX1_close_22 : decode cX1_close 22 = .ok (.iconst 0, 1) := by decide +kernel
theorem dX1_close_23 : decode cX1_close 23 = .ok (.ireturn, 1) := by decide +kernel
theorem dX1_remove_0 : decode cX1_remove 0 = .ok (.iload_n 1, 1) := by decide +kernel
theorem dX1_remove_1 : decode cX1_remove 1 = .ok (.iconst 1, 1) := by decide +kernel
theorem dX1_remove_2 : decode cX1_remove 2 = .ok (.if_icmp .lt 31, 3) := by decide +kernel
theorem dX1_remove_5 : decode cX1_remove 5 = .ok (.iload_n 1, 1) := by decide +kernel
theorem dX1_remove_6 : decode cX1_remove 6 = .ok (.aload_n 0, 1) := by decide +kernel
theorem dX1_remove_7 : decode cX1_remove 7 = .ok (.getfield 7, 3) := by decide +kernel
theorem dX1_remove_10 : decode cX1_remove 10 = .ok (.if_icmp .ge 23, 3) := by decide +kernel
theorem dX1_remove_13 : decode cX1_remove 13 = .ok (.iload_n 1, 1) := by decide +kernel
theorem dX1_remove_14 : decode cX1_remove 14 = .ok (.aload_n 0, 1) := by decide +kernel
theorem dX1_remove_15 : decode cX1_remove 15 = .ok (.getfield 32, 3) := by decide +kernel
theorem dX1_remove_18 : decode cX1_remove 18 = .ok (.if_icmp .eq 15, 3) := by decide +kernel
theorem dX1_remove_21 : decode cX1_remove 21 = .ok (.aload_n 0, 1) := by decide +kernel
theorem dX1_remove_22 : decode cX1_remove 22 = .ok (.iload_n 1, 1) := by decide +kernel
theorem dX1_remove_23 : decode cX1_remove 23 = .ok (.aload_n 0, 1) := by decide +kernel
theorem dX1_remove_24 : decode cX1_remove 24 = .ok (.getfield 32, 3) := by decide +kernel
theorem dX1_remove_27 : decode cX1_remove 27 = .ok (.invokevirtual 42, 3) := by decide +kernel
theorem dX1_remove_30 : decode cX1_remove 30 = .ok (.ifCond .eq 5, 3) := by decide +kernel
theorem dX1_remove_33 : decode cX1_remove 33 = .ok (.iconst (-1), 1) := by decide +kernel
theorem dX1_remove_34 : decode cX1_remove 34 = .ok (.ireturn, 1) := by decide +kernel
theorem dX1_remove_35 : decode cX1_remove 35 = .ok (.iload_n 1, 1) := by decide +kernel
theorem dX1_remove_36 : decode cX1_remove 36 = .ok (.iconst 1, 1) := by decide +kernel
theorem dX1_remove_37 : decode cX1_remove 37 = .ok (.iadd, 1) := by decide +kernel
theorem dX1_remove_38 : decode cX1_remove 38 = .ok (.istore_n 2, 1) := by decide +kernel
theorem dX1_remove_39 : decode cX1_remove 39 = .ok (.iload_n 2, 1) := by decide +kernel
theorem dX1_remove_40 : decode cX1_remove 40 = .ok (.aload_n 0, 1) := by decide +kernel
theorem dX1_remove_41 : decode cX1_remove 41 = .ok (.getfield 7, 3) := by decide +kernel
theorem dX1_remove_44 : decode cX1_remove 44 = .ok (.if_icmp .ge 18, 3) := by decide +kernel
theorem dX1_remove_47 : decode cX1_remove 47 = .ok (.aload_n 0, 1) := by decide +kernel
theorem dX1_remove_48 : decode cX1_remove 48 = .ok (.iload_n 1, 1) := by decide +kernel
theorem dX1_remove_49 : decode cX1_remove 49 = .ok (.iload_n 2, 1) := by decide +kernel
theorem dX1_remove_50 : decode cX1_remove 50 = .ok (.invokevirtual 42, 3) := by decide +kernel
theorem dX1_remove_53 : decode cX1_remove 53 = .ok (.ifCond .eq 9, 3) := by decide +kernel
theorem dX1_remove_56 : decode cX1_remove 56 = .ok (.iinc 2 1, 3) := by decide +kernel
theorem dX1_remove_59 : decode cX1_remove 59 = .ok (.goto (-20), 3) := by decide +kernel
theorem dX1_remove_62 : decode cX1_remove 62 = .ok (.iload_n 2, 1) := by decide +kernel
theorem dX1_remove_63 : decode cX1_remove 63 = .ok (.iload_n 1, 1) := by decide +kernel
theorem dX1_remove_64 : decode cX1_remove 64 = .ok (.isub, 1) := by decide +kernel
theorem dX1_remove_65 : decode cX1_remove 65 = .ok (.istore_n 3, 1) := by decide +kernel
theorem dX1_remove_66 : decode cX1_remove 66 = .ok (.iload_n 2, 1) := by decide +kernel
theorem dX1_remove_67 : decode cX1_remove 67 = .ok (.istore 4, 2) := by decide +kernel
theorem dX1_remove_69 : decode cX1_remove 69 = .ok (.iload 4, 2) := by decide +kernel
theorem dX1_remove_71 : decode cX1_remove 71 = .ok (.aload_n 0, 1) := by decide +kernel
theorem dX1_remove_72 : decode cX1_remove 72 = .ok (.getfield 7, 3) := by decide +kernel
theorem dX1_remove_75 : decode cX1_remove 75 = .ok (.if_icmp .ge 80, 3) := by decide +kernel
theorem dX1_remove_78 : decode cX1_remove 78 = .ok (.aload_n 0, 1) := by decide +kernel
theorem dX1_remove_79 : decode cX1_remove 79 = .ok (.getfield 13, 3) := by decide +kernel
theorem dX1_remove_82 : decode cX1_remove 82 = .ok (.iload 4, 2) := by decide +kernel
theorem dX1_remove_84 : decode cX1_remove 84 = .ok (.iload_n 3, 1) := by decide +kernel
theorem dX1_remove_85 : decode cX1_remove 85 = .ok (.isub, 1) := by decide +kernel
theorem dX1_remove_86 : decode cX1_remove 86 = .ok (.aload_n 0, 1) := by decide +kernel
theorem dX1_remove_87 : decode cX1_remove 87 = .ok (.getfield 13, 3) := by decide +kernel
theorem dX1_remove_90 : decode cX1_remove 90 = .ok (.iload 4, 2) := by decide +kernel
theorem dX1_remove_92 : decode cX1_remove 92 = .ok (.iaload, 1) := by decide +kernel
theorem dX1_remove_93 : decode cX1_remove 93 = .ok (.iload_n 2, 1) := by decide +kernel
theorem dX1_remove_94 : decode cX1_remove 94 = .ok (.if_icmp .lt 15, 3) := by decide +kernel
theorem dX1_remove_97 : decode cX1_remove 97 = .ok (.aload_n 0, 1) := by decide +kernel
theorem dX1_remove_98 : decode cX1_remove 98 = .ok (.getfield 13, 3) := by decide +kernel
theorem dX1_remove_101 : decode cX1_remove 101 = .ok (.iload 4, 2) := by decide +kernel
theorem dX1_remove_103 : decode cX1_remove 103 = .ok (.iaload, 1) := by decide +kernel
theorem dX1_remove_104 : decode cX1_remove 104 = .ok (.iload_n 3, 1) := by decide +kernel
theorem dX1_remove_105 : decode cX1_remove 105 = .ok (.isub, 1) := by decide +kernel
theorem dX1_remove_106 : decode cX1_remove 106 = .ok (.goto 10, 3) := by decide +kernel
theorem dX1_remove_109 : decode cX1_remove 109 = .ok (.aload_n 0, 1) := by decide +kernel
theorem dX1_remove_110 : decode cX1_remove 110 = .ok (.getfield 13, 3) := by decide +kernel
theorem dX1_remove_113 : decode cX1_remove 113 = .ok (.iload 4, 2) := by decide +kernel
theorem dX1_remove_115 : decode cX1_remove 115 = .ok (.iaload, 1) := by decide +kernel
theorem dX1_remove_116 : decode cX1_remove 116 = .ok (.iastore, 1) := by decide +kernel
theorem dX1_remove_117 : decode cX1_remove 117 = .ok (.aload_n 0, 1) := by decide +kernel
theorem dX1_remove_118 : decode cX1_remove 118 = .ok (.getfield 17, 3) := by decide +kernel
theorem dX1_remove_121 : decode cX1_remove 121 = .ok (.iload 4, 2) := by decide +kernel
theorem dX1_remove_123 : decode cX1_remove 123 = .ok (.iload_n 3, 1) := by decide +kernel
theorem dX1_remove_124 : decode cX1_remove 124 = .ok (.isub, 1) := by decide +kernel
theorem dX1_remove_125 : decode cX1_remove 125 = .ok (.aload_n 0, 1) := by decide +kernel
theorem dX1_remove_126 : decode cX1_remove 126 = .ok (.getfield 17, 3) := by decide +kernel
theorem dX1_remove_129 : decode cX1_remove 129 = .ok (.iload 4, 2) := by decide +kernel
theorem dX1_remove_131 : decode cX1_remove 131 = .ok (.baload, 1) := by decide +kernel
theorem dX1_remove_132 : decode cX1_remove 132 = .ok (.bastore, 1) := by decide +kernel
theorem dX1_remove_133 : decode cX1_remove 133 = .ok (.aload_n 0, 1) := by decide +kernel
theorem dX1_remove_134 : decode cX1_remove 134 = .ok (.getfield 21, 3) := by decide +kernel
theorem dX1_remove_137 : decode cX1_remove 137 = .ok (.iload 4, 2) := by decide +kernel
theorem dX1_remove_139 : decode cX1_remove 139 = .ok (.iload_n 3, 1) := by decide +kernel
theorem dX1_remove_140 : decode cX1_remove 140 = .ok (.isub, 1) := by decide +kernel
theorem dX1_remove_141 : decode cX1_remove 141 = .ok (.aload_n 0, 1) := by decide +kernel
theorem dX1_remove_142 : decode cX1_remove 142 = .ok (.getfield 21, 3) := by decide +kernel
theorem dX1_remove_145 : decode cX1_remove 145 = .ok (.iload 4, 2) := by decide +kernel
theorem dX1_remove_147 : decode cX1_remove 147 = .ok (.iaload, 1) := by decide +kernel
theorem dX1_remove_148 : decode cX1_remove 148 = .ok (.iastore, 1) := by decide +kernel
theorem dX1_remove_149 : decode cX1_remove 149 = .ok (.iinc 4 1, 3) := by decide +kernel
theorem dX1_remove_152 : decode cX1_remove 152 = .ok (.goto (-83), 3) := by decide +kernel
theorem dX1_remove_155 : decode cX1_remove 155 = .ok (.aload_n 0, 1) := by decide +kernel
theorem dX1_remove_156 : decode cX1_remove 156 = .ok (.dup, 1) := by decide +kernel
theorem dX1_remove_157 : decode cX1_remove 157 = .ok (.getfield 7, 3) := by decide +kernel
theorem dX1_remove_160 : decode cX1_remove 160 = .ok (.iload_n 3, 1) := by decide +kernel
theorem dX1_remove_161 : decode cX1_remove 161 = .ok (.isub, 1) := by decide +kernel
theorem dX1_remove_162 : decode cX1_remove 162 = .ok (.putfield 7, 3) := by decide +kernel
theorem dX1_remove_165 : decode cX1_remove 165 = .ok (.aload_n 0, 1) := by decide +kernel
theorem dX1_remove_166 : decode cX1_remove 166 = .ok (.getfield 32, 3) := by decide +kernel
theorem dX1_remove_169 : decode cX1_remove 169 = .ok (.iload_n 2, 1) := by decide +kernel
theorem dX1_remove_170 : decode cX1_remove 170 = .ok (.if_icmp .lt 13, 3) := by decide +kernel
theorem dX1_remove_173 : decode cX1_remove 173 = .ok (.aload_n 0, 1) := by decide +kernel
theorem dX1_remove_174 : decode cX1_remove 174 = .ok (.dup, 1) := by decide +kernel
theorem dX1_remove_175 : decode cX1_remove 175 = .ok (.getfield 32, 3) := by decide +kernel
theorem dX1_remove_178 : decode cX1_remove 178 = .ok (.iload_n 3, 1) := by decide +kernel
theorem dX1_remove_179 : decode cX1_remove 179 = .ok (.isub, 1) := by decide +kernel
theorem dX1_remove_180 : decode cX1_remove 180 = .ok (.putfield 32, 3) := by decide +kernel
theorem dX1_remove_183 : decode cX1_remove 183 = .ok (.aload_n 0, 1) := by decide +kernel
theorem dX1_remove_184 : decode cX1_remove 184 = .ok (.invokevirtual 35, 3) := by decide +kernel
theorem dX1_remove_187 : decode cX1_remove 187 = .ok (.aload_n 0, 1) := by decide +kernel
theorem dX1_remove_188 : decode cX1_remove 188 = .ok (.getfield 7, 3) := by decide +kernel
theorem dX1_remove_191 : decode cX1_remove 191 = .ok (.ireturn, 1) := by decide +kernel
theorem dX1_above_0 : decode cX1_above 0 = .ok (.aload_n 0, 1) := by decide +kernel
theorem dX1_above_1 : decode cX1_above 1 = .ok (.getfield 13, 3) := by decide +kernel
theorem dX1_above_4 : decode cX1_above 4 = .ok (.iload_n 2, 1) := by decide +kernel
theorem dX1_above_5 : decode cX1_above 5 = .ok (.iaload, 1) := by decide +kernel
theorem dX1_above_6 : decode cX1_above 6 = .ok (.istore_n 3, 1) := by decide +kernel
theorem dX1_above_7 : decode cX1_above 7 = .ok (.iload_n 3, 1) := by decide +kernel
theorem dX1_above_8 : decode cX1_above 8 = .ok (.ifCond .lt 18, 3) := by decide +kernel
theorem dX1_above_11 : decode cX1_above 11 = .ok (.iload_n 3, 1) := by decide +kernel
theorem dX1_above_12 : decode cX1_above 12 = .ok (.iload_n 1, 1) := by decide +kernel
theorem dX1_above_13 : decode cX1_above 13 = .ok (.if_icmp .eq 13, 3) := by decide +kernel
theorem dX1_above_16 : decode cX1_above 16 = .ok (.aload_n 0, 1) := by decide +kernel
theorem dX1_above_17 : decode cX1_above 17 = .ok (.getfield 13, 3) := by decide +kernel
theorem dX1_above_20 : decode cX1_above 20 = .ok (.iload_n 3, 1) := by decide +kernel
theorem dX1_above_21 : decode cX1_above 21 = .ok (.iaload, 1) := by decide +kernel
theorem dX1_above_22 : decode cX1_above 22 = .ok (.istore_n 3, 1) := by decide +kernel
theorem dX1_above_23 : decode cX1_above 23 = .ok (.goto (-16), 3) := by decide +kernel
theorem dX1_above_26 : decode cX1_above 26 = .ok (.iload_n 3, 1) := by decide +kernel
theorem dX1_above_27 : decode cX1_above 27 = .ok (.iload_n 1, 1) := by decide +kernel
theorem dX1_above_28 : decode cX1_above 28 = .ok (.if_icmp .ne 7, 3) := by decide +kernel
theorem dX1_above_31 : decode cX1_above 31 = .ok (.iconst 1, 1) := by decide +kernel
theorem dX1_above_32 : decode cX1_above 32 = .ok (.goto 4, 3) := by decide +kernel
theorem dX1_above_35 : decode cX1_above 35 = .ok (.iconst 0, 1) := by decide +kernel
theorem dX1_above_36 : decode cX1_above 36 = .ok (.ireturn, 1) := by decide +kernel
theorem dX1_start_0 : decode cX1_start 0 = .ok (.aload_n 0, 1) := by decide +kernel
theorem dX1_start_1 : decode cX1_start 1 = .ok (.lconst 1, 1) := by decide +kernel
theorem dX1_start_2 : decode cX1_start 2 = .ok (.putfield 24, 3) := by decide +kernel
theorem dX1_start_5 : decode cX1_start 5 = .ok (.return_, 1) := by decide +kernel
theorem dX1_step_0 : decode cX1_step 0 = .ok (.iload_n 1, 1) := by decide +kernel
theorem dX1_step_1 : decode cX1_step 1 = .ok (.iload_n 2, 1) := by decide +kernel
theorem dX1_step_2 : decode cX1_step 2 = .ok (.invokestatic 57, 3) := by decide +kernel
theorem dX1_step_5 : decode cX1_step 5 = .ok (.ifCond .ne 15, 3) := by decide +kernel
theorem dX1_step_8 : decode cX1_step 8 = .ok (.iload_n 3, 1) := by decide +kernel
theorem dX1_step_9 : decode cX1_step 9 = .ok (.bipush (-48), 2) := by decide +kernel
theorem dX1_step_11 : decode cX1_step 11 = .ok (.if_icmp .lt 9, 3) := by decide +kernel
theorem dX1_step_14 : decode cX1_step 14 = .ok (.iload_n 3, 1) := by decide +kernel
theorem dX1_step_15 : decode cX1_step 15 = .ok (.bipush 48, 2) := by decide +kernel
theorem dX1_step_17 : decode cX1_step 17 = .ok (.if_icmp .le 5, 3) := by decide +kernel
theorem dX1_step_20 : decode cX1_step 20 = .ok (.iconst (-1), 1) := by decide +kernel
theorem dX1_step_21 : decode cX1_step 21 = .ok (.ireturn, 1) := by decide +kernel
theorem dX1_step_22 : decode cX1_step 22 = .ok (.lconst 0, 1) := by decide +kernel
theorem dX1_step_23 : decode cX1_step 23 = .ok (.lstore 4, 2) := by decide +kernel
theorem dX1_step_25 : decode cX1_step 25 = .ok (.iconst 0, 1) := by decide +kernel
theorem dX1_step_26 : decode cX1_step 26 = .ok (.istore 6, 2) := by decide +kernel
theorem dX1_step_28 : decode cX1_step 28 = .ok (.iload 6, 2) := by decide +kernel
theorem dX1_step_30 : decode cX1_step 30 = .ok (.aload_n 0, 1) := by decide +kernel
theorem dX1_step_31 : decode cX1_step 31 = .ok (.getfield 7, 3) := by decide +kernel
theorem dX1_step_34 : decode cX1_step 34 = .ok (.if_icmp .ge 37, 3) := by decide +kernel
theorem dX1_step_37 : decode cX1_step 37 = .ok (.aload_n 0, 1) := by decide +kernel
theorem dX1_step_38 : decode cX1_step 38 = .ok (.getfield 24, 3) := by decide +kernel
theorem dX1_step_41 : decode cX1_step 41 = .ok (.iload 6, 2) := by decide +kernel
theorem dX1_step_43 : decode cX1_step 43 = .ok (.lshr, 1) := by decide +kernel
theorem dX1_step_44 : decode cX1_step 44 = .ok (.lconst 1, 1) := by decide +kernel
theorem dX1_step_45 : decode cX1_step 45 = .ok (.land, 1) := by decide +kernel
theorem dX1_step_46 : decode cX1_step 46 = .ok (.lconst 1, 1) := by decide +kernel
theorem dX1_step_47 : decode cX1_step 47 = .ok (.lcmp, 1) := by decide +kernel
theorem dX1_step_48 : decode cX1_step 48 = .ok (.ifCond .ne 17, 3) := by decide +kernel
theorem dX1_step_51 : decode cX1_step 51 = .ok (.lload 4, 2) := by decide +kernel
theorem dX1_step_53 : decode cX1_step 53 = .ok (.aload_n 0, 1) := by decide +kernel
theorem dX1_step_54 : decode cX1_step 54 = .ok (.iload 6, 2) := by decide +kernel
theorem dX1_step_56 : decode cX1_step 56 = .ok (.iload_n 1, 1) := by decide +kernel
theorem dX1_step_57 : decode cX1_step 57 = .ok (.iload_n 2, 1) := by decide +kernel
theorem dX1_step_58 : decode cX1_step 58 = .ok (.iload_n 3, 1) := by decide +kernel
theorem dX1_step_59 : decode cX1_step 59 = .ok (.invokevirtual 60, 3) := by decide +kernel
theorem dX1_step_62 : decode cX1_step 62 = .ok (.lor, 1) := by decide +kernel
theorem dX1_step_63 : decode cX1_step 63 = .ok (.lstore 4, 2) := by decide +kernel
theorem dX1_step_65 : decode cX1_step 65 = .ok (.iinc 6 1, 3) := by decide +kernel
theorem dX1_step_68 : decode cX1_step 68 = .ok (.goto (-40), 3) := by decide +kernel
theorem dX1_step_71 : decode cX1_step 71 = .ok (.aload_n 0, 1) := by decide +kernel
theorem dX1_step_72 : decode cX1_step 72 = .ok (.lload 4, 2) := by decide +kernel
theorem dX1_step_74 : decode cX1_step 74 = .ok (.putfield 24, 3) := by decide +kernel
theorem dX1_step_77 : decode cX1_step 77 = .ok (.aload_n 0, 1) := by decide +kernel
theorem dX1_step_78 : decode cX1_step 78 = .ok (.invokevirtual 64, 3) := by decide +kernel
theorem dX1_step_81 : decode cX1_step 81 = .ok (.ireturn, 1) := by decide +kernel
theorem dX1_refused_0 : decode cX1_refused 0 = .ok (.iload_n 0, 1) := by decide +kernel
theorem dX1_refused_1 : decode cX1_refused 1 = .ok (.ifCond .lt 19, 3) := by decide +kernel
theorem dX1_refused_4 : decode cX1_refused 4 = .ok (.iload_n 0, 1) := by decide +kernel
theorem dX1_refused_5 : decode cX1_refused 5 = .ok (.bipush 10, 2) := by decide +kernel
theorem dX1_refused_7 : decode cX1_refused 7 = .ok (.if_icmp .gt 13, 3) := by decide +kernel
theorem dX1_refused_10 : decode cX1_refused 10 = .ok (.iload_n 1, 1) := by decide +kernel
theorem dX1_refused_11 : decode cX1_refused 11 = .ok (.ifCond .lt 9, 3) := by decide +kernel
theorem dX1_refused_14 : decode cX1_refused 14 = .ok (.iload_n 1, 1) := by decide +kernel
theorem dX1_refused_15 : decode cX1_refused 15 = .ok (.bipush 10, 2) := by decide +kernel
theorem dX1_refused_17 : decode cX1_refused 17 = .ok (.if_icmp .le 7, 3) := by decide +kernel
theorem dX1_refused_20 : decode cX1_refused 20 = .ok (.iconst 1, 1) := by decide +kernel
theorem dX1_refused_21 : decode cX1_refused 21 = .ok (.goto 4, 3) := by decide +kernel
theorem dX1_refused_24 : decode cX1_refused 24 = .ok (.iconst 0, 1) := by decide +kernel
theorem dX1_refused_25 : decode cX1_refused 25 = .ok (.ireturn, 1) := by decide +kernel
theorem dX1_found_0 : decode cX1_found 0 = .ok (.iconst 0, 1) := by decide +kernel
theorem dX1_found_1 : decode cX1_found 1 = .ok (.istore 5, 2) := by decide +kernel
theorem dX1_found_3 : decode cX1_found 3 = .ok (.iconst 0, 1) := by decide +kernel
theorem dX1_found_4 : decode cX1_found 4 = .ok (.istore 6, 2) := by decide +kernel
theorem dX1_found_6 : decode cX1_found 6 = .ok (.iload 6, 2) := by decide +kernel
theorem dX1_found_8 : decode cX1_found 8 = .ok (.aload_n 0, 1) := by decide +kernel
theorem dX1_found_9 : decode cX1_found 9 = .ok (.getfield 7, 3) := by decide +kernel
theorem dX1_found_12 : decode cX1_found 12 = .ok (.if_icmp .ge 33, 3) := by decide +kernel
theorem dX1_found_15 : decode cX1_found 15 = .ok (.aload_n 0, 1) := by decide +kernel
theorem dX1_found_16 : decode cX1_found 16 = .ok (.iload_n 2, 1) := by decide +kernel
theorem dX1_found_17 : decode cX1_found 17 = .ok (.iload_n 1, 1) := by decide +kernel
theorem dX1_found_18 : decode cX1_found 18 = .ok (.iload 6, 2) := by decide +kernel
theorem dX1_found_20 : decode cX1_found 20 = .ok (.invokevirtual 46, 3) := by decide +kernel
theorem dX1_found_23 : decode cX1_found 23 = .ok (.ifCond .eq 16, 3) := by decide +kernel
theorem dX1_found_26 : decode cX1_found 26 = .ok (.aload_n 0, 1) := by decide +kernel
theorem dX1_found_27 : decode cX1_found 27 = .ok (.iload_n 3, 1) := by decide +kernel
theorem dX1_found_28 : decode cX1_found 28 = .ok (.iload 6, 2) := by decide +kernel
theorem dX1_found_30 : decode cX1_found 30 = .ok (.invokevirtual 50, 3) := by decide +kernel
theorem dX1_found_33 : decode cX1_found 33 = .ok (.ifCond .eq 6, 3) := by decide +kernel
theorem dX1_found_36 : decode cX1_found 36 = .ok (.iinc 5 1, 3) := by decide +kernel
theorem dX1_found_39 : decode cX1_found 39 = .ok (.iinc 6 1, 3) := by decide +kernel
theorem dX1_found_42 : decode cX1_found 42 = .ok (.goto (-36), 3) := by decide +kernel
theorem dX1_found_45 : decode cX1_found 45 = .ok (.iload 4, 2) := by decide +kernel
theorem dX1_found_47 : decode cX1_found 47 = .ok (.ifCond .ge 13, 3) := by decide +kernel
theorem dX1_found_50 : decode cX1_found 50 = .ok (.iload 5, 2) := by decide +kernel
theorem dX1_found_52 : decode cX1_found 52 = .ok (.iload 4, 2) := by decide +kernel
theorem dX1_found_54 : decode cX1_found 54 = .ok (.iadd, 1) := by decide +kernel
theorem dX1_found_55 : decode cX1_found 55 = .ok (.iconst 1, 1) := by decide +kernel
theorem dX1_found_56 : decode cX1_found 56 = .ok (.iadd, 1) := by decide +kernel
theorem dX1_found_57 : decode cX1_found 57 = .ok (.goto 5, 3) := by decide +kernel
theorem dX1_found_60 : decode cX1_found 60 = .ok (.iload 4, 2) := by decide +kernel
theorem dX1_found_62 : decode cX1_found 62 = .ok (.istore 6, 2) := by decide +kernel
theorem dX1_found_64 : decode cX1_found 64 = .ok (.lconst 0, 1) := by decide +kernel
theorem dX1_found_65 : decode cX1_found 65 = .ok (.lstore 7, 2) := by decide +kernel
theorem dX1_found_67 : decode cX1_found 67 = .ok (.iconst 0, 1) := by decide +kernel
theorem dX1_found_68 : decode cX1_found 68 = .ok (.istore 9, 2) := by decide +kernel
theorem dX1_found_70 : decode cX1_found 70 = .ok (.iconst 0, 1) := by decide +kernel
theorem dX1_found_71 : decode cX1_found 71 = .ok (.istore 10, 2) := by decide +kernel
theorem dX1_found_73 : decode cX1_found 73 = .ok (.iload 10, 2) := by decide +kernel
theorem dX1_found_75 : decode cX1_found 75 = .ok (.aload_n 0, 1) := by decide +kernel
theorem dX1_found_76 : decode cX1_found 76 = .ok (.getfield 7, 3) := by decide +kernel
theorem dX1_found_79 : decode cX1_found 79 = .ok (.if_icmp .ge 77, 3) := by decide +kernel
theorem dX1_found_82 : decode cX1_found 82 = .ok (.iload_n 2, 1) := by decide +kernel
theorem dX1_found_83 : decode cX1_found 83 = .ok (.invokestatic 53, 3) := by decide +kernel
theorem dX1_found_86 : decode cX1_found 86 = .ok (.ifCond .eq 15, 3) := by decide +kernel
theorem dX1_found_89 : decode cX1_found 89 = .ok (.aload_n 0, 1) := by decide +kernel
theorem dX1_found_90 : decode cX1_found 90 = .ok (.getfield 7, 3) := by decide +kernel
theorem dX1_found_93 : decode cX1_found 93 = .ok (.iconst 1, 1) := by decide +kernel
theorem dX1_found_94 : decode cX1_found 94 = .ok (.isub, 1) := by decide +kernel
theorem dX1_found_95 : decode cX1_found 95 = .ok (.iload 10, 2) := by decide +kernel
theorem dX1_found_97 : decode cX1_found 97 = .ok (.isub, 1) := by decide +kernel
theorem dX1_found_98 : decode cX1_found 98 = .ok (.goto 5, 3) := by decide +kernel
theorem dX1_found_101 : decode cX1_found 101 = .ok (.iload 10, 2) := by decide +kernel
theorem dX1_found_103 : decode cX1_found 103 = .ok (.istore 11, 2) := by decide +kernel
theorem dX1_found_105 : decode cX1_found 105 = .ok (.aload_n 0, 1) := by decide +kernel
theorem dX1_found_106 : decode cX1_found 106 = .ok (.iload_n 2, 1) := by decide +kernel
theorem dX1_found_107 : decode cX1_found 107 = .ok (.iload_n 1, 1) := by decide +kernel
theorem dX1_found_108 : decode cX1_found 108 = .ok (.iload 11, 2) := by decide +kernel
theorem dX1_found_110 : decode cX1_found 110 = .ok (.invokevirtual 46, 3) := by decide +kernel
theorem dX1_found_113 : decode cX1_found 113 = .ok (.ifCond .eq 37, 3) := by decide +kernel
theorem dX1_found_116 : decode cX1_found 116 = .ok (.aload_n 0, 1) := by decide +kernel
theorem dX1_found_117 : decode cX1_found 117 = .ok (.iload_n 3, 1) := by decide +kernel
theorem dX1_found_118 : decode cX1_found 118 = .ok (.iload 11, 2) := by decide +kernel
theorem dX1_found_120 : decode cX1_found 120 = .ok (.invokevirtual 50, 3) := by decide +kernel
theorem dX1_found_123 : decode cX1_found 123 = .ok (.ifCond .eq 27, 3) := by decide +kernel
theorem dX1_found_126 : decode cX1_found 126 = .ok (.iinc 9 1, 3) := by decide +kernel
theorem dX1_found_129 : decode cX1_found 129 = .ok (.iload 4, 2) := by decide +kernel
theorem dX1_found_131 : decode cX1_found 131 = .ok (.ifCond .eq 10, 3) := by decide +kernel
theorem dX1_found_134 : decode cX1_found 134 = .ok (.iload 9, 2) := by decide +kernel
theorem dX1_found_136 : decode cX1_found 136 = .ok (.iload 6, 2) := by decide +kernel
theorem dX1_found_138 : decode cX1_found 138 = .ok (.if_icmp .ne 12, 3) := by decide +kernel
theorem dX1_found_141 : decode cX1_found 141 = .ok (.lload 7, 2) := by decide +kernel
theorem dX1_found_143 : decode cX1_found 143 = .ok (.lconst 1, 1) := by decide +kernel
theorem dX1_found_144 : decode cX1_found 144 = .ok (.iload 11, 2) := by decide +kernel
theorem dX1_found_146 : decode cX1_found 146 = .ok (.lshl, 1) := by decide +kernel
theorem dX1_found_147 : decode cX1_found 147 = .ok (.lor, 1) := by decide +kernel
theorem dX1_found_148 : decode cX1_found 148 = .ok (.lstore 7, 2) := by decide +kernel
theorem dX1_found_150 : decode cX1_found 150 = .ok (.iinc 10 1, 3) := by decide +kernel
theorem dX1_found_153 : decode cX1_found 153 = .ok (.goto (-80), 3) := by decide +kernel
theorem dX1_found_156 : decode cX1_found 156 = .ok (.lload 7, 2) := by decide +kernel
theorem dX1_found_158 : decode cX1_found 158 = .ok (.lreturn, 1) := by decide +kernel
theorem dX1_leads_0 : decode cX1_leads 0 = .ok (.aload_n 0, 1) := by decide +kernel
theorem dX1_leads_1 : decode cX1_leads 1 = .ok (.getfield 13, 3) := by decide +kernel
theorem dX1_leads_4 : decode cX1_leads 4 = .ok (.iload_n 2, 1) := by decide +kernel
theorem dX1_leads_5 : decode cX1_leads 5 = .ok (.iaload, 1) := by decide +kernel
theorem dX1_leads_6 : decode cX1_leads 6 = .ok (.ifCond .lt 22, 3) := by decide +kernel
theorem dX1_leads_9 : decode cX1_leads 9 = .ok (.aload_n 0, 1) := by decide +kernel
theorem dX1_leads_10 : decode cX1_leads 10 = .ok (.getfield 13, 3) := by decide +kernel
theorem dX1_leads_13 : decode cX1_leads 13 = .ok (.iload_n 2, 1) := by decide +kernel
theorem dX1_leads_14 : decode cX1_leads 14 = .ok (.iaload, 1) := by decide +kernel
theorem dX1_leads_15 : decode cX1_leads 15 = .ok (.aload_n 0, 1) := by decide +kernel
theorem dX1_leads_16 : decode cX1_leads 16 = .ok (.getfield 13, 3) := by decide +kernel
theorem dX1_leads_19 : decode cX1_leads 19 = .ok (.iload_n 3, 1) := by decide +kernel
theorem dX1_leads_20 : decode cX1_leads 20 = .ok (.iaload, 1) := by decide +kernel
theorem dX1_leads_21 : decode cX1_leads 21 = .ok (.if_icmp .ne 7, 3) := by decide +kernel
theorem dX1_leads_24 : decode cX1_leads 24 = .ok (.iconst 1, 1) := by decide +kernel
theorem dX1_leads_25 : decode cX1_leads 25 = .ok (.goto 4, 3) := by decide +kernel
theorem dX1_leads_28 : decode cX1_leads 28 = .ok (.iconst 0, 1) := by decide +kernel
theorem dX1_leads_29 : decode cX1_leads 29 = .ok (.istore 4, 2) := by decide +kernel
theorem dX1_leads_31 : decode cX1_leads 31 = .ok (.iload_n 1, 1) := by decide +kernel
theorem dX1_leads_32 : decode cX1_leads 32 = .ok (.ifCond .ne 14, 3) := by decide +kernel
theorem dX1_leads_35 : decode cX1_leads 35 = .ok (.iload_n 3, 1) := by decide +kernel
theorem dX1_leads_36 : decode cX1_leads 36 = .ok (.iload_n 2, 1) := by decide +kernel
theorem dX1_leads_37 : decode cX1_leads 37 = .ok (.if_icmp .ne 7, 3) := by decide +kernel
theorem dX1_leads_40 : decode cX1_leads 40 = .ok (.iconst 1, 1) := by decide +kernel
theorem dX1_leads_41 : decode cX1_leads 41 = .ok (.goto 4, 3) := by decide +kernel
theorem dX1_leads_44 : decode cX1_leads 44 = .ok (.iconst 0, 1) := by decide +kernel
theorem dX1_leads_45 : decode cX1_leads 45 = .ok (.ireturn, 1) := by decide +kernel
theorem dX1_leads_46 : decode cX1_leads 46 = .ok (.iload_n 1, 1) := by decide +kernel
theorem dX1_leads_47 : decode cX1_leads 47 = .ok (.iconst 1, 1) := by decide +kernel
theorem dX1_leads_48 : decode cX1_leads 48 = .ok (.if_icmp .ne 19, 3) := by decide +kernel
end
section
set_option maxRecDepth 100000
theorem dX1_leads_51 : decode cX1_leads 51 = .ok (.aload_n 0, 1) := by decide +kernel
theorem dX1_leads_52 : decode cX1_leads 52 = .ok (.getfield 13, 3) := by decide +kernel
theorem dX1_leads_55 : decode cX1_leads 55 = .ok (.iload_n 3, 1) := by decide +kernel
theorem dX1_leads_56 : decode cX1_leads 56 = .ok (.iaload, 1) := by decide +kernel
theorem dX1_leads_57 : decode cX1_leads 57 = .ok (.iload_n 2, 1) := by decide +kernel
theorem dX1_leads_58 : decode cX1_leads 58 = .ok (.if_icmp .ne 7, 3) := by decide +kernel
theorem dX1_leads_61 : decode cX1_leads 61 = .ok (.iconst 1, 1) := by decide +kernel
theorem dX1_leads_62 : decode cX1_leads 62 = .ok (.goto 4, 3) := by decide +kernel
theorem dX1_leads_65 : decode cX1_leads 65 = .ok (.iconst 0, 1) := by decide +kernel
theorem dX1_leads_66 : decode cX1_leads 66 = .ok (.ireturn, 1) := by decide +kernel
theorem dX1_leads_67 : decode cX1_leads 67 = .ok (.iload_n 1, 1) := by decide +kernel
theorem dX1_leads_68 : decode cX1_leads 68 = .ok (.iconst 2, 1) := by decide +kernel
theorem dX1_leads_69 : decode cX1_leads 69 = .ok (.if_icmp .ne 19, 3) := by decide +kernel
theorem dX1_leads_72 : decode cX1_leads 72 = .ok (.aload_n 0, 1) := by decide +kernel
theorem dX1_leads_73 : decode cX1_leads 73 = .ok (.getfield 13, 3) := by decide +kernel
theorem dX1_leads_76 : decode cX1_leads 76 = .ok (.iload_n 2, 1) := by decide +kernel
theorem dX1_leads_77 : decode cX1_leads 77 = .ok (.iaload, 1) := by decide +kernel
theorem dX1_leads_78 : decode cX1_leads 78 = .ok (.iload_n 3, 1) := by decide +kernel
theorem dX1_leads_79 : decode cX1_leads 79 = .ok (.if_icmp .ne 7, 3) := by decide +kernel
theorem dX1_leads_82 : decode cX1_leads 82 = .ok (.iconst 1, 1) := by decide +kernel
theorem dX1_leads_83 : decode cX1_leads 83 = .ok (.goto 4, 3) := by decide +kernel
theorem dX1_leads_86 : decode cX1_leads 86 = .ok (.iconst 0, 1) := by decide +kernel
theorem dX1_leads_87 : decode cX1_leads 87 = .ok (.ireturn, 1) := by decide +kernel
theorem dX1_leads_88 : decode cX1_leads 88 = .ok (.iload_n 1, 1) := by decide +kernel
theorem dX1_leads_89 : decode cX1_leads 89 = .ok (.iconst 3, 1) := by decide +kernel
theorem dX1_leads_90 : decode cX1_leads 90 = .ok (.if_icmp .ne 10, 3) := by decide +kernel
theorem dX1_leads_93 : decode cX1_leads 93 = .ok (.aload_n 0, 1) := by decide +kernel
theorem dX1_leads_94 : decode cX1_leads 94 = .ok (.iload_n 2, 1) := by decide +kernel
theorem dX1_leads_95 : decode cX1_leads 95 = .ok (.iload_n 3, 1) := by decide +kernel
theorem dX1_leads_96 : decode cX1_leads 96 = .ok (.invokevirtual 42, 3) := by decide +kernel
theorem dX1_leads_99 : decode cX1_leads 99 = .ok (.ireturn, 1) := by decide +kernel
theorem dX1_leads_100 : decode cX1_leads 100 = .ok (.iload_n 1, 1) := by decide +kernel
theorem dX1_leads_101 : decode cX1_leads 101 = .ok (.iconst 4, 1) := by decide +kernel
theorem dX1_leads_102 : decode cX1_leads 102 = .ok (.if_icmp .ne 10, 3) := by decide +kernel
theorem dX1_leads_105 : decode cX1_leads 105 = .ok (.aload_n 0, 1) := by decide +kernel
theorem dX1_leads_106 : decode cX1_leads 106 = .ok (.iload_n 3, 1) := by decide +kernel
theorem dX1_leads_107 : decode cX1_leads 107 = .ok (.iload_n 2, 1) := by decide +kernel
theorem dX1_leads_108 : decode cX1_leads 108 = .ok (.invokevirtual 42, 3) := by decide +kernel
theorem dX1_leads_111 : decode cX1_leads 111 = .ok (.ireturn, 1) := by decide +kernel
theorem dX1_leads_112 : decode cX1_leads 112 = .ok (.iload_n 1, 1) := by decide +kernel
theorem dX1_leads_113 : decode cX1_leads 113 = .ok (.iconst 5, 1) := by decide +kernel
theorem dX1_leads_114 : decode cX1_leads 114 = .ok (.if_icmp .ne 19, 3) := by decide +kernel
theorem dX1_leads_117 : decode cX1_leads 117 = .ok (.iload 4, 2) := by decide +kernel
theorem dX1_leads_119 : decode cX1_leads 119 = .ok (.ifCond .eq 12, 3) := by decide +kernel
theorem dX1_leads_122 : decode cX1_leads 122 = .ok (.iload_n 3, 1) := by decide +kernel
theorem dX1_leads_123 : decode cX1_leads 123 = .ok (.iload_n 2, 1) := by decide +kernel
theorem dX1_leads_124 : decode cX1_leads 124 = .ok (.if_icmp .le 7, 3) := by decide +kernel
theorem dX1_leads_127 : decode cX1_leads 127 = .ok (.iconst 1, 1) := by decide +kernel
theorem dX1_leads_128 : decode cX1_leads 128 = .ok (.goto 4, 3) := by decide +kernel
theorem dX1_leads_131 : decode cX1_leads 131 = .ok (.iconst 0, 1) := by decide +kernel
theorem dX1_leads_132 : decode cX1_leads 132 = .ok (.ireturn, 1) := by decide +kernel
theorem dX1_leads_133 : decode cX1_leads 133 = .ok (.iload_n 1, 1) := by decide +kernel
theorem dX1_leads_134 : decode cX1_leads 134 = .ok (.bipush 6, 2) := by decide +kernel
theorem dX1_leads_136 : decode cX1_leads 136 = .ok (.if_icmp .ne 19, 3) := by decide +kernel
theorem dX1_leads_139 : decode cX1_leads 139 = .ok (.iload 4, 2) := by decide +kernel
theorem dX1_leads_141 : decode cX1_leads 141 = .ok (.ifCond .eq 12, 3) := by decide +kernel
theorem dX1_leads_144 : decode cX1_leads 144 = .ok (.iload_n 3, 1) := by decide +kernel
theorem dX1_leads_145 : decode cX1_leads 145 = .ok (.iload_n 2, 1) := by decide +kernel
theorem dX1_leads_146 : decode cX1_leads 146 = .ok (.if_icmp .ge 7, 3) := by decide +kernel
theorem dX1_leads_149 : decode cX1_leads 149 = .ok (.iconst 1, 1) := by decide +kernel
theorem dX1_leads_150 : decode cX1_leads 150 = .ok (.goto 4, 3) := by decide +kernel
theorem dX1_leads_153 : decode cX1_leads 153 = .ok (.iconst 0, 1) := by decide +kernel
theorem dX1_leads_154 : decode cX1_leads 154 = .ok (.ireturn, 1) := by decide +kernel
theorem dX1_leads_155 : decode cX1_leads 155 = .ok (.iload_n 1, 1) := by decide +kernel
theorem dX1_leads_156 : decode cX1_leads 156 = .ok (.bipush 7, 2) := by decide +kernel
theorem dX1_leads_158 : decode cX1_leads 158 = .ok (.if_icmp .ne 23, 3) := by decide +kernel
theorem dX1_leads_161 : decode cX1_leads 161 = .ok (.iload_n 3, 1) := by decide +kernel
theorem dX1_leads_162 : decode cX1_leads 162 = .ok (.iload_n 2, 1) := by decide +kernel
theorem dX1_leads_163 : decode cX1_leads 163 = .ok (.if_icmp .le 16, 3) := by decide +kernel
theorem dX1_leads_166 : decode cX1_leads 166 = .ok (.aload_n 0, 1) := by decide +kernel
theorem dX1_leads_167 : decode cX1_leads 167 = .ok (.iload_n 2, 1) := by decide +kernel
theorem dX1_leads_168 : decode cX1_leads 168 = .ok (.iload_n 3, 1) := by decide +kernel
theorem dX1_leads_169 : decode cX1_leads 169 = .ok (.invokevirtual 42, 3) := by decide +kernel
theorem dX1_leads_172 : decode cX1_leads 172 = .ok (.ifCond .ne 7, 3) := by decide +kernel
theorem dX1_leads_175 : decode cX1_leads 175 = .ok (.iconst 1, 1) := by decide +kernel
theorem dX1_leads_176 : decode cX1_leads 176 = .ok (.goto 4, 3) := by decide +kernel
theorem dX1_leads_179 : decode cX1_leads 179 = .ok (.iconst 0, 1) := by decide +kernel
theorem dX1_leads_180 : decode cX1_leads 180 = .ok (.ireturn, 1) := by decide +kernel
theorem dX1_leads_181 : decode cX1_leads 181 = .ok (.iload_n 1, 1) := by decide +kernel
theorem dX1_leads_182 : decode cX1_leads 182 = .ok (.bipush 8, 2) := by decide +kernel
theorem dX1_leads_184 : decode cX1_leads 184 = .ok (.if_icmp .ne 23, 3) := by decide +kernel
theorem dX1_leads_187 : decode cX1_leads 187 = .ok (.iload_n 3, 1) := by decide +kernel
theorem dX1_leads_188 : decode cX1_leads 188 = .ok (.iload_n 2, 1) := by decide +kernel
theorem dX1_leads_189 : decode cX1_leads 189 = .ok (.if_icmp .ge 16, 3) := by decide +kernel
theorem dX1_leads_192 : decode cX1_leads 192 = .ok (.aload_n 0, 1) := by decide +kernel
theorem dX1_leads_193 : decode cX1_leads 193 = .ok (.iload_n 3, 1) := by decide +kernel
theorem dX1_leads_194 : decode cX1_leads 194 = .ok (.iload_n 2, 1) := by decide +kernel
theorem dX1_leads_195 : decode cX1_leads 195 = .ok (.invokevirtual 42, 3) := by decide +kernel
theorem dX1_leads_198 : decode cX1_leads 198 = .ok (.ifCond .ne 7, 3) := by decide +kernel
theorem dX1_leads_201 : decode cX1_leads 201 = .ok (.iconst 1, 1) := by decide +kernel
theorem dX1_leads_202 : decode cX1_leads 202 = .ok (.goto 4, 3) := by decide +kernel
theorem dX1_leads_205 : decode cX1_leads 205 = .ok (.iconst 0, 1) := by decide +kernel
theorem dX1_leads_206 : decode cX1_leads 206 = .ok (.ireturn, 1) := by decide +kernel
theorem dX1_leads_207 : decode cX1_leads 207 = .ok (.iload_n 1, 1) := by decide +kernel
theorem dX1_leads_208 : decode cX1_leads 208 = .ok (.bipush 9, 2) := by decide +kernel
theorem dX1_leads_210 : decode cX1_leads 210 = .ok (.if_icmp .ne 23, 3) := by decide +kernel
theorem dX1_leads_213 : decode cX1_leads 213 = .ok (.iload_n 3, 1) := by decide +kernel
theorem dX1_leads_214 : decode cX1_leads 214 = .ok (.iload_n 2, 1) := by decide +kernel
theorem dX1_leads_215 : decode cX1_leads 215 = .ok (.if_icmp .eq 12, 3) := by decide +kernel
theorem dX1_leads_218 : decode cX1_leads 218 = .ok (.aload_n 0, 1) := by decide +kernel
theorem dX1_leads_219 : decode cX1_leads 219 = .ok (.iload_n 2, 1) := by decide +kernel
theorem dX1_leads_220 : decode cX1_leads 220 = .ok (.iload_n 3, 1) := by decide +kernel
theorem dX1_leads_221 : decode cX1_leads 221 = .ok (.invokevirtual 42, 3) := by decide +kernel
theorem dX1_leads_224 : decode cX1_leads 224 = .ok (.ifCond .eq 7, 3) := by decide +kernel
theorem dX1_leads_227 : decode cX1_leads 227 = .ok (.iconst 1, 1) := by decide +kernel
theorem dX1_leads_228 : decode cX1_leads 228 = .ok (.goto 4, 3) := by decide +kernel
theorem dX1_leads_231 : decode cX1_leads 231 = .ok (.iconst 0, 1) := by decide +kernel
theorem dX1_leads_232 : decode cX1_leads 232 = .ok (.ireturn, 1) := by decide +kernel
theorem dX1_leads_233 : decode cX1_leads 233 = .ok (.iload_n 3, 1) := by decide +kernel
theorem dX1_leads_234 : decode cX1_leads 234 = .ok (.iload_n 2, 1) := by decide +kernel
theorem dX1_leads_235 : decode cX1_leads 235 = .ok (.if_icmp .eq 12, 3) := by decide +kernel
theorem dX1_leads_238 : decode cX1_leads 238 = .ok (.aload_n 0, 1) := by decide +kernel
theorem dX1_leads_239 : decode cX1_leads 239 = .ok (.iload_n 3, 1) := by decide +kernel
theorem dX1_leads_240 : decode cX1_leads 240 = .ok (.iload_n 2, 1) := by decide +kernel
theorem dX1_leads_241 : decode cX1_leads 241 = .ok (.invokevirtual 42, 3) := by decide +kernel
theorem dX1_leads_244 : decode cX1_leads 244 = .ok (.ifCond .eq 7, 3) := by decide +kernel
theorem dX1_leads_247 : decode cX1_leads 247 = .ok (.iconst 1, 1) := by decide +kernel
theorem dX1_leads_248 : decode cX1_leads 248 = .ok (.goto 4, 3) := by decide +kernel
theorem dX1_leads_251 : decode cX1_leads 251 = .ok (.iconst 0, 1) := by decide +kernel
theorem dX1_leads_252 : decode cX1_leads 252 = .ok (.ireturn, 1) := by decide +kernel
theorem dX1_passes_0 : decode cX1_passes 0 = .ok (.iload_n 1, 1) := by decide +kernel
theorem dX1_passes_1 : decode cX1_passes 1 = .ok (.bipush 10, 2) := by decide +kernel
theorem dX1_passes_3 : decode cX1_passes 3 = .ok (.if_icmp .ne 5, 3) := by decide +kernel
theorem dX1_passes_6 : decode cX1_passes 6 = .ok (.iconst 1, 1) := by decide +kernel
theorem dX1_passes_7 : decode cX1_passes 7 = .ok (.ireturn, 1) := by decide +kernel
theorem dX1_passes_8 : decode cX1_passes 8 = .ok (.iload_n 1, 1) := by decide +kernel
theorem dX1_passes_9 : decode cX1_passes 9 = .ok (.bipush 8, 2) := by decide +kernel
theorem dX1_passes_11 : decode cX1_passes 11 = .ok (.if_icmp .ne 10, 3) := by decide +kernel
theorem dX1_passes_14 : decode cX1_passes 14 = .ok (.aload_n 0, 1) := by decide +kernel
theorem dX1_passes_15 : decode cX1_passes 15 = .ok (.getfield 17, 3) := by decide +kernel
theorem dX1_passes_18 : decode cX1_passes 18 = .ok (.iload_n 2, 1) := by decide +kernel
theorem dX1_passes_19 : decode cX1_passes 19 = .ok (.baload, 1) := by decide +kernel
theorem dX1_passes_20 : decode cX1_passes 20 = .ok (.ireturn, 1) := by decide +kernel
theorem dX1_passes_21 : decode cX1_passes 21 = .ok (.aload_n 0, 1) := by decide +kernel
theorem dX1_passes_22 : decode cX1_passes 22 = .ok (.getfield 17, 3) := by decide +kernel
theorem dX1_passes_25 : decode cX1_passes 25 = .ok (.iload_n 2, 1) := by decide +kernel
theorem dX1_passes_26 : decode cX1_passes 26 = .ok (.baload, 1) := by decide +kernel
theorem dX1_passes_27 : decode cX1_passes 27 = .ok (.ifCond .ne 23, 3) := by decide +kernel
theorem dX1_passes_30 : decode cX1_passes 30 = .ok (.iload_n 1, 1) := by decide +kernel
theorem dX1_passes_31 : decode cX1_passes 31 = .ok (.bipush 9, 2) := by decide +kernel
theorem dX1_passes_33 : decode cX1_passes 33 = .ok (.if_icmp .eq 13, 3) := by decide +kernel
theorem dX1_passes_36 : decode cX1_passes 36 = .ok (.aload_n 0, 1) := by decide +kernel
theorem dX1_passes_37 : decode cX1_passes 37 = .ok (.getfield 21, 3) := by decide +kernel
theorem dX1_passes_40 : decode cX1_passes 40 = .ok (.iload_n 2, 1) := by decide +kernel
theorem dX1_passes_41 : decode cX1_passes 41 = .ok (.iaload, 1) := by decide +kernel
theorem dX1_passes_42 : decode cX1_passes 42 = .ok (.iload_n 1, 1) := by decide +kernel
theorem dX1_passes_43 : decode cX1_passes 43 = .ok (.if_icmp .ne 7, 3) := by decide +kernel
theorem dX1_passes_46 : decode cX1_passes 46 = .ok (.iconst 1, 1) := by decide +kernel
theorem dX1_passes_47 : decode cX1_passes 47 = .ok (.goto 4, 3) := by decide +kernel
theorem dX1_passes_50 : decode cX1_passes 50 = .ok (.iconst 0, 1) := by decide +kernel
theorem dX1_passes_51 : decode cX1_passes 51 = .ok (.ireturn, 1) := by decide +kernel
theorem dX1_backwards_0 : decode cX1_backwards 0 = .ok (.iload_n 0, 1) := by decide +kernel
theorem dX1_backwards_1 : decode cX1_backwards 1 = .ok (.iconst 2, 1) := by decide +kernel
theorem dX1_backwards_2 : decode cX1_backwards 2 = .ok (.if_icmp .eq 26, 3) := by decide +kernel
theorem dX1_backwards_5 : decode cX1_backwards 5 = .ok (.iload_n 0, 1) := by decide +kernel
theorem dX1_backwards_6 : decode cX1_backwards 6 = .ok (.iconst 4, 1) := by decide +kernel
theorem dX1_backwards_7 : decode cX1_backwards 7 = .ok (.if_icmp .eq 21, 3) := by decide +kernel
theorem dX1_backwards_10 : decode cX1_backwards 10 = .ok (.iload_n 0, 1) := by decide +kernel
theorem dX1_backwards_11 : decode cX1_backwards 11 = .ok (.bipush 6, 2) := by decide +kernel
theorem dX1_backwards_13 : decode cX1_backwards 13 = .ok (.if_icmp .eq 15, 3) := by decide +kernel
theorem dX1_backwards_16 : decode cX1_backwards 16 = .ok (.iload_n 0, 1) := by decide +kernel
theorem dX1_backwards_17 : decode cX1_backwards 17 = .ok (.bipush 8, 2) := by decide +kernel
theorem dX1_backwards_19 : decode cX1_backwards 19 = .ok (.if_icmp .eq 9, 3) := by decide +kernel
theorem dX1_backwards_22 : decode cX1_backwards 22 = .ok (.iload_n 0, 1) := by decide +kernel
theorem dX1_backwards_23 : decode cX1_backwards 23 = .ok (.bipush 10, 2) := by decide +kernel
theorem dX1_backwards_25 : decode cX1_backwards 25 = .ok (.if_icmp .ne 7, 3) := by decide +kernel
theorem dX1_backwards_28 : decode cX1_backwards 28 = .ok (.iconst 1, 1) := by decide +kernel
theorem dX1_backwards_29 : decode cX1_backwards 29 = .ok (.goto 4, 3) := by decide +kernel
theorem dX1_backwards_32 : decode cX1_backwards 32 = .ok (.iconst 0, 1) := by decide +kernel
theorem dX1_backwards_33 : decode cX1_backwards 33 = .ok (.ireturn, 1) := by decide +kernel
theorem dX1_size_0 : decode cX1_size 0 = .ok (.iconst 0, 1) := by decide +kernel
theorem dX1_size_1 : decode cX1_size 1 = .ok (.istore_n 1, 1) := by decide +kernel
theorem dX1_size_2 : decode cX1_size 2 = .ok (.iconst 0, 1) := by decide +kernel
theorem dX1_size_3 : decode cX1_size 3 = .ok (.istore_n 2, 1) := by decide +kernel
theorem dX1_size_4 : decode cX1_size 4 = .ok (.iload_n 2, 1) := by decide +kernel
theorem dX1_size_5 : decode cX1_size 5 = .ok (.bipush 48, 2) := by decide +kernel
theorem dX1_size_7 : decode cX1_size 7 = .ok (.if_icmp .ge 21, 3) := by decide +kernel
theorem dX1_size_10 : decode cX1_size 10 = .ok (.iload_n 1, 1) := by decide +kernel
theorem dX1_size_11 : decode cX1_size 11 = .ok (.aload_n 0, 1) := by decide +kernel
theorem dX1_size_12 : decode cX1_size 12 = .ok (.getfield 24, 3) := by decide +kernel
theorem dX1_size_15 : decode cX1_size 15 = .ok (.iload_n 2, 1) := by decide +kernel
theorem dX1_size_16 : decode cX1_size 16 = .ok (.lshr, 1) := by decide +kernel
theorem dX1_size_17 : decode cX1_size 17 = .ok (.lconst 1, 1) := by decide +kernel
theorem dX1_size_18 : decode cX1_size 18 = .ok (.land, 1) := by decide +kernel
theorem dX1_size_19 : decode cX1_size 19 = .ok (.l2i, 1) := by decide +kernel
theorem dX1_size_20 : decode cX1_size 20 = .ok (.iadd, 1) := by decide +kernel
theorem dX1_size_21 : decode cX1_size 21 = .ok (.istore_n 1, 1) := by decide +kernel
theorem dX1_size_22 : decode cX1_size 22 = .ok (.iinc 2 1, 3) := by decide +kernel
theorem dX1_size_25 : decode cX1_size 25 = .ok (.goto (-21), 3) := by decide +kernel
theorem dX1_size_28 : decode cX1_size 28 = .ok (.iload_n 1, 1) := by decide +kernel
theorem dX1_size_29 : decode cX1_size 29 = .ok (.ireturn, 1) := by decide +kernel
theorem dX1_having_0 : decode cX1_having 0 = .ok (.iload_n 1, 1) := by decide +kernel
theorem dX1_having_1 : decode cX1_having 1 = .ok (.iload_n 2, 1) := by decide +kernel
theorem dX1_having_2 : decode cX1_having 2 = .ok (.invokestatic 57, 3) := by decide +kernel
theorem dX1_having_5 : decode cX1_having 5 = .ok (.ifCond .eq 5, 3) := by decide +kernel
theorem dX1_having_8 : decode cX1_having 8 = .ok (.iconst (-1), 1) := by decide +kernel
theorem dX1_having_9 : decode cX1_having 9 = .ok (.ireturn, 1) := by decide +kernel
theorem dX1_having_10 : decode cX1_having 10 = .ok (.iconst 0, 1) := by decide +kernel
theorem dX1_having_11 : decode cX1_having 11 = .ok (.istore 4, 2) := by decide +kernel
theorem dX1_having_13 : decode cX1_having 13 = .ok (.iload 4, 2) := by decide +kernel
theorem dX1_having_15 : decode cX1_having 15 = .ok (.aload_n 0, 1) := by decide +kernel
theorem dX1_having_16 : decode cX1_having 16 = .ok (.getfield 7, 3) := by decide +kernel
theorem dX1_having_19 : decode cX1_having 19 = .ok (.if_icmp .ge 53, 3) := by decide +kernel
theorem dX1_having_22 : decode cX1_having 22 = .ok (.aload_n 0, 1) := by decide +kernel
theorem dX1_having_23 : decode cX1_having 23 = .ok (.iload 4, 2) := by decide +kernel
theorem dX1_having_25 : decode cX1_having 25 = .ok (.iload_n 1, 1) := by decide +kernel
theorem dX1_having_26 : decode cX1_having 26 = .ok (.iload_n 2, 1) := by decide +kernel
theorem dX1_having_27 : decode cX1_having 27 = .ok (.iconst 0, 1) := by decide +kernel
theorem dX1_having_28 : decode cX1_having 28 = .ok (.invokevirtual 60, 3) := by decide +kernel
theorem dX1_having_31 : decode cX1_having 31 = .ok (.lconst 0, 1) := by decide +kernel
theorem dX1_having_32 : decode cX1_having 32 = .ok (.lcmp, 1) := by decide +kernel
theorem dX1_having_33 : decode cX1_having 33 = .ok (.ifCond .eq 7, 3) := by decide +kernel
theorem dX1_having_36 : decode cX1_having 36 = .ok (.iconst 1, 1) := by decide +kernel
theorem dX1_having_37 : decode cX1_having 37 = .ok (.goto 4, 3) := by decide +kernel
theorem dX1_having_40 : decode cX1_having 40 = .ok (.iconst 0, 1) := by decide +kernel
theorem dX1_having_41 : decode cX1_having 41 = .ok (.istore 5, 2) := by decide +kernel
theorem dX1_having_43 : decode cX1_having 43 = .ok (.iload 5, 2) := by decide +kernel
theorem dX1_having_45 : decode cX1_having 45 = .ok (.iload_n 3, 1) := by decide +kernel
theorem dX1_having_46 : decode cX1_having 46 = .ok (.if_icmp .eq 20, 3) := by decide +kernel
theorem dX1_having_49 : decode cX1_having 49 = .ok (.aload_n 0, 1) := by decide +kernel
theorem dX1_having_50 : decode cX1_having 50 = .ok (.dup, 1) := by decide +kernel
theorem dX1_having_51 : decode cX1_having 51 = .ok (.getfield 24, 3) := by decide +kernel
theorem dX1_having_54 : decode cX1_having 54 = .ok (.lconst 1, 1) := by decide +kernel
theorem dX1_having_55 : decode cX1_having 55 = .ok (.iload 4, 2) := by decide +kernel
theorem dX1_having_57 : decode cX1_having 57 = .ok (.lshl, 1) := by decide +kernel
theorem dX1_having_58 : decode cX1_having 58 = .ok (.ldc2_w 68, 3) := by decide +kernel
theorem dX1_having_61 : decode cX1_having 61 = .ok (.lxor, 1) := by decide +kernel
theorem dX1_having_62 : decode cX1_having 62 = .ok (.land, 1) := by decide +kernel
theorem dX1_having_63 : decode cX1_having 63 = .ok (.putfield 24, 3) := by decide +kernel
theorem dX1_having_66 : decode cX1_having 66 = .ok (.iinc 4 1, 3) := by decide +kernel
theorem dX1_having_69 : decode cX1_having 69 = .ok (.goto (-56), 3) := by decide +kernel
theorem dX1_having_72 : decode cX1_having 72 = .ok (.aload_n 0, 1) := by decide +kernel
theorem dX1_having_73 : decode cX1_having 73 = .ok (.invokevirtual 64, 3) := by decide +kernel
theorem dX1_having_76 : decode cX1_having 76 = .ok (.ireturn, 1) := by decide +kernel
theorem dX1_valued_0 : decode cX1_valued 0 = .ok (.iconst 0, 1) := by decide +kernel
theorem dX1_valued_1 : decode cX1_valued 1 = .ok (.istore_n 3, 1) := by decide +kernel
theorem dX1_valued_2 : decode cX1_valued 2 = .ok (.iload_n 3, 1) := by decide +kernel
theorem dX1_valued_3 : decode cX1_valued 3 = .ok (.aload_n 0, 1) := by decide +kernel
theorem dX1_valued_4 : decode cX1_valued 4 = .ok (.getfield 7, 3) := by decide +kernel
theorem dX1_valued_7 : decode cX1_valued 7 = .ok (.if_icmp .ge 114, 3) := by decide +kernel
theorem dX1_valued_10 : decode cX1_valued 10 = .ok (.iconst 0, 1) := by decide +kernel
theorem dX1_valued_11 : decode cX1_valued 11 = .ok (.istore 4, 2) := by decide +kernel
theorem dX1_valued_13 : decode cX1_valued 13 = .ok (.iconst 0, 1) := by decide +kernel
theorem dX1_valued_14 : decode cX1_valued 14 = .ok (.istore 5, 2) := by decide +kernel
theorem dX1_valued_16 : decode cX1_valued 16 = .ok (.iload 5, 2) := by decide +kernel
theorem dX1_valued_18 : decode cX1_valued 18 = .ok (.aload_n 0, 1) := by decide +kernel
theorem dX1_valued_19 : decode cX1_valued 19 = .ok (.getfield 7, 3) := by decide +kernel
theorem dX1_valued_22 : decode cX1_valued 22 = .ok (.if_icmp .ge 72, 3) := by decide +kernel
theorem dX1_valued_25 : decode cX1_valued 25 = .ok (.iload 5, 2) := by decide +kernel
theorem dX1_valued_27 : decode cX1_valued 27 = .ok (.iload_n 3, 1) := by decide +kernel
theorem dX1_valued_28 : decode cX1_valued 28 = .ok (.if_icmp .eq 13, 3) := by decide +kernel
theorem dX1_valued_31 : decode cX1_valued 31 = .ok (.aload_n 0, 1) := by decide +kernel
theorem dX1_valued_32 : decode cX1_valued 32 = .ok (.iload_n 3, 1) := by decide +kernel
theorem dX1_valued_33 : decode cX1_valued 33 = .ok (.iload 5, 2) := by decide +kernel
theorem dX1_valued_35 : decode cX1_valued 35 = .ok (.invokevirtual 42, 3) := by decide +kernel
theorem dX1_valued_38 : decode cX1_valued 38 = .ok (.ifCond .eq 7, 3) := by decide +kernel
theorem dX1_valued_41 : decode cX1_valued 41 = .ok (.iconst 1, 1) := by decide +kernel
theorem dX1_valued_42 : decode cX1_valued 42 = .ok (.goto 4, 3) := by decide +kernel
theorem dX1_valued_45 : decode cX1_valued 45 = .ok (.iconst 0, 1) := by decide +kernel
theorem dX1_valued_46 : decode cX1_valued 46 = .ok (.istore 6, 2) := by decide +kernel
theorem dX1_valued_48 : decode cX1_valued 48 = .ok (.iload 6, 2) := by decide +kernel
theorem dX1_valued_50 : decode cX1_valued 50 = .ok (.ifCond .eq 38, 3) := by decide +kernel
theorem dX1_valued_53 : decode cX1_valued 53 = .ok (.aload_n 0, 1) := by decide +kernel
theorem dX1_valued_54 : decode cX1_valued 54 = .ok (.getfield 17, 3) := by decide +kernel
theorem dX1_valued_57 : decode cX1_valued 57 = .ok (.iload 5, 2) := by decide +kernel
theorem dX1_valued_59 : decode cX1_valued 59 = .ok (.baload, 1) := by decide +kernel
theorem dX1_valued_60 : decode cX1_valued 60 = .ok (.ifCond .eq 28, 3) := by decide +kernel
theorem dX1_valued_63 : decode cX1_valued 63 = .ok (.aload_n 0, 1) := by decide +kernel
theorem dX1_valued_64 : decode cX1_valued 64 = .ok (.getfield 21, 3) := by decide +kernel
theorem dX1_valued_67 : decode cX1_valued 67 = .ok (.iload 5, 2) := by decide +kernel
theorem dX1_valued_69 : decode cX1_valued 69 = .ok (.iaload, 1) := by decide +kernel
theorem dX1_valued_70 : decode cX1_valued 70 = .ok (.iload_n 1, 1) := by decide +kernel
theorem dX1_valued_71 : decode cX1_valued 71 = .ok (.if_icmp .lt 17, 3) := by decide +kernel
theorem dX1_valued_74 : decode cX1_valued 74 = .ok (.aload_n 0, 1) := by decide +kernel
theorem dX1_valued_75 : decode cX1_valued 75 = .ok (.getfield 21, 3) := by decide +kernel
theorem dX1_valued_78 : decode cX1_valued 78 = .ok (.iload 5, 2) := by decide +kernel
theorem dX1_valued_80 : decode cX1_valued 80 = .ok (.iaload, 1) := by decide +kernel
theorem dX1_valued_81 : decode cX1_valued 81 = .ok (.iload_n 2, 1) := by decide +kernel
theorem dX1_valued_82 : decode cX1_valued 82 = .ok (.if_icmp .gt 6, 3) := by decide +kernel
theorem dX1_valued_85 : decode cX1_valued 85 = .ok (.iconst 1, 1) := by decide +kernel
theorem dX1_valued_86 : decode cX1_valued 86 = .ok (.istore 4, 2) := by decide +kernel
theorem dX1_valued_88 : decode cX1_valued 88 = .ok (.iinc 5 1, 3) := by decide +kernel
theorem dX1_valued_91 : decode cX1_valued 91 = .ok (.goto (-75), 3) := by decide +kernel
theorem dX1_valued_94 : decode cX1_valued 94 = .ok (.iload 4, 2) := by decide +kernel
theorem dX1_valued_96 : decode cX1_valued 96 = .ok (.ifCond .ne 19, 3) := by decide +kernel
theorem dX1_valued_99 : decode cX1_valued 99 = .ok (.aload_n 0, 1) := by decide +kernel
theorem dX1_valued_100 : decode cX1_valued 100 = .ok (.dup, 1) := by decide +kernel
theorem dX1_valued_101 : decode cX1_valued 101 = .ok (.getfield 24, 3) := by decide +kernel
theorem dX1_valued_104 : decode cX1_valued 104 = .ok (.lconst 1, 1) := by decide +kernel
theorem dX1_valued_105 : decode cX1_valued 105 = .ok (.iload_n 3, 1) := by decide +kernel
theorem dX1_valued_106 : decode cX1_valued 106 = .ok (.lshl, 1) := by decide +kernel
theorem dX1_valued_107 : decode cX1_valued 107 = .ok (.ldc2_w 68, 3) := by decide +kernel
theorem dX1_valued_110 : decode cX1_valued 110 = .ok (.lxor, 1) := by decide +kernel
theorem dX1_valued_111 : decode cX1_valued 111 = .ok (.land, 1) := by decide +kernel
theorem dX1_valued_112 : decode cX1_valued 112 = .ok (.putfield 24, 3) := by decide +kernel
theorem dX1_valued_115 : decode cX1_valued 115 = .ok (.iinc 3 1, 3) := by decide +kernel
theorem dX1_valued_118 : decode cX1_valued 118 = .ok (.goto (-116), 3) := by decide +kernel
theorem dX1_valued_121 : decode cX1_valued 121 = .ok (.aload_n 0, 1) := by decide +kernel
theorem dX1_valued_122 : decode cX1_valued 122 = .ok (.invokevirtual 64, 3) := by decide +kernel
theorem dX1_valued_125 : decode cX1_valued 125 = .ok (.ireturn, 1) := by decide +kernel
theorem dX1_keep_0 : decode cX1_keep 0 = .ok (.aload_n 0, 1) := by decide +kernel
theorem dX1_keep_1 : decode cX1_keep 1 = .ok (.getfield 28, 3) := by decide +kernel
theorem dX1_keep_4 : decode cX1_keep 4 = .ok (.iload_n 1, 1) := by decide +kernel
theorem dX1_keep_5 : decode cX1_keep 5 = .ok (.iconst 1, 1) := by decide +kernel
theorem dX1_keep_6 : decode cX1_keep 6 = .ok (.iand, 1) := by decide +kernel
theorem dX1_keep_7 : decode cX1_keep 7 = .ok (.aload_n 0, 1) := by decide +kernel
theorem dX1_keep_8 : decode cX1_keep 8 = .ok (.getfield 24, 3) := by decide +kernel
theorem dX1_keep_11 : decode cX1_keep 11 = .ok (.lastore, 1) := by decide +kernel
theorem dX1_keep_12 : decode cX1_keep 12 = .ok (.return_, 1) := by decide +kernel
theorem dX1_mix_0 : decode cX1_mix 0 = .ok (.iload_n 2, 1) := by decide +kernel
theorem dX1_mix_1 : decode cX1_mix 1 = .ok (.ifCond .lt 8, 3) := by decide +kernel
theorem dX1_mix_4 : decode cX1_mix 4 = .ok (.iload_n 2, 1) := by decide +kernel
theorem dX1_mix_5 : decode cX1_mix 5 = .ok (.iconst 2, 1) := by decide +kernel
theorem dX1_mix_6 : decode cX1_mix 6 = .ok (.if_icmp .le 5, 3) := by decide +kernel
theorem dX1_mix_9 : decode cX1_mix 9 = .ok (.iconst (-1), 1) := by decide +kernel
theorem dX1_mix_10 : decode cX1_mix 10 = .ok (.ireturn, 1) := by decide +kernel
theorem dX1_mix_11 : decode cX1_mix 11 = .ok (.aload_n 0, 1) := by decide +kernel
theorem dX1_mix_12 : decode cX1_mix 12 = .ok (.getfield 28, 3) := by decide +kernel
theorem dX1_mix_15 : decode cX1_mix 15 = .ok (.iload_n 1, 1) := by decide +kernel
theorem dX1_mix_16 : decode cX1_mix 16 = .ok (.iconst 1, 1) := by decide +kernel
theorem dX1_mix_17 : decode cX1_mix 17 = .ok (.iand, 1) := by decide +kernel
theorem dX1_mix_18 : decode cX1_mix 18 = .ok (.laload, 1) := by decide +kernel
theorem dX1_mix_19 : decode cX1_mix 19 = .ok (.lstore_n 3, 1) := by decide +kernel
theorem dX1_mix_20 : decode cX1_mix 20 = .ok (.aload_n 0, 1) := by decide +kernel
theorem dX1_mix_21 : decode cX1_mix 21 = .ok (.iload_n 2, 1) := by decide +kernel
theorem dX1_mix_22 : decode cX1_mix 22 = .ok (.ifCond .ne 12, 3) := by decide +kernel
theorem dX1_mix_25 : decode cX1_mix 25 = .ok (.aload_n 0, 1) := by decide +kernel
theorem dX1_mix_26 : decode cX1_mix 26 = .ok (.getfield 24, 3) := by decide +kernel
theorem dX1_mix_29 : decode cX1_mix 29 = .ok (.lload_n 3, 1) := by decide +kernel
theorem dX1_mix_30 : decode cX1_mix 30 = .ok (.land, 1) := by decide +kernel
theorem dX1_mix_31 : decode cX1_mix 31 = .ok (.goto 27, 3) := by decide +kernel
theorem dX1_mix_34 : decode cX1_mix 34 = .ok (.iload_n 2, 1) := by decide +kernel
theorem dX1_mix_35 : decode cX1_mix 35 = .ok (.iconst 1, 1) := by decide +kernel
theorem dX1_mix_36 : decode cX1_mix 36 = .ok (.if_icmp .ne 12, 3) := by decide +kernel
theorem dX1_mix_39 : decode cX1_mix 39 = .ok (.aload_n 0, 1) := by decide +kernel
theorem dX1_mix_40 : decode cX1_mix 40 = .ok (.getfield 24, 3) := by decide +kernel
theorem dX1_mix_43 : decode cX1_mix 43 = .ok (.lload_n 3, 1) := by decide +kernel
theorem dX1_mix_44 : decode cX1_mix 44 = .ok (.lor, 1) := by decide +kernel
theorem dX1_mix_45 : decode cX1_mix 45 = .ok (.goto 13, 3) := by decide +kernel
theorem dX1_mix_48 : decode cX1_mix 48 = .ok (.aload_n 0, 1) := by decide +kernel
theorem dX1_mix_49 : decode cX1_mix 49 = .ok (.getfield 24, 3) := by decide +kernel
theorem dX1_mix_52 : decode cX1_mix 52 = .ok (.lload_n 3, 1) := by decide +kernel
theorem dX1_mix_53 : decode cX1_mix 53 = .ok (.ldc2_w 68, 3) := by decide +kernel
theorem dX1_mix_56 : decode cX1_mix 56 = .ok (.lxor, 1) := by decide +kernel
theorem dX1_mix_57 : decode cX1_mix 57 = .ok (.land, 1) := by decide +kernel
theorem dX1_mix_58 : decode cX1_mix 58 = .ok (.putfield 24, 3) := by decide +kernel
theorem dX1_mix_61 : decode cX1_mix 61 = .ok (.aload_n 0, 1) := by decide +kernel
theorem dX1_mix_62 : decode cX1_mix 62 = .ok (.invokevirtual 64, 3) := by decide +kernel
theorem dX1_mix_65 : decode cX1_mix 65 = .ok (.ireturn, 1) := by decide +kernel
theorem dX1_node_0 : decode cX1_node 0 = .ok (.iconst 0, 1) := by decide +kernel
theorem dX1_node_1 : decode cX1_node 1 = .ok (.istore_n 2, 1) := by decide +kernel
theorem dX1_node_2 : decode cX1_node 2 = .ok (.iconst 0, 1) := by decide +kernel
theorem dX1_node_3 : decode cX1_node 3 = .ok (.istore_n 3, 1) := by decide +kernel
theorem dX1_node_4 : decode cX1_node 4 = .ok (.iload_n 3, 1) := by decide +kernel
theorem dX1_node_5 : decode cX1_node 5 = .ok (.aload_n 0, 1) := by decide +kernel
theorem dX1_node_6 : decode cX1_node 6 = .ok (.getfield 7, 3) := by decide +kernel
theorem dX1_node_9 : decode cX1_node 9 = .ok (.if_icmp .ge 32, 3) := by decide +kernel
theorem dX1_node_12 : decode cX1_node 12 = .ok (.aload_n 0, 1) := by decide +kernel
theorem dX1_node_13 : decode cX1_node 13 = .ok (.getfield 24, 3) := by decide +kernel
theorem dX1_node_16 : decode cX1_node 16 = .ok (.iload_n 3, 1) := by decide +kernel
theorem dX1_node_17 : decode cX1_node 17 = .ok (.lshr, 1) := by decide +kernel
theorem dX1_node_18 : decode cX1_node 18 = .ok (.lconst 1, 1) := by decide +kernel
theorem dX1_node_19 : decode cX1_node 19 = .ok (.land, 1) := by decide +kernel
theorem dX1_node_20 : decode cX1_node 20 = .ok (.lconst 1, 1) := by decide +kernel
theorem dX1_node_21 : decode cX1_node 21 = .ok (.lcmp, 1) := by decide +kernel
theorem dX1_node_22 : decode cX1_node 22 = .ok (.ifCond .ne 13, 3) := by decide +kernel
theorem dX1_node_25 : decode cX1_node 25 = .ok (.iload_n 2, 1) := by decide +kernel
theorem dX1_node_26 : decode cX1_node 26 = .ok (.iload_n 1, 1) := by decide +kernel
theorem dX1_node_27 : decode cX1_node 27 = .ok (.if_icmp .ne 5, 3) := by decide +kernel
theorem dX1_node_30 : decode cX1_node 30 = .ok (.iload_n 3, 1) := by decide +kernel
theorem dX1_node_31 : decode cX1_node 31 = .ok (.ireturn, 1) := by decide +kernel
theorem dX1_node_32 : decode cX1_node 32 = .ok (.iinc 2 1, 3) := by decide +kernel
theorem dX1_node_35 : decode cX1_node 35 = .ok (.iinc 3 1, 3) := by decide +kernel
theorem dX1_node_38 : decode cX1_node 38 = .ok (.goto (-34), 3) := by decide +kernel
theorem dX1_node_41 : decode cX1_node 41 = .ok (.iconst (-1), 1) := by decide +kernel
theorem dX1_node_42 : decode cX1_node 42 = .ok (.ireturn, 1) := by decide +kernel
theorem dX1_sum_0 : decode cX1_sum 0 = .ok (.iconst 0, 1) := by decide +kernel
theorem dX1_sum_1 : decode cX1_sum 1 = .ok (.istore_n 1, 1) := by decide +kernel
theorem dX1_sum_2 : decode cX1_sum 2 = .ok (.iconst 0, 1) := by decide +kernel
theorem dX1_sum_3 : decode cX1_sum 3 = .ok (.istore_n 2, 1) := by decide +kernel
theorem dX1_sum_4 : decode cX1_sum 4 = .ok (.iload_n 2, 1) := by decide +kernel
theorem dX1_sum_5 : decode cX1_sum 5 = .ok (.aload_n 0, 1) := by decide +kernel
theorem dX1_sum_6 : decode cX1_sum 6 = .ok (.getfield 7, 3) := by decide +kernel
theorem dX1_sum_9 : decode cX1_sum 9 = .ok (.if_icmp .ge 40, 3) := by decide +kernel
theorem dX1_sum_12 : decode cX1_sum 12 = .ok (.aload_n 0, 1) := by decide +kernel
theorem dX1_sum_13 : decode cX1_sum 13 = .ok (.getfield 24, 3) := by decide +kernel
theorem dX1_sum_16 : decode cX1_sum 16 = .ok (.iload_n 2, 1) := by decide +kernel
theorem dX1_sum_17 : decode cX1_sum 17 = .ok (.lshr, 1) := by decide +kernel
theorem dX1_sum_18 : decode cX1_sum 18 = .ok (.lconst 1, 1) := by decide +kernel
theorem dX1_sum_19 : decode cX1_sum 19 = .ok (.land, 1) := by decide +kernel
theorem dX1_sum_20 : decode cX1_sum 20 = .ok (.lconst 1, 1) := by decide +kernel
theorem dX1_sum_21 : decode cX1_sum 21 = .ok (.lcmp, 1) := by decide +kernel
theorem dX1_sum_22 : decode cX1_sum 22 = .ok (.ifCond .ne 21, 3) := by decide +kernel
theorem dX1_sum_25 : decode cX1_sum 25 = .ok (.aload_n 0, 1) := by decide +kernel
theorem dX1_sum_26 : decode cX1_sum 26 = .ok (.getfield 17, 3) := by decide +kernel
theorem dX1_sum_29 : decode cX1_sum 29 = .ok (.iload_n 2, 1) := by decide +kernel
theorem dX1_sum_30 : decode cX1_sum 30 = .ok (.baload, 1) := by decide +kernel
theorem dX1_sum_31 : decode cX1_sum 31 = .ok (.ifCond .eq 12, 3) := by decide +kernel
theorem dX1_sum_34 : decode cX1_sum 34 = .ok (.iload_n 1, 1) := by decide +kernel
theorem dX1_sum_35 : decode cX1_sum 35 = .ok (.aload_n 0, 1) := by decide +kernel
theorem dX1_sum_36 : decode cX1_sum 36 = .ok (.getfield 21, 3) := by decide +kernel
theorem dX1_sum_39 : decode cX1_sum 39 = .ok (.iload_n 2, 1) := by decide +kernel
theorem dX1_sum_40 : decode cX1_sum 40 = .ok (.iaload, 1) := by decide +kernel
theorem dX1_sum_41 : decode cX1_sum 41 = .ok (.iadd, 1) := by decide +kernel
theorem dX1_sum_42 : decode cX1_sum 42 = .ok (.istore_n 1, 1) := by decide +kernel
theorem dX1_sum_43 : decode cX1_sum 43 = .ok (.iinc 2 1, 3) := by decide +kernel
theorem dX1_sum_46 : decode cX1_sum 46 = .ok (.goto (-42), 3) := by decide +kernel
theorem dX1_sum_49 : decode cX1_sum 49 = .ok (.iload_n 1, 1) := by decide +kernel
theorem dX1_sum_50 : decode cX1_sum 50 = .ok (.ireturn, 1) := by decide +kernel
end
section
set_option maxRecDepth 100000
theorem dL_law_0 : decode cL_law 0 = .ok (.new 7, 3) := by decide +kernel
theorem dL_law_3 : decode cL_law 3 = .ok (.dup, 1) := by decide +kernel
theorem dL_law_4 : decode cL_law 4 = .ok (.invokespecial 9, 3) := by decide +kernel
theorem dL_law_7 : decode cL_law 7 = .ok (.astore_n 1, 1) := by decide +kernel
theorem dL_law_8 : decode cL_law 8 = .ok (.new 10, 3) := by decide +kernel
theorem dL_law_11 : decode cL_law 11 = .ok (.dup, 1) := by decide +kernel
theorem dL_law_12 : decode cL_law 12 = .ok (.invokespecial 12, 3) := by decide +kernel
theorem dL_law_15 : decode cL_law 15 = .ok (.astore_n 2, 1) := by decide +kernel
theorem dL_law_16 : decode cL_law 16 = .ok (.iconst 0, 1) := by decide +kernel
theorem dL_law_17 : decode cL_law 17 = .ok (.istore_n 3, 1) := by decide +kernel
theorem dL_law_18 : decode cL_law 18 = .ok (.iload_n 3, 1) := by decide +kernel
theorem dL_law_19 : decode cL_law 19 = .ok (.aload_n 0, 1) := by decide +kernel
theorem dL_law_20 : decode cL_law 20 = .ok (.arraylength, 1) := by decide +kernel
theorem dL_law_21 : decode cL_law 21 = .ok (.iconst 4, 1) := by decide +kernel
theorem dL_law_22 : decode cL_law 22 = .ok (.isub, 1) := by decide +kernel
theorem dL_law_23 : decode cL_law 23 = .ok (.if_icmp .gt 397, 3) := by decide +kernel
theorem dL_law_26 : decode cL_law 26 = .ok (.aload_n 0, 1) := by decide +kernel
theorem dL_law_27 : decode cL_law 27 = .ok (.iload_n 3, 1) := by decide +kernel
theorem dL_law_28 : decode cL_law 28 = .ok (.iaload, 1) := by decide +kernel
theorem dL_law_29 : decode cL_law 29 = .ok (.bipush 15, 2) := by decide +kernel
theorem dL_law_31 : decode cL_law 31 = .ok (.iand, 1) := by decide +kernel
theorem dL_law_32 : decode cL_law 32 = .ok (.tableswitch 382 0 11 #[64, 87, 110, 123, 146, 157, 200, 259, 292, 313, 346, 369], 64) := by decide +kernel
theorem dL_law_96 : decode cL_law 96 = .ok (.aload_n 1, 1) := by decide +kernel
theorem dL_law_97 : decode cL_law 97 = .ok (.aload_n 0, 1) := by decide +kernel
theorem dL_law_98 : decode cL_law 98 = .ok (.iload_n 3, 1) := by decide +kernel
theorem dL_law_99 : decode cL_law 99 = .ok (.iconst 1, 1) := by decide +kernel
theorem dL_law_100 : decode cL_law 100 = .ok (.iadd, 1) := by decide +kernel
theorem dL_law_101 : decode cL_law 101 = .ok (.iaload, 1) := by decide +kernel
theorem dL_law_102 : decode cL_law 102 = .ok (.invokevirtual 13, 3) := by decide +kernel
theorem dL_law_105 : decode cL_law 105 = .ok (.aload_n 2, 1) := by decide +kernel
theorem dL_law_106 : decode cL_law 106 = .ok (.aload_n 0, 1) := by decide +kernel
theorem dL_law_107 : decode cL_law 107 = .ok (.iload_n 3, 1) := by decide +kernel
theorem dL_law_108 : decode cL_law 108 = .ok (.iconst 1, 1) := by decide +kernel
theorem dL_law_109 : decode cL_law 109 = .ok (.iadd, 1) := by decide +kernel
theorem dL_law_110 : decode cL_law 110 = .ok (.iaload, 1) := by decide +kernel
theorem dL_law_111 : decode cL_law 111 = .ok (.invokevirtual 17, 3) := by decide +kernel
theorem dL_law_114 : decode cL_law 114 = .ok (.if_icmp .eq 300, 3) := by decide +kernel
theorem dL_law_117 : decode cL_law 117 = .ok (.iconst 0, 1) := by decide +kernel
theorem dL_law_118 : decode cL_law 118 = .ok (.ireturn, 1) := by decide +kernel
theorem dL_law_119 : decode cL_law 119 = .ok (.aload_n 1, 1) := by decide +kernel
theorem dL_law_120 : decode cL_law 120 = .ok (.aload_n 0, 1) := by decide +kernel
theorem dL_law_121 : decode cL_law 121 = .ok (.iload_n 3, 1) := by decide +kernel
theorem dL_law_122 : decode cL_law 122 = .ok (.iconst 1, 1) := by decide +kernel
theorem dL_law_123 : decode cL_law 123 = .ok (.iadd, 1) := by decide +kernel
theorem dL_law_124 : decode cL_law 124 = .ok (.iaload, 1) := by decide +kernel
theorem dL_law_125 : decode cL_law 125 = .ok (.invokevirtual 18, 3) := by decide +kernel
theorem dL_law_128 : decode cL_law 128 = .ok (.aload_n 2, 1) := by decide +kernel
theorem dL_law_129 : decode cL_law 129 = .ok (.aload_n 0, 1) := by decide +kernel
theorem dL_law_130 : decode cL_law 130 = .ok (.iload_n 3, 1) := by decide +kernel
theorem dL_law_131 : decode cL_law 131 = .ok (.iconst 1, 1) := by decide +kernel
theorem dL_law_132 : decode cL_law 132 = .ok (.iadd, 1) := by decide +kernel
theorem dL_law_133 : decode cL_law 133 = .ok (.iaload, 1) := by decide +kernel
theorem dL_law_134 : decode cL_law 134 = .ok (.invokevirtual 21, 3) := by decide +kernel
theorem dL_law_137 : decode cL_law 137 = .ok (.if_icmp .eq 277, 3) := by decide +kernel
theorem dL_law_140 : decode cL_law 140 = .ok (.iconst 0, 1) := by decide +kernel
theorem dL_law_141 : decode cL_law 141 = .ok (.ireturn, 1) := by decide +kernel
theorem dL_law_142 : decode cL_law 142 = .ok (.aload_n 1, 1) := by decide +kernel
theorem dL_law_143 : decode cL_law 143 = .ok (.invokevirtual 22, 3) := by decide +kernel
theorem dL_law_146 : decode cL_law 146 = .ok (.aload_n 2, 1) := by decide +kernel
theorem dL_law_147 : decode cL_law 147 = .ok (.invokevirtual 26, 3) := by decide +kernel
theorem dL_law_150 : decode cL_law 150 = .ok (.if_icmp .eq 264, 3) := by decide +kernel
theorem dL_law_153 : decode cL_law 153 = .ok (.iconst 0, 1) := by decide +kernel
theorem dL_law_154 : decode cL_law 154 = .ok (.ireturn, 1) := by decide +kernel
theorem dL_law_155 : decode cL_law 155 = .ok (.aload_n 1, 1) := by decide +kernel
theorem dL_law_156 : decode cL_law 156 = .ok (.aload_n 0, 1) := by decide +kernel
theorem dL_law_157 : decode cL_law 157 = .ok (.iload_n 3, 1) := by decide +kernel
theorem dL_law_158 : decode cL_law 158 = .ok (.iconst 1, 1) := by decide +kernel
theorem dL_law_159 : decode cL_law 159 = .ok (.iadd, 1) := by decide +kernel
theorem dL_law_160 : decode cL_law 160 = .ok (.iaload, 1) := by decide +kernel
theorem dL_law_161 : decode cL_law 161 = .ok (.invokevirtual 27, 3) := by decide +kernel
theorem dL_law_164 : decode cL_law 164 = .ok (.aload_n 2, 1) := by decide +kernel
theorem dL_law_165 : decode cL_law 165 = .ok (.aload_n 0, 1) := by decide +kernel
theorem dL_law_166 : decode cL_law 166 = .ok (.iload_n 3, 1) := by decide +kernel
theorem dL_law_167 : decode cL_law 167 = .ok (.iconst 1, 1) := by decide +kernel
theorem dL_law_168 : decode cL_law 168 = .ok (.iadd, 1) := by decide +kernel
theorem dL_law_169 : decode cL_law 169 = .ok (.iaload, 1) := by decide +kernel
theorem dL_law_170 : decode cL_law 170 = .ok (.invokevirtual 30, 3) := by decide +kernel
theorem dL_law_173 : decode cL_law 173 = .ok (.if_icmp .eq 241, 3) := by decide +kernel
theorem dL_law_176 : decode cL_law 176 = .ok (.iconst 0, 1) := by decide +kernel
theorem dL_law_177 : decode cL_law 177 = .ok (.ireturn, 1) := by decide +kernel
theorem dL_law_178 : decode cL_law 178 = .ok (.aload_n 1, 1) := by decide +kernel
theorem dL_law_179 : decode cL_law 179 = .ok (.invokevirtual 31, 3) := by decide +kernel
theorem dL_law_182 : decode cL_law 182 = .ok (.aload_n 2, 1) := by decide +kernel
theorem dL_law_183 : decode cL_law 183 = .ok (.invokevirtual 34, 3) := by decide +kernel
theorem dL_law_186 : decode cL_law 186 = .ok (.goto 228, 3) := by decide +kernel
theorem dL_law_189 : decode cL_law 189 = .ok (.aload_n 1, 1) := by decide +kernel
theorem dL_law_190 : decode cL_law 190 = .ok (.aload_n 0, 1) := by decide +kernel
theorem dL_law_191 : decode cL_law 191 = .ok (.iload_n 3, 1) := by decide +kernel
theorem dL_law_192 : decode cL_law 192 = .ok (.iconst 1, 1) := by decide +kernel
theorem dL_law_193 : decode cL_law 193 = .ok (.iadd, 1) := by decide +kernel
theorem dL_law_194 : decode cL_law 194 = .ok (.iaload, 1) := by decide +kernel
theorem dL_law_195 : decode cL_law 195 = .ok (.aload_n 0, 1) := by decide +kernel
theorem dL_law_196 : decode cL_law 196 = .ok (.iload_n 3, 1) := by decide +kernel
theorem dL_law_197 : decode cL_law 197 = .ok (.iconst 2, 1) := by decide +kernel
theorem dL_law_198 : decode cL_law 198 = .ok (.iadd, 1) := by decide +kernel
theorem dL_law_199 : decode cL_law 199 = .ok (.iaload, 1) := by decide +kernel
theorem dL_law_200 : decode cL_law 200 = .ok (.aload_n 0, 1) := by decide +kernel
theorem dL_law_201 : decode cL_law 201 = .ok (.iload_n 3, 1) := by decide +kernel
theorem dL_law_202 : decode cL_law 202 = .ok (.iconst 3, 1) := by decide +kernel
theorem dL_law_203 : decode cL_law 203 = .ok (.iadd, 1) := by decide +kernel
theorem dL_law_204 : decode cL_law 204 = .ok (.iaload, 1) := by decide +kernel
theorem dL_law_205 : decode cL_law 205 = .ok (.invokevirtual 35, 3) := by decide +kernel
theorem dL_law_208 : decode cL_law 208 = .ok (.aload_n 2, 1) := by decide +kernel
theorem dL_law_209 : decode cL_law 209 = .ok (.aload_n 0, 1) := by decide +kernel
theorem dL_law_210 : decode cL_law 210 = .ok (.iload_n 3, 1) := by decide +kernel
theorem dL_law_211 : decode cL_law 211 = .ok (.iconst 1, 1) := by decide +kernel
theorem dL_law_212 : decode cL_law 212 = .ok (.iadd, 1) := by decide +kernel
theorem dL_law_213 : decode cL_law 213 = .ok (.iaload, 1) := by decide +kernel
theorem dL_law_214 : decode cL_law 214 = .ok (.aload_n 0, 1) := by decide +kernel
theorem dL_law_215 : decode cL_law 215 = .ok (.iload_n 3, 1) := by decide +kernel
theorem dL_law_216 : decode cL_law 216 = .ok (.iconst 2, 1) := by decide +kernel
theorem dL_law_217 : decode cL_law 217 = .ok (.iadd, 1) := by decide +kernel
theorem dL_law_218 : decode cL_law 218 = .ok (.iaload, 1) := by decide +kernel
theorem dL_law_219 : decode cL_law 219 = .ok (.aload_n 0, 1) := by decide +kernel
theorem dL_law_220 : decode cL_law 220 = .ok (.iload_n 3, 1) := by decide +kernel
theorem dL_law_221 : decode cL_law 221 = .ok (.iconst 3, 1) := by decide +kernel
theorem dL_law_222 : decode cL_law 222 = .ok (.iadd, 1) := by decide +kernel
theorem dL_law_223 : decode cL_law 223 = .ok (.iaload, 1) := by decide +kernel
theorem dL_law_224 : decode cL_law 224 = .ok (.invokevirtual 39, 3) := by decide +kernel
theorem dL_law_227 : decode cL_law 227 = .ok (.if_icmp .eq 187, 3) := by decide +kernel
theorem dL_law_230 : decode cL_law 230 = .ok (.iconst 0, 1) := by decide +kernel
theorem dL_law_231 : decode cL_law 231 = .ok (.ireturn, 1) := by decide +kernel
theorem dL_law_232 : decode cL_law 232 = .ok (.aload_n 1, 1) := by decide +kernel
theorem dL_law_233 : decode cL_law 233 = .ok (.aload_n 0, 1) := by decide +kernel
theorem dL_law_234 : decode cL_law 234 = .ok (.iload_n 3, 1) := by decide +kernel
theorem dL_law_235 : decode cL_law 235 = .ok (.iconst 1, 1) := by decide +kernel
theorem dL_law_236 : decode cL_law 236 = .ok (.iadd, 1) := by decide +kernel
theorem dL_law_237 : decode cL_law 237 = .ok (.iaload, 1) := by decide +kernel
theorem dL_law_238 : decode cL_law 238 = .ok (.aload_n 0, 1) := by decide +kernel
theorem dL_law_239 : decode cL_law 239 = .ok (.iload_n 3, 1) := by decide +kernel
theorem dL_law_240 : decode cL_law 240 = .ok (.iconst 2, 1) := by decide +kernel
theorem dL_law_241 : decode cL_law 241 = .ok (.iadd, 1) := by decide +kernel
theorem dL_law_242 : decode cL_law 242 = .ok (.iaload, 1) := by decide +kernel
theorem dL_law_243 : decode cL_law 243 = .ok (.aload_n 0, 1) := by decide +kernel
theorem dL_law_244 : decode cL_law 244 = .ok (.iload_n 3, 1) := by decide +kernel
theorem dL_law_245 : decode cL_law 245 = .ok (.iconst 3, 1) := by decide +kernel
theorem dL_law_246 : decode cL_law 246 = .ok (.iadd, 1) := by decide +kernel
theorem dL_law_247 : decode cL_law 247 = .ok (.iaload, 1) := by decide +kernel
theorem dL_law_248 : decode cL_law 248 = .ok (.ifCond .eq 7, 3) := by decide +kernel
theorem dL_law_251 : decode cL_law 251 = .ok (.iconst 1, 1) := by decide +kernel
end
section
set_option maxRecDepth 100000
theorem dL_law_252 : decode cL_law 252 = .ok (.goto 4, 3) := by decide +kernel
theorem dL_law_255 : decode cL_law 255 = .ok (.iconst 0, 1) := by decide +kernel
theorem dL_law_256 : decode cL_law 256 = .ok (.invokevirtual 40, 3) := by decide +kernel
theorem dL_law_259 : decode cL_law 259 = .ok (.aload_n 2, 1) := by decide +kernel
theorem dL_law_260 : decode cL_law 260 = .ok (.aload_n 0, 1) := by decide +kernel
theorem dL_law_261 : decode cL_law 261 = .ok (.iload_n 3, 1) := by decide +kernel
theorem dL_law_262 : decode cL_law 262 = .ok (.iconst 1, 1) := by decide +kernel
theorem dL_law_263 : decode cL_law 263 = .ok (.iadd, 1) := by decide +kernel
theorem dL_law_264 : decode cL_law 264 = .ok (.iaload, 1) := by decide +kernel
theorem dL_law_265 : decode cL_law 265 = .ok (.aload_n 0, 1) := by decide +kernel
theorem dL_law_266 : decode cL_law 266 = .ok (.iload_n 3, 1) := by decide +kernel
theorem dL_law_267 : decode cL_law 267 = .ok (.iconst 2, 1) := by decide +kernel
theorem dL_law_268 : decode cL_law 268 = .ok (.iadd, 1) := by decide +kernel
theorem dL_law_269 : decode cL_law 269 = .ok (.iaload, 1) := by decide +kernel
theorem dL_law_270 : decode cL_law 270 = .ok (.aload_n 0, 1) := by decide +kernel
theorem dL_law_271 : decode cL_law 271 = .ok (.iload_n 3, 1) := by decide +kernel
theorem dL_law_272 : decode cL_law 272 = .ok (.iconst 3, 1) := by decide +kernel
theorem dL_law_273 : decode cL_law 273 = .ok (.iadd, 1) := by decide +kernel
theorem dL_law_274 : decode cL_law 274 = .ok (.iaload, 1) := by decide +kernel
theorem dL_law_275 : decode cL_law 275 = .ok (.ifCond .eq 7, 3) := by decide +kernel
theorem dL_law_278 : decode cL_law 278 = .ok (.iconst 1, 1) := by decide +kernel
theorem dL_law_279 : decode cL_law 279 = .ok (.goto 4, 3) := by decide +kernel
theorem dL_law_282 : decode cL_law 282 = .ok (.iconst 0, 1) := by decide +kernel
theorem dL_law_283 : decode cL_law 283 = .ok (.invokevirtual 44, 3) := by decide +kernel
theorem dL_law_286 : decode cL_law 286 = .ok (.if_icmp .eq 128, 3) := by decide +kernel
theorem dL_law_289 : decode cL_law 289 = .ok (.iconst 0, 1) := by decide +kernel
theorem dL_law_290 : decode cL_law 290 = .ok (.ireturn, 1) := by decide +kernel
theorem dL_law_291 : decode cL_law 291 = .ok (.aload_n 1, 1) := by decide +kernel
theorem dL_law_292 : decode cL_law 292 = .ok (.aload_n 0, 1) := by decide +kernel
theorem dL_law_293 : decode cL_law 293 = .ok (.iload_n 3, 1) := by decide +kernel
theorem dL_law_294 : decode cL_law 294 = .ok (.iconst 1, 1) := by decide +kernel
theorem dL_law_295 : decode cL_law 295 = .ok (.iadd, 1) := by decide +kernel
theorem dL_law_296 : decode cL_law 296 = .ok (.iaload, 1) := by decide +kernel
theorem dL_law_297 : decode cL_law 297 = .ok (.aload_n 0, 1) := by decide +kernel
theorem dL_law_298 : decode cL_law 298 = .ok (.iload_n 3, 1) := by decide +kernel
theorem dL_law_299 : decode cL_law 299 = .ok (.iconst 2, 1) := by decide +kernel
theorem dL_law_300 : decode cL_law 300 = .ok (.iadd, 1) := by decide +kernel
theorem dL_law_301 : decode cL_law 301 = .ok (.iaload, 1) := by decide +kernel
theorem dL_law_302 : decode cL_law 302 = .ok (.invokevirtual 45, 3) := by decide +kernel
theorem dL_law_305 : decode cL_law 305 = .ok (.aload_n 2, 1) := by decide +kernel
theorem dL_law_306 : decode cL_law 306 = .ok (.aload_n 0, 1) := by decide +kernel
theorem dL_law_307 : decode cL_law 307 = .ok (.iload_n 3, 1) := by decide +kernel
theorem dL_law_308 : decode cL_law 308 = .ok (.iconst 1, 1) := by decide +kernel
theorem dL_law_309 : decode cL_law 309 = .ok (.iadd, 1) := by decide +kernel
theorem dL_law_310 : decode cL_law 310 = .ok (.iaload, 1) := by decide +kernel
theorem dL_law_311 : decode cL_law 311 = .ok (.aload_n 0, 1) := by decide +kernel
theorem dL_law_312 : decode cL_law 312 = .ok (.iload_n 3, 1) := by decide +kernel
theorem dL_law_313 : decode cL_law 313 = .ok (.iconst 2, 1) := by decide +kernel
theorem dL_law_314 : decode cL_law 314 = .ok (.iadd, 1) := by decide +kernel
theorem dL_law_315 : decode cL_law 315 = .ok (.iaload, 1) := by decide +kernel
theorem dL_law_316 : decode cL_law 316 = .ok (.invokevirtual 49, 3) := by decide +kernel
theorem dL_law_319 : decode cL_law 319 = .ok (.if_icmp .eq 95, 3) := by decide +kernel
theorem dL_law_322 : decode cL_law 322 = .ok (.iconst 0, 1) := by decide +kernel
theorem dL_law_323 : decode cL_law 323 = .ok (.ireturn, 1) := by decide +kernel
theorem dL_law_324 : decode cL_law 324 = .ok (.aload_n 1, 1) := by decide +kernel
theorem dL_law_325 : decode cL_law 325 = .ok (.aload_n 0, 1) := by decide +kernel
theorem dL_law_326 : decode cL_law 326 = .ok (.iload_n 3, 1) := by decide +kernel
theorem dL_law_327 : decode cL_law 327 = .ok (.iconst 1, 1) := by decide +kernel
theorem dL_law_328 : decode cL_law 328 = .ok (.iadd, 1) := by decide +kernel
theorem dL_law_329 : decode cL_law 329 = .ok (.iaload, 1) := by decide +kernel
theorem dL_law_330 : decode cL_law 330 = .ok (.invokevirtual 50, 3) := by decide +kernel
theorem dL_law_333 : decode cL_law 333 = .ok (.aload_n 2, 1) := by decide +kernel
theorem dL_law_334 : decode cL_law 334 = .ok (.aload_n 0, 1) := by decide +kernel
theorem dL_law_335 : decode cL_law 335 = .ok (.iload_n 3, 1) := by decide +kernel
theorem dL_law_336 : decode cL_law 336 = .ok (.iconst 1, 1) := by decide +kernel
theorem dL_law_337 : decode cL_law 337 = .ok (.iadd, 1) := by decide +kernel
theorem dL_law_338 : decode cL_law 338 = .ok (.iaload, 1) := by decide +kernel
theorem dL_law_339 : decode cL_law 339 = .ok (.invokevirtual 54, 3) := by decide +kernel
theorem dL_law_342 : decode cL_law 342 = .ok (.goto 72, 3) := by decide +kernel
theorem dL_law_345 : decode cL_law 345 = .ok (.aload_n 1, 1) := by decide +kernel
theorem dL_law_346 : decode cL_law 346 = .ok (.aload_n 0, 1) := by decide +kernel
theorem dL_law_347 : decode cL_law 347 = .ok (.iload_n 3, 1) := by decide +kernel
theorem dL_law_348 : decode cL_law 348 = .ok (.iconst 1, 1) := by decide +kernel
theorem dL_law_349 : decode cL_law 349 = .ok (.iadd, 1) := by decide +kernel
theorem dL_law_350 : decode cL_law 350 = .ok (.iaload, 1) := by decide +kernel
theorem dL_law_351 : decode cL_law 351 = .ok (.aload_n 0, 1) := by decide +kernel
theorem dL_law_352 : decode cL_law 352 = .ok (.iload_n 3, 1) := by decide +kernel
theorem dL_law_353 : decode cL_law 353 = .ok (.iconst 2, 1) := by decide +kernel
theorem dL_law_354 : decode cL_law 354 = .ok (.iadd, 1) := by decide +kernel
theorem dL_law_355 : decode cL_law 355 = .ok (.iaload, 1) := by decide +kernel
theorem dL_law_356 : decode cL_law 356 = .ok (.invokevirtual 55, 3) := by decide +kernel
theorem dL_law_359 : decode cL_law 359 = .ok (.aload_n 2, 1) := by decide +kernel
theorem dL_law_360 : decode cL_law 360 = .ok (.aload_n 0, 1) := by decide +kernel
theorem dL_law_361 : decode cL_law 361 = .ok (.iload_n 3, 1) := by decide +kernel
theorem dL_law_362 : decode cL_law 362 = .ok (.iconst 1, 1) := by decide +kernel
theorem dL_law_363 : decode cL_law 363 = .ok (.iadd, 1) := by decide +kernel
theorem dL_law_364 : decode cL_law 364 = .ok (.iaload, 1) := by decide +kernel
theorem dL_law_365 : decode cL_law 365 = .ok (.aload_n 0, 1) := by decide +kernel
theorem dL_law_366 : decode cL_law 366 = .ok (.iload_n 3, 1) := by decide +kernel
theorem dL_law_367 : decode cL_law 367 = .ok (.iconst 2, 1) := by decide +kernel
theorem dL_law_368 : decode cL_law 368 = .ok (.iadd, 1) := by decide +kernel
theorem dL_law_369 : decode cL_law 369 = .ok (.iaload, 1) := by decide +kernel
theorem dL_law_370 : decode cL_law 370 = .ok (.invokevirtual 58, 3) := by decide +kernel
theorem dL_law_373 : decode cL_law 373 = .ok (.if_icmp .eq 41, 3) := by decide +kernel
theorem dL_law_376 : decode cL_law 376 = .ok (.iconst 0, 1) := by decide +kernel
theorem dL_law_377 : decode cL_law 377 = .ok (.ireturn, 1) := by decide +kernel
theorem dL_law_378 : decode cL_law 378 = .ok (.aload_n 1, 1) := by decide +kernel
theorem dL_law_379 : decode cL_law 379 = .ok (.aload_n 0, 1) := by decide +kernel
theorem dL_law_380 : decode cL_law 380 = .ok (.iload_n 3, 1) := by decide +kernel
theorem dL_law_381 : decode cL_law 381 = .ok (.iconst 1, 1) := by decide +kernel
theorem dL_law_382 : decode cL_law 382 = .ok (.iadd, 1) := by decide +kernel
theorem dL_law_383 : decode cL_law 383 = .ok (.iaload, 1) := by decide +kernel
theorem dL_law_384 : decode cL_law 384 = .ok (.invokevirtual 59, 3) := by decide +kernel
theorem dL_law_387 : decode cL_law 387 = .ok (.aload_n 2, 1) := by decide +kernel
theorem dL_law_388 : decode cL_law 388 = .ok (.aload_n 0, 1) := by decide +kernel
theorem dL_law_389 : decode cL_law 389 = .ok (.iload_n 3, 1) := by decide +kernel
theorem dL_law_390 : decode cL_law 390 = .ok (.iconst 1, 1) := by decide +kernel
theorem dL_law_391 : decode cL_law 391 = .ok (.iadd, 1) := by decide +kernel
theorem dL_law_392 : decode cL_law 392 = .ok (.iaload, 1) := by decide +kernel
theorem dL_law_393 : decode cL_law 393 = .ok (.invokevirtual 62, 3) := by decide +kernel
theorem dL_law_396 : decode cL_law 396 = .ok (.if_icmp .eq 18, 3) := by decide +kernel
theorem dL_law_399 : decode cL_law 399 = .ok (.iconst 0, 1) := by decide +kernel
theorem dL_law_400 : decode cL_law 400 = .ok (.ireturn, 1) := by decide +kernel
theorem dL_law_401 : decode cL_law 401 = .ok (.aload_n 1, 1) := by decide +kernel
theorem dL_law_402 : decode cL_law 402 = .ok (.invokevirtual 63, 3) := by decide +kernel
theorem dL_law_405 : decode cL_law 405 = .ok (.aload_n 2, 1) := by decide +kernel
theorem dL_law_406 : decode cL_law 406 = .ok (.invokevirtual 66, 3) := by decide +kernel
theorem dL_law_409 : decode cL_law 409 = .ok (.if_icmp .eq 5, 3) := by decide +kernel
theorem dL_law_412 : decode cL_law 412 = .ok (.iconst 0, 1) := by decide +kernel
theorem dL_law_413 : decode cL_law 413 = .ok (.ireturn, 1) := by decide +kernel
theorem dL_law_414 : decode cL_law 414 = .ok (.iinc 3 4, 3) := by decide +kernel
theorem dL_law_417 : decode cL_law 417 = .ok (.goto (-399), 3) := by decide +kernel
theorem dL_law_420 : decode cL_law 420 = .ok (.iconst 1, 1) := by decide +kernel
theorem dL_law_421 : decode cL_law 421 = .ok (.ireturn, 1) := by decide +kernel
end
section
/-! bits of a long, counts, small numbers: no program in sight -/
section TPB
/-- bit i of x -/
def tp_b (x : Int64) (i : Nat) : Bool := x.toBitVec.getLsbD i
def tp_i (b : Bool) : Int32 := if b then 1 else 0
def tp_l (b : Bool) : Int64 := if b then 1 else 0
/-- 1L << k -/
def tp_1 (k : Nat) : Int64 := 1 <<< ((nI k).toInt64 &&& 63)
theorem tp_ext {x y : Int64} (h : ∀ i, i < 64 → tp_b x i = tp_b y i) : x = y := Int64.toBitVec_inj.mp (BitVec.eq_of_getLsbD_eq (fun i hi => h i hi))
theorem tp_ext' {x y : Int64} (h : ∀ i, tp_b x i = true ↔ tp_b y i = true) : x = y := tp_ext (fun i _ => Bool.eq_iff_iff.mpr (h i))
theorem tp_lt {x : Int64} {i : Nat} (h : tp_b x i = true) : i < 64 := by
  rcases Nat.lt_or_ge i 64 with q | q
  · exact q
  · have : tp_b x i = false := BitVec.getLsbD_of_ge _ _ q
    rw [this] at h
    cases h
theorem tp_or (x y : Int64) (i : Nat) : tp_b (x ||| y) i = (tp_b x i || tp_b y i) := by
  unfold tp_b; rw [Int64.toBitVec_or, BitVec.getLsbD_or]
theorem tp_and (x y : Int64) (i : Nat) : tp_b (x &&& y) i = (tp_b x i && tp_b y i) := by
  unfold tp_b; rw [Int64.toBitVec_and, BitVec.getLsbD_and]
theorem tp_m1 : (-1 : Int64).toBitVec = BitVec.allOnes 64 := by decide
theorem tp_not (x : Int64) (i : Nat) : tp_b (x ^^^ (-1)) i = (decide (i < 64) && !tp_b x i) := by
  unfold tp_b
  rw [Int64.toBitVec_xor, tp_m1, BitVec.getLsbD_xor, BitVec.getLsbD_allOnes]
  by_cases h : i < 64
  · simp [h]
  · have : x.toBitVec.getLsbD i = false := BitVec.getLsbD_of_ge _ _ (by omega)
    simp [h, this]
theorem tp_0 (i : Nat) : tp_b 0 i = false := by
  unfold tp_b
  exact BitVec.getLsbD_zero
theorem tp_all (i : Nat) : tp_b (-1) i = decide (i < 64) := by
  unfold tp_b
  rw [tp_m1, BitVec.getLsbD_allOnes]
theorem tp_1tp : ∀ k, k < 64 → ((1 : Int64) <<< ((nI k).toInt64 &&& 63)).toBitVec = BitVec.twoPow 64 k := by decide +kernel
theorem tp_1b {k : Nat} (hk : k < 64) (i : Nat) : tp_b (tp_1 k) i = decide (i = k) := by
  unfold tp_b tp_1
  rw [tp_1tp k hk, BitVec.getLsbD_twoPow]
  by_cases h : i = k
  · subst h; simp [hk]
  · have h2 : ¬ k = i := fun z => h z.symm
    simp [h, h2]
theorem tp_one (i : Nat) : tp_b 1 i = decide (i = 0) := by
  have h : (1 : Int64) = tp_1 0 := by decide
  rw [h, tp_1b (by decide)]
theorem tp_cu : ∀ k, k < 64 → ((nI k).toInt64.toUInt64 &&& Int64.toUInt64 63).toNat = k := by decide +kernel
theorem tp_c6 : ∀ k, k < 64 → (((nI k).toInt64 &&& 63).toBitVec.smod 64).toNat = k := by decide +kernel
theorem tp_bit1 (x : Int64) : x &&& 1 = tp_l (tp_b x 0) := by
  apply tp_ext
  intro i _
  rw [tp_and, tp_one]
  by_cases h : i = 0
  · subst h
    cases hb : tp_b x 0
    · simp [tp_l, tp_0]
    · simp [tp_l, tp_one]
  · cases hb : tp_b x 0
    · simp [tp_l, tp_0, h]
    · simp [tp_l, tp_one, h]
/-- x >>> k & 1, unsigned -/
theorem tp_ush {x : Int64} {k : Nat} (hk : k < 64) : tp_b ((x.toUInt64 >>> ((nI k).toInt64.toUInt64 &&& Int64.toUInt64 63)).toInt64) 0 = tp_b x k := by
  have e : (x.toUInt64 >>> ((nI k).toInt64.toUInt64 &&& Int64.toUInt64 63)).toInt64.toBitVec = x.toBitVec >>> k := by
    apply BitVec.eq_of_toNat_eq
    show (x.toUInt64 >>> ((nI k).toInt64.toUInt64 &&& Int64.toUInt64 63)).toNat = _
    rw [UInt64.toNat_shiftRight, tp_cu k hk, Nat.mod_eq_of_lt hk, BitVec.toNat_ushiftRight]
    rfl
  unfold tp_b
  rw [e, BitVec.getLsbD_ushiftRight]
  simp
theorem tp_ubit {x : Int64} {k : Nat} (hk : k < 64) : (x.toUInt64 >>> ((nI k).toInt64.toUInt64 &&& Int64.toUInt64 63)).toInt64 &&& 1 = tp_l (tp_b x k) := by
  rw [tp_bit1, tp_ush hk]
/-- x >> k & 1, signed -/
theorem tp_sbit {x : Int64} {k : Nat} (hk : k < 64) : (x >>> ((nI k).toInt64 &&& 63)) &&& 1 = tp_l (tp_b x k) := by
  rw [tp_bit1]
  congr 1
  unfold tp_b
  rw [Int64.toBitVec_shiftRight, BitVec.sshiftRight_eq', tp_c6 k hk, BitVec.getLsbD_sshiftRight]
  simp [hk]
theorem tp_l0 (b : Bool) : tp_l b = 0 ↔ b = false := by cases b <;> decide
theorem tp_l1 (b : Bool) : tp_l b = 1 ↔ b = true := by cases b <;> decide
theorem tp_i0 (b : Bool) : tp_i b = 0 ↔ b = false := by cases b <;> decide
theorem tp_lcmp0 (b : Bool) : lg_cmp (tp_l b) 0 = 0 ↔ b = false := by rw [lg_cmp_eq, tp_l0]
theorem tp_lcmp1 (b : Bool) : lg_cmp (tp_l b) 1 = 0 ↔ b = true := by rw [lg_cmp_eq, tp_l1]
theorem tp_li (b : Bool) : (tp_l b).toInt32 = tp_i b := by cases b <;> decide
theorem tp_iN (b : Bool) : tp_i b = nI b.toNat := by cases b <;> decide
theorem tp_land (x : Int64) : x.toInt32 &&& 1 = tp_i (tp_b x 0) := by
  have h : x.toInt32 &&& 1 = (x &&& 1).toInt32 := by
    apply Int32.toBitVec_inj.mp
    apply BitVec.eq_of_getLsbD_eq
    intro i hi
    rw [Int32.toBitVec_and, Int64.toBitVec_toInt32, Int64.toBitVec_toInt32, BitVec.getLsbD_and, Int64.toBitVec_and]
    rw [BitVec.getLsbD_signExtend, BitVec.getLsbD_signExtend, BitVec.getLsbD_and]
    have h1 : (1 : Int32).toBitVec.getLsbD i = (1 : Int64).toBitVec.getLsbD i := by
      have g1 : (1 : Int32).toBitVec = BitVec.twoPow 32 0 := by decide
      have g2 : (1 : Int64).toBitVec = BitVec.twoPow 64 0 := by decide
      rw [g1, g2, BitVec.getLsbD_twoPow, BitVec.getLsbD_twoPow]
      simp
    rw [h1]
    have h2 : i < 64 := by omega
    simp [hi, h2]
  rw [h, tp_bit1, tp_li]
theorem tp_landN (x : Int64) : x.toInt32 &&& nI 1 = tp_i (tp_b x 0) := tp_land x
/-- a set is empty -/
theorem tp_empty {x : Int64} : x = 0 ↔ ∀ i, tp_b x i = false := by
  constructor
  · intro h i; rw [h, tp_0]
  · intro h; exact tp_ext (fun i _ => by rw [h i, tp_0])
theorem tp_some {x : Int64} (h : ¬ x = 0) : ∃ i, tp_b x i = true := by
  apply Classical.byContradiction
  intro h1
  exact h (tp_empty.mpr (fun i => by
    cases hb : tp_b x i
    · rfl
    · exact absurd ⟨i, hb⟩ h1))
/-- (1L << b) - 1 -/
theorem tp_mask : ∀ k, k < 49 → (((1 : Int64) <<< ((nI k).toInt64 &&& 63)) - 1).toBitVec = BitVec.ofNat 64 (2 ^ k - 1) := by decide +kernel
theorem tp_maskb {k : Nat} (hk : k < 49) (i : Nat) : tp_b (tp_1 k - 1) i = decide (i < k) := by
  unfold tp_b tp_1
  rw [tp_mask k hk, BitVec.getLsbD_ofNat, Nat.testBit_two_pow_sub_one]
  by_cases h : i < k
  · have : i < 64 := by omega
    simp [h, this]
  · simp [h]
theorem tp_stretch {a b : Nat} (ha : a < 49) (hb : b < 49) (i : Nat) : tp_b ((tp_1 b - 1) &&& ((tp_1 a - 1) ^^^ (-1))) i = true ↔ a ≤ i ∧ i < b := by
  rw [tp_and, tp_not, tp_maskb ha, tp_maskb hb]
  simp only [Bool.and_eq_true, decide_eq_true_eq, Bool.not_eq_true', decide_eq_false_iff_not]
  omega
/-- how many of the first n numbers have f -/
def tp_c (f : Nat → Bool) : Nat → Nat
  | 0 => 0
  | n + 1 => tp_c f n + (f n).toNat
theorem tp_c_le (f : Nat → Bool) (n : Nat) : tp_c f n ≤ n := by
  induction n with
  | zero => exact Nat.le_refl 0
  | succ n ih =>
    have : (f n).toNat ≤ 1 := Bool.toNat_le _
    show tp_c f n + (f n).toNat ≤ n + 1
    omega
theorem tp_c_mono (f : Nat → Bool) {a b : Nat} (h : a ≤ b) : tp_c f a ≤ tp_c f b := by
  induction b with
  | zero => have : a = 0 := by omega
            rw [this]; exact Nat.le_refl _
  | succ n ih =>
    rcases Nat.lt_or_ge n a with q | q
    · have : a = n + 1 := by omega
      rw [this]; exact Nat.le_refl _
    · exact Nat.le_trans (ih q) (Nat.le_add_right _ _)
theorem tp_c_t {f : Nat → Bool} {n : Nat} (h : f n = true) : tp_c f (n + 1) = tp_c f n + 1 := by
  show tp_c f n + (f n).toNat = _
  rw [h]; rfl
theorem tp_c_f {f : Nat → Bool} {n : Nat} (h : f n = false) : tp_c f (n + 1) = tp_c f n := by
  show tp_c f n + (f n).toNat = _
  rw [h]; rfl
theorem tp_c_lt {f : Nat → Bool} {a b : Nat} (h : a < b) (ha : f a = true) : tp_c f a < tp_c f b := by
  have h1 := tp_c_mono f (show a + 1 ≤ b from h)
  rw [tp_c_t ha] at h1
  omega
theorem tp_c_inj {f : Nat → Bool} {a b : Nat} (ha : f a = true) (hb : f b = true) (h : tp_c f a = tp_c f b) : a = b := by
  rcases Nat.lt_trichotomy a b with q | q | q
  · have := tp_c_lt q ha; omega
  · exact q
  · have := tp_c_lt q hb; omega
theorem tp_c_congr {f g : Nat → Bool} {n : Nat} (h : ∀ i, i < n → f i = g i) : tp_c f n = tp_c g n := by
  induction n with
  | zero => rfl
  | succ n ih =>
    show tp_c f n + (f n).toNat = tp_c g n + (g n).toNat
    rw [ih (fun i hi => h i (by omega)), h n (by omega)]
/-- nothing behind a -/
theorem tp_c_end {f : Nat → Bool} {a b : Nat} (h : a ≤ b) (hf : ∀ i, a ≤ i → i < b → f i = false) : tp_c f b = tp_c f a := by
  induction b with
  | zero => have : a = 0 := by omega
            rw [this]
  | succ n ih =>
    rcases Nat.lt_or_ge n a with q | q
    · have : a = n + 1 := by omega
      rw [this]
    · rw [tp_c_f (hf n q (by omega)), ih q (fun i h1 h2 => hf i h1 (by omega))]
/-- each rank below the count is reached -/
theorem tp_c_at {f : Nat → Bool} {n j : Nat} (h : j < tp_c f n) : ∃ k, k < n ∧ f k = true ∧ tp_c f k = j := by
  induction n with
  | zero => exact absurd h (Nat.not_lt_zero _)
  | succ n ih =>
    cases hb : f n
    · rw [tp_c_f hb] at h
      obtain ⟨k, h1, h2⟩ := ih h
      exact ⟨k, by omega, h2⟩
    · rw [tp_c_t hb] at h
      rcases Nat.lt_or_ge j (tp_c f n) with q | q
      · obtain ⟨k, h1, h2⟩ := ih q
        exact ⟨k, by omega, h2⟩
      · exact ⟨n, by omega, hb, by omega⟩
/-- the number with j lesser ones in f, below n: as an int, or -1 -/
def tp_rk (f : Nat → Bool) (j n : Nat) (r : Int32) : Prop := (r = -1 ∧ tp_c f n ≤ j) ∨ ∃ k, k < n ∧ r = nI k ∧ f k = true ∧ tp_c f k = j
theorem tp_rk_uniq {f : Nat → Bool} {j n : Nat} {r r' : Int32} (h : tp_rk f j n r) (h' : tp_rk f j n r') : r = r' := by
  rcases h with ⟨h1, h2⟩ | ⟨k, h1, h2, h3, h4⟩ <;> rcases h' with ⟨g1, g2⟩ | ⟨k', g1, g2, g3, g4⟩
  · rw [h1, g1]
  · have := tp_c_lt g1 g3; omega
  · have := tp_c_lt h1 h3; omega
  · have := tp_c_inj h3 g3 (by omega)
    rw [h2, g2, this]
theorem tp_nI_m1 {k : Nat} (hk : k < 2 ^ 31) : ¬ nI k = -1 := by
  intro h
  have := nI_pos' hk
  rw [h] at this
  exact absurd this (by decide)
end TPB
end
section
/-! a tree in document order: P the parent, E the number behind the last node below; no program in sight -/
section TPT
/-- a is above n -/
def tp_In (E : Nat → Nat) (a n : Nat) : Prop := a < n ∧ n < E a
def tp_in (E : Nat → Nat) (a n : Nat) : Bool := decide (a < n) && decide (n < E a)
theorem tp_in_iff {E : Nat → Nat} {a n : Nat} : tp_in E a n = true ↔ tp_In E a n := by
  unfold tp_in tp_In
  rw [Bool.and_eq_true, decide_eq_true_eq, decide_eq_true_eq]
def tp_wf (c : Nat) (P E : Nat → Nat) : Prop := (1 ≤ c ∧ c ≤ 48) ∧ (∀ n, 0 < n → n < c → P n < n) ∧ (∀ n, n < c → n < E n ∧ E n ≤ c) ∧ (∀ n a, 0 < n → n < c → a < n → (n < E a ↔ a = P n ∨ (a < P n ∧ P n < E a)))
def tp_pa (P : Nat → Nat) (k : Nat) : Int32 := if k = 0 then -1 else nI (P k)
theorem tp_pa0 (P : Nat → Nat) : tp_pa P 0 = -1 := rfl
theorem tp_pas {P : Nat → Nat} {k : Nat} (h : 0 < k) : tp_pa P k = nI (P k) := by
  unfold tp_pa
  rw [if_neg (by omega)]
variable {c : Nat} {P E : Nat → Nat}
theorem tw_c (h : tp_wf c P E) : 1 ≤ c ∧ c ≤ 48 := h.1
theorem tw_P (h : tp_wf c P E) {n : Nat} (h0 : 0 < n) (hn : n < c) : P n < n := h.2.1 n h0 hn
theorem tw_E (h : tp_wf c P E) {n : Nat} (hn : n < c) : n < E n ∧ E n ≤ c := h.2.2.1 n hn
theorem tw_A (h : tp_wf c P E) {n a : Nat} (h0 : 0 < n) (hn : n < c) (ha : a < n) : n < E a ↔ a = P n ∨ (a < P n ∧ P n < E a) := h.2.2.2 n a h0 hn ha
theorem tw_up (h : tp_wf c P E) {n : Nat} (h0 : 0 < n) (hn : n < c) (i : Nat) : tp_In E i n ↔ i = P n ∨ tp_In E i (P n) := by
  have hp := tw_P h h0 hn
  unfold tp_In
  constructor
  · intro ⟨h1, h2⟩
    exact (tw_A h h0 hn h1).mp h2
  · intro h1
    have hi : i < n := by
      rcases h1 with h1 | h1
      · omega
      · omega
    exact ⟨hi, (tw_A h h0 hn hi).mpr h1⟩
theorem tw_par (h : tp_wf c P E) {n : Nat} (h0 : 0 < n) (hn : n < c) : tp_In E (P n) n := (tw_up h h0 hn _).mpr (Or.inl rfl)
theorem tw_no0 {i : Nat} : ¬ tp_In E i 0 := fun h => Nat.not_lt_zero _ h.1
theorem tw_lt (h : tp_wf c P E) {a n : Nat} (ha : a < c) (hi : tp_In E a n) : n < c := Nat.lt_of_lt_of_le hi.2 (tw_E h ha).2
theorem tw_tr (h : tp_wf c P E) {a b : Nat} (hab : tp_In E a b) : ∀ d, d < c → tp_In E b d → tp_In E a d := by
  intro d
  induction d using Nat.strongRecOn with
  | ind d ih =>
    intro hd hbd
    have h0 : 0 < d := Nat.lt_of_le_of_lt (Nat.zero_le _) hbd.1
    have hp := tw_P h h0 hd
    refine (tw_up h h0 hd a).mpr (Or.inr ?_)
    rcases (tw_up h h0 hd b).mp hbd with q | q
    · rw [← q]; exact hab
    · exact ih (P d) hp (by omega) q
theorem tw_nest (h : tp_wf c P E) {a n : Nat} (hn : n < c) (hi : tp_In E a n) : E n ≤ E a := by
  obtain ⟨h1, h2⟩ := tw_E h hn
  rcases Nat.lt_or_ge n (E n - 1) with q | q
  · have := tw_tr h hi (E n - 1) (by omega) ⟨q, by omega⟩
    have := this.2
    omega
  · have := hi.2
    omega
/-- everything but the root is below the root -/
theorem tw_root (h : tp_wf c P E) : ∀ n, 0 < n → n < c → tp_In E 0 n := by
  intro n
  induction n using Nat.strongRecOn with
  | ind n ih =>
    intro h0 hn
    have hp := tw_P h h0 hn
    refine (tw_up h h0 hn 0).mpr ?_
    rcases Nat.eq_zero_or_pos (P n) with q | q
    · exact Or.inl q.symm
    · exact Or.inr (ih (P n) hp q (by omega))
theorem tw_E0 (h : tp_wf c P E) : E 0 = c := by
  obtain ⟨h1, h2⟩ := tw_c h
  obtain ⟨h3, h4⟩ := tw_E h (show 0 < c by omega)
  rcases Nat.lt_or_ge 1 c with q | q
  · have := (tw_root h (c - 1) (by omega) (by omega)).2
    omega
  · omega
/-- a place where a child of p can begin -/
def tp_bd (P E : Nat → Nat) (p at' : Nat) : Prop := p < at' ∧ at' ≤ E p ∧ (at' < E p → P at' = p)
theorem tw_bd1 (h : tp_wf c P E) {p : Nat} (hp : p < c) : tp_bd P E p (p + 1) := by
  obtain ⟨h1, h2⟩ := tw_E h hp
  refine ⟨by omega, by omega, fun h3 => ?_⟩
  have h4 := (tw_up h (show 0 < p + 1 by omega) (by omega) p).mp ⟨by omega, h3⟩
  have h5 := tw_P h (show 0 < p + 1 by omega) (by omega)
  rcases h4 with q | q
  · exact q.symm
  · have := q.1
    omega
theorem tw_next (h : tp_wf c P E) {p k : Nat} (hp : p < c) (hk : p < k) (hkc : k < c) (hP : P k = p) : tp_bd P E p (E k) ∧ ∀ m, k < m → m < E k → P m ≠ p := by
  have hin : tp_In E p k := by rw [← hP]; exact tw_par h (by omega) hkc
  have hne := tw_nest h hkc hin
  obtain ⟨h1, h2⟩ := tw_E h hkc
  refine ⟨⟨by omega, hne, fun h3 => ?_⟩, fun m h3 h4 h5 => ?_⟩
  · have hq : E k < c := by have := (tw_E h hp).2; omega
    have h0 : 0 < E k := by omega
    have hlt := tw_P h h0 hq
    rcases (tw_up h h0 hq p).mp ⟨by omega, h3⟩ with q | q
    · exact q.symm
    · exfalso
      have hpq := tw_par h h0 hq
      rcases Nat.lt_or_ge (P (E k)) k with z | z
      · have hx : tp_In E (P (E k)) k := ⟨z, by have := hpq.2; omega⟩
        rcases (tw_up h (show 0 < k by omega) hkc _).mp hx with y | y
        · have := q.1; omega
        · have := q.1; have := y.1; omega
      · have hx : tp_In E k (E k) := by
          rcases Nat.lt_or_ge k (P (E k)) with y | y
          · exact tw_tr h ⟨y, hlt⟩ (E k) hq hpq
          · have : P (E k) = k := by omega
            rw [this] at hpq
            exact hpq
        have := hx.2
        omega
  · have hm : tp_In E k m := ⟨h3, h4⟩
    have hmc : m < c := by omega
    rcases (tw_up h (show 0 < m by omega) hmc k).mp hm with q | q
    · omega
    · have := q.1; omega
/-- row: what has been gathered at the place k -/
def tp_row (P : Nat → Nat) (p a b k : Nat) (x : Int64) : Prop := ∀ i, tp_b x i = true ↔ a ≤ i ∧ i < k ∧ i < b ∧ P i = p
theorem tw_row0 {p a b : Nat} : tp_row P p a b a 0 := by
  intro i
  rw [tp_0]
  constructor
  · intro h; cases h
  · intro h; omega
theorem tw_rows (h : tp_wf c P E) {p a b k : Nat} {x : Int64} (hp : p < c) (hbd : tp_bd P E p k) (hak : a ≤ k) (hkb : k < b) (hb : b ≤ E p) (hx : tp_row P p a b k x) : tp_bd P E p (E k) ∧ tp_row P p a b (E k) (x ||| tp_1 k) ∧ k < E k ∧ E k ≤ c := by
  obtain ⟨h1, h2, h3⟩ := hbd
  have hEp := (tw_E h hp).2
  have hkc : k < c := by omega
  have hPk : P k = p := h3 (by omega)
  obtain ⟨g1, g2⟩ := tw_next h hp h1 hkc hPk
  obtain ⟨e1, e2⟩ := tw_E h hkc
  refine ⟨g1, fun i => ?_, e1, e2⟩
  have hc := (tw_c h).2
  rw [tp_or, tp_1b (by omega), Bool.or_eq_true, decide_eq_true_eq, hx i]
  constructor
  · intro z
    rcases z with ⟨z1, z2, z3, z4⟩ | z
    · exact ⟨z1, by omega, z3, z4⟩
    · subst z; exact ⟨hak, e1, hkb, hPk⟩
  · intro ⟨z1, z2, z3, z4⟩
    rcases Nat.lt_or_ge i k with y | y
    · exact Or.inl ⟨z1, y, z3, z4⟩
    · rcases Nat.lt_or_ge k i with w | w
      · exact absurd z4 (g2 i w z2)
      · exact Or.inr (by omega)
/-- the way up from n: what has been gathered, and where it stands -/
def tp_way (E : Nat → Nat) (n : Nat) (x : Int64) (at' : Int32) (k : Nat) : Prop := (at' = -1 ∧ k = 0 ∧ ∀ i, tp_b x i = true ↔ tp_In E i n) ∨ (∃ y, at' = nI y ∧ y < n ∧ k = y + 1 ∧ ∀ i, tp_In E i n ↔ tp_b x i = true ∨ i = y ∨ tp_In E i y)
theorem tw_way0 (h : tp_wf c P E) {n : Nat} (hn : n < c) : ∃ k, k ≤ n ∧ tp_way E n 0 (tp_pa P n) k := by
  rcases Nat.eq_zero_or_pos n with q | q
  · subst q
    refine ⟨0, Nat.le_refl 0, Or.inl ⟨rfl, rfl, fun i => ?_⟩⟩
    rw [tp_0]
    exact ⟨fun z => (by cases z), fun z => absurd z tw_no0⟩
  · have hp := tw_P h q hn
    refine ⟨P n + 1, by omega, Or.inr ⟨P n, tp_pas q, hp, rfl, fun i => ?_⟩⟩
    rw [tw_up h q hn i, tp_0]
    simp
theorem tw_ways (h : tp_wf c P E) {n y : Nat} {x : Int64} (hn : n < c) (hy : y < n) (hx : ∀ i, tp_In E i n ↔ tp_b x i = true ∨ i = y ∨ tp_In E i y) : ∃ k, k ≤ y ∧ tp_way E n (x ||| tp_1 y) (tp_pa P y) k := by
  have hc := (tw_c h).2
  rcases Nat.eq_zero_or_pos y with q | q
  · subst q
    refine ⟨0, Nat.le_refl 0, Or.inl ⟨rfl, rfl, fun i => ?_⟩⟩
    rw [hx i, tp_or, tp_1b (by omega), Bool.or_eq_true, decide_eq_true_eq]
    constructor
    · intro z
      rcases z with z | z
      · exact Or.inl z
      · exact Or.inr (Or.inl z)
    · intro z
      rcases z with z | z | z
      · exact Or.inl z
      · exact Or.inr z
      · exact absurd z tw_no0
  · have hp := tw_P h q (by omega)
    refine ⟨P y + 1, by omega, Or.inr ⟨P y, tp_pas q, by omega, rfl, fun i => ?_⟩⟩
    rw [hx i, tw_up h q (by omega) i, tp_or, tp_1b (by omega), Bool.or_eq_true, decide_eq_true_eq]
    constructor
    · intro z
      rcases z with z | z | z
      · exact Or.inl (Or.inl z)
      · exact Or.inl (Or.inr z)
      · exact Or.inr z
    · intro z
      rcases z with (z | z) | z
      · exact Or.inl z
      · exact Or.inr (Or.inl z)
      · exact Or.inr (Or.inr z)
/-- whether the axis ax leads from n to m -/
def tp_lead (P E : Nat → Nat) (ax n m : Nat) : Prop :=
  if ax = 0 then m = n else if ax = 1 then 0 < m ∧ P m = n else if ax = 2 then 0 < n ∧ P n = m else if ax = 3 then tp_In E n m else if ax = 4 then tp_In E m n
  else if ax = 5 then 0 < n ∧ 0 < m ∧ P n = P m ∧ n < m else if ax = 6 then 0 < n ∧ 0 < m ∧ P n = P m ∧ m < n
  else if ax = 7 then n < m ∧ ¬ tp_In E n m else if ax = 8 then m < n ∧ ¬ tp_In E m n else if ax = 9 then m = n ∨ tp_In E n m else m = n ∨ tp_In E m n
theorem tl_0 {n m : Nat} : tp_lead P E 0 n m ↔ m = n := Iff.rfl
theorem tl_1 {n m : Nat} : tp_lead P E 1 n m ↔ 0 < m ∧ P m = n := Iff.rfl
theorem tl_2 {n m : Nat} : tp_lead P E 2 n m ↔ 0 < n ∧ P n = m := Iff.rfl
theorem tl_3 {n m : Nat} : tp_lead P E 3 n m ↔ tp_In E n m := Iff.rfl
theorem tl_4 {n m : Nat} : tp_lead P E 4 n m ↔ tp_In E m n := Iff.rfl
theorem tl_5 {n m : Nat} : tp_lead P E 5 n m ↔ 0 < n ∧ 0 < m ∧ P n = P m ∧ n < m := Iff.rfl
theorem tl_6 {n m : Nat} : tp_lead P E 6 n m ↔ 0 < n ∧ 0 < m ∧ P n = P m ∧ m < n := Iff.rfl
theorem tl_7 {n m : Nat} : tp_lead P E 7 n m ↔ n < m ∧ ¬ tp_In E n m := Iff.rfl
theorem tl_8 {n m : Nat} : tp_lead P E 8 n m ↔ m < n ∧ ¬ tp_In E m n := Iff.rfl
theorem tl_9 {n m : Nat} : tp_lead P E 9 n m ↔ m = n ∨ tp_In E n m := Iff.rfl
theorem tl_10 {n m : Nat} : tp_lead P E 10 n m ↔ m = n ∨ tp_In E m n := Iff.rfl
/-- whether the node passes the test -/
def tp_pass (N : Nat → Nat) (t m : Nat) : Prop := t = 10 ∨ (t = 9 ∧ N m ≠ 8) ∨ t = N m
/-- the nodes along an axis that pass -/
def tp_F (c : Nat) (P E N : Nat → Nat) (ax t n m : Nat) : Prop := m < c ∧ tp_lead P E ax n m ∧ tp_pass N t m
end TPT
end
section
/-! rows over the kit's: normal forms on the stack, arrays read at known numbers, the two objects' worlds -/
abbrev tp_cl : List vw_C := [(RX0, TX0, 8), (RX1, TX1, 7)]
abbrev tp_ty (dA dJ dZ : ClassId) : List (ClassId × FieldType) := [(dA, .int), (dJ, .long), (dZ, .boolean)]
/-- TreePaths' cells -/
abbrev tp_wX (dA dJ : ClassId) (h : Nat → Nat) (cn on : Int32) (st : Int64) (nm vl pa en : Nat → Int32) (kp : Nat → Int64) : va_W := [(h 0, .inr (0, [.int cn, .int on, .ref (h 1), .ref (h 2), .ref (h 3), .ref (h 4), .long st, .ref (h 5)])), (h 1, .inl (dA, 48, .inl nm)), (h 2, .inl (dA, 48, .inl vl)), (h 3, .inl (dA, 48, .inl pa)), (h 4, .inl (dA, 48, .inl en)), (h 5, .inl (dJ, 2, .inr (.inl kp)))]
/-- TreePathsModel's cells -/
abbrev tp_wM (dA dJ dZ : ClassId) (h : Nat → Nat) (cn on : Int32) (st : Int64) (pa tx wd : Nat → Int32) (kp : Nat → Int64) : va_W := [(h 6, .inr (1, [.int cn, .ref (h 7), .ref (h 8), .ref (h 9), .int on, .long st, .ref (h 10)])), (h 7, .inl (dA, 48, .inl pa)), (h 8, .inl (dZ, 48, .inl tx)), (h 9, .inl (dA, 48, .inl wd)), (h 10, .inl (dJ, 2, .inr (.inl kp)))]
/-- a read-only method's start -/
abbrev tp_Pr (D : va_G) (tys : List (ClassId × FieldType)) (ws : va_W) (av : List Value) : Array Value → State → Prop := va_Pc av (fun U => va_P D tp_cl ws U.heap ∧ va_K D tp_cl tys U)
/-- what TreePaths' arrays hold -/
def tp_X (c : Nat) (P E N : Nat → Nat) (nm pa en : Nat → Int32) : Prop := ∀ k, k < c → nm k = nI (N k) ∧ N k ≤ 8 ∧ pa k = tp_pa P k ∧ en k = nI (E k)
/-- what TreePathsModel's arrays hold -/
def tp_M (c : Nat) (P N : Nat → Nat) (vl pa tx wd : Nat → Int32) : Prop := ∀ k, k < c → pa k = tp_pa P k ∧ tx k = (if N k = 8 then nI 1 else nI 0) ∧ wd k = (if N k = 8 then vl k else nI (N k)) ∧ N k ≤ 8
def tp_is (r : Int32) (q : Prop) : Prop := (r = nI 1 ∧ q) ∨ (r = nI 0 ∧ ¬ q)
theorem tp_fb {D : va_G} {cl : List vw_C} {tys : List (ClassId × FieldType)} {ws : va_W} {av : List Value} : FrameBlind (va_Pc av (fun U => va_P D cl ws U.heap ∧ va_K D cl tys U)) := fun a U g mk q => by
  obtain ⟨q0, qP, qK⟩ := q
  exact ⟨q0, qP, va_K.moved (u := U) (U := U.calling g mk a) (Vm.Alike.refl U.vm) qK⟩
theorem tp_fbT {av : List Value} : FrameBlind (va_Pc av (fun _ => True)) := fun a U g mk q => ⟨q.1, trivial⟩
theorem tp_pv {s : State} {H : Heap} {D : va_G} {cl : List vw_C} {tys : List (ClassId × FieldType)} {ws : va_W} {a q0 ci : Nat} {q : vw_C} {fs As : List Value} (hK : va_K D cl tys s) (hP : va_P D cl ws H) (hc : cl[ci]? = some q) (he : ws[q0]? = some (a, .inr (ci, fs))) : PreV s H q.1 a (va_Pc (.ref a :: As) (fun U => va_P D cl ws U.heap ∧ va_K D cl tys U)) As :=
  ⟨tp_fb, va_recv hK hP hc he, fun U hU hW => ⟨rfl, by rw [hU]; exact hP, va_K.moved hW.alike hK⟩⟩
theorem tp_ps {s : State} {H : Heap} {As : List Value} : PreS s H (va_Pc As (fun _ => True)) As := ⟨tp_fbT, fun U _ _ => ⟨rfl, trivial⟩⟩
theorem tp_vin {n : Nat} (h : n < 48) : vp_in (nI n) 48 := vp_in_nI h (by decide)
section TPR
variable {p : Program} {l : Launch} {e : Env} {R : Room} {s : State} {m : MethodId} {args : Array Value} {below : List Frame} {meth : Method} {c : Code} {H : Heap} {locs : List Loc} {cells slots : Nat} {Q : State → Prop}
variable {cc : ByteArray} {pc : Nat} {ls : Array Slot} {rest : List Value} {D : va_G} {cl : List vw_C} {A : Nat → Prop} {a : Nat} {tys : List (ClassId × FieldType)} {ws : va_W} {H0 : Heap}
theorem tp_ti {x y : Int32} (h : x = y) (k : W p l e R s m args below meth c H locs cells slots Q (F0 m pc ls (.int y :: rest))) : W p l e R s m args below meth c H locs cells slots Q (F0 m pc ls (.int x :: rest)) := by
  rw [h]; exact k
theorem tp_tl {x y : Int64} (h : x = y) (k : W p l e R s m args below meth c H locs cells slots Q (F0 m pc ls (.long y :: rest))) : W p l e R s m args below meth c H locs cells slots Q (F0 m pc ls (.long x :: rest)) := by
  rw [h]; exact k
theorem tp_iald (hexec : p.tables.exec = Jvm.exec) (hb : c.code = cc) (hK : va_K D cl tys s) (hP : va_P D cl ws H) (q0 t0 : Nat) {cA : ClassId} {f : Nat → Int32} (ha : ws[q0]? = some (a, .inl (cA, 48, .inl f))) (ht : tys[t0]? = some (cA, .int)) {i v : Int32} (j : Nat) (hi : i = nI j) (hj : j < 48) (hv : f j = v) (hdg : decode cc pc = .ok (.iaload, 1))
    (kk : W p l e R s m args below meth c H locs cells slots Q (F0 m (pc + 1) ls (.int v :: rest))) : W p l e R s m args below meth c H locs cells slots Q (F0 m pc ls (.int i :: .ref a :: rest)) := by
  subst hi
  refine va_iald hexec hb hK hP q0 t0 ha ht (tp_vin hj) hdg ?_
  rw [nI_clamp (by omega), hv]
  exact kk
theorem tp_zald (hexec : p.tables.exec = Jvm.exec) (hb : c.code = cc) (hK : va_K D cl tys s) (hP : va_P D cl ws H) (q0 t0 : Nat) {cA : ClassId} {f : Nat → Int32} (ha : ws[q0]? = some (a, .inl (cA, 48, .inl f))) (ht : tys[t0]? = some (cA, .boolean)) {i v : Int32} (j : Nat) (hi : i = nI j) (hj : j < 48) (hv : f j = v) (hdg : decode cc pc = .ok (.baload, 1))
    (kk : W p l e R s m args below meth c H locs cells slots Q (F0 m (pc + 1) ls (.int v :: rest))) : W p l e R s m args below meth c H locs cells slots Q (F0 m pc ls (.int i :: .ref a :: rest)) := by
  subst hi
  refine va_zald hexec hb hK hP q0 t0 ha ht (tp_vin hj) hdg ?_
  rw [nI_clamp (by omega), hv]
  exact kk
theorem tp_lald (hexec : p.tables.exec = Jvm.exec) (hb : c.code = cc) (hK : va_K D cl tys s) (hP : va_P D cl ws H) (q0 t0 : Nat) {cA : ClassId} {f : Nat → Int64} (ha : ws[q0]? = some (a, .inl (cA, 2, .inr (.inl f)))) (ht : tys[t0]? = some (cA, .long)) {i : Int32} {v : Int64} (j : Nat) (hi : i = nI j) (hj : j < 2) (hv : f j = v) (hdg : decode cc pc = .ok (.laload, 1))
    (kk : W p l e R s m args below meth c H locs cells slots Q (F0 m (pc + 1) ls (.long v :: rest))) : W p l e R s m args below meth c H locs cells slots Q (F0 m pc ls (.int i :: .ref a :: rest)) := by
  subst hi
  refine va_lald hexec hb hK hP q0 t0 ha ht (vp_in_nI hj (by decide)) hdg ?_
  rw [nI_clamp (by omega), hv]
  exact kk
theorem tp_iast (hexec : p.tables.exec = Jvm.exec) (hb : c.code = cc) (hK : va_K D cl tys s) (hP : va_P D cl ws H) (hD : va_D A ws) (hS : va_S A H0 H locs) (q0 t0 : Nat) {cA : ClassId} {f : Nat → Int32} (ha : ws[q0]? = some (a, .inl (cA, 48, .inl f))) (ht : tys[t0]? = some (cA, .int)) {i : Int32} {x : Int32} (j : Nat) (hi : i = nI j) (hj : j < 48) (hdg : decode cc pc = .ok (.iastore, 1))
    (kk : ∀ (H1 : Heap) (locs1 : List Loc), va_P D cl (ws.set q0 (a, .inl (cA, 48, .inl (upd f j x)))) H1 → va_D A (ws.set q0 (a, .inl (cA, 48, .inl (upd f j x)))) → va_S A H0 H1 locs1 → W p l e R s m args below meth c H1 locs1 cells slots Q (F0 m (pc + 1) ls rest)) : W p l e R s m args below meth c H locs cells slots Q (F0 m pc ls (.int x :: .int i :: .ref a :: rest)) := by
  subst hi
  refine va_iast hexec hb hK hP hD hS q0 t0 ha ht (tp_vin hj) hdg ?_
  rw [nI_clamp (by omega)]
  exact kk
theorem tp_zast (hexec : p.tables.exec = Jvm.exec) (hb : c.code = cc) (hK : va_K D cl tys s) (hP : va_P D cl ws H) (hD : va_D A ws) (hS : va_S A H0 H locs) (q0 t0 : Nat) {cA : ClassId} {f : Nat → Int32} (ha : ws[q0]? = some (a, .inl (cA, 48, .inl f))) (ht : tys[t0]? = some (cA, .boolean)) {i : Int32} {x y : Int32} (j : Nat) (hi : i = nI j) (hj : j < 48) (hy : vp_nar .boolean x = y) (hdg : decode cc pc = .ok (.bastore, 1))
    (kk : ∀ (H1 : Heap) (locs1 : List Loc), va_P D cl (ws.set q0 (a, .inl (cA, 48, .inl (upd f j y)))) H1 → va_D A (ws.set q0 (a, .inl (cA, 48, .inl (upd f j y)))) → va_S A H0 H1 locs1 → W p l e R s m args below meth c H1 locs1 cells slots Q (F0 m (pc + 1) ls rest)) : W p l e R s m args below meth c H locs cells slots Q (F0 m pc ls (.int x :: .int i :: .ref a :: rest)) := by
  subst hi
  subst hy
  refine va_zast hexec hb hK hP hD hS q0 t0 ha ht (tp_vin hj) hdg ?_
  rw [nI_clamp (by omega)]
  exact kk
theorem tp_last (hexec : p.tables.exec = Jvm.exec) (hb : c.code = cc) (hK : va_K D cl tys s) (hP : va_P D cl ws H) (hD : va_D A ws) (hS : va_S A H0 H locs) (q0 t0 : Nat) {cA : ClassId} {f : Nat → Int64} (ha : ws[q0]? = some (a, .inl (cA, 2, .inr (.inl f)))) (ht : tys[t0]? = some (cA, .long)) {i : Int32} {x : Int64} (j : Nat) (hi : i = nI j) (hj : j < 2) (hdg : decode cc pc = .ok (.lastore, 1))
    (kk : ∀ (H1 : Heap) (locs1 : List Loc), va_P D cl (ws.set q0 (a, .inl (cA, 2, .inr (.inl (vp_updL f j x))))) H1 → va_D A (ws.set q0 (a, .inl (cA, 2, .inr (.inl (vp_updL f j x))))) → va_S A H0 H1 locs1 → W p l e R s m args below meth c H1 locs1 cells slots Q (F0 m (pc + 1) ls rest)) : W p l e R s m args below meth c H locs cells slots Q (F0 m pc ls (.long x :: .int i :: .ref a :: rest)) := by
  subst hi
  refine va_last hexec hb hK hP hD hS q0 t0 ha ht (vp_in_nI hj (by decide)) hdg ?_
  rw [nI_clamp (by omega)]
  exact kk
end TPR
end
section
/-! steps of loops, plain -/
theorem tp_add0 (q : Nat → Prop) : ∀ k, tp_b 0 k = true ↔ k < 0 ∧ q k := by
  intro k
  rw [tp_0]
  constructor
  · intro h; cases h
  · intro h; exact absurd h.1 (Nat.not_lt_zero _)
theorem tp_add {x : Int64} {i : Nat} {q : Nat → Prop} (hi : i < 64) (h : ∀ k, tp_b x k = true ↔ k < i ∧ q k) (hq : q i) : ∀ k, tp_b (x ||| tp_1 i) k = true ↔ k < i + 1 ∧ q k := by
  intro k
  rw [tp_or, tp_1b hi, Bool.or_eq_true, decide_eq_true_eq, h k]
  constructor
  · intro z
    rcases z with z | z
    · exact ⟨by omega, z.2⟩
    · subst z; exact ⟨by omega, hq⟩
  · intro z
    rcases Nat.lt_or_ge k i with w | w
    · exact Or.inl ⟨w, z.2⟩
    · exact Or.inr (by omega)
theorem tp_nadd {x : Int64} {i : Nat} {q : Nat → Prop} (h : ∀ k, tp_b x k = true ↔ k < i ∧ q k) (hq : ¬ q i) : ∀ k, tp_b (x ||| 0) k = true ↔ k < i + 1 ∧ q k := by
  intro k
  rw [tp_or, tp_0, Bool.or_false, h k]
  constructor
  · intro z; exact ⟨by omega, z.2⟩
  · intro z
    rcases Nat.lt_or_ge k i with w | w
    · exact ⟨w, z.2⟩
    · have : k = i := by omega
      subst this
      exact absurd z.2 hq
theorem tw_rowend {P : Nat → Nat} {p a b k : Nat} {x : Int64} (hbk : b ≤ k) (hx : tp_row P p a b k x) : ∀ i, tp_b x i = true ↔ a ≤ i ∧ i < b ∧ P i = p := by
  intro i
  rw [hx i]
  constructor
  · intro z; exact ⟨z.1, z.2.2.1, z.2.2.2⟩
  · intro z; exact ⟨z.1, by omega, z.2.1, z.2.2⟩
end
section
/-! what each axis of TreePaths gathers is what the axis leads to; plain -/
section TPA
variable {c : Nat} {P E : Nat → Nat} {n : Nat} {r : Int64}
theorem ta_0 (hW : tp_wf c P E) (hn : n < c) : ∀ i, tp_b (tp_1 n) i = true ↔ i < c ∧ tp_lead P E 0 n i := by
  intro i
  have hc := (tw_c hW).2
  rw [tp_1b (by omega), decide_eq_true_eq, tl_0]
  omega
theorem ta_1 (hW : tp_wf c P E) (hn : n < c) (h : ∀ i, tp_b r i = true ↔ n + 1 ≤ i ∧ i < E n ∧ P i = n) : ∀ i, tp_b r i = true ↔ i < c ∧ tp_lead P E 1 n i := by
  intro i
  rw [h i, tl_1]
  have he := (tw_E hW hn).2
  constructor
  · intro ⟨h1, h2, h3⟩; exact ⟨by omega, by omega, h3⟩
  · intro ⟨h1, h2, h3⟩
    have h4 := tw_par hW h2 h1
    rw [h3] at h4
    exact ⟨h4.1, h4.2, h3⟩
theorem ta_20 (hn : n = 0) : ∀ i, tp_b 0 i = true ↔ i < c ∧ tp_lead P E 2 n i := by
  intro i
  rw [tp_0, tl_2]
  constructor
  · intro z; cases z
  · intro z; omega
theorem ta_2 (hW : tp_wf c P E) (hn : n < c) (h0 : 0 < n) : ∀ i, tp_b (tp_1 (P n)) i = true ↔ i < c ∧ tp_lead P E 2 n i := by
  intro i
  have hc := (tw_c hW).2
  have hp := tw_P hW h0 hn
  rw [tp_1b (by omega), decide_eq_true_eq, tl_2]
  omega
theorem ta_3 (hW : tp_wf c P E) (hn : n < c) (h : ∀ i, tp_b r i = true ↔ n + 1 ≤ i ∧ i < E n) : ∀ i, tp_b r i = true ↔ i < c ∧ tp_lead P E 3 n i := by
  intro i
  have he := (tw_E hW hn).2
  rw [h i, tl_3]
  unfold tp_In
  omega
theorem ta_9 (hW : tp_wf c P E) (hn : n < c) (h : ∀ i, tp_b r i = true ↔ n ≤ i ∧ i < E n) : ∀ i, tp_b r i = true ↔ i < c ∧ tp_lead P E 9 n i := by
  intro i
  have he := tw_E hW hn
  rw [h i, tl_9]
  unfold tp_In
  omega
theorem ta_4 (hn : n < c) (h : ∀ i, tp_b r i = true ↔ tp_In E i n) : ∀ i, tp_b r i = true ↔ i < c ∧ tp_lead P E 4 n i := by
  intro i
  rw [h i, tl_4]
  unfold tp_In
  omega
theorem ta_10 (hW : tp_wf c P E) (hn : n < c) (h : ∀ i, tp_b r i = true ↔ tp_In E i n) : ∀ i, tp_b (r ||| tp_1 n) i = true ↔ i < c ∧ tp_lead P E 10 n i := by
  intro i
  have hc := (tw_c hW).2
  rw [tp_or, tp_1b (by omega), Bool.or_eq_true, decide_eq_true_eq, h i, tl_10]
  unfold tp_In
  omega
theorem ta_7 (hW : tp_wf c P E) (hn : n < c) (h : ∀ i, tp_b r i = true ↔ E n ≤ i ∧ i < c) : ∀ i, tp_b r i = true ↔ i < c ∧ tp_lead P E 7 n i := by
  intro i
  have he := tw_E hW hn
  rw [h i, tl_7]
  unfold tp_In
  omega
theorem ta_8 {r2 : Int64} (hW : tp_wf c P E) (hn : n < c) (h : ∀ i, tp_b r i = true ↔ tp_In E i n) (h2 : ∀ i, tp_b r2 i = true ↔ 0 ≤ i ∧ i < n) : ∀ i, tp_b (r2 &&& (r ^^^ (-1))) i = true ↔ i < c ∧ tp_lead P E 8 n i := by
  intro i
  have hc := (tw_c hW).2
  rw [tp_and, tp_not, Bool.and_eq_true, Bool.and_eq_true, decide_eq_true_eq, h2 i, Bool.not_eq_true', tl_8]
  have h3 : tp_b r i = false ↔ ¬ tp_In E i n := by
    rw [← h i]
    simp
  rw [h3]
  constructor
  · intro ⟨z1, z2, z3⟩; exact ⟨by omega, z1.2, z3⟩
  · intro ⟨z1, z2, z3⟩; exact ⟨⟨by omega, z2⟩, by omega, z3⟩
theorem ta_56 {ax : Nat} (hax : ax = 5 ∨ ax = 6) (hn : n = 0) : ∀ i, tp_b 0 i = true ↔ i < c ∧ tp_lead P E ax n i := by
  intro i
  rw [tp_0]
  constructor
  · intro z; cases z
  · intro z
    rcases hax with q | q
    · subst q; have := (tl_5.mp z.2).1; omega
    · subst q; have := (tl_6.mp z.2).1; omega
theorem ta_5 (hW : tp_wf c P E) (hn : n < c) (h0 : 0 < n) (h : ∀ i, tp_b r i = true ↔ E n ≤ i ∧ i < E (P n) ∧ P i = P n) : ∀ i, tp_b r i = true ↔ i < c ∧ tp_lead P E 5 n i := by
  intro i
  have hp := tw_P hW h0 hn
  have hep := (tw_E hW (show P n < c by omega)).2
  have he := tw_E hW hn
  rw [h i, tl_5]
  constructor
  · intro ⟨z1, z2, z3⟩; exact ⟨by omega, h0, by omega, z3.symm, by omega⟩
  · intro ⟨z1, z2, z3, z4, z5⟩
    have h4 := tw_par hW z3 z1
    rw [← z4] at h4
    refine ⟨?_, h4.2, z4.symm⟩
    rcases Nat.lt_or_ge i (E n) with w | w
    · exact absurd z4.symm ((tw_next hW (show P n < c by omega) hp hn rfl).2 i z5 w)
    · exact w
theorem ta_6 (hW : tp_wf c P E) (hn : n < c) (h0 : 0 < n) (h : ∀ i, tp_b r i = true ↔ P n + 1 ≤ i ∧ i < n ∧ P i = P n) : ∀ i, tp_b r i = true ↔ i < c ∧ tp_lead P E 6 n i := by
  intro i
  rw [h i, tl_6]
  constructor
  · intro ⟨z1, z2, z3⟩; exact ⟨by omega, h0, by omega, z3.symm, z2⟩
  · intro ⟨z1, z2, z3, z4, z5⟩
    have := tw_P hW z3 z1
    exact ⟨by omega, z5, z4.symm⟩
end TPA
end
section
/-! axes from a whole set, places along an axis, ranks; plain -/
section TPS
variable {c : Nat} {P E : Nat → Nat} {st : Int64}
/-- allBelow, after i nodes -/
def tp_low (E : Nat → Nat) (st : Int64) (w i : Nat) (x : Int64) (cv : Nat) : Prop := (∀ k, tp_b x k = true ↔ (w = 1 ∧ tp_b st k = true) ∨ ∃ j, j < i ∧ tp_b st j = true ∧ tp_In E j k) ∧ (∀ j, j < i → tp_b st j = true → E j ≤ cv) ∧ (cv = 0 ∨ ∃ j, j < i ∧ tp_b st j = true ∧ E j = cv)
theorem tz_low1 : tp_low E st 1 0 st 0 := by
  refine ⟨fun k => ?_, fun j h => absurd h (Nat.not_lt_zero _), Or.inl rfl⟩
  constructor
  · intro z; exact Or.inl ⟨rfl, z⟩
  · intro z
    rcases z with z | ⟨j, z, -⟩
    · exact z.2
    · exact absurd z (Nat.not_lt_zero _)
theorem tz_low0 : tp_low E st 0 0 0 0 := by
  refine ⟨fun k => ?_, fun j h => absurd h (Nat.not_lt_zero _), Or.inl rfl⟩
  rw [tp_0]
  constructor
  · intro z; cases z
  · intro z
    rcases z with ⟨z, -⟩ | ⟨j, z, -⟩
    · omega
    · exact absurd z (Nat.not_lt_zero _)
theorem tz_ex1 {q : Nat → Prop} {i : Nat} (h : ¬ q i) : (∃ j, j < i + 1 ∧ q j) ↔ ∃ j, j < i ∧ q j := by
  constructor
  · intro ⟨j, h1, h2⟩
    rcases Nat.lt_or_ge j i with w | w
    · exact ⟨j, w, h2⟩
    · have : j = i := by omega
      subst this
      exact absurd h2 h
  · intro ⟨j, h1, h2⟩; exact ⟨j, by omega, h2⟩
theorem tz_ex2 {q : Nat → Prop} {i : Nat} : (∃ j, j < i + 1 ∧ q j) ↔ (∃ j, j < i ∧ q j) ∨ q i := by
  constructor
  · intro ⟨j, h1, h2⟩
    rcases Nat.lt_or_ge j i with w | w
    · exact Or.inl ⟨j, w, h2⟩
    · have : j = i := by omega
      subst this
      exact Or.inr h2
  · intro z
    rcases z with ⟨j, h1, h2⟩ | z
    · exact ⟨j, by omega, h2⟩
    · exact ⟨i, by omega, z⟩
theorem tz_lows {w i cv : Nat} {x : Int64} (h : tp_low E st w i x cv) (hb : tp_b st i = false) : tp_low E st w (i + 1) x cv := by
  obtain ⟨h1, h2, h3⟩ := h
  refine ⟨fun k => ?_, fun j hj hs => ?_, ?_⟩
  · rw [h1 k, tz_ex1 (q := fun j => tp_b st j = true ∧ tp_In E j k) (fun z => by rw [hb] at z; exact absurd z.1 (by decide))]
  · rcases Nat.lt_or_ge j i with q | q
    · exact h2 j q hs
    · have : j = i := by omega
      subst this
      rw [hb] at hs; cases hs
  · rcases h3 with q | ⟨j, q1, q2⟩
    · exact Or.inl q
    · exact Or.inr ⟨j, by omega, q2⟩
theorem tz_lowc {w i cv : Nat} {x : Int64} (hW : tp_wf c P E) (hi : i < c) (h : tp_low E st w i x cv) (hb : tp_b st i = true) (hcv : E i ≤ cv) : tp_low E st w (i + 1) x cv := by
  obtain ⟨h1, h2, h3⟩ := h
  have he := tw_E hW hi
  obtain ⟨j, q1, q2, q3⟩ : ∃ j, j < i ∧ tp_b st j = true ∧ E j = cv := by
    rcases h3 with q | q
    · omega
    · exact q
  have hji : tp_In E j i := ⟨q1, by omega⟩
  refine ⟨fun k => ?_, fun j' hj hs => ?_, Or.inr ⟨j, by omega, q2, q3⟩⟩
  · rw [h1 k, tz_ex2 (q := fun j => tp_b st j = true ∧ tp_In E j k)]
    constructor
    · intro z
      rcases z with z | z
      · exact Or.inl z
      · exact Or.inr (Or.inl z)
    · intro z
      rcases z with z | z | z
      · exact Or.inl z
      · exact Or.inr z
      · exact Or.inr ⟨j, q1, q2, tw_tr hW hji k (tw_lt hW hi z.2) z.2⟩
  · rcases Nat.lt_or_ge j' i with q | q
    · exact h2 j' q hs
    · have : j' = i := by omega
      subst this
      exact hcv
theorem tz_lown {w i cv : Nat} {x r : Int64} (h : tp_low E st w i x cv) (hb : tp_b st i = true) (hcv : cv < E i) (hr : ∀ k, tp_b r k = true ↔ i + 1 ≤ k ∧ k < E i) : tp_low E st w (i + 1) (x ||| r) (E i) := by
  obtain ⟨h1, h2, h3⟩ := h
  refine ⟨fun k => ?_, fun j' hj hs => ?_, Or.inr ⟨i, by omega, hb, rfl⟩⟩
  · rw [tp_or, Bool.or_eq_true, h1 k, hr k, tz_ex2 (q := fun j => tp_b st j = true ∧ tp_In E j k)]
    constructor
    · intro z
      rcases z with (z | z) | z
      · exact Or.inl z
      · exact Or.inr (Or.inl z)
      · exact Or.inr (Or.inr ⟨hb, by omega, z.2⟩)
    · intro z
      rcases z with z | z | z
      · exact Or.inl (Or.inl z)
      · exact Or.inl (Or.inr z)
      · exact Or.inr ⟨z.2.1, z.2.2⟩
  · rcases Nat.lt_or_ge j' i with q | q
    · have := h2 j' q hs; omega
    · have : j' = i := by omega
      subst this
      exact Nat.le_refl _
/-- allAbove, after i nodes -/
def tp_hg (E : Nat → Nat) (st : Int64) (i k : Nat) : Prop := ∃ j, j < i ∧ tp_b st j = true ∧ tp_In E k j
def tp_high (E : Nat → Nat) (st : Int64) (i : Nat) (x : Int64) : Prop := ∀ k, tp_b x k = true ↔ tp_hg E st i k
/-- within a way up -/
def tp_clm (E : Nat → Nat) (st : Int64) (i : Nat) (x : Int64) (at' : Int32) (k : Nat) : Prop := (at' = -1 ∧ k = 0 ∧ tp_high E st (i + 1) x) ∨ (∃ y, at' = nI y ∧ k = y + 1 ∧ y < i ∧ (∀ q, tp_b x q = true → tp_hg E st i q ∨ y < q) ∧ (∀ q, tp_hg E st i q → tp_b x q = true) ∧ (∀ q, tp_hg E st (i + 1) q ↔ tp_b x q = true ∨ q = y ∨ tp_In E q y))
theorem tz_high0 : tp_high E st 0 0 := by
  intro k
  rw [tp_0]
  constructor
  · intro z; cases z
  · intro ⟨j, z, _⟩; exact absurd z (Nat.not_lt_zero _)
theorem tz_clm0 {i : Nat} {x : Int64} (h : tp_high E st i x) (hb : tp_b st i = false) : tp_clm E st i x (-1) 0 := by
  refine Or.inl ⟨rfl, rfl, fun k => ?_⟩
  rw [h k]
  unfold tp_hg
  rw [tz_ex1 (q := fun j => tp_b st j = true ∧ tp_In E k j) (fun z => by rw [hb] at z; exact absurd z.1 (by decide))]
theorem tz_clm1 (hW : tp_wf c P E) {i : Nat} {x : Int64} (hi : i < c) (h : tp_high E st i x) (hb : tp_b st i = true) : ∃ k, k ≤ i ∧ tp_clm E st i x (tp_pa P i) k := by
  have e : ∀ q, tp_hg E st (i + 1) q ↔ tp_b x q = true ∨ tp_In E q i := by
    intro q
    unfold tp_hg
    rw [tz_ex2 (q := fun j => tp_b st j = true ∧ tp_In E q j), h q]
    unfold tp_hg
    constructor
    · intro z
      rcases z with z | z
      · exact Or.inl z
      · exact Or.inr z.2
    · intro z
      rcases z with z | z
      · exact Or.inl z
      · exact Or.inr ⟨hb, z⟩
  rcases Nat.eq_zero_or_pos i with q | q
  · subst q
    refine ⟨0, Nat.le_refl _, Or.inl ⟨rfl, rfl, fun k => ?_⟩⟩
    rw [e k]
    constructor
    · intro z; exact Or.inl z
    · intro z
      rcases z with z | z
      · exact z
      · exact absurd z tw_no0
  · have hp := tw_P hW q hi
    refine ⟨P i + 1, by omega, Or.inr ⟨P i, tp_pas q, rfl, hp, fun k hk => Or.inl ((h k).mp hk), fun k hk => (h k).mpr hk, fun k => ?_⟩⟩
    rw [e k, tw_up hW q hi k]
theorem tz_clms (hW : tp_wf c P E) {i y : Nat} {x : Int64} (hi : i < c) (hy : y < i) (h1 : ∀ q, tp_b x q = true → tp_hg E st i q ∨ y < q) (h2 : ∀ q, tp_hg E st i q → tp_b x q = true) (h3 : ∀ q, tp_hg E st (i + 1) q ↔ tp_b x q = true ∨ q = y ∨ tp_In E q y) : ∃ k, k ≤ y ∧ tp_clm E st i (x ||| tp_1 y) (tp_pa P y) k := by
  have hc := (tw_c hW).2
  rcases Nat.eq_zero_or_pos y with q | q
  · subst q
    refine ⟨0, Nat.le_refl _, Or.inl ⟨rfl, rfl, fun k => ?_⟩⟩
    rw [h3 k, tp_or, tp_1b (by omega), Bool.or_eq_true, decide_eq_true_eq]
    constructor
    · intro z
      rcases z with z | z
      · exact Or.inl z
      · exact Or.inr (Or.inl z)
    · intro z
      rcases z with z | z | z
      · exact Or.inl z
      · exact Or.inr z
      · exact absurd z tw_no0
  · have hp := tw_P hW q (by omega)
    refine ⟨P y + 1, by omega, Or.inr ⟨P y, tp_pas q, rfl, by omega, fun k hk => ?_, fun k hk => ?_, fun k => ?_⟩⟩
    · rw [tp_or, tp_1b (by omega), Bool.or_eq_true, decide_eq_true_eq] at hk
      rcases hk with hk | hk
      · rcases h1 k hk with z | z
        · exact Or.inl z
        · exact Or.inr (by omega)
      · exact Or.inr (by omega)
    · rw [tp_or, Bool.or_eq_true]; exact Or.inl (h2 k hk)
    · rw [h3 k, tw_up hW q (by omega) k, tp_or, tp_1b (by omega), Bool.or_eq_true, decide_eq_true_eq]
      constructor
      · intro z
        rcases z with z | z | z
        · exact Or.inl (Or.inl z)
        · exact Or.inl (Or.inr z)
        · exact Or.inr z
      · intro z
        rcases z with (z | z) | z
        · exact Or.inl z
        · exact Or.inr (Or.inl z)
        · exact Or.inr (Or.inr z)
theorem tz_clmx (hW : tp_wf c P E) {i y : Nat} {x : Int64} (hi : i < c) (h1 : ∀ q, tp_b x q = true → tp_hg E st i q ∨ y < q) (h2 : ∀ q, tp_hg E st i q → tp_b x q = true) (h3 : ∀ q, tp_hg E st (i + 1) q ↔ tp_b x q = true ∨ q = y ∨ tp_In E q y) (hb : tp_b x y = true) : tp_high E st (i + 1) x := by
  intro k
  rw [h3 k]
  constructor
  · intro z; exact Or.inl z
  · intro z
    rcases z with z | z | z
    · exact z
    · rw [z]; exact hb
    · rcases h1 y hb with w | w
      · obtain ⟨j, w1, w2, w3⟩ := w
        exact h2 k ⟨j, w1, w2, tw_tr hW z j (by omega) w3⟩
      · omega
/-- leastEnd, after i nodes -/
def tp_lst (E : Nat → Nat) (st : Int64) (c i q : Nat) : Prop := q ≤ c ∧ (q = c ∨ ∃ j, j < i ∧ tp_b st j = true ∧ E j = q) ∧ ∀ j, j < i → tp_b st j = true → q ≤ E j
theorem tz_lst0 : tp_lst E st c 0 c := ⟨Nat.le_refl _, Or.inl rfl, fun _ h => absurd h (Nat.not_lt_zero _)⟩
theorem tz_lsts {i q : Nat} (h : tp_lst E st c i q) (hn : tp_b st i = true → q ≤ E i) : tp_lst E st c (i + 1) q := by
  refine ⟨h.1, ?_, fun j hj hs => ?_⟩
  · rcases h.2.1 with z | ⟨j, z1, z2⟩
    · exact Or.inl z
    · exact Or.inr ⟨j, by omega, z2⟩
  · rcases Nat.lt_or_ge j i with w | w
    · exact h.2.2 j w hs
    · have : j = i := by omega
      subst this
      exact hn hs
theorem tz_lstn {i q : Nat} (h : tp_lst E st c i q) (hb : tp_b st i = true) (hl : E i < q) : tp_lst E st c (i + 1) (E i) := by
  have h0 := h.1
  refine ⟨by omega, Or.inr ⟨i, by omega, hb, rfl⟩, fun j hj hs => ?_⟩
  rcases Nat.lt_or_ge j i with w | w
  · have := h.2.2 j w hs; omega
  · have : j = i := by omega
    subst this
    exact Nat.le_refl _
/-- all along an axis, from a whole set -/
def tp_al (c : Nat) (P E : Nat → Nat) (st : Int64) (ax m : Nat) (k : Nat) : Prop := k < c ∧ ∃ j, j < m ∧ tp_b st j = true ∧ tp_lead P E ax j k
theorem tz_al0 {ax m : Nat} (h : st = 0) : ∀ k, tp_b 0 k = true ↔ tp_al c P E st ax m k := by
  intro k
  rw [tp_0]
  constructor
  · intro z; cases z
  · intro ⟨_, j, _, z, _⟩
    rw [h, tp_0] at z
    cases z
theorem tz_alz {ax : Nat} : ∀ k, tp_b 0 k = true ↔ tp_al c P E st ax 0 k := by
  intro k
  rw [tp_0]
  constructor
  · intro z; cases z
  · intro ⟨_, j, z, _⟩
    exact absurd z (Nat.not_lt_zero _)
theorem tz_aln {ax i : Nat} {x : Int64} (h : ∀ k, tp_b x k = true ↔ tp_al c P E st ax i k) (hb : tp_b st i = false) : ∀ k, tp_b (x ||| 0) k = true ↔ tp_al c P E st ax (i + 1) k := by
  intro k
  rw [tp_or, tp_0, Bool.or_false, h k]
  unfold tp_al
  rw [tz_ex1 (q := fun j => tp_b st j = true ∧ tp_lead P E ax j k) (fun z => by rw [hb] at z; exact absurd z.1 (by decide))]
theorem tz_aly {ax i : Nat} {x r : Int64} (h : ∀ k, tp_b x k = true ↔ tp_al c P E st ax i k) (hb : tp_b st i = true) (hr : ∀ k, tp_b r k = true ↔ k < c ∧ tp_lead P E ax i k) : ∀ k, tp_b (x ||| r) k = true ↔ tp_al c P E st ax (i + 1) k := by
  intro k
  rw [tp_or, Bool.or_eq_true, h k, hr k]
  unfold tp_al
  rw [tz_ex2 (q := fun j => tp_b st j = true ∧ tp_lead P E ax j k)]
  constructor
  · intro z
    rcases z with ⟨z1, z2⟩ | ⟨z1, z2⟩
    · exact ⟨z1, Or.inl z2⟩
    · exact ⟨z1, Or.inr ⟨hb, z2⟩⟩
  · intro ⟨z1, z2⟩
    rcases z2 with z2 | z2
    · exact Or.inl ⟨z1, z2⟩
    · exact Or.inr ⟨z1, z2.2⟩
theorem tz_al39 (hW : tp_wf c P E) (hs : ∀ i, tp_b st i = true → i < c) {ax w : Nat} {r : Int64} (hax : (ax = 3 ∧ w = 0) ∨ (ax = 9 ∧ w = 1)) (hr : ∀ i, tp_b r i = true ↔ (w = 1 ∧ tp_b st i = true) ∨ ∃ k, k < c ∧ tp_b st k = true ∧ tp_In E k i) : ∀ k, tp_b r k = true ↔ tp_al c P E st ax c k := by
  intro k
  rw [hr k]
  unfold tp_al
  rcases hax with ⟨q1, q2⟩ | ⟨q1, q2⟩
  · subst q1; subst q2
    constructor
    · intro z
      rcases z with ⟨z, -⟩ | ⟨j, z1, z2, z3⟩
      · omega
      · exact ⟨tw_lt hW z1 z3, j, z1, z2, z3⟩
    · intro ⟨_, j, z1, z2, z3⟩
      exact Or.inr ⟨j, z1, z2, z3⟩
  · subst q1; subst q2
    constructor
    · intro z
      rcases z with ⟨-, z⟩ | ⟨j, z1, z2, z3⟩
      · exact ⟨hs k z, k, hs k z, z, Or.inl rfl⟩
      · exact ⟨tw_lt hW z1 z3, j, z1, z2, Or.inr z3⟩
    · intro ⟨_, j, z1, z2, z3⟩
      rcases tl_9.mp z3 with w | w
      · rw [w]; exact Or.inl ⟨rfl, z2⟩
      · exact Or.inr ⟨j, z1, z2, w⟩
theorem tz_al4 (hs : ∀ i, tp_b st i = true → i < c) {ax w : Nat} {r : Int64} (hax : (ax = 4 ∧ w = 0) ∨ (ax = 10 ∧ w = 1)) (hr : ∀ i, tp_b r i = true ↔ (w = 1 ∧ tp_b st i = true) ∨ ∃ k, k < c ∧ tp_b st k = true ∧ tp_In E i k) : ∀ k, tp_b r k = true ↔ tp_al c P E st ax c k := by
  intro k
  rw [hr k]
  unfold tp_al
  rcases hax with ⟨q1, q2⟩ | ⟨q1, q2⟩
  · subst q1; subst q2
    constructor
    · intro z
      rcases z with ⟨z, -⟩ | ⟨j, z1, z2, z3⟩
      · omega
      · exact ⟨Nat.lt_trans z3.1 z1, j, z1, z2, z3⟩
    · intro ⟨_, j, z1, z2, z3⟩
      exact Or.inr ⟨j, z1, z2, z3⟩
  · subst q1; subst q2
    constructor
    · intro z
      rcases z with ⟨-, z⟩ | ⟨j, z1, z2, z3⟩
      · exact ⟨hs k z, k, hs k z, z, Or.inl rfl⟩
      · exact ⟨Nat.lt_trans z3.1 z1, j, z1, z2, Or.inr z3⟩
    · intro ⟨_, j, z1, z2, z3⟩
      rcases tl_10.mp z3 with w | w
      · rw [w]; exact Or.inl ⟨rfl, z2⟩
      · exact Or.inr ⟨j, z1, z2, w⟩
theorem tz_al7 (hW : tp_wf c P E) {q : Nat} {r : Int64} (hq : tp_lst E st c c q) (hr : ∀ i, tp_b r i = true ↔ q ≤ i ∧ i < c) : ∀ k, tp_b r k = true ↔ tp_al c P E st 7 c k := by
  intro k
  rw [hr k]
  unfold tp_al
  constructor
  · intro ⟨z1, z2⟩
    refine ⟨z2, ?_⟩
    rcases hq.2.1 with z | ⟨j, w1, w2, w3⟩
    · omega
    · have := tw_E hW w1
      exact ⟨j, w1, w2, tl_7.mpr ⟨by omega, fun z => by have := z.2; omega⟩⟩
  · intro ⟨z1, j, z2, z3, z4⟩
    have := hq.2.2 j z2 z3
    have z4 := tl_7.mp z4
    refine ⟨?_, z1⟩
    rcases Nat.lt_or_ge k (E j) with w | w
    · exact absurd ⟨z4.1, w⟩ z4.2
    · omega
theorem tz_al8 {n : Nat} {r : Int64} (hn : n < c) (hb : tp_b st n = true) (hmax : ∀ j, tp_b st j = true → j ≤ n) (hr : ∀ i, tp_b r i = true ↔ i < c ∧ tp_lead P E 8 n i) : ∀ k, tp_b r k = true ↔ tp_al c P E st 8 c k := by
  intro k
  rw [hr k]
  unfold tp_al
  constructor
  · intro ⟨z1, z2⟩; exact ⟨z1, n, hn, hb, z2⟩
  · intro ⟨z1, j, z2, z3, z4⟩
    have z4 := tl_8.mp z4
    have := hmax j z3
    refine ⟨z1, tl_8.mpr ⟨by omega, fun z => ?_⟩⟩
    exact z4.2 ⟨z4.1, by have := z.2; omega⟩
/-- the last of a set -/
theorem tz_last (hc : c ≤ 48) (hs : ∀ i, tp_b st i = true → i < c) {n : Nat} (hn : tp_b st n = true) (h : tp_c (tp_b st) n + 1 = tp_c (tp_b st) 48) : ∀ j, tp_b st j = true → j ≤ n := by
  intro j hj
  rcases Nat.lt_or_ge n j with w | w
  · have h1 := tp_c_lt w hn
    have h2 := tp_c_lt (show j < 48 by have := hs j hj; omega) hj
    omega
  · exact w
theorem tz_pos (hc : c ≤ 48) (hs : ∀ i, tp_b st i = true → i < c) (h : ¬ st = 0) : 1 ≤ tp_c (tp_b st) 48 := by
  obtain ⟨i, hi⟩ := tp_some h
  have := tp_c_lt (show i < 48 by have := hs i hi; omega) hi
  omega
end TPS
end
section
/-! places along an axis, small ints; plain -/
section TPN
noncomputable def tp_D (q : Nat → Prop) (i : Nat) : Bool := @decide (q i) (Classical.propDecidable (q i))
theorem tp_D_iff {q : Nat → Prop} {i : Nat} : tp_D q i = true ↔ q i := by
  unfold tp_D
  exact @decide_eq_true_iff (q i) (Classical.propDecidable (q i))
def tp_bw (ax : Nat) : Prop := ax = 4 ∨ ax = 6 ∨ ax = 8 ∨ ax = 10
def tp_wn (A : Nat) (pl : Int) : Int := if pl < 0 then A + pl + 1 else pl
/-- q has the place pl in f: 0 is any place -/
def tp_num (f : Nat → Bool) (bw : Prop) (pl : Int) (q : Nat) : Prop := f q = true ∧ (pl = 0 ∨ (bw ∧ (tp_c f 48 : Int) - tp_c f q = tp_wn (tp_c f 48) pl) ∨ (¬ bw ∧ (tp_c f q : Int) + 1 = tp_wn (tp_c f 48) pl))
theorem tn_z : (0 : Int32).toInt = 0 := by decide
theorem tn_le0 {x : Int32} : x ≤ 0 ↔ x.toInt ≤ 0 := by rw [Int32.le_iff_toInt_le, tn_z]
theorem tn_lt0 {x : Int32} : x < 0 ↔ x.toInt < 0 := by rw [Int32.lt_iff_toInt_lt, tn_z]
theorem tn_ge0 {x : Int32} : 0 ≤ x ↔ 0 ≤ x.toInt := by rw [Int32.le_iff_toInt_le, tn_z]
theorem tn_eq0 {x : Int32} : x = 0 ↔ x.toInt = 0 := by
  constructor
  · intro h; rw [h, tn_z]
  · intro h; exact Int32.toInt_inj.mp (by rw [h, tn_z])
theorem tn_sub {a b : Int32} (h1 : -1000 ≤ a.toInt ∧ a.toInt ≤ 1000) (h2 : -1000 ≤ b.toInt ∧ b.toInt ≤ 1000) : (a - b).toInt = a.toInt - b.toInt := by
  rw [Int32.toInt_sub]
  exact Int.bmod_eq_of_le (by omega) (by omega)
theorem tn_add {a b : Int32} (h1 : -1000 ≤ a.toInt ∧ a.toInt ≤ 1000) (h2 : -1000 ≤ b.toInt ∧ b.toInt ≤ 1000) : (a + b).toInt = a.toInt + b.toInt := by
  rw [Int32.toInt_add]
  exact Int.bmod_eq_of_le (by omega) (by omega)
theorem tn_i1 {A : Nat} {pl : Int32} (hp : 0 < pl.toInt ∧ pl.toInt ≤ 48) : (pl - nI 1).toInt = tp_wn A pl.toInt - 1 := by
  have h1 : (nI 1).toInt = 1 := by decide
  rw [tn_sub (by omega) (by omega), h1]
  unfold tp_wn
  rw [if_neg (by omega)]
theorem tn_i2 {A : Nat} {pl : Int32} (hA : A ≤ 48) (hp : pl.toInt < 0 ∧ -48 ≤ pl.toInt) : (nI A + pl).toInt = tp_wn A pl.toInt - 1 := by
  have h1 : (nI A).toInt = A := nI_toInt (by omega)
  rw [tn_add (by omega) (by omega), h1]
  unfold tp_wn
  rw [if_pos (by omega)]
  omega
theorem tn_wn {A : Nat} {pl : Int} (hA : A ≤ 48) (hp : -48 ≤ pl ∧ pl ≤ 48) : -100 ≤ tp_wn A pl ∧ tp_wn A pl ≤ 100 := by
  unfold tp_wn
  split <;> omega
theorem tn_j1 {A : Nat} {ix : Int32} {w : Int} (hA : A ≤ 48) (hw : -100 ≤ w ∧ w ≤ 100) (h : ix.toInt = w - 1) : (nI A - nI 1 - ix).toInt = A - w := by
  have h1 : (nI A).toInt = A := nI_toInt (by omega)
  have h2 : (nI 1).toInt = 1 := by decide
  have h3 : (nI A - nI 1).toInt = A - 1 := by rw [tn_sub (by omega) (by omega), h1, h2]
  rw [tn_sub (by omega) (by omega), h3, h]
  omega
/-- the rank that is asked for -/
theorem tn_ix {f : Nat → Bool} {bw : Prop} {pl ix : Int} (hp : ¬ pl = 0) (h : (bw ∧ ix = tp_c f 48 - tp_wn (tp_c f 48) pl) ∨ (¬ bw ∧ ix = tp_wn (tp_c f 48) pl - 1)) (q : Nat) : tp_num f bw pl q ↔ f q = true ∧ (tp_c f q : Int) = ix := by
  unfold tp_num
  constructor
  · intro ⟨h1, h2⟩
    refine ⟨h1, ?_⟩
    rcases h2 with z | ⟨z1, z2⟩ | ⟨z1, z2⟩
    · exact absurd z hp
    · rcases h with ⟨w1, w2⟩ | ⟨w1, w2⟩
      · omega
      · exact absurd z1 w1
    · rcases h with ⟨w1, w2⟩ | ⟨w1, w2⟩
      · exact absurd w1 z1
      · omega
  · intro ⟨h1, h2⟩
    refine ⟨h1, ?_⟩
    rcases h with ⟨w1, w2⟩ | ⟨w1, w2⟩
    · exact Or.inr (Or.inl ⟨w1, by omega⟩)
    · exact Or.inr (Or.inr ⟨w1, by omega⟩)
theorem tn_no {f : Nat → Bool} {bw : Prop} {pl ix : Int} (hf : ∀ q, f q = true → q < 48) (hn : ∀ q, tp_num f bw pl q ↔ f q = true ∧ (tp_c f q : Int) = ix) (h : ix < 0 ∨ (tp_c f 48 : Int) ≤ ix) : ∀ q, ¬ tp_num f bw pl q := by
  intro q hq
  obtain ⟨h1, h2⟩ := (hn q).mp hq
  have := tp_c_lt (hf q h1) h1
  omega
theorem tn_yes {f : Nat → Bool} {bw : Prop} {pl ix : Int} {j k : Nat} (hn : ∀ q, tp_num f bw pl q ↔ f q = true ∧ (tp_c f q : Int) = ix) (hj : ix = j) (hk : f k = true) (hc : tp_c f k = j) : ∀ q, tp_num f bw pl q ↔ q = k := by
  intro q
  rw [hn q]
  constructor
  · intro ⟨h1, h2⟩
    exact tp_c_inj h1 hk (by omega)
  · intro h; subst h; exact ⟨hk, by omega⟩
/-- placesAlong, after i nodes -/
def tp_pl (c : Nat) (P E N : Nat → Nat) (st : Int64) (ax t : Nat) (pl : Int) (i q : Nat) : Prop := ∃ j, j < i ∧ tp_b st j = true ∧ tp_num (tp_D (tp_F c P E N ax t j)) (tp_bw ax) pl q
variable {c : Nat} {P E N : Nat → Nat} {st : Int64} {ax t : Nat} {pl : Int}
theorem tn_f {r1 r2 : Int64} {n : Nat} (h1 : ∀ i, tp_b r1 i = true ↔ i < c ∧ tp_lead P E ax n i) (h2 : ∀ i, tp_b r2 i = true ↔ i < c ∧ tp_pass N t i) : tp_b (r1 &&& r2) = tp_D (tp_F c P E N ax t n) := by
  funext i
  apply Bool.eq_iff_iff.mpr
  rw [tp_D_iff, tp_and, Bool.and_eq_true, h1 i, h2 i]
  unfold tp_F
  constructor
  · intro ⟨z1, z2⟩; exact ⟨z1.1, z1.2, z2.2⟩
  · intro ⟨z1, z2, z3⟩; exact ⟨⟨z1, z2⟩, z1, z3⟩
theorem tn_Flt (hc : c ≤ 48) {n q : Nat} (h : tp_D (tp_F c P E N ax t n) q = true) : q < 48 := by
  have := (tp_D_iff.mp h).1
  omega
theorem tn_pl0 : ∀ q, tp_b 0 q = true ↔ tp_pl c P E N st ax t pl 0 q := by
  intro q
  rw [tp_0]
  constructor
  · intro z; cases z
  · intro ⟨j, z, _⟩; exact absurd z (Nat.not_lt_zero _)
theorem tn_pln {i : Nat} {x : Int64} (h : ∀ q, tp_b x q = true ↔ tp_pl c P E N st ax t pl i q) (hb : tp_b st i = false) : ∀ q, tp_b x q = true ↔ tp_pl c P E N st ax t pl (i + 1) q := by
  intro q
  rw [h q]
  unfold tp_pl
  rw [tz_ex1 (q := fun j => tp_b st j = true ∧ tp_num (tp_D (tp_F c P E N ax t j)) (tp_bw ax) pl q) (fun z => by rw [hb] at z; exact absurd z.1 (by decide))]
theorem tn_ply {i : Nat} {x y : Int64} (h : ∀ q, tp_b x q = true ↔ tp_pl c P E N st ax t pl i q) (hb : tp_b st i = true) (hy : ∀ q, tp_b y q = true ↔ tp_num (tp_D (tp_F c P E N ax t i)) (tp_bw ax) pl q) : ∀ q, tp_b (x ||| y) q = true ↔ tp_pl c P E N st ax t pl (i + 1) q := by
  intro q
  rw [tp_or, Bool.or_eq_true, h q, hy q]
  unfold tp_pl
  rw [tz_ex2 (q := fun j => tp_b st j = true ∧ tp_num (tp_D (tp_F c P E N ax t j)) (tp_bw ax) pl q)]
  constructor
  · intro z
    rcases z with z | z
    · exact Or.inl z
    · exact Or.inr ⟨hb, z⟩
  · intro z
    rcases z with z | z
    · exact Or.inl z
    · exact Or.inr z.2
theorem tn_y0 {f : Nat → Prop} (h : ∀ q, ¬ f q) : ∀ q, tp_b 0 q = true ↔ f q := by
  intro q
  rw [tp_0]
  exact ⟨fun z => (by cases z), fun z => absurd z (h q)⟩
theorem tn_y1 {f : Nat → Prop} {k : Nat} (hk : k < 48) (h : ∀ q, f q ↔ q = k) : ∀ q, tp_b (tp_1 k) q = true ↔ f q := by
  intro q
  rw [tp_1b (by omega), decide_eq_true_eq, h q]
/-- node: the set's node with so many lesser ones -/
def tp_nd (st : Int64) (ix r : Int32) : Prop := (ix < 0 ∧ r = -1) ∨ ∃ j, j < 2 ^ 31 ∧ ix = nI j ∧ tp_rk (tp_b st) j 48 r
theorem tn_nd {st : Int64} {ix r r' : Int32} (h : tp_nd st ix r) (h' : tp_nd st ix r') : r = r' := by
  rcases h with ⟨h1, h2⟩ | ⟨j, h1, h2, h3⟩ <;> rcases h' with ⟨g1, g2⟩ | ⟨j', g1, g2, g3⟩
  · rw [h2, g2]
  · rw [g2] at h1; exact absurd h1 (nI_pos g1)
  · rw [h2] at g1; exact absurd g1 (nI_pos h1)
  · have : j = j' := (nI_eq h1 g1).mp (h2.symm.trans g2)
    subst this
    exact tp_rk_uniq h3 g3
/-- sum: of the texts of the set -/
def tp_sm (f : Nat → Bool) (N : Nat → Nat) (v : Nat → Int32) : Nat → Int32
  | 0 => 0
  | n + 1 => tp_sm f N v n + (if f n = true ∧ N n = 8 then v n else 0)
theorem tn_smy {f : Nat → Bool} {N : Nat → Nat} {v : Nat → Int32} {i : Nat} (h : f i = true) (h2 : N i = 8) : tp_sm f N v (i + 1) = tp_sm f N v i + v i := by
  show _ + _ = _
  rw [if_pos ⟨h, h2⟩]
theorem tn_smn {f : Nat → Bool} {N : Nat → Nat} {v : Nat → Int32} {i : Nat} (h : ¬ (f i = true ∧ N i = 8)) : tp_sm f N v (i + 1) = tp_sm f N v i + 0 := by
  show _ + _ = _
  rw [if_neg h]
theorem tn_smz {f : Nat → Bool} {N : Nat → Nat} {v : Nat → Int32} {i : Nat} (h : ¬ (f i = true ∧ N i = 8)) : tp_sm f N v (i + 1) = tp_sm f N v i := by
  rw [tn_smn h, Int32.add_zero]
end TPN
end
section
/-! steps of the model's loops; plain -/
section TPMo
variable {c : Nat} {P E : Nat → Nat}
/-- the model's above: where it stands -/
def tp_sk (E : Nat → Nat) (a n : Nat) (at' : Int32) (k : Nat) : Prop := (at' = -1 ∧ k = 0 ∧ ¬ tp_In E a n) ∨ (∃ y, at' = nI y ∧ y < n ∧ k = y + 1 ∧ (tp_In E a n ↔ a = y ∨ tp_In E a y))
theorem tk_0 (h : tp_wf c P E) {a n : Nat} (hn : n < c) : ∃ k, k ≤ n ∧ tp_sk E a n (tp_pa P n) k := by
  rcases Nat.eq_zero_or_pos n with q | q
  · subst q
    exact ⟨0, Nat.le_refl 0, Or.inl ⟨rfl, rfl, tw_no0⟩⟩
  · have hp := tw_P h q hn
    exact ⟨P n + 1, by omega, Or.inr ⟨P n, tp_pas q, hp, rfl, tw_up h q hn a⟩⟩
theorem tk_s (h : tp_wf c P E) {a n y : Nat} (hn : n < c) (hy : y < n) (hx : tp_In E a n ↔ a = y ∨ tp_In E a y) (ha : ¬ y = a) : ∃ k, k ≤ y ∧ tp_sk E a n (tp_pa P y) k := by
  rcases Nat.eq_zero_or_pos y with q | q
  · subst q
    refine ⟨0, Nat.le_refl 0, Or.inl ⟨rfl, rfl, fun z => ?_⟩⟩
    rcases hx.mp z with w | w
    · exact ha w.symm
    · exact tw_no0 w
  · have hp := tw_P h q (by omega)
    refine ⟨P y + 1, by omega, Or.inr ⟨P y, tp_pas q, by omega, rfl, ?_⟩⟩
    rw [hx, tw_up h q (by omega) a]
    constructor
    · intro z
      rcases z with z | z
      · exact absurd z.symm ha
      · exact z
    · intro z; exact Or.inr z
theorem tk_nad {x : Int64} {i : Nat} {q : Nat → Prop} (h : ∀ k, tp_b x k = true ↔ k < i ∧ q k) (hq : ¬ q i) : ∀ k, tp_b x k = true ↔ k < i + 1 ∧ q k := by
  intro k
  have := tp_nadd h hq k
  rw [tp_or, tp_0, Bool.or_false] at this
  exact this
theorem tk_dad {x : Int64} {i m : Nat} {q : Nat → Prop} (hm : i = m + 1) (h64 : m < 64) (h : ∀ k, tp_b x k = true ↔ i ≤ k ∧ q k) (hq : q m) : ∀ k, tp_b (x ||| tp_1 m) k = true ↔ m ≤ k ∧ q k := by
  intro k
  rw [tp_or, tp_1b h64, Bool.or_eq_true, decide_eq_true_eq, h k]
  constructor
  · intro z
    rcases z with z | z
    · exact ⟨by omega, z.2⟩
    · subst z; exact ⟨Nat.le_refl _, hq⟩
  · intro z
    rcases Nat.lt_or_ge m k with w | w
    · exact Or.inl ⟨by omega, z.2⟩
    · exact Or.inr (by omega)
theorem tk_dno {x : Int64} {i m : Nat} {q : Nat → Prop} (hm : i = m + 1) (h : ∀ k, tp_b x k = true ↔ i ≤ k ∧ q k) (hq : ¬ q m) : ∀ k, tp_b x k = true ↔ m ≤ k ∧ q k := by
  intro k
  rw [h k]
  constructor
  · intro z; exact ⟨by omega, z.2⟩
  · intro z
    rcases Nat.lt_or_ge m k with w | w
    · exact ⟨by omega, z.2⟩
    · have : k = m := by omega
      subst this
      exact absurd z.2 hq
theorem tk_eqw {k : Nat} {w : Int32} (hk : k < 2 ^ 31) : nI k = w ↔ (k : Int) = w.toInt := by
  constructor
  · intro h; rw [← h, nI_toInt hk]
  · intro h; exact Int32.toInt_inj.mp (by rw [nI_toInt hk, h])
theorem tk_num {f : Nat → Bool} {bw : Prop} {pl : Int} {q : Nat} : tp_num f bw pl q → f q = true := fun h => h.1
theorem tk_fw {f : Nat → Bool} {bw : Prop} {pl : Int} {q : Nat} (hb : ¬ bw) (hf : f q = true) : tp_num f bw pl q ↔ pl = 0 ∨ (tp_c f q : Int) + 1 = tp_wn (tp_c f 48) pl := by
  unfold tp_num
  constructor
  · intro ⟨_, z⟩
    rcases z with z | z | z
    · exact Or.inl z
    · exact absurd z.1 hb
    · exact Or.inr z.2
  · intro z
    rcases z with z | z
    · exact ⟨hf, Or.inl z⟩
    · exact ⟨hf, Or.inr (Or.inr ⟨hb, z⟩)⟩
theorem tk_bk {f : Nat → Bool} {bw : Prop} {pl : Int} {q : Nat} (hb : bw) (hf : f q = true) : tp_num f bw pl q ↔ pl = 0 ∨ (tp_c f 48 : Int) - tp_c f q = tp_wn (tp_c f 48) pl := by
  unfold tp_num
  constructor
  · intro ⟨_, z⟩
    rcases z with z | z | z
    · exact Or.inl z
    · exact Or.inr z.2
    · exact absurd hb z.1
  · intro z
    rcases z with z | z
    · exact ⟨hf, Or.inl z⟩
    · exact ⟨hf, Or.inr (Or.inl ⟨hb, z⟩)⟩
theorem tk_w1 {A : Nat} {pl : Int32} (hA : A ≤ 48) (hp : pl.toInt < 0 ∧ -48 ≤ pl.toInt) : (nI A + pl + nI 1).toInt = tp_wn A pl.toInt := by
  have h0 := tn_i2 hA hp
  have h1 : (nI 1).toInt = 1 := by decide
  have h2 := tn_wn (pl := pl.toInt) hA (by omega)
  rw [tn_add (by omega) (by omega), h0, h1]
  omega
theorem tk_w2 {A : Nat} {pl : Int32} (hp : 0 ≤ pl.toInt) : pl.toInt = tp_wn A pl.toInt := by
  unfold tp_wn
  rw [if_neg (by omega)]
/-- the whole count: nothing lies behind the last node -/
theorem tk_all {N : Nat → Nat} {ax t n : Nat} (hc : c ≤ 48) : tp_c (tp_D (tp_F c P E N ax t n)) 48 = tp_c (tp_D (tp_F c P E N ax t n)) c := by
  refine tp_c_end hc (fun i h1 h2 => ?_)
  cases hb : tp_D (tp_F c P E N ax t n) i
  · rfl
  · have := (tp_D_iff.mp hb).1
    omega
theorem tk_yes {N : Nat → Nat} {ax t n i : Nat} (h1 : i < c) (h2 : tp_lead P E ax n i) (h3 : tp_pass N t i) : tp_D (tp_F c P E N ax t n) i = true := tp_D_iff.mpr ⟨h1, h2, h3⟩
theorem tk_no {N : Nat → Nat} {ax t n i : Nat} (h : ¬ (tp_lead P E ax n i ∧ tp_pass N t i)) : tp_D (tp_F c P E N ax t n) i = false := by
  cases hb : tp_D (tp_F c P E N ax t n) i
  · rfl
  · exact absurd (tp_D_iff.mp hb).2 h
theorem tk_rkc {f : Nat → Bool} {j : Nat} {r : Int32} (hc : c ≤ 48) (hf : ∀ i, f i = true → i < c) (h : tp_rk f j c r) : tp_rk f j 48 r := by
  rcases h with ⟨h1, h2⟩ | ⟨k, h1, h2, h3⟩
  · refine Or.inl ⟨h1, ?_⟩
    rw [tp_c_end hc (fun i z1 z2 => ?_)]
    · exact h2
    · cases hb : f i
      · rfl
      · have := hf i hb; omega
  · exact Or.inr ⟨k, by omega, h2, h3⟩
end TPMo
end
section
/-! what changes a tree: appending, removing; plain -/
section TPU
/-- the ends after a node was appended below o -/
def tp_E1 (E : Nat → Nat) (c o a : Nat) : Nat := if a = c then c + 1 else if a = o ∨ (a < o ∧ o < E a) then c + 1 else E a
/-- append: the way up, where it stands -/
def tp_apd (E : Nat → Nat) (c o : Nat) (e : Nat → Int32) (at' : Int32) (k : Nat) : Prop := e c = nI (c + 1) ∧ ((at' = -1 ∧ k = 0 ∧ ∀ a, a < c → e a = nI (tp_E1 E c o a)) ∨ (∃ y, at' = nI y ∧ k = y + 1 ∧ (y = o ∨ tp_In E y o) ∧ ∀ a, a < c → e a = nI (if (a = o ∨ (a < o ∧ o < E a)) ∧ ¬ (a = y ∨ (a < y ∧ y < E a)) then c + 1 else E a)))
variable {c o : Nat} {P E : Nat → Nat}
theorem tu_0 {en : Nat → Int32} (h : ∀ k, k < c → en k = nI (E k)) : tp_apd E c o (upd en c (nI (c + 1))) (nI o) (o + 1) := by
  refine ⟨pk_us, Or.inr ⟨o, rfl, rfl, Or.inl rfl, fun a ha => ?_⟩⟩
  rw [pk_un (by omega), h a ha, if_neg (fun z => z.2 z.1)]
theorem tu_s (hW : tp_wf c P E) (ho : o < c) {e : Nat → Int32} {y : Nat} (hc : e c = nI (c + 1)) (hy : y = o ∨ tp_In E y o) (h : ∀ a, a < c → e a = nI (if (a = o ∨ (a < o ∧ o < E a)) ∧ ¬ (a = y ∨ (a < y ∧ y < E a)) then c + 1 else E a)) : ∃ k, k ≤ y ∧ tp_apd E c o (upd e y (nI (c + 1))) (tp_pa P y) k := by
  have hyc : y < c := by
    rcases hy with z | z
    · omega
    · have := z.1; omega
  have hce : upd e y (nI (c + 1)) c = nI (c + 1) := by rw [pk_un (by omega)]; exact hc
  rcases Nat.eq_zero_or_pos y with q | q
  · subst q
    refine ⟨0, Nat.le_refl _, hce, Or.inl ⟨rfl, rfl, fun a ha => ?_⟩⟩
    unfold tp_E1
    rw [if_neg (by omega)]
    by_cases z : a = 0
    · subst z
      rw [pk_us, if_pos ?_]
      rcases hy with w | w
      · exact Or.inl w
      · exact Or.inr w
    · rw [pk_un z, h a ha]
      congr 1
      by_cases w : a = o ∨ (a < o ∧ o < E a)
      · rw [if_pos ⟨w, fun x => by omega⟩, if_pos w]
      · rw [if_neg (fun x => w x.1), if_neg w]
  · have hp := tw_P hW q hyc
    have hyy := tw_par hW q hyc
    refine ⟨P y + 1, by omega, hce, Or.inr ⟨P y, tp_pas q, rfl, ?_, fun a ha => ?_⟩⟩
    · rcases hy with w | w
      · rw [← w]; exact Or.inr hyy
      · exact Or.inr (tw_tr hW hyy o ho w)
    · have hup := tw_up hW q hyc a
      unfold tp_In at hup
      by_cases z : a = y
      · subst z
        have hG : a = o ∨ (a < o ∧ o < E a) := hy
        have hN : ¬ (a = P a ∨ (a < P a ∧ P a < E a)) := fun x => by omega
        rw [pk_us, if_pos ⟨hG, hN⟩]
      · rw [pk_un z, h a ha]
        congr 1
        by_cases w : (a = o ∨ (a < o ∧ o < E a)) ∧ ¬ (a = y ∨ (a < y ∧ y < E a))
        · rw [if_pos w, if_pos ⟨w.1, fun x => w.2 (Or.inr (hup.mpr x))⟩]
        · rw [if_neg w, if_neg (fun x => w ⟨x.1, fun v => v.elim z (fun v => x.2 (hup.mp v))⟩)]
theorem tu_wf (hW : tp_wf c P E) (ho : o < c) (hE : E o = c) (hc : c < 48) : tp_wf (c + 1) (va_up P c o) (tp_E1 E c o) := by
  have hEx : ∀ a, a < c → (a = o ∨ (a < o ∧ o < E a)) → E a = c := by
    intro a ha h
    rcases h with z | z
    · rw [z]; exact hE
    · have h1 := tw_nest hW ho (a := a) z
      have h2 := (tw_E hW ha).2
      omega
  have hP : ∀ n, n < c → va_up P c o n = P n := fun n hn => by unfold va_up; rw [if_neg (by omega)]
  have hPc : va_up P c o c = o := by unfold va_up; rw [if_pos rfl]
  refine ⟨⟨by omega, by omega⟩, fun n h0 hn => ?_, fun n hn => ?_, fun n a h0 hn ha => ?_⟩
  · rcases Nat.lt_or_ge n c with z | z
    · rw [hP n z]; exact tw_P hW h0 z
    · rw [show n = c by omega, hPc]; exact ho
  · unfold tp_E1
    rcases Nat.lt_or_ge n c with z | z
    · rw [if_neg (by omega)]
      have := tw_E hW z
      split <;> omega
    · rw [if_pos (by omega)]; omega
  · unfold tp_E1
    rw [if_neg (show ¬ a = c by omega)]
    rcases Nat.lt_or_ge n c with z | z
    · rw [hP n z]
      have h1 := tw_A hW h0 z ha
      have h2 := tw_P hW h0 z
      by_cases w : a = o ∨ (a < o ∧ o < E a)
      · rw [if_pos w]
        have := hEx a (by omega) w
        omega
      · rw [if_neg w]; exact h1
    · rw [show n = c by omega, hPc]
      by_cases w : a = o ∨ (a < o ∧ o < E a)
      · rw [if_pos w]; omega
      · rw [if_neg w]
        have := tw_E hW (show a < c by omega)
        omega
theorem tu_Ec : tp_E1 E c o c = c + 1 := by unfold tp_E1; rw [if_pos rfl]
theorem tu_Eo (ho : o < c) : tp_E1 E c o o = c + 1 := by unfold tp_E1; rw [if_neg (by omega), if_pos (Or.inl rfl)]
theorem tu_pa {pa : Nat → Int32} (hc : 1 ≤ c) (h : ∀ k, k < c → pa k = tp_pa P k) : ∀ k, k < c + 1 → upd pa c (nI o) k = tp_pa (va_up P c o) k := by
  intro k hk
  unfold tp_pa va_up
  by_cases z : k = c
  · subst z; rw [pk_us, if_neg (by omega), if_pos rfl]
  · rw [pk_un z, h k (by omega)]
    unfold tp_pa
    rw [if_neg z]
/-- removing the nodes from d up to e: the new number's old one -/
def tp_ph (d g a : Nat) : Nat := if a < d then a else a + g
def tp_P2 (P : Nat → Nat) (d e a : Nat) : Nat := if a < d then P a else if e ≤ P (a + (e - d)) then P (a + (e - d)) - (e - d) else P (a + (e - d))
def tp_E2 (E : Nat → Nat) (d e a : Nat) : Nat := if a < d then (if e ≤ E a then E a - (e - d) else E a) else E (a + (e - d)) - (e - d)
theorem tu_out (hW : tp_wf c P E) {d m : Nat} (hd : d < c) (hm : m < c) (h0 : 0 < m) (hme : E d ≤ m) : P m < d ∨ E d ≤ P m := by
  rcases Nat.lt_or_ge (P m) d with z | z
  · exact Or.inl z
  · rcases Nat.lt_or_ge (P m) (E d) with w | w
    · exfalso
      have hp := tw_par hW h0 hm
      have hed := tw_E hW hd
      rcases Nat.lt_or_ge d (P m) with v | v
      · have := (tw_tr hW ⟨v, w⟩ m hm hp).2
        omega
      · have : P m = d := by omega
        rw [this] at hp
        have := hp.2
        omega
    · exact Or.inr w
theorem tu_wf2 (hW : tp_wf c P E) {d : Nat} (hd1 : 1 ≤ d) (hd : d < c) : tp_wf (c - (E d - d)) (tp_P2 P d (E d)) (tp_E2 E d (E d)) := by
  have hc := tw_c hW
  have hed := tw_E hW hd
  obtain ⟨e, he⟩ : ∃ e, e = E d := ⟨_, rfl⟩
  obtain ⟨g, hg⟩ : ∃ g, g = e - d := ⟨_, rfl⟩
  have hlam : ∀ a, a < d → E a ≤ d ∨ e ≤ E a := by
    intro a ha
    rcases Nat.lt_or_ge d (E a) with z | z
    · right; have := tw_nest hW hd (a := a) ⟨ha, z⟩; omega
    · exact Or.inl z
  have hout : ∀ m, m < c → e ≤ m → P m < d ∨ e ≤ P m := by
    intro m h1 h2
    rw [he]; exact tu_out hW hd h1 (by omega) (by omega)
  have hkey : ∀ n a, n < c - g → a < c - g → (n < tp_E2 E d e a ↔ tp_ph d g n < E (tp_ph d g a)) := by
    intro n a hn ha
    unfold tp_E2 tp_ph
    rw [← hg]
    by_cases z : a < d
    · rw [if_pos z, if_pos z]
      have h1 := hlam a z
      by_cases w : n < d
      · rw [if_pos w]; split <;> omega
      · rw [if_neg w]; split <;> omega
    · rw [if_neg z, if_neg z]
      have h1 := tw_E hW (show a + g < c by omega)
      by_cases w : n < d
      · rw [if_pos w]; omega
      · rw [if_neg w]; omega
  have hPk : ∀ n, 0 < n → n < c - g → tp_ph d g (tp_P2 P d e n) = P (tp_ph d g n) ∧ tp_P2 P d e n < n := by
    intro n h0 hn
    unfold tp_P2 tp_ph
    rw [← hg]
    by_cases z : n < d
    · have := tw_P hW h0 (show n < c by omega)
      rw [if_pos z, if_pos z, if_pos (by omega)]
      exact ⟨rfl, this⟩
    · rw [if_neg z, if_neg z]
      have h1 := tw_P hW (show 0 < n + g by omega) (by omega)
      have h2 := hout (n + g) (by omega) (by omega)
      by_cases w : e ≤ P (n + g)
      · rw [if_pos w, if_neg (by omega)]; omega
      · rw [if_neg w, if_pos (by omega)]; omega
  rw [← he, ← hg]
  refine ⟨⟨by omega, by omega⟩, fun n h0 hn => (hPk n h0 hn).2, fun n hn => ?_, fun n a h0 hn ha => ?_⟩
  · unfold tp_E2
    rw [← hg]
    by_cases z : n < d
    · rw [if_pos z]
      have h1 := hlam n z
      have h2 := tw_E hW (show n < c by omega)
      split <;> omega
    · rw [if_neg z]
      have h2 := tw_E hW (show n + g < c by omega)
      omega
  · obtain ⟨k1, k2⟩ := hPk n h0 hn
    rw [hkey n a hn (by omega), hkey (tp_P2 P d e n) a (by omega) (by omega)]
    have hmono : ∀ x y, (tp_ph d g x = tp_ph d g y ↔ x = y) ∧ (tp_ph d g x < tp_ph d g y ↔ x < y) := by
      intro x y
      unfold tp_ph
      constructor <;> (repeat' split) <;> omega
    rw [← (hmono a (tp_P2 P d e n)).1, ← (hmono a (tp_P2 P d e n)).2, k1]
    refine tw_A hW ?_ ?_ ?_
    · unfold tp_ph; split <;> omega
    · unfold tp_ph; split <;> omega
    · exact (hmono a n).2.mpr ha
/-- a moved array, after the places up to i -/
def tp_mv (d g i : Nat) (f f' : Nat → Int32) (F : Nat → Int32) : Prop := ∀ a, a < 48 → f' a = if d ≤ a ∧ a + g < i then F a else f a
theorem tu_mv0 {d g i : Nat} {f F : Nat → Int32} (h : i = d + g) : tp_mv d g i f f F := by
  intro a _
  rw [if_neg (by omega)]
theorem tu_mvs {d g i : Nat} {f f' F : Nat → Int32} {x : Int32} (hi : d + g ≤ i) (h : tp_mv d g i f f' F) (hx : x = F (i - g)) : tp_mv d g (i + 1) f (upd f' (i - g) x) F := by
  intro a ha
  by_cases z : a = i - g
  · subst z
    rw [pk_us, if_pos (by omega)]
    exact hx
  · rw [pk_un z, h a ha]
    by_cases w : d ≤ a ∧ a + g < i
    · rw [if_pos w, if_pos (by omega)]
    · rw [if_neg w, if_neg (by omega)]
/-- what is read at i is still as it was -/
theorem tu_mvr {d g i : Nat} {f f' F : Nat → Int32} (hi : i < 48) (h : tp_mv d g i f f' F) : f' i = f i := by
  rw [h i hi, if_neg (by omega)]
/-- remove's first loop -/
def tp_r1 (E : Nat → Nat) (c d e i : Nat) (f : Nat → Int32) : Prop := ∀ a, a < c → f a = nI (if a < i ∧ e ≤ E a then E a - (e - d) else E a)
theorem tu_r0 {d e : Nat} {f : Nat → Int32} (h : ∀ a, a < c → f a = nI (E a)) : tp_r1 E c d e 0 f := by
  intro a ha
  rw [h a ha, if_neg (by omega)]
theorem tu_rs {d e i : Nat} {f : Nat → Int32} (h : tp_r1 E c d e i f) (hi : e ≤ E i) : tp_r1 E c d e (i + 1) (upd f i (nI (E i - (e - d)))) := by
  intro a ha
  by_cases z : a = i
  · subst z; rw [pk_us, if_pos ⟨by omega, hi⟩]
  · rw [pk_un z, h a ha]
    by_cases w : a < i ∧ e ≤ E a
    · rw [if_pos w, if_pos (by omega)]
    · rw [if_neg w, if_neg (by omega)]
theorem tu_rn {d e i : Nat} {f : Nat → Int32} (h : tp_r1 E c d e i f) (hi : ¬ e ≤ E i) : tp_r1 E c d e (i + 1) (upd f i (nI (E i))) := by
  intro a ha
  by_cases z : a = i
  · subst z; rw [pk_us, if_neg (by omega)]
  · rw [pk_un z, h a ha]
    by_cases w : a < i ∧ e ≤ E a
    · rw [if_pos w, if_pos (by omega)]
    · rw [if_neg w, if_neg (by omega)]
theorem tu_rr {d e i : Nat} {f : Nat → Int32} (h : tp_r1 E c d e i f) (hi : i < c) : f i = nI (E i) := by
  rw [h i hi, if_neg (by omega)]
theorem tu_rd {d e j : Nat} {f : Nat → Int32} (h : tp_r1 E c d e d f) (hj : j < c) (hd : d ≤ j) : f j = nI (E j) := by
  rw [h j hj, if_neg (by omega)]
end TPU
/-- mix -/
def tp_mx (kd : Int32) (a b : Int64) : Int64 := if kd = 0 then a &&& b else if kd = nI 1 then a ||| b else a &&& (b ^^^ (-1))
/-- having: whether the axis finds something -/
def tp_hv (c : Nat) (P E N : Nat → Nat) (ax t q : Nat) : Prop := ∃ m, tp_F c P E N ax t q m
/-- valued: a text with a value within -/
def tp_tv (N : Nat → Nat) (vl : Nat → Int32) (lo hi : Int32) (k : Nat) : Prop := N k = 8 ∧ lo ≤ vl k ∧ vl k ≤ hi
def tp_gv (c : Nat) (E N : Nat → Nat) (vl : Nat → Int32) (lo hi : Int32) (q : Nat) : Prop := ∃ m, m < c ∧ (m = q ∨ tp_In E q m) ∧ tp_tv N vl lo hi m
section TPV
variable {c : Nat} {P E N : Nat → Nat} {st : Int64} {ax t : Nat}
theorem ty_0 {r1 thr : Int64} (h1 : ∀ i, tp_b r1 i = true ↔ tp_al c P E st ax c i) (h2 : ∀ i, tp_b thr i = true ↔ i < c ∧ tp_pass N t i) : ∀ q, tp_b (r1 &&& thr) q = true ↔ tp_pl c P E N st ax t 0 c q := by
  intro q
  rw [tp_and, Bool.and_eq_true, h1 q, h2 q]
  unfold tp_al tp_pl tp_num
  constructor
  · intro ⟨⟨z1, j, z2, z3, z4⟩, z5, z6⟩
    exact ⟨j, z2, z3, tp_D_iff.mpr ⟨z1, z4, z6⟩, Or.inl rfl⟩
  · intro ⟨j, z2, z3, z4, _⟩
    obtain ⟨z5, z6, z7⟩ := tp_D_iff.mp z4
    exact ⟨⟨z5, j, z2, z3, z6⟩, z5, z7⟩
theorem ty_hv {r1 thr : Int64} {n : Nat} (h1 : ∀ i, tp_b r1 i = true ↔ i < c ∧ tp_lead P E ax n i) (h2 : ∀ i, tp_b thr i = true ↔ i < c ∧ tp_pass N t i) : r1 &&& thr = 0 ↔ ¬ tp_hv c P E N ax t n := by
  have hf := tn_f h1 h2
  constructor
  · intro h ⟨m, hm⟩
    have : tp_b (r1 &&& thr) m = true := by rw [hf]; exact tp_D_iff.mpr hm
    rw [h, tp_0] at this
    cases this
  · intro h
    apply Classical.byContradiction
    intro z
    obtain ⟨m, hm⟩ := tp_some z
    rw [hf] at hm
    exact h ⟨m, tp_D_iff.mp hm⟩
/-- a set filtered up to i -/
def tp_fl (st : Int64) (q : Nat → Prop) (i : Nat) (x : Int64) : Prop := ∀ k, tp_b x k = true ↔ tp_b st k = true ∧ (k < i → q k)
theorem ty_f0 {q : Nat → Prop} : tp_fl st q 0 st := fun k => ⟨fun h => ⟨h, fun z => absurd z (Nat.not_lt_zero _)⟩, fun h => h.1⟩
theorem ty_at {q : Nat → Prop} {i : Nat} {x : Int64} (h : tp_fl st q i x) : tp_b x i = tp_b st i := Bool.eq_iff_iff.mpr ((h i).trans ⟨fun z => z.1, fun z => ⟨z, fun y => absurd y (Nat.lt_irrefl _)⟩⟩)
theorem ty_ok {q : Nat → Prop} {i : Nat} {x : Int64} (h : tp_fl st q i x) (hq : tp_b st i = true → q i) : tp_fl st q (i + 1) x := by
  intro k
  rw [h k]
  constructor
  · intro z
    refine ⟨z.1, fun y => ?_⟩
    rcases Nat.lt_or_ge k i with w | w
    · exact z.2 w
    · have : k = i := by omega
      subst this
      exact hq z.1
  · intro z; exact ⟨z.1, fun y => z.2 (by omega)⟩
theorem ty_ok1 {q : Nat → Prop} {i : Nat} {x : Int64} (h : tp_fl st q i x) (hq : tp_b st i = true → q i) : tp_fl st q (i + 1) (x &&& (-1)) := by
  have e : x &&& (-1) = x := tp_ext (fun k hk => by rw [tp_and, tp_all]; simp [hk])
  rw [e]
  exact ty_ok h hq
theorem ty_out {q : Nat → Prop} {i : Nat} {x : Int64} (hi : i < 64) (h : tp_fl st q i x) (hq : ¬ q i) : tp_fl st q (i + 1) (x &&& (tp_1 i ^^^ (-1))) := by
  intro k
  rw [tp_and, tp_not, tp_1b hi, Bool.and_eq_true, Bool.and_eq_true, decide_eq_true_eq, Bool.not_eq_true', decide_eq_false_iff_not, h k]
  constructor
  · intro ⟨z1, z2, z3⟩
    exact ⟨z1.1, fun y => z1.2 (by omega)⟩
  · intro ⟨z1, z2⟩
    refine ⟨⟨z1, fun y => z2 (by omega)⟩, tp_lt z1, fun y => ?_⟩
    subst y
    exact hq (z2 (by omega))
theorem ty_end {q : Nat → Prop} {x : Int64} (hs : ∀ k, tp_b st k = true → k < c) (h : tp_fl st q c x) : ∀ k, tp_b x k = true ↔ tp_b st k = true ∧ q k := by
  intro k
  rw [h k]
  constructor
  · intro z; exact ⟨z.1, z.2 (hs k z.1)⟩
  · intro z; exact ⟨z.1, fun _ => z.2⟩
/-- valued: the texts below a node -/
theorem ty_gv {vl : Nat → Int32} {lo hi : Int32} {x r : Int64} {n : Nat} (hW : tp_wf c P E) (hn : n < c) (hx : ∀ k, tp_b x k = true ↔ k < c ∧ tp_tv N vl lo hi k) (hr : ∀ k, tp_b r k = true ↔ n ≤ k ∧ k < E n) : x &&& r = 0 ↔ ¬ tp_gv c E N vl lo hi n := by
  have he := tw_E hW hn
  constructor
  · intro h ⟨m, h1, h2, h3⟩
    have : tp_b (x &&& r) m = true := by
      rw [tp_and, Bool.and_eq_true, hx m, hr m]
      refine ⟨⟨h1, h3⟩, ?_⟩
      rcases h2 with z | z
      · omega
      · have := z.1; have := z.2; omega
    rw [h, tp_0] at this
    cases this
  · intro h
    apply Classical.byContradiction
    intro z
    obtain ⟨m, hm⟩ := tp_some z
    rw [tp_and, Bool.and_eq_true, hx m, hr m] at hm
    refine h ⟨m, hm.1.1, ?_, hm.1.2⟩
    rcases Nat.lt_or_ge n m with w | w
    · exact Or.inr ⟨w, hm.2.2⟩
    · exact Or.inl (by omega)
theorem ty_mand {gd : Int64} {q : Nat → Prop} (hs : ∀ k, tp_b st k = true → k < c) (h : ∀ k, tp_b gd k = true ↔ k < c ∧ q k) : ∀ k, tp_b (st &&& gd) k = true ↔ tp_b st k = true ∧ q k := by
  intro k
  rw [tp_and, Bool.and_eq_true, h k]
  constructor
  · intro z; exact ⟨z.1, z.2.2⟩
  · intro z; exact ⟨z.1, hs k z.1, z.2⟩
end TPV
end
section
/-! methods that write: their start, their end, their call -/
abbrev tp_Pm (D : va_G) (tys : List (ClassId × FieldType)) (ws : va_W) (sz : Nat) (av : List Value) : Array Value → State → Prop := va_Pc av (fun U => U.heap.size = sz ∧ va_P D tp_cl ws U.heap ∧ va_K D tp_cl tys U ∧ va_D (fun _ => True) ws)
abbrev tp_B (D : va_G) (tys : List (ClassId × FieldType)) (A : Nat → Prop) (u : va_W) (t : State) : Prop := va_P D tp_cl u t.heap ∧ va_K D tp_cl tys t ∧ va_D A u
theorem tp_pvm {s : State} {H : Heap} {D : va_G} {cl : List vw_C} {A : Nat → Prop} {tys : List (ClassId × FieldType)} {ws : va_W} {a q0 ci : Nat} {q : vw_C} {fs As : List Value} (hK : va_K D cl tys s) (hP : va_P D cl ws H) (hD : va_D A ws) (hc : cl[ci]? = some q) (he : ws[q0]? = some (a, .inr (ci, fs))) : PreV s H q.1 a (va_Pc (.ref a :: As) (fun U => U.heap.size = H.size ∧ va_P D cl ws U.heap ∧ va_K D cl tys U ∧ va_D (fun _ => True) ws)) As :=
  ⟨fun a U g mk q => by
    obtain ⟨q0, q1, qP, qK, qD⟩ := q
    exact ⟨q0, q1, qP, va_K.moved (u := U) (U := U.calling g mk a) (Vm.Alike.refl U.vm) qK, qD⟩, va_recv hK hP hc he, fun U hU hW => ⟨rfl, by rw [hU], by rw [hU]; exact hP, va_K.moved hW.alike hK, hD.weaken (fun _ _ _ _ => trivial)⟩⟩
theorem tp_and1 (x : Int32) : ∃ j : Nat, j < 2 ∧ x &&& nI 1 = nI j := by
  obtain ⟨j, h1, h2⟩ := pk_andE x (m := nI 1) 1 (by decide)
  exact ⟨j, by omega, h2⟩
theorem tp_and7 (x : Int32) : ∃ j : Nat, j < 8 ∧ x &&& nI 7 = nI j := by
  obtain ⟨j, h1, h2⟩ := pk_andE x (m := nI 7) 3 (by decide)
  exact ⟨j, by omega, h2⟩
end
section
set_option maxHeartbeats 4000000 in
set_option maxRecDepth 100000 in
theorem met_stretch (l : Launch) {a b : Nat} (ha : a < 49) (hb0 : b < 49) : Met l yX0_stretch (ws_ yX0_stretch cX0_stretch 2 (some .long)) ({ frames := 0, cells := 0, slots := 0, locals := 0 }) (va_Pc [.int (nI a), .int (nI b)] (fun _ => True)) (vp_Sl (fun r => ∀ i, tp_b r i = true ↔ a ≤ i ∧ i < b)) 0 0 (fun _ => False) := by
  refine Met.ofW (cc := cX0_stretch) (maxL := 2) (ret := (some .long)) (by decide) rfl ?_
  intro p e s m args below meth c s₁ B hml hv
  obtain ⟨rfl, -⟩ := hv
  have hx := B.exec
  have hb := B.bytes
  have hr := B.returns
  have hts := atoms_spec (ws := ws_ yX0_stretch cX0_stretch 2 (some .long)) B.pre
  have hts : ∀ w ∈ lw_all, w.before _ s = true := fun w h => hts w (List.mem_cons_of_mem _ h)
  have hown : s.vm.findClass RX0 = some m.cls := findClass_of_methodNamed B.named
  have hlocks := B.notSynchronized
  have hl := lv_entry ([.int (nI a), .int (nI b)]) (n := 2) (Nat.le_of_ble_eq_true rfl)
  rw [lg_entry_eq]
  generalize (lg_sl ([.int (nI a), .int (nI b)]) ++ List.replicate (2 - (lg_sl ([.int (nI a), .int (nI b)])).length) Slot.unset).toArray = ls at hl ⊢
  have hl : lv_has ls 2 [(0, .int (nI a)), (1, .int (nI b))] := hl
  refine lv_iload_n hx hb dX0_stretch_0 rfl (lv_at hl 0 rfl) ?_
  refine lv_iload_n hx hb dX0_stretch_1 rfl (lv_at hl 1 rfl) ?_
  refine lv_icmp_lt (tgt := 9) hx hb dX0_stretch_2 (by decide) (fun c1 => ?_) (fun c1 => ?_)
  · have c1 : a < b := (nI_ltI (a := a) (b := b) (by omega) (by omega)).mp c1
    refine lv_lconst (v := 1) hx hb dX0_stretch_9 (by decide) ?_
    refine lv_iload_n hx hb dX0_stretch_10 rfl (lv_at hl 1 rfl) ?_
    refine lv_lshl (v := tp_1 b) hx hb dX0_stretch_11 rfl ?_
    refine lv_lconst (v := 1) hx hb dX0_stretch_12 (by decide) ?_
    refine lv_lsub hx hb dX0_stretch_13 ?_
    refine lv_lconst (v := 1) hx hb dX0_stretch_14 (by decide) ?_
    refine lv_iload_n hx hb dX0_stretch_15 rfl (lv_at hl 0 rfl) ?_
    refine lv_lshl (v := tp_1 a) hx hb dX0_stretch_16 rfl ?_
    refine lv_lconst (v := 1) hx hb dX0_stretch_17 (by decide) ?_
    refine lv_lsub hx hb dX0_stretch_18 ?_
    refine lv_ldc2 hx hb hown (hts _ q104) dX0_stretch_19 ?_
    refine lv_lxor hx hb dX0_stretch_22 ?_
    refine lv_land hx hb dX0_stretch_23 ?_
    exact W.lret hx hb hr (fun t ht hW9 => ⟨_, rfl, fun i => tp_stretch ha hb0 i, ht⟩) (fun _ z => by cases z) dX0_stretch_24
  · have c1 : ¬ (a < b) := fun z => c1 ((nI_ltI (a := a) (b := b) (by omega) (by omega)).mpr z)
    refine lv_lconst (v := 0) hx hb dX0_stretch_5 (by decide) ?_
    refine lv_goto (tgt := 24) hx hb dX0_stretch_6 (by decide) ?_
    exact W.lret hx hb hr (fun t ht hW9 => ⟨_, rfl, fun i => by rw [tp_0]; constructor <;> intro z <;> first | (cases z; done) | omega, ht⟩) (fun _ z => by cases z) dX0_stretch_24

set_option maxHeartbeats 4000000 in
set_option maxRecDepth 100000 in
theorem met_size (l : Launch) (x : Int64)  : Met l yX0_size (ws_ yX0_size cX0_size 4 (some .int)) ({ frames := 0, cells := 0, slots := 0, locals := 0 }) (va_Pc [.long x] (fun _ => True)) (vp_Si (fun r => r = nI (tp_c (tp_b x) 48))) 0 0 (fun _ => False) := by
  refine Met.ofW (cc := cX0_size) (maxL := 4) (ret := (some .int)) (by decide) rfl ?_
  intro p e s m args below meth c s₁ B hml hv
  obtain ⟨rfl, -⟩ := hv
  have hx := B.exec
  have hb := B.bytes
  have hr := B.returns
  have hts := atoms_spec (ws := ws_ yX0_size cX0_size 4 (some .int)) B.pre
  have hts : ∀ w ∈ lw_all, w.before _ s = true := fun w h => hts w (List.mem_cons_of_mem _ h)
  have hown : s.vm.findClass RX0 = some m.cls := findClass_of_methodNamed B.named
  have hlocks := B.notSynchronized
  have hl := lv_entry ([.long x]) (n := 4) (Nat.le_of_ble_eq_true rfl)
  rw [lg_entry_eq]
  generalize (lg_sl ([.long x]) ++ List.replicate (4 - (lg_sl ([.long x])).length) Slot.unset).toArray = ls at hl ⊢
  have hl : lv_has ls 4 [(0, .long x)] := hl
  refine lv_iconst (v := nI 0) hx hb dX0_size_0 (by decide) ?_
  refine lv_istore_n (lv' := [(2, .int (nI 0)), (0, .long x)]) hx hb dX0_size_1 rfl hl (by decide) rfl (fun ls hl => ?_)
  refine lv_iconst (v := nI 0) hx hb dX0_size_2 (by decide) ?_
  refine lv_istore_n (lv' := [(3, .int (nI 0)), (2, .int (nI 0)), (0, .long x)]) hx hb dX0_size_3 rfl hl (by decide) rfl (fun ls hl => ?_)
  have LP : ∀ (n : Nat) (i : Nat), i ≤ 48 → 48 < i + n →  ∀ (ls : Array Slot), lv_has ls 4 [(0, .long x), (2, .int (nI (tp_c (tp_b x) i))), (3, .int (nI i))] → W p l e (headSpec (ws_ yX0_size cX0_size 4 (some .int)) ({ frames := 0, cells := 0, slots := 0, locals := 0 })).room s m ([.long x] : List Value).toArray below meth c s.heap [] 0 0 (MQ below (vp_Si (fun r => r = nI (tp_c (tp_b x) 48))) ([.long x] : List Value).toArray s 0 0 (fun _ => False)) (F0 m 4 ls []) := by
    intro n
    induction n with
    | zero => intro i hi hf ls hl; exact absurd hf (by omega)
    | succ n ih =>
      intro i hi hf ls hl
      refine lv_iload_n hx hb dX0_size_4 rfl (lv_at hl 2 rfl) ?_
      refine lv_bipush (v := nI 48) hx hb dX0_size_5 (by decide) ?_
      refine lv_icmp_ge (tgt := 25) hx hb dX0_size_7 (by decide) (fun c1 => ?_) (fun c1 => ?_)
      · have c1 : 48 ≤ i := (nI_leI (a := 48) (b := i) (by omega) (by omega)).mp c1
        refine lv_iload_n hx hb dX0_size_25 rfl (lv_at hl 1 rfl) ?_
        exact W.iret hx hb hr (fun t ht hW9 => ⟨_, rfl, by rw [show i = 48 by omega], ht⟩) (fun _ z => by cases z) dX0_size_26
      · have c1 : ¬ (48 ≤ i) := fun z => c1 ((nI_leI (a := 48) (b := i) (by omega) (by omega)).mpr z)
        refine lv_iload_n hx hb dX0_size_10 rfl (lv_at hl 1 rfl) ?_
        refine lv_lload_n hx hb dX0_size_11 rfl (lv_at hl 0 rfl) ?_
        refine lv_iload_n hx hb dX0_size_12 rfl (lv_at hl 2 rfl) ?_
        refine lv_lushr hx hb dX0_size_13 rfl ?_
        refine lv_l2i hx hb dX0_size_14 rfl ?_
        refine lv_iconst (v := nI 1) hx hb dX0_size_15 (by decide) ?_
        refine lv_iand hx hb dX0_size_16 ?_
        refine tp_ti (y := nI ((tp_b x i).toNat)) (by rw [tp_landN, tp_ush (by omega), tp_iN]) ?_
        refine lv_iadd hx hb dX0_size_17 ?_
        refine tp_ti (nI_add (tp_c (tp_b x) i) ((tp_b x i).toNat)) ?_
        refine lv_istore_n (lv' := [(2, .int (nI ((tp_c (tp_b x) i) + ((tp_b x i).toNat)))), (0, .long x), (3, .int (nI i))]) hx hb dX0_size_18 rfl hl (by decide) rfl (fun ls hl => ?_)
        refine lv_iinc (v := nI (i + 1)) (lv' := [(3, .int (nI (i + 1))), (2, .int (nI ((tp_c (tp_b x) i) + ((tp_b x i).toNat)))), (0, .long x)]) hx hb dX0_size_19 hl (k := 2) rfl (nI_1 i) (by decide) rfl (fun ls hl => ?_)
        refine lv_goto (tgt := 4) hx hb dX0_size_22 (by decide) ?_
        exact ih (i + 1) (by omega) (by omega) ls (lv_sub hl [2, 1, 0] rfl)
  exact LP 49 0 (by omega) (by omega) ls (lv_sub hl [2, 1, 0] rfl)

set_option maxHeartbeats 4000000 in
set_option maxRecDepth 100000 in
theorem met_ranked (l : Launch) (x : Int64) {j : Nat} (hj : j < 49) : Met l yX0_ranked (ws_ yX0_ranked cX0_ranked 5 (some .int)) ({ frames := 0, cells := 0, slots := 0, locals := 0 }) (va_Pc [.long x, .int (nI j)] (fun _ => True)) (vp_Si (fun r => tp_rk (tp_b x) j 48 r)) 0 0 (fun _ => False) := by
  refine Met.ofW (cc := cX0_ranked) (maxL := 5) (ret := (some .int)) (by decide) rfl ?_
  intro p e s m args below meth c s₁ B hml hv
  obtain ⟨rfl, -⟩ := hv
  have hx := B.exec
  have hb := B.bytes
  have hr := B.returns
  have hts := atoms_spec (ws := ws_ yX0_ranked cX0_ranked 5 (some .int)) B.pre
  have hts : ∀ w ∈ lw_all, w.before _ s = true := fun w h => hts w (List.mem_cons_of_mem _ h)
  have hown : s.vm.findClass RX0 = some m.cls := findClass_of_methodNamed B.named
  have hlocks := B.notSynchronized
  have hl := lv_entry ([.long x, .int (nI j)]) (n := 5) (Nat.le_of_ble_eq_true rfl)
  rw [lg_entry_eq]
  generalize (lg_sl ([.long x, .int (nI j)]) ++ List.replicate (5 - (lg_sl ([.long x, .int (nI j)])).length) Slot.unset).toArray = ls at hl ⊢
  have hl : lv_has ls 5 [(0, .long x), (2, .int (nI j))] := hl
  refine lv_iload_n hx hb dX0_ranked_0 rfl (lv_at hl 1 rfl) ?_
  refine lv_istore_n (lv' := [(3, .int (nI j)), (0, .long x), (2, .int (nI j))]) hx hb dX0_ranked_1 rfl hl (by decide) rfl (fun ls hl => ?_)
  refine lv_iconst (v := nI 0) hx hb dX0_ranked_2 (by decide) ?_
  refine lv_istore (lv' := [(4, .int (nI 0)), (3, .int (nI j)), (0, .long x), (2, .int (nI j))]) hx hb dX0_ranked_3 hl (by decide) rfl (fun ls hl => ?_)
  have LP : ∀ (n : Nat) (i k : Nat), i ≤ 48 → 48 < i + n → tp_c (tp_b x) i + k = j →  ∀ (ls : Array Slot), lv_has ls 5 [(4, .int (nI i)), (3, .int (nI k)), (0, .long x), (2, .int (nI j))] → W p l e (headSpec (ws_ yX0_ranked cX0_ranked 5 (some .int)) ({ frames := 0, cells := 0, slots := 0, locals := 0 })).room s m ([.long x, .int (nI j)] : List Value).toArray below meth c s.heap [] 0 0 (MQ below (vp_Si (fun r => tp_rk (tp_b x) j 48 r)) ([.long x, .int (nI j)] : List Value).toArray s 0 0 (fun _ => False)) (F0 m 5 ls []) := by
    intro n
    induction n with
    | zero => intro i k hi hf hk ls hl; exact absurd hf (by omega)
    | succ n ih =>
      intro i k hi hf hk ls hl
      refine lv_iload hx hb dX0_ranked_5 (lv_at hl 0 rfl) ?_
      refine lv_bipush (v := nI 48) hx hb dX0_ranked_7 (by decide) ?_
      refine lv_icmp_ge (tgt := 39) hx hb dX0_ranked_9 (by decide) (fun c1 => ?_) (fun c1 => ?_)
      · have c1 : 48 ≤ i := (nI_leI (a := 48) (b := i) (by omega) (by omega)).mp c1
        refine lv_iconst (v := -1) hx hb dX0_ranked_39 (by decide) ?_
        exact W.iret hx hb hr (fun t ht hW9 => ⟨_, rfl, Or.inl ⟨rfl, by rw [show (48 : Nat) = i by omega]; omega⟩, ht⟩) (fun _ z => by cases z) dX0_ranked_40
      · have c1 : ¬ (48 ≤ i) := fun z => c1 ((nI_leI (a := 48) (b := i) (by omega) (by omega)).mpr z)
        refine lv_lload_n hx hb dX0_ranked_12 rfl (lv_at hl 2 rfl) ?_
        refine lv_iload hx hb dX0_ranked_13 (lv_at hl 0 rfl) ?_
        refine lv_lushr hx hb dX0_ranked_15 rfl ?_
        refine lv_lconst (v := 1) hx hb dX0_ranked_16 (by decide) ?_
        refine lv_land hx hb dX0_ranked_17 ?_
        refine tp_tl (y := tp_l (tp_b x i)) (tp_ubit (by omega)) ?_
        refine lv_lconst (v := 0) hx hb dX0_ranked_18 (by decide) ?_
        refine W.lcmp hx hb dX0_ranked_19 ?_
        refine lv_if_eq (tgt := 33) hx hb dX0_ranked_20 (by decide) (fun c2 => ?_) (fun c2 => ?_)
        · have c2 : tp_b x i = false := (tp_lcmp0 _).mp c2
          refine lv_iinc (v := nI (i + 1)) (lv' := [(4, .int (nI (i + 1))), (3, .int (nI k)), (0, .long x), (2, .int (nI j))]) hx hb dX0_ranked_33 hl (k := 0) rfl (nI_1 i) (by decide) rfl (fun ls hl => ?_)
          refine lv_goto (tgt := 5) hx hb dX0_ranked_36 (by decide) ?_
          exact ih (i + 1) k (by omega) (by omega) (by rw [tp_c_f c2]; omega) ls (lv_sub hl [0, 1, 2, 3] rfl)
        · have c2 : tp_b x i = true := by
            cases hbb : tp_b x i
            · exact absurd ((tp_lcmp0 _).mpr hbb) c2
            · rfl
          refine lv_iload_n hx hb dX0_ranked_23 rfl (lv_at hl 1 rfl) ?_
          refine lv_if_ne (tgt := 30) hx hb dX0_ranked_24 (by decide) (fun c3 => ?_) (fun c3 => ?_)
          · have c3 : ¬ (k = 0) := fun z => c3 ((nI_eq (a := k) (b := 0) (by omega) (by omega)).mpr z)
            refine lv_iinc (v := nI (k - 1)) (lv' := [(3, .int (nI (k - 1))), (4, .int (nI i)), (0, .long x), (2, .int (nI j))]) hx hb dX0_ranked_30 hl (k := 1) rfl (sb_m1 (by omega)) (by decide) rfl (fun ls hl => ?_)
            refine lv_iinc (v := nI (i + 1)) (lv' := [(4, .int (nI (i + 1))), (3, .int (nI (k - 1))), (0, .long x), (2, .int (nI j))]) hx hb dX0_ranked_33 hl (k := 1) rfl (nI_1 i) (by decide) rfl (fun ls hl => ?_)
            refine lv_goto (tgt := 5) hx hb dX0_ranked_36 (by decide) ?_
            exact ih (i + 1) (k - 1) (by omega) (by omega) (by rw [tp_c_t c2]; omega) ls (lv_sub hl [0, 1, 2, 3] rfl)
          · have c3 : k = 0 := (nI_eq (a := k) (b := 0) (by omega) (by omega)).mp c3
            refine lv_iload hx hb dX0_ranked_27 (lv_at hl 0 rfl) ?_
            exact W.iret hx hb hr (fun t ht hW9 => ⟨_, rfl, Or.inr ⟨i, by omega, rfl, c2, by omega⟩, ht⟩) (fun _ z => by cases z) dX0_ranked_29
  exact LP 49 0 j (by omega) (by omega) (by show 0 + j = j; omega) ls (lv_sub hl [0, 1, 2, 3] rfl)

set_option maxHeartbeats 4000000 in
set_option maxRecDepth 100000 in
theorem met_passing (l : Launch) (D : va_G) (dA dJ dZ : ClassId) (h : Nat → Nat) (on : Int32) (st : Int64) (nm vl pa en : Nat → Int32) (kp : Nat → Int64) {cN : Nat} {P E N : Nat → Nat} {t : Nat} (hW : tp_wf cN P E) (hX : tp_X cN P E N nm pa en) (ht : t ≤ 10) : Met l yX0_passing (ws_ yX0_passing cX0_passing 6 (some .long)) ({ frames := 0, cells := 0, slots := 0, locals := 0 }) (tp_Pr D (tp_ty dA dJ dZ) (tp_wX dA dJ h (nI cN) on st nm vl pa en kp) [.ref (h 0), .int (nI t)]) (vp_Sl (fun r => ∀ i, tp_b r i = true ↔ i < cN ∧ tp_pass N t i)) 0 0 (fun _ => False) := by
  refine Met.ofW (cc := cX0_passing) (maxL := 6) (ret := (some .long)) (by decide) rfl ?_
  intro p e s m args below meth c s₁ B hml hv
  obtain ⟨rfl, hP, hK⟩ := hv
  have hx := B.exec
  have hb := B.bytes
  have hr := B.returns
  have hts := atoms_spec (ws := ws_ yX0_passing cX0_passing 6 (some .long)) B.pre
  have hts : ∀ w ∈ lw_all, w.before _ s = true := fun w h => hts w (List.mem_cons_of_mem _ h)
  have hown : s.vm.findClass RX0 = some m.cls := findClass_of_methodNamed B.named
  have hlocks := B.notSynchronized
  have hl := lv_entry ([.ref (h 0), .int (nI t)]) (n := 6) (Nat.le_of_ble_eq_true rfl)
  rw [lg_entry_eq]
  generalize (lg_sl ([.ref (h 0), .int (nI t)]) ++ List.replicate (6 - (lg_sl ([.ref (h 0), .int (nI t)])).length) Slot.unset).toArray = ls at hl ⊢
  have hl : lv_has ls 6 [(0, .ref (h 0)), (1, .int (nI t))] := hl
  have hc := tw_c hW
  refine lv_lconst (v := 0) hx hb dX0_passing_0 (by decide) ?_
  refine lv_lstore_n (lv' := [(2, .long 0), (0, .ref (h 0)), (1, .int (nI t))]) hx hb dX0_passing_1 rfl hl (by decide) rfl (fun ls hl => ?_)
  refine lv_iconst (v := nI 0) hx hb dX0_passing_2 (by decide) ?_
  refine lv_istore (lv' := [(4, .int (nI 0)), (2, .long 0), (0, .ref (h 0)), (1, .int (nI t))]) hx hb dX0_passing_3 hl (by decide) rfl (fun ls hl => ?_)
  have LP : ∀ (n : Nat) (i : Nat) (x : Int64), i ≤ cN → cN < i + n → (∀ k, tp_b x k = true ↔ k < i ∧ tp_pass N t k) →  ∀ (ls : Array Slot), lv_has ls 6 [(0, .ref (h 0)), (1, .int (nI t)), (2, .long x), (4, .int (nI i))] → W p l e (headSpec (ws_ yX0_passing cX0_passing 6 (some .long)) ({ frames := 0, cells := 0, slots := 0, locals := 0 })).room s m ([.ref (h 0), .int (nI t)] : List Value).toArray below meth c s.heap [] 0 0 (MQ below (vp_Sl (fun r => ∀ i, tp_b r i = true ↔ i < cN ∧ tp_pass N t i)) ([.ref (h 0), .int (nI t)] : List Value).toArray s 0 0 (fun _ => False)) (F0 m 5 ls []) := by
    intro n
    induction n with
    | zero => intro i x hi hf hx0 ls hl; exact absurd hf (by omega)
    | succ n ih =>
      intro i x hi hf hx0 ls hl
      refine lv_iload hx hb dX0_passing_5 (lv_at hl 3 rfl) ?_
      refine lv_aload_n hx hb dX0_passing_7 rfl (lv_at hl 0 rfl) ?_
      refine va_get (D := D) (ci := 0) (v := .int (nI cN)) (C := RX0) (T := TX0) (N := 8) hx hb hts in_X0 hown hK hP 0 rfl rfl 0 (by decide) (hts _ q30) (fun _ h9 => h9) rfl dX0_passing_8 ?_
      refine lv_icmp_ge (tgt := 78) hx hb dX0_passing_11 (by decide) (fun c1 => ?_) (fun c1 => ?_)
      · have c1 : cN ≤ i := (nI_leI (a := cN) (b := i) (by omega) (by omega)).mp c1
        refine lv_lload_n hx hb dX0_passing_78 rfl (lv_at hl 2 rfl) ?_
        exact W.lret hx hb hr (fun t ht hW9 => ⟨_, rfl, by rw [show cN = i by omega]; exact hx0, ht⟩) (fun _ z => by cases z) dX0_passing_79
      · have c1 : ¬ (cN ≤ i) := fun z => c1 ((nI_leI (a := cN) (b := i) (by omega) (by omega)).mpr z)
        have hN8 := (hX i (by omega)).2.1
        have JY : tp_pass N t i → W p l e (headSpec (ws_ yX0_passing cX0_passing 6 (some .long)) ({ frames := 0, cells := 0, slots := 0, locals := 0 })).room s m ([.ref (h 0), .int (nI t)] : List Value).toArray below meth c s.heap [] 0 0 (MQ below (vp_Sl (fun r => ∀ i, tp_b r i = true ↔ i < cN ∧ tp_pass N t i)) ([.ref (h 0), .int (nI t)] : List Value).toArray s 0 0 (fun _ => False)) (F0 m 49 ls []) := by
          intro hq
          refine lv_iconst (v := nI 1) hx hb dX0_passing_49 (by decide) ?_
          refine lv_goto (tgt := 54) hx hb dX0_passing_50 (by decide) ?_
          refine lv_istore (lv' := [(5, .int (nI 1)), (0, .ref (h 0)), (1, .int (nI t)), (2, .long x), (4, .int (nI i))]) hx hb dX0_passing_54 hl (by decide) rfl (fun ls hl => ?_)
          refine lv_lload_n hx hb dX0_passing_56 rfl (lv_at hl 3 rfl) ?_
          refine lv_iload hx hb dX0_passing_57 (lv_at hl 0 rfl) ?_
          refine lv_if_eq (tgt := 69) hx hb dX0_passing_59 (by decide) (fun z => absurd ((nI_eq (a := 1) (b := 0) (by omega) (by omega)).mp z) (by omega)) (fun _ => ?_)
          refine lv_lconst (v := 1) hx hb dX0_passing_62 (by decide) ?_
          refine lv_iload hx hb dX0_passing_63 (lv_at hl 4 rfl) ?_
          refine lv_lshl (v := tp_1 i) hx hb dX0_passing_65 rfl ?_
          refine lv_goto (tgt := 70) hx hb dX0_passing_66 (by decide) ?_
          refine lv_lor hx hb dX0_passing_70 ?_
          refine lv_lstore_n (lv' := [(2, .long (x ||| (tp_1 i))), (5, .int (nI 1)), (0, .ref (h 0)), (1, .int (nI t)), (4, .int (nI i))]) hx hb dX0_passing_71 rfl hl (by decide) rfl (fun ls hl => ?_)
          refine lv_iinc (v := nI (i + 1)) (lv' := [(4, .int (nI (i + 1))), (2, .long (x ||| (tp_1 i))), (5, .int (nI 1)), (0, .ref (h 0)), (1, .int (nI t))]) hx hb dX0_passing_72 hl (k := 4) rfl (nI_1 i) (by decide) rfl (fun ls hl => ?_)
          refine lv_goto (tgt := 5) hx hb dX0_passing_75 (by decide) ?_
          exact ih (i + 1) _ (by omega) (by omega) (tp_add (by omega) hx0 hq) ls (lv_sub hl [3, 4, 1, 0] rfl)
        have JN : ¬ tp_pass N t i → W p l e (headSpec (ws_ yX0_passing cX0_passing 6 (some .long)) ({ frames := 0, cells := 0, slots := 0, locals := 0 })).room s m ([.ref (h 0), .int (nI t)] : List Value).toArray below meth c s.heap [] 0 0 (MQ below (vp_Sl (fun r => ∀ i, tp_b r i = true ↔ i < cN ∧ tp_pass N t i)) ([.ref (h 0), .int (nI t)] : List Value).toArray s 0 0 (fun _ => False)) (F0 m 53 ls []) := by
          intro hq
          refine lv_iconst (v := nI 0) hx hb dX0_passing_53 (by decide) ?_
          refine lv_istore (lv' := [(5, .int (nI 0)), (0, .ref (h 0)), (1, .int (nI t)), (2, .long x), (4, .int (nI i))]) hx hb dX0_passing_54 hl (by decide) rfl (fun ls hl => ?_)
          refine lv_lload_n hx hb dX0_passing_56 rfl (lv_at hl 3 rfl) ?_
          refine lv_iload hx hb dX0_passing_57 (lv_at hl 0 rfl) ?_
          refine lv_if_eq (tgt := 69) hx hb dX0_passing_59 (by decide) (fun _ => ?_) (fun z => absurd ((nI_eq (a := 0) (b := 0) (by omega) (by omega)).mpr (by omega)) z)
          refine lv_lconst (v := 0) hx hb dX0_passing_69 (by decide) ?_
          refine lv_lor hx hb dX0_passing_70 ?_
          refine lv_lstore_n (lv' := [(2, .long (x ||| 0)), (5, .int (nI 0)), (0, .ref (h 0)), (1, .int (nI t)), (4, .int (nI i))]) hx hb dX0_passing_71 rfl hl (by decide) rfl (fun ls hl => ?_)
          refine lv_iinc (v := nI (i + 1)) (lv' := [(4, .int (nI (i + 1))), (2, .long (x ||| 0)), (5, .int (nI 0)), (0, .ref (h 0)), (1, .int (nI t))]) hx hb dX0_passing_72 hl (k := 4) rfl (nI_1 i) (by decide) rfl (fun ls hl => ?_)
          refine lv_goto (tgt := 5) hx hb dX0_passing_75 (by decide) ?_
          exact ih (i + 1) _ (by omega) (by omega) (tp_nadd hx0 hq) ls (lv_sub hl [3, 4, 1, 0] rfl)
        refine lv_iload_n hx hb dX0_passing_14 rfl (lv_at hl 1 rfl) ?_
        refine lv_bipush (v := nI 10) hx hb dX0_passing_15 (by decide) ?_
        refine lv_icmp_eq (tgt := 49) hx hb dX0_passing_17 (by decide) (fun c2 => ?_) (fun c2 => ?_)
        · have c2 : t = 10 := (nI_eq (a := t) (b := 10) (by omega) (by omega)).mp c2
          exact JY (Or.inl c2)
        · have c2 : ¬ (t = 10) := fun z => c2 ((nI_eq (a := t) (b := 10) (by omega) (by omega)).mpr z)
          refine lv_iload_n hx hb dX0_passing_20 rfl (lv_at hl 1 rfl) ?_
          refine lv_bipush (v := nI 9) hx hb dX0_passing_21 (by decide) ?_
          refine lv_icmp_ne (tgt := 38) hx hb dX0_passing_23 (by decide) (fun c3 => ?_) (fun c3 => ?_)
          · have c3 : ¬ (t = 9) := fun z => c3 ((nI_eq (a := t) (b := 9) (by omega) (by omega)).mpr z)
            refine lv_iload_n hx hb dX0_passing_38 rfl (lv_at hl 1 rfl) ?_
            refine lv_aload_n hx hb dX0_passing_39 rfl (lv_at hl 0 rfl) ?_
            refine va_get (D := D) (ci := 0) (v := .ref (h 1)) (C := RX0) (T := TX0) (N := 8) hx hb hts in_X0 hown hK hP 0 rfl rfl 2 (by decide) (hts _ q32) (fun _ h9 => h9) rfl dX0_passing_40 ?_
            refine lv_iload hx hb dX0_passing_43 (lv_at hl 3 rfl) ?_
            refine tp_iald (v := nI (N i)) hx hb hK hP 1 0 rfl rfl i rfl (by omega) ((hX i (by omega)).1) dX0_passing_45 ?_
            refine lv_icmp_ne (tgt := 53) hx hb dX0_passing_46 (by decide) (fun c5 => ?_) (fun c5 => ?_)
            · have c5 : ¬ (t = (N i)) := fun z => c5 ((nI_eq (a := t) (b := (N i)) (by omega) (by omega)).mpr z)
              exact JN (fun z => by rcases z with z | z | z <;> omega)
            · have c5 : t = (N i) := (nI_eq (a := t) (b := (N i)) (by omega) (by omega)).mp c5
              exact JY (Or.inr (Or.inr c5))
          · have c3 : t = 9 := (nI_eq (a := t) (b := 9) (by omega) (by omega)).mp c3
            refine lv_aload_n hx hb dX0_passing_26 rfl (lv_at hl 0 rfl) ?_
            refine va_get (D := D) (ci := 0) (v := .ref (h 1)) (C := RX0) (T := TX0) (N := 8) hx hb hts in_X0 hown hK hP 0 rfl rfl 2 (by decide) (hts _ q32) (fun _ h9 => h9) rfl dX0_passing_27 ?_
            refine lv_iload hx hb dX0_passing_30 (lv_at hl 3 rfl) ?_
            refine tp_iald (v := nI (N i)) hx hb hK hP 1 0 rfl rfl i rfl (by omega) ((hX i (by omega)).1) dX0_passing_32 ?_
            refine lv_bipush (v := nI 8) hx hb dX0_passing_33 (by decide) ?_
            refine lv_icmp_ne (tgt := 49) hx hb dX0_passing_35 (by decide) (fun c4 => ?_) (fun c4 => ?_)
            · have c4 : ¬ ((N i) = 8) := fun z => c4 ((nI_eq (a := (N i)) (b := 8) (by omega) (by omega)).mpr z)
              exact JY (Or.inr (Or.inl ⟨c3, c4⟩))
            · have c4 : (N i) = 8 := (nI_eq (a := (N i)) (b := 8) (by omega) (by omega)).mp c4
              refine lv_iload_n hx hb dX0_passing_38 rfl (lv_at hl 1 rfl) ?_
              refine lv_aload_n hx hb dX0_passing_39 rfl (lv_at hl 0 rfl) ?_
              refine va_get (D := D) (ci := 0) (v := .ref (h 1)) (C := RX0) (T := TX0) (N := 8) hx hb hts in_X0 hown hK hP 0 rfl rfl 2 (by decide) (hts _ q32) (fun _ h9 => h9) rfl dX0_passing_40 ?_
              refine lv_iload hx hb dX0_passing_43 (lv_at hl 3 rfl) ?_
              refine tp_iald (v := nI (N i)) hx hb hK hP 1 0 rfl rfl i rfl (by omega) ((hX i (by omega)).1) dX0_passing_45 ?_
              refine lv_icmp_ne (tgt := 53) hx hb dX0_passing_46 (by decide) (fun c5 => ?_) (fun c5 => ?_)
              · have c5 : ¬ (t = (N i)) := fun z => c5 ((nI_eq (a := t) (b := (N i)) (by omega) (by omega)).mpr z)
                exact JN (fun z => by rcases z with z | z | z <;> omega)
              · have c5 : t = (N i) := (nI_eq (a := t) (b := (N i)) (by omega) (by omega)).mp c5
                exact JY (Or.inr (Or.inr c5))
  exact LP (cN + 1) 0 0 (by omega) (by omega) (tp_add0 _) ls (lv_sub hl [2, 3, 1, 0] rfl)

set_option maxHeartbeats 4000000 in
set_option maxRecDepth 100000 in
theorem met_row (l : Launch) (D : va_G) (dA dJ dZ : ClassId) (h : Nat → Nat) (on : Int32) (st : Int64) (nm vl pa en : Nat → Int32) (kp : Nat → Int64) {cN : Nat} {P E N : Nat → Nat} {p0 a b : Nat} (hW : tp_wf cN P E) (hX : tp_X cN P E N nm pa en) (hp : p0 < cN) (hbd : tp_bd P E p0 a) (hb0 : b ≤ E p0) : Met l yX0_row (ws_ yX0_row cX0_row 7 (some .long)) ({ frames := 0, cells := 0, slots := 0, locals := 0 }) (tp_Pr D (tp_ty dA dJ dZ) (tp_wX dA dJ h (nI cN) on st nm vl pa en kp) [.ref (h 0), .int (nI a), .int (nI b)]) (vp_Sl (fun r => ∀ i, tp_b r i = true ↔ a ≤ i ∧ i < b ∧ P i = p0)) 0 0 (fun _ => False) := by
  refine Met.ofW (cc := cX0_row) (maxL := 7) (ret := (some .long)) (by decide) rfl ?_
  intro p e s m args below meth c s₁ B hml hv
  obtain ⟨rfl, hP, hK⟩ := hv
  have hx := B.exec
  have hb := B.bytes
  have hr := B.returns
  have hts := atoms_spec (ws := ws_ yX0_row cX0_row 7 (some .long)) B.pre
  have hts : ∀ w ∈ lw_all, w.before _ s = true := fun w h => hts w (List.mem_cons_of_mem _ h)
  have hown : s.vm.findClass RX0 = some m.cls := findClass_of_methodNamed B.named
  have hlocks := B.notSynchronized
  have hl := lv_entry ([.ref (h 0), .int (nI a), .int (nI b)]) (n := 7) (Nat.le_of_ble_eq_true rfl)
  rw [lg_entry_eq]
  generalize (lg_sl ([.ref (h 0), .int (nI a), .int (nI b)]) ++ List.replicate (7 - (lg_sl ([.ref (h 0), .int (nI a), .int (nI b)])).length) Slot.unset).toArray = ls at hl ⊢
  have hl : lv_has ls 7 [(0, .ref (h 0)), (1, .int (nI a)), (2, .int (nI b))] := hl
  have hc := tw_c hW
  have hEp := (tw_E hW hp).2
  have ha := hbd.2.1
  refine lv_lconst (v := 0) hx hb dX0_row_0 (by decide) ?_
  refine lv_lstore_n (lv' := [(3, .long 0), (0, .ref (h 0)), (1, .int (nI a)), (2, .int (nI b))]) hx hb dX0_row_1 rfl hl (by decide) rfl (fun ls hl => ?_)
  refine lv_iload_n hx hb dX0_row_2 rfl (lv_at hl 2 rfl) ?_
  refine lv_istore (lv' := [(5, .int (nI a)), (3, .long 0), (0, .ref (h 0)), (1, .int (nI a)), (2, .int (nI b))]) hx hb dX0_row_3 hl (by decide) rfl (fun ls hl => ?_)
  refine lv_iconst (v := nI 0) hx hb dX0_row_5 (by decide) ?_
  refine lv_istore (lv' := [(6, .int (nI 0)), (5, .int (nI a)), (3, .long 0), (0, .ref (h 0)), (1, .int (nI a)), (2, .int (nI b))]) hx hb dX0_row_6 hl (by decide) rfl (fun ls hl => ?_)
  have LP : ∀ (n : Nat) (i k : Nat) (x : Int64), 48 < i + n → i ≤ k → tp_bd P E p0 k → a ≤ k → tp_row P p0 a b k x →  ∀ (ls : Array Slot), lv_has ls 7 [(0, .ref (h 0)), (1, .int (nI a)), (2, .int (nI b)), (3, .long x), (5, .int (nI k)), (6, .int (nI i))] → W p l e (headSpec (ws_ yX0_row cX0_row 7 (some .long)) ({ frames := 0, cells := 0, slots := 0, locals := 0 })).room s m ([.ref (h 0), .int (nI a), .int (nI b)] : List Value).toArray below meth c s.heap [] 0 0 (MQ below (vp_Sl (fun r => ∀ i, tp_b r i = true ↔ a ≤ i ∧ i < b ∧ P i = p0)) ([.ref (h 0), .int (nI a), .int (nI b)] : List Value).toArray s 0 0 (fun _ => False)) (F0 m 8 ls []) := by
    intro n
    induction n with
    | zero => intro i k x hf hik hbk hak hx0 ls hl; exact absurd hf (by have := hbk.2.1; omega)
    | succ n ih =>
      intro i k x hf hik hbk hak hx0 ls hl
      have hk0 := hbk.2.1
      refine lv_iload hx hb dX0_row_8 (lv_at hl 5 rfl) ?_
      refine lv_bipush (v := nI 48) hx hb dX0_row_10 (by decide) ?_
      refine lv_icmp_ge (tgt := 43) hx hb dX0_row_12 (by decide) (fun c1 => ?_) (fun c1 => ?_)
      · have c1 : 48 ≤ i := (nI_leI (a := 48) (b := i) (by omega) (by omega)).mp c1
        refine lv_lload_n hx hb dX0_row_43 rfl (lv_at hl 3 rfl) ?_
        exact W.lret hx hb hr (fun t ht hW9 => ⟨_, rfl, tw_rowend (by omega) hx0, ht⟩) (fun _ z => by cases z) dX0_row_44
      · have c1 : ¬ (48 ≤ i) := fun z => c1 ((nI_leI (a := 48) (b := i) (by omega) (by omega)).mpr z)
        refine lv_iload hx hb dX0_row_15 (lv_at hl 4 rfl) ?_
        refine lv_iload_n hx hb dX0_row_17 rfl (lv_at hl 2 rfl) ?_
        refine lv_icmp_ge (tgt := 43) hx hb dX0_row_18 (by decide) (fun c2 => ?_) (fun c2 => ?_)
        · have c2 : b ≤ k := (nI_leI (a := b) (b := k) (by omega) (by omega)).mp c2
          refine lv_lload_n hx hb dX0_row_43 rfl (lv_at hl 3 rfl) ?_
          exact W.lret hx hb hr (fun t ht hW9 => ⟨_, rfl, tw_rowend (by omega) hx0, ht⟩) (fun _ z => by cases z) dX0_row_44
        · have c2 : ¬ (b ≤ k) := fun z => c2 ((nI_leI (a := b) (b := k) (by omega) (by omega)).mpr z)
          obtain ⟨g1, g2, g3, g4⟩ := tw_rows hW hp hbk hak (by omega) hb0 hx0
          refine lv_lload_n hx hb dX0_row_21 rfl (lv_at hl 3 rfl) ?_
          refine lv_lconst (v := 1) hx hb dX0_row_22 (by decide) ?_
          refine lv_iload hx hb dX0_row_23 (lv_at hl 4 rfl) ?_
          refine lv_lshl (v := tp_1 k) hx hb dX0_row_25 rfl ?_
          refine lv_lor hx hb dX0_row_26 ?_
          refine lv_lstore_n (lv' := [(3, .long (x ||| (tp_1 k))), (0, .ref (h 0)), (1, .int (nI a)), (2, .int (nI b)), (5, .int (nI k)), (6, .int (nI i))]) hx hb dX0_row_27 rfl hl (by decide) rfl (fun ls hl => ?_)
          refine lv_aload_n hx hb dX0_row_28 rfl (lv_at hl 1 rfl) ?_
          refine va_get (D := D) (ci := 0) (v := .ref (h 4)) (C := RX0) (T := TX0) (N := 8) hx hb hts in_X0 hown hK hP 0 rfl rfl 5 (by decide) (hts _ q35) (fun _ h9 => h9) rfl dX0_row_29 ?_
          refine lv_iload hx hb dX0_row_32 (lv_at hl 4 rfl) ?_
          refine tp_iald (v := nI (E k)) hx hb hK hP 4 0 rfl rfl k rfl (by omega) ((hX k (by omega)).2.2.2) dX0_row_34 ?_
          refine lv_istore (lv' := [(5, .int (nI (E k))), (3, .long (x ||| (tp_1 k))), (0, .ref (h 0)), (1, .int (nI a)), (2, .int (nI b)), (6, .int (nI i))]) hx hb dX0_row_35 hl (by decide) rfl (fun ls hl => ?_)
          refine lv_iinc (v := nI (i + 1)) (lv' := [(6, .int (nI (i + 1))), (5, .int (nI (E k))), (3, .long (x ||| (tp_1 k))), (0, .ref (h 0)), (1, .int (nI a)), (2, .int (nI b))]) hx hb dX0_row_37 hl (k := 5) rfl (nI_1 i) (by decide) rfl (fun ls hl => ?_)
          refine lv_goto (tgt := 8) hx hb dX0_row_40 (by decide) ?_
          exact ih (i + 1) (E k) _ (by omega) (by omega) g1 (by omega) g2 ls (lv_sub hl [3, 4, 5, 2, 1, 0] rfl)
  exact LP 49 0 a 0 (by omega) (by omega) hbd (Nat.le_refl a) tw_row0 ls (lv_sub hl [3, 4, 5, 2, 1, 0] rfl)

set_option maxHeartbeats 4000000 in
set_option maxRecDepth 100000 in
theorem met_above (l : Launch) (D : va_G) (dA dJ dZ : ClassId) (h : Nat → Nat) (on : Int32) (st : Int64) (nm vl pa en : Nat → Int32) (kp : Nat → Int64) {cN : Nat} {P E N : Nat → Nat} {n0 : Nat} (hW : tp_wf cN P E) (hX : tp_X cN P E N nm pa en) (hn : n0 < cN) : Met l yX0_above (ws_ yX0_above cX0_above 6 (some .long)) ({ frames := 0, cells := 0, slots := 0, locals := 0 }) (tp_Pr D (tp_ty dA dJ dZ) (tp_wX dA dJ h (nI cN) on st nm vl pa en kp) [.ref (h 0), .int (nI n0)]) (vp_Sl (fun r => ∀ i, tp_b r i = true ↔ tp_In E i n0)) 0 0 (fun _ => False) := by
  refine Met.ofW (cc := cX0_above) (maxL := 6) (ret := (some .long)) (by decide) rfl ?_
  intro p e s m args below meth c s₁ B hml hv
  obtain ⟨rfl, hP, hK⟩ := hv
  have hx := B.exec
  have hb := B.bytes
  have hr := B.returns
  have hts := atoms_spec (ws := ws_ yX0_above cX0_above 6 (some .long)) B.pre
  have hts : ∀ w ∈ lw_all, w.before _ s = true := fun w h => hts w (List.mem_cons_of_mem _ h)
  have hown : s.vm.findClass RX0 = some m.cls := findClass_of_methodNamed B.named
  have hlocks := B.notSynchronized
  have hl := lv_entry ([.ref (h 0), .int (nI n0)]) (n := 6) (Nat.le_of_ble_eq_true rfl)
  rw [lg_entry_eq]
  generalize (lg_sl ([.ref (h 0), .int (nI n0)]) ++ List.replicate (6 - (lg_sl ([.ref (h 0), .int (nI n0)])).length) Slot.unset).toArray = ls at hl ⊢
  have hl : lv_has ls 6 [(0, .ref (h 0)), (1, .int (nI n0))] := hl
  have hc := tw_c hW
  refine lv_lconst (v := 0) hx hb dX0_above_0 (by decide) ?_
  refine lv_lstore_n (lv' := [(2, .long 0), (0, .ref (h 0)), (1, .int (nI n0))]) hx hb dX0_above_1 rfl hl (by decide) rfl (fun ls hl => ?_)
  refine lv_aload_n hx hb dX0_above_2 rfl (lv_at hl 1 rfl) ?_
  refine va_get (D := D) (ci := 0) (v := .ref (h 3)) (C := RX0) (T := TX0) (N := 8) hx hb hts in_X0 hown hK hP 0 rfl rfl 4 (by decide) (hts _ q34) (fun _ h9 => h9) rfl dX0_above_3 ?_
  refine lv_iload_n hx hb dX0_above_6 rfl (lv_at hl 2 rfl) ?_
  refine tp_iald (v := tp_pa P n0) hx hb hK hP 3 0 rfl rfl n0 rfl (by omega) ((hX n0 (by omega)).2.2.1) dX0_above_7 ?_
  refine lv_istore (lv' := [(4, .int (tp_pa P n0)), (2, .long 0), (0, .ref (h 0)), (1, .int (nI n0))]) hx hb dX0_above_8 hl (by decide) rfl (fun ls hl => ?_)
  refine lv_iconst (v := nI 0) hx hb dX0_above_10 (by decide) ?_
  refine lv_istore (lv' := [(5, .int (nI 0)), (4, .int (tp_pa P n0)), (2, .long 0), (0, .ref (h 0)), (1, .int (nI n0))]) hx hb dX0_above_11 hl (by decide) rfl (fun ls hl => ?_)
  obtain ⟨k0, hk0, hw0⟩ := tw_way0 hW hn
  have LP : ∀ (n : Nat) (i k : Nat) (x : Int64) (at' : Int32), k < n → i + k ≤ n0 → tp_way E n0 x at' k →  ∀ (ls : Array Slot), lv_has ls 6 [(0, .ref (h 0)), (1, .int (nI n0)), (2, .long x), (4, .int at'), (5, .int (nI i))] → W p l e (headSpec (ws_ yX0_above cX0_above 6 (some .long)) ({ frames := 0, cells := 0, slots := 0, locals := 0 })).room s m ([.ref (h 0), .int (nI n0)] : List Value).toArray below meth c s.heap [] 0 0 (MQ below (vp_Sl (fun r => ∀ i, tp_b r i = true ↔ tp_In E i n0)) ([.ref (h 0), .int (nI n0)] : List Value).toArray s 0 0 (fun _ => False)) (F0 m 13 ls []) := by
    intro n
    induction n with
    | zero => intro i k x at' hf hik hw ls hl; exact absurd hf (by omega)
    | succ n ih =>
      intro i k x at' hf hik hw ls hl
      rcases hw with ⟨e1, e2, hx0⟩ | ⟨y, e1, hy, ek, hx0⟩
      · subst e1
        refine lv_iload hx hb dX0_above_13 (lv_at hl 4 rfl) ?_
        refine lv_bipush (v := nI 48) hx hb dX0_above_15 (by decide) ?_
        refine lv_icmp_ge (tgt := 47) hx hb dX0_above_17 (by decide) (fun z => absurd ((nI_leI (a := 48) (b := i) (by omega) (by omega)).mp z) (by omega)) (fun _ => ?_)
        refine lv_iload hx hb dX0_above_20 (lv_at hl 3 rfl) ?_
        refine lv_if_lt (tgt := 47) hx hb dX0_above_22 (by decide) (fun _ => ?_) (fun z => absurd ((by decide : (-1 : Int32) < 0)) z)
        refine lv_lload_n hx hb dX0_above_47 rfl (lv_at hl 2 rfl) ?_
        exact W.lret hx hb hr (fun t ht hW9 => ⟨_, rfl, hx0, ht⟩) (fun _ z => by cases z) dX0_above_48
      · subst e1
        obtain ⟨k', hk', hw'⟩ := tw_ways hW hn hy hx0
        refine lv_iload hx hb dX0_above_13 (lv_at hl 4 rfl) ?_
        refine lv_bipush (v := nI 48) hx hb dX0_above_15 (by decide) ?_
        refine lv_icmp_ge (tgt := 47) hx hb dX0_above_17 (by decide) (fun z => absurd ((nI_leI (a := 48) (b := i) (by omega) (by omega)).mp z) (by omega)) (fun _ => ?_)
        refine lv_iload hx hb dX0_above_20 (lv_at hl 3 rfl) ?_
        refine lv_if_lt (tgt := 47) hx hb dX0_above_22 (by decide) (fun z => absurd z (nI_pos (by omega))) (fun _ => ?_)
        refine lv_lload_n hx hb dX0_above_25 rfl (lv_at hl 2 rfl) ?_
        refine lv_lconst (v := 1) hx hb dX0_above_26 (by decide) ?_
        refine lv_iload hx hb dX0_above_27 (lv_at hl 3 rfl) ?_
        refine lv_lshl (v := tp_1 y) hx hb dX0_above_29 rfl ?_
        refine lv_lor hx hb dX0_above_30 ?_
        refine lv_lstore_n (lv' := [(2, .long (x ||| (tp_1 y))), (0, .ref (h 0)), (1, .int (nI n0)), (4, .int (nI y)), (5, .int (nI i))]) hx hb dX0_above_31 rfl hl (by decide) rfl (fun ls hl => ?_)
        refine lv_aload_n hx hb dX0_above_32 rfl (lv_at hl 1 rfl) ?_
        refine va_get (D := D) (ci := 0) (v := .ref (h 3)) (C := RX0) (T := TX0) (N := 8) hx hb hts in_X0 hown hK hP 0 rfl rfl 4 (by decide) (hts _ q34) (fun _ h9 => h9) rfl dX0_above_33 ?_
        refine lv_iload hx hb dX0_above_36 (lv_at hl 3 rfl) ?_
        refine tp_iald (v := tp_pa P y) hx hb hK hP 3 0 rfl rfl y rfl (by omega) ((hX y (by omega)).2.2.1) dX0_above_38 ?_
        refine lv_istore (lv' := [(4, .int (tp_pa P y)), (2, .long (x ||| (tp_1 y))), (0, .ref (h 0)), (1, .int (nI n0)), (5, .int (nI i))]) hx hb dX0_above_39 hl (by decide) rfl (fun ls hl => ?_)
        refine lv_iinc (v := nI (i + 1)) (lv' := [(5, .int (nI (i + 1))), (4, .int (tp_pa P y)), (2, .long (x ||| (tp_1 y))), (0, .ref (h 0)), (1, .int (nI n0))]) hx hb dX0_above_41 hl (k := 4) rfl (nI_1 i) (by decide) rfl (fun ls hl => ?_)
        refine lv_goto (tgt := 13) hx hb dX0_above_44 (by decide) ?_
        exact ih (i + 1) k' _ _ (by omega) (by omega) hw' ls (lv_sub hl [3, 4, 2, 1, 0] rfl)
  exact LP 49 0 k0 0 (tp_pa P n0) (by omega) (by omega) hw0 ls (lv_sub hl [3, 4, 2, 1, 0] rfl)
end
section
set_option maxHeartbeats 4000000 in
set_option maxRecDepth 100000 in
theorem met_aside (l : Launch) (D : va_G) (dA dJ dZ : ClassId) (h : Nat → Nat) (on : Int32) (st : Int64) (nm vl pa en : Nat → Int32) (kp : Nat → Int64) {cN : Nat} {P E N : Nat → Nat} {ax n0 : Nat} (hW : tp_wf cN P E) (hX : tp_X cN P E N nm pa en) (hax : 5 ≤ ax ∧ ax ≤ 8) (hn : n0 < cN) : Met l yX0_aside (ws_ yX0_aside cX0_aside 5 (some .long)) ({ frames := 1, cells := 0, slots := 0, locals := 26 }) (tp_Pr D (tp_ty dA dJ dZ) (tp_wX dA dJ h (nI cN) on st nm vl pa en kp) [.ref (h 0), .int (nI ax), .int (nI n0)]) (vp_Sl (fun r => ∀ i, tp_b r i = true ↔ i < cN ∧ tp_lead P E ax n0 i)) 0 0 (fun _ => False) := by
  refine Met.ofW (cc := cX0_aside) (maxL := 5) (ret := (some .long)) (by decide) rfl ?_
  intro p e s m args below meth c s₁ B hml hv
  obtain ⟨rfl, hP, hK⟩ := hv
  have hx := B.exec
  have hb := B.bytes
  have hr := B.returns
  have hts := atoms_spec (ws := ws_ yX0_aside cX0_aside 5 (some .long)) B.pre
  have hts : ∀ w ∈ lw_all, w.before _ s = true := fun w h => hts w (List.mem_cons_of_mem _ h)
  have hown : s.vm.findClass RX0 = some m.cls := findClass_of_methodNamed B.named
  have hlocks := B.notSynchronized
  have hl := lv_entry ([.ref (h 0), .int (nI ax), .int (nI n0)]) (n := 5) (Nat.le_of_ble_eq_true rfl)
  rw [lg_entry_eq]
  generalize (lg_sl ([.ref (h 0), .int (nI ax), .int (nI n0)]) ++ List.replicate (5 - (lg_sl ([.ref (h 0), .int (nI ax), .int (nI n0)])).length) Slot.unset).toArray = ls at hl ⊢
  have hl : lv_has ls 5 [(0, .ref (h 0)), (1, .int (nI ax)), (2, .int (nI n0))] := hl
  have hc := tw_c hW
  have hE0 := tw_E hW hn
  refine lv_iload_n hx hb dX0_aside_0 rfl (lv_at hl 1 rfl) ?_
  refine lv_bipush (v := nI 7) hx hb dX0_aside_1 (by decide) ?_
  refine lv_icmp_ne (tgt := 20) hx hb dX0_aside_3 (by decide) (fun c1 => ?_) (fun c1 => ?_)
  · have c1 : ¬ (ax = 7) := fun z => c1 ((nI_eq (a := ax) (b := 7) (by omega) (by omega)).mpr z)
    refine lv_iload_n hx hb dX0_aside_20 rfl (lv_at hl 1 rfl) ?_
    refine lv_bipush (v := nI 8) hx hb dX0_aside_21 (by decide) ?_
    refine lv_icmp_ne (tgt := 44) hx hb dX0_aside_23 (by decide) (fun c2 => ?_) (fun c2 => ?_)
    · have c2 : ¬ (ax = 8) := fun z => c2 ((nI_eq (a := ax) (b := 8) (by omega) (by omega)).mpr z)
      refine lv_iload_n hx hb dX0_aside_44 rfl (lv_at hl 2 rfl) ?_
      refine lv_if_ne (tgt := 50) hx hb dX0_aside_45 (by decide) (fun c3 => ?_) (fun c3 => ?_)
      · have c3 : ¬ (n0 = 0) := fun z => c3 ((nI_eq (a := n0) (b := 0) (by omega) (by omega)).mpr z)
        have hp := tw_P hW (show 0 < n0 by omega) hn
        have hEp := tw_E hW (show P n0 < cN by omega)
        refine lv_aload_n hx hb dX0_aside_50 rfl (lv_at hl 0 rfl) ?_
        refine va_get (D := D) (ci := 0) (v := .ref (h 3)) (C := RX0) (T := TX0) (N := 8) hx hb hts in_X0 hown hK hP 0 rfl rfl 4 (by decide) (hts _ q34) (fun _ h9 => h9) rfl dX0_aside_51 ?_
        refine lv_iload_n hx hb dX0_aside_54 rfl (lv_at hl 2 rfl) ?_
        refine tp_iald (v := nI (P n0)) hx hb hK hP 3 0 rfl rfl n0 rfl (by omega) ((hX n0 hn).2.2.1.trans (tp_pas (by omega))) dX0_aside_55 ?_
        refine lv_istore_n (lv' := [(3, .int (nI (P n0))), (0, .ref (h 0)), (1, .int (nI ax)), (2, .int (nI n0))]) hx hb dX0_aside_56 rfl hl (by decide) rfl (fun ls hl => ?_)
        refine lv_iload_n hx hb dX0_aside_57 rfl (lv_at hl 2 rfl) ?_
        refine lv_iconst (v := nI 5) hx hb dX0_aside_58 (by decide) ?_
        refine lv_icmp_ne (tgt := 81) hx hb dX0_aside_59 (by decide) (fun c4 => ?_) (fun c4 => ?_)
        · have c4 : ¬ (ax = 5) := fun z => c4 ((nI_eq (a := ax) (b := 5) (by omega) (by omega)).mpr z)
          refine lv_aload_n hx hb dX0_aside_81 rfl (lv_at hl 1 rfl) ?_
          refine lv_iload_n hx hb dX0_aside_82 rfl (lv_at hl 0 rfl) ?_
          refine lv_iconst (v := nI 1) hx hb dX0_aside_83 (by decide) ?_
          refine lv_iadd hx hb dX0_aside_84 ?_
          refine tp_ti (nI_add (P n0) 1) ?_
          refine lv_iload_n hx hb dX0_aside_85 rfl (lv_at hl 3 rfl) ?_
          refine vp_callSl (W.runV (As := [.int (nI ((P n0) + 1)), .int (nI n0)]) (rest := []) ⟨hx, hb, hml, hown, hts⟩ (met_row l D dA dJ dZ h on st nm vl pa en kp (p0 := P n0) (a := P n0 + 1) (b := n0) hW hX (by omega) (tw_bd1 hW (by omega)) (Nat.le_of_lt (tw_par hW (by omega) hn).2)) (cwV 2 hts (lw_V q127 q129 qs9 q20 q130) rfl rfl rfl (by decide +kernel) ⟨Nat.le_of_ble_eq_true rfl, Nat.le_of_ble_eq_true rfl⟩) (tp_pv hK hP (ci := 0) (q0 := 0) rfl rfl) rfl rfl hl.1 rfl (lv_room (Nat.le_of_ble_eq_true rfl)) dX0_aside_86 ⟨Nat.le_of_ble_eq_true rfl, Nat.le_of_ble_eq_true rfl⟩) (fun r1 h1 => ?_)
          exact W.lret hx hb hr (fun t ht hW9 => ⟨_, rfl, by rw [show ax = 6 by omega]; exact ta_6 hW hn (by omega) h1, ht⟩) (fun _ z => by cases z) dX0_aside_89
        · have c4 : ax = 5 := (nI_eq (a := ax) (b := 5) (by omega) (by omega)).mp c4
          refine lv_aload_n hx hb dX0_aside_62 rfl (lv_at hl 1 rfl) ?_
          refine lv_aload_n hx hb dX0_aside_63 rfl (lv_at hl 1 rfl) ?_
          refine va_get (D := D) (ci := 0) (v := .ref (h 4)) (C := RX0) (T := TX0) (N := 8) hx hb hts in_X0 hown hK hP 0 rfl rfl 5 (by decide) (hts _ q35) (fun _ h9 => h9) rfl dX0_aside_64 ?_
          refine lv_iload_n hx hb dX0_aside_67 rfl (lv_at hl 3 rfl) ?_
          refine tp_iald (v := nI (E n0)) hx hb hK hP 4 0 rfl rfl n0 rfl (by omega) ((hX n0 (by omega)).2.2.2) dX0_aside_68 ?_
          refine lv_aload_n hx hb dX0_aside_69 rfl (lv_at hl 1 rfl) ?_
          refine va_get (D := D) (ci := 0) (v := .ref (h 4)) (C := RX0) (T := TX0) (N := 8) hx hb hts in_X0 hown hK hP 0 rfl rfl 5 (by decide) (hts _ q35) (fun _ h9 => h9) rfl dX0_aside_70 ?_
          refine lv_iload_n hx hb dX0_aside_73 rfl (lv_at hl 0 rfl) ?_
          refine tp_iald (v := nI (E (P n0))) hx hb hK hP 4 0 rfl rfl (P n0) rfl (by omega) ((hX (P n0) (by omega)).2.2.2) dX0_aside_74 ?_
          refine vp_callSl (W.runV (As := [.int (nI (E n0)), .int (nI (E (P n0)))]) (rest := []) ⟨hx, hb, hml, hown, hts⟩ (met_row l D dA dJ dZ h on st nm vl pa en kp (p0 := P n0) (a := E n0) (b := E (P n0)) hW hX (by omega) (tw_next hW (show P n0 < cN by omega) hp hn rfl).1 (Nat.le_refl _)) (cwV 2 hts (lw_V q127 q129 qs9 q20 q130) rfl rfl rfl (by decide +kernel) ⟨Nat.le_of_ble_eq_true rfl, Nat.le_of_ble_eq_true rfl⟩) (tp_pv hK hP (ci := 0) (q0 := 0) rfl rfl) rfl rfl hl.1 rfl (lv_room (Nat.le_of_ble_eq_true rfl)) dX0_aside_75 ⟨Nat.le_of_ble_eq_true rfl, Nat.le_of_ble_eq_true rfl⟩) (fun r1 h1 => ?_)
          refine lv_goto (tgt := 89) hx hb dX0_aside_78 (by decide) ?_
          exact W.lret hx hb hr (fun t ht hW9 => ⟨_, rfl, by subst c4; exact ta_5 hW hn (by omega) h1, ht⟩) (fun _ z => by cases z) dX0_aside_89
      · have c3 : n0 = 0 := (nI_eq (a := n0) (b := 0) (by omega) (by omega)).mp c3
        refine lv_lconst (v := 0) hx hb dX0_aside_48 (by decide) ?_
        exact W.lret hx hb hr (fun t ht hW9 => ⟨_, rfl, ta_56 (by omega) c3, ht⟩) (fun _ z => by cases z) dX0_aside_49
    · have c2 : ax = 8 := (nI_eq (a := ax) (b := 8) (by omega) (by omega)).mp c2
      refine lv_aload_n hx hb dX0_aside_26 rfl (lv_at hl 0 rfl) ?_
      refine lv_iload_n hx hb dX0_aside_27 rfl (lv_at hl 2 rfl) ?_
      refine vp_callSl (W.runV (As := [.int (nI n0)]) (rest := []) ⟨hx, hb, hml, hown, hts⟩ (met_above l D dA dJ dZ h on st nm vl pa en kp hW hX hn) (cwV 1 hts (lw_V q123 q125 qs8 q20 q126) rfl rfl rfl (by decide +kernel) ⟨Nat.le_of_ble_eq_true rfl, Nat.le_of_ble_eq_true rfl⟩) (tp_pv hK hP (ci := 0) (q0 := 0) rfl rfl) rfl rfl hl.1 rfl (lv_room (Nat.le_of_ble_eq_true rfl)) dX0_aside_28 ⟨Nat.le_of_ble_eq_true rfl, Nat.le_of_ble_eq_true rfl⟩) (fun r1 h1 => ?_)
      refine lv_lstore_n (lv' := [(3, .long r1), (0, .ref (h 0)), (1, .int (nI ax)), (2, .int (nI n0))]) hx hb dX0_aside_31 rfl hl (by decide) rfl (fun ls hl => ?_)
      refine lv_iconst (v := nI 0) hx hb dX0_aside_32 (by decide) ?_
      refine lv_iload_n hx hb dX0_aside_33 rfl (lv_at hl 3 rfl) ?_
      refine vp_callSl (W.runS (As := [.int (nI 0), .int (nI n0)]) (rest := []) ⟨hx, hb, hml, hown, hts⟩ (met_stretch l (a := 0) (b := n0) (by omega) (by omega)) (va_cwS 2 hts (lw_S q101 q102 q20 q103) rfl rfl rfl (by decide +kernel) ⟨Nat.le_of_ble_eq_true rfl, Nat.le_of_ble_eq_true rfl⟩) tp_ps rfl rfl hl.1 rfl (lv_room (Nat.le_of_ble_eq_true rfl)) dX0_aside_34 ⟨Nat.le_of_ble_eq_true rfl, Nat.le_of_ble_eq_true rfl⟩) (fun r2 h2 => ?_)
      refine lv_lload_n hx hb dX0_aside_37 rfl (lv_at hl 0 rfl) ?_
      refine lv_ldc2 hx hb hown (hts _ q104) dX0_aside_38 ?_
      refine lv_lxor hx hb dX0_aside_41 ?_
      refine lv_land hx hb dX0_aside_42 ?_
      exact W.lret hx hb hr (fun t ht hW9 => ⟨_, rfl, by subst c2; exact ta_8 hW hn h1 h2, ht⟩) (fun _ z => by cases z) dX0_aside_43
  · have c1 : ax = 7 := (nI_eq (a := ax) (b := 7) (by omega) (by omega)).mp c1
    refine lv_aload_n hx hb dX0_aside_6 rfl (lv_at hl 0 rfl) ?_
    refine va_get (D := D) (ci := 0) (v := .ref (h 4)) (C := RX0) (T := TX0) (N := 8) hx hb hts in_X0 hown hK hP 0 rfl rfl 5 (by decide) (hts _ q35) (fun _ h9 => h9) rfl dX0_aside_7 ?_
    refine lv_iload_n hx hb dX0_aside_10 rfl (lv_at hl 2 rfl) ?_
    refine tp_iald (v := nI (E n0)) hx hb hK hP 4 0 rfl rfl n0 rfl (by omega) ((hX n0 (by omega)).2.2.2) dX0_aside_11 ?_
    refine lv_aload_n hx hb dX0_aside_12 rfl (lv_at hl 0 rfl) ?_
    refine va_get (D := D) (ci := 0) (v := .int (nI cN)) (C := RX0) (T := TX0) (N := 8) hx hb hts in_X0 hown hK hP 0 rfl rfl 0 (by decide) (hts _ q30) (fun _ h9 => h9) rfl dX0_aside_13 ?_
    refine vp_callSl (W.runS (As := [.int (nI (E n0)), .int (nI cN)]) (rest := []) ⟨hx, hb, hml, hown, hts⟩ (met_stretch l (a := E n0) (b := cN) (by omega) (by omega)) (va_cwS 2 hts (lw_S q101 q102 q20 q103) rfl rfl rfl (by decide +kernel) ⟨Nat.le_of_ble_eq_true rfl, Nat.le_of_ble_eq_true rfl⟩) tp_ps rfl rfl hl.1 rfl (lv_room (Nat.le_of_ble_eq_true rfl)) dX0_aside_16 ⟨Nat.le_of_ble_eq_true rfl, Nat.le_of_ble_eq_true rfl⟩) (fun r1 h1 => ?_)
    exact W.lret hx hb hr (fun t ht hW9 => ⟨_, rfl, by subst c1; exact ta_7 hW hn h1, ht⟩) (fun _ z => by cases z) dX0_aside_19

set_option maxHeartbeats 4000000 in
set_option maxRecDepth 100000 in
theorem met_along (l : Launch) (D : va_G) (dA dJ dZ : ClassId) (h : Nat → Nat) (on : Int32) (st : Int64) (nm vl pa en : Nat → Int32) (kp : Nat → Int64) {cN : Nat} {P E N : Nat → Nat} {ax n0 : Nat} (hW : tp_wf cN P E) (hX : tp_X cN P E N nm pa en) (hax : ax ≤ 10) (hn : n0 < cN) : Met l yX0_along (ws_ yX0_along cX0_along 5 (some .long)) ({ frames := 2, cells := 0, slots := 0, locals := 50 }) (tp_Pr D (tp_ty dA dJ dZ) (tp_wX dA dJ h (nI cN) on st nm vl pa en kp) [.ref (h 0), .int (nI ax), .int (nI n0)]) (vp_Sl (fun r => ∀ i, tp_b r i = true ↔ i < cN ∧ tp_lead P E ax n0 i)) 0 0 (fun _ => False) := by
  refine Met.ofW (cc := cX0_along) (maxL := 5) (ret := (some .long)) (by decide) rfl ?_
  intro p e s m args below meth c s₁ B hml hv
  obtain ⟨rfl, hP, hK⟩ := hv
  have hx := B.exec
  have hb := B.bytes
  have hr := B.returns
  have hts := atoms_spec (ws := ws_ yX0_along cX0_along 5 (some .long)) B.pre
  have hts : ∀ w ∈ lw_all, w.before _ s = true := fun w h => hts w (List.mem_cons_of_mem _ h)
  have hown : s.vm.findClass RX0 = some m.cls := findClass_of_methodNamed B.named
  have hlocks := B.notSynchronized
  have hl := lv_entry ([.ref (h 0), .int (nI ax), .int (nI n0)]) (n := 5) (Nat.le_of_ble_eq_true rfl)
  rw [lg_entry_eq]
  generalize (lg_sl ([.ref (h 0), .int (nI ax), .int (nI n0)]) ++ List.replicate (5 - (lg_sl ([.ref (h 0), .int (nI ax), .int (nI n0)])).length) Slot.unset).toArray = ls at hl ⊢
  have hl : lv_has ls 5 [(0, .ref (h 0)), (1, .int (nI ax)), (2, .int (nI n0))] := hl
  have hc := tw_c hW
  have hE0 := tw_E hW hn
  refine lv_iload_n hx hb dX0_along_0 rfl (lv_at hl 1 rfl) ?_
  refine lv_if_ne (tgt := 8) hx hb dX0_along_1 (by decide) (fun c1 => ?_) (fun c1 => ?_)
  · have c1 : ¬ (ax = 0) := fun z => c1 ((nI_eq (a := ax) (b := 0) (by omega) (by omega)).mpr z)
    refine lv_iload_n hx hb dX0_along_8 rfl (lv_at hl 1 rfl) ?_
    refine lv_iconst (v := nI 1) hx hb dX0_along_9 (by decide) ?_
    refine lv_icmp_ne (tgt := 27) hx hb dX0_along_10 (by decide) (fun c2 => ?_) (fun c2 => ?_)
    · have c2 : ¬ (ax = 1) := fun z => c2 ((nI_eq (a := ax) (b := 1) (by omega) (by omega)).mpr z)
      refine lv_iload_n hx hb dX0_along_27 rfl (lv_at hl 1 rfl) ?_
      refine lv_iconst (v := nI 2) hx hb dX0_along_28 (by decide) ?_
      refine lv_icmp_ne (tgt := 49) hx hb dX0_along_29 (by decide) (fun c3 => ?_) (fun c3 => ?_)
      · have c3 : ¬ (ax = 2) := fun z => c3 ((nI_eq (a := ax) (b := 2) (by omega) (by omega)).mpr z)
        refine lv_iload_n hx hb dX0_along_49 rfl (lv_at hl 1 rfl) ?_
        refine lv_iconst (v := nI 3) hx hb dX0_along_50 (by decide) ?_
        refine lv_icmp_eq (tgt := 60) hx hb dX0_along_51 (by decide) (fun c5 => ?_) (fun c5 => ?_)
        · have c5 : ax = 3 := (nI_eq (a := ax) (b := 3) (by omega) (by omega)).mp c5
          refine lv_iload_n hx hb dX0_along_60 rfl (lv_at hl 1 rfl) ?_
          refine lv_iconst (v := nI 3) hx hb dX0_along_61 (by decide) ?_
          refine lv_icmp_ne (tgt := 71) hx hb dX0_along_62 (by decide) (fun c6 => ?_) (fun c6 => ?_)
          · have c6 : ¬ (ax = 3) := fun z => c6 ((nI_eq (a := ax) (b := 3) (by omega) (by omega)).mpr z)
            refine lv_iload_n hx hb dX0_along_71 rfl (lv_at hl 2 rfl) ?_
            refine lv_aload_n hx hb dX0_along_72 rfl (lv_at hl 0 rfl) ?_
            refine va_get (D := D) (ci := 0) (v := .ref (h 4)) (C := RX0) (T := TX0) (N := 8) hx hb hts in_X0 hown hK hP 0 rfl rfl 5 (by decide) (hts _ q35) (fun _ h9 => h9) rfl dX0_along_73 ?_
            refine lv_iload_n hx hb dX0_along_76 rfl (lv_at hl 2 rfl) ?_
            refine tp_iald (v := nI (E n0)) hx hb hK hP 4 0 rfl rfl n0 rfl (by omega) ((hX n0 (by omega)).2.2.2) dX0_along_77 ?_
            refine vp_callSl (W.runS (As := [.int (nI n0), .int (nI (E n0))]) (rest := []) ⟨hx, hb, hml, hown, hts⟩ (met_stretch l (a := n0) (b := E n0) (by omega) (by omega)) (va_cwS 2 hts (lw_S q101 q102 q20 q103) rfl rfl rfl (by decide +kernel) ⟨Nat.le_of_ble_eq_true rfl, Nat.le_of_ble_eq_true rfl⟩) tp_ps rfl rfl hl.1 rfl (lv_room (Nat.le_of_ble_eq_true rfl)) dX0_along_78 ⟨Nat.le_of_ble_eq_true rfl, Nat.le_of_ble_eq_true rfl⟩) (fun r1 h1 => ?_)
            exact W.lret hx hb hr (fun t ht hW9 => ⟨_, rfl, by rw [show ax = 9 by omega]; exact ta_9 hW hn h1, ht⟩) (fun _ z => by cases z) dX0_along_81
          · have c6 : ax = 3 := (nI_eq (a := ax) (b := 3) (by omega) (by omega)).mp c6
            refine lv_iload_n hx hb dX0_along_65 rfl (lv_at hl 2 rfl) ?_
            refine lv_iconst (v := nI 1) hx hb dX0_along_66 (by decide) ?_
            refine lv_iadd hx hb dX0_along_67 ?_
            refine tp_ti (nI_add n0 1) ?_
            refine lv_goto (tgt := 72) hx hb dX0_along_68 (by decide) ?_
            refine lv_aload_n hx hb dX0_along_72 rfl (lv_at hl 0 rfl) ?_
            refine va_get (D := D) (ci := 0) (v := .ref (h 4)) (C := RX0) (T := TX0) (N := 8) hx hb hts in_X0 hown hK hP 0 rfl rfl 5 (by decide) (hts _ q35) (fun _ h9 => h9) rfl dX0_along_73 ?_
            refine lv_iload_n hx hb dX0_along_76 rfl (lv_at hl 2 rfl) ?_
            refine tp_iald (v := nI (E n0)) hx hb hK hP 4 0 rfl rfl n0 rfl (by omega) ((hX n0 (by omega)).2.2.2) dX0_along_77 ?_
            refine vp_callSl (W.runS (As := [.int (nI (n0 + 1)), .int (nI (E n0))]) (rest := []) ⟨hx, hb, hml, hown, hts⟩ (met_stretch l (a := n0 + 1) (b := E n0) (by omega) (by omega)) (va_cwS 2 hts (lw_S q101 q102 q20 q103) rfl rfl rfl (by decide +kernel) ⟨Nat.le_of_ble_eq_true rfl, Nat.le_of_ble_eq_true rfl⟩) tp_ps rfl rfl hl.1 rfl (lv_room (Nat.le_of_ble_eq_true rfl)) dX0_along_78 ⟨Nat.le_of_ble_eq_true rfl, Nat.le_of_ble_eq_true rfl⟩) (fun r1 h1 => ?_)
            exact W.lret hx hb hr (fun t ht hW9 => ⟨_, rfl, by subst c6; exact ta_3 hW hn h1, ht⟩) (fun _ z => by cases z) dX0_along_81
        · have c5 : ¬ (ax = 3) := fun z => c5 ((nI_eq (a := ax) (b := 3) (by omega) (by omega)).mpr z)
          refine lv_iload_n hx hb dX0_along_54 rfl (lv_at hl 1 rfl) ?_
          refine lv_bipush (v := nI 9) hx hb dX0_along_55 (by decide) ?_
          refine lv_icmp_ne (tgt := 82) hx hb dX0_along_57 (by decide) (fun c5b => ?_) (fun c5b => ?_)
          · have c5b : ¬ (ax = 9) := fun z => c5b ((nI_eq (a := ax) (b := 9) (by omega) (by omega)).mpr z)
            refine lv_iload_n hx hb dX0_along_82 rfl (lv_at hl 1 rfl) ?_
            refine lv_iconst (v := nI 4) hx hb dX0_along_83 (by decide) ?_
            refine lv_icmp_eq (tgt := 93) hx hb dX0_along_84 (by decide) (fun c7 => ?_) (fun c7 => ?_)
            · have c7 : ax = 4 := (nI_eq (a := ax) (b := 4) (by omega) (by omega)).mp c7
              refine lv_aload_n hx hb dX0_along_93 rfl (lv_at hl 0 rfl) ?_
              refine lv_iload_n hx hb dX0_along_94 rfl (lv_at hl 2 rfl) ?_
              refine vp_callSl (W.runV (As := [.int (nI n0)]) (rest := []) ⟨hx, hb, hml, hown, hts⟩ (met_above l D dA dJ dZ h on st nm vl pa en kp hW hX hn) (cwV 1 hts (lw_V q123 q125 qs8 q20 q126) rfl rfl rfl (by decide +kernel) ⟨Nat.le_of_ble_eq_true rfl, Nat.le_of_ble_eq_true rfl⟩) (tp_pv hK hP (ci := 0) (q0 := 0) rfl rfl) rfl rfl hl.1 rfl (lv_room (Nat.le_of_ble_eq_true rfl)) dX0_along_95 ⟨Nat.le_of_ble_eq_true rfl, Nat.le_of_ble_eq_true rfl⟩) (fun r1 h1 => ?_)
              refine lv_lstore_n (lv' := [(3, .long r1), (0, .ref (h 0)), (1, .int (nI ax)), (2, .int (nI n0))]) hx hb dX0_along_98 rfl hl (by decide) rfl (fun ls hl => ?_)
              refine lv_iload_n hx hb dX0_along_99 rfl (lv_at hl 2 rfl) ?_
              refine lv_iconst (v := nI 4) hx hb dX0_along_100 (by decide) ?_
              refine lv_icmp_ne (tgt := 108) hx hb dX0_along_101 (by decide) (fun c9 => ?_) (fun c9 => ?_)
              · have c9 : ¬ (ax = 4) := fun z => c9 ((nI_eq (a := ax) (b := 4) (by omega) (by omega)).mpr z)
                refine lv_lload_n hx hb dX0_along_108 rfl (lv_at hl 0 rfl) ?_
                refine lv_lconst (v := 1) hx hb dX0_along_109 (by decide) ?_
                refine lv_iload_n hx hb dX0_along_110 rfl (lv_at hl 3 rfl) ?_
                refine lv_lshl (v := tp_1 n0) hx hb dX0_along_111 rfl ?_
                refine lv_lor hx hb dX0_along_112 ?_
                exact W.lret hx hb hr (fun t ht hW9 => ⟨_, rfl, by rw [show ax = 10 by omega]; exact ta_10 hW hn h1, ht⟩) (fun _ z => by cases z) dX0_along_113
              · have c9 : ax = 4 := (nI_eq (a := ax) (b := 4) (by omega) (by omega)).mp c9
                refine lv_lload_n hx hb dX0_along_104 rfl (lv_at hl 0 rfl) ?_
                refine lv_goto (tgt := 113) hx hb dX0_along_105 (by decide) ?_
                exact W.lret hx hb hr (fun t ht hW9 => ⟨_, rfl, by subst c9; exact ta_4 hn h1, ht⟩) (fun _ z => by cases z) dX0_along_113
            · have c7 : ¬ (ax = 4) := fun z => c7 ((nI_eq (a := ax) (b := 4) (by omega) (by omega)).mpr z)
              refine lv_iload_n hx hb dX0_along_87 rfl (lv_at hl 1 rfl) ?_
              refine lv_bipush (v := nI 10) hx hb dX0_along_88 (by decide) ?_
              refine lv_icmp_ne (tgt := 114) hx hb dX0_along_90 (by decide) (fun c8 => ?_) (fun c8 => ?_)
              · have c8 : ¬ (ax = 10) := fun z => c8 ((nI_eq (a := ax) (b := 10) (by omega) (by omega)).mpr z)
                refine lv_aload_n hx hb dX0_along_114 rfl (lv_at hl 0 rfl) ?_
                refine lv_iload_n hx hb dX0_along_115 rfl (lv_at hl 1 rfl) ?_
                refine lv_iload_n hx hb dX0_along_116 rfl (lv_at hl 2 rfl) ?_
                refine vp_callSl (W.runV (As := [.int (nI ax), .int (nI n0)]) (rest := []) ⟨hx, hb, hml, hown, hts⟩ (met_aside l D dA dJ dZ h on st nm vl pa en kp (ax := ax) hW hX (by omega) hn) (cwV 2 hts (lw_V q119 q121 qs7 q20 q122) rfl rfl rfl (by decide +kernel) ⟨Nat.le_of_ble_eq_true rfl, Nat.le_of_ble_eq_true rfl⟩) (tp_pv hK hP (ci := 0) (q0 := 0) rfl rfl) rfl rfl hl.1 rfl (lv_room (Nat.le_of_ble_eq_true rfl)) dX0_along_117 ⟨Nat.le_of_ble_eq_true rfl, Nat.le_of_ble_eq_true rfl⟩) (fun r1 h1 => ?_)
                exact W.lret hx hb hr (fun t ht hW9 => ⟨_, rfl, h1, ht⟩) (fun _ z => by cases z) dX0_along_120
              · have c8 : ax = 10 := (nI_eq (a := ax) (b := 10) (by omega) (by omega)).mp c8
                refine lv_aload_n hx hb dX0_along_93 rfl (lv_at hl 0 rfl) ?_
                refine lv_iload_n hx hb dX0_along_94 rfl (lv_at hl 2 rfl) ?_
                refine vp_callSl (W.runV (As := [.int (nI n0)]) (rest := []) ⟨hx, hb, hml, hown, hts⟩ (met_above l D dA dJ dZ h on st nm vl pa en kp hW hX hn) (cwV 1 hts (lw_V q123 q125 qs8 q20 q126) rfl rfl rfl (by decide +kernel) ⟨Nat.le_of_ble_eq_true rfl, Nat.le_of_ble_eq_true rfl⟩) (tp_pv hK hP (ci := 0) (q0 := 0) rfl rfl) rfl rfl hl.1 rfl (lv_room (Nat.le_of_ble_eq_true rfl)) dX0_along_95 ⟨Nat.le_of_ble_eq_true rfl, Nat.le_of_ble_eq_true rfl⟩) (fun r1 h1 => ?_)
                refine lv_lstore_n (lv' := [(3, .long r1), (0, .ref (h 0)), (1, .int (nI ax)), (2, .int (nI n0))]) hx hb dX0_along_98 rfl hl (by decide) rfl (fun ls hl => ?_)
                refine lv_iload_n hx hb dX0_along_99 rfl (lv_at hl 2 rfl) ?_
                refine lv_iconst (v := nI 4) hx hb dX0_along_100 (by decide) ?_
                refine lv_icmp_ne (tgt := 108) hx hb dX0_along_101 (by decide) (fun c9 => ?_) (fun c9 => ?_)
                · have c9 : ¬ (ax = 4) := fun z => c9 ((nI_eq (a := ax) (b := 4) (by omega) (by omega)).mpr z)
                  refine lv_lload_n hx hb dX0_along_108 rfl (lv_at hl 0 rfl) ?_
                  refine lv_lconst (v := 1) hx hb dX0_along_109 (by decide) ?_
                  refine lv_iload_n hx hb dX0_along_110 rfl (lv_at hl 3 rfl) ?_
                  refine lv_lshl (v := tp_1 n0) hx hb dX0_along_111 rfl ?_
                  refine lv_lor hx hb dX0_along_112 ?_
                  exact W.lret hx hb hr (fun t ht hW9 => ⟨_, rfl, by rw [show ax = 10 by omega]; exact ta_10 hW hn h1, ht⟩) (fun _ z => by cases z) dX0_along_113
                · have c9 : ax = 4 := (nI_eq (a := ax) (b := 4) (by omega) (by omega)).mp c9
                  refine lv_lload_n hx hb dX0_along_104 rfl (lv_at hl 0 rfl) ?_
                  refine lv_goto (tgt := 113) hx hb dX0_along_105 (by decide) ?_
                  exact W.lret hx hb hr (fun t ht hW9 => ⟨_, rfl, by subst c9; exact ta_4 hn h1, ht⟩) (fun _ z => by cases z) dX0_along_113
          · have c5b : ax = 9 := (nI_eq (a := ax) (b := 9) (by omega) (by omega)).mp c5b
            refine lv_iload_n hx hb dX0_along_60 rfl (lv_at hl 1 rfl) ?_
            refine lv_iconst (v := nI 3) hx hb dX0_along_61 (by decide) ?_
            refine lv_icmp_ne (tgt := 71) hx hb dX0_along_62 (by decide) (fun c6 => ?_) (fun c6 => ?_)
            · have c6 : ¬ (ax = 3) := fun z => c6 ((nI_eq (a := ax) (b := 3) (by omega) (by omega)).mpr z)
              refine lv_iload_n hx hb dX0_along_71 rfl (lv_at hl 2 rfl) ?_
              refine lv_aload_n hx hb dX0_along_72 rfl (lv_at hl 0 rfl) ?_
              refine va_get (D := D) (ci := 0) (v := .ref (h 4)) (C := RX0) (T := TX0) (N := 8) hx hb hts in_X0 hown hK hP 0 rfl rfl 5 (by decide) (hts _ q35) (fun _ h9 => h9) rfl dX0_along_73 ?_
              refine lv_iload_n hx hb dX0_along_76 rfl (lv_at hl 2 rfl) ?_
              refine tp_iald (v := nI (E n0)) hx hb hK hP 4 0 rfl rfl n0 rfl (by omega) ((hX n0 (by omega)).2.2.2) dX0_along_77 ?_
              refine vp_callSl (W.runS (As := [.int (nI n0), .int (nI (E n0))]) (rest := []) ⟨hx, hb, hml, hown, hts⟩ (met_stretch l (a := n0) (b := E n0) (by omega) (by omega)) (va_cwS 2 hts (lw_S q101 q102 q20 q103) rfl rfl rfl (by decide +kernel) ⟨Nat.le_of_ble_eq_true rfl, Nat.le_of_ble_eq_true rfl⟩) tp_ps rfl rfl hl.1 rfl (lv_room (Nat.le_of_ble_eq_true rfl)) dX0_along_78 ⟨Nat.le_of_ble_eq_true rfl, Nat.le_of_ble_eq_true rfl⟩) (fun r1 h1 => ?_)
              exact W.lret hx hb hr (fun t ht hW9 => ⟨_, rfl, by rw [show ax = 9 by omega]; exact ta_9 hW hn h1, ht⟩) (fun _ z => by cases z) dX0_along_81
            · have c6 : ax = 3 := (nI_eq (a := ax) (b := 3) (by omega) (by omega)).mp c6
              refine lv_iload_n hx hb dX0_along_65 rfl (lv_at hl 2 rfl) ?_
              refine lv_iconst (v := nI 1) hx hb dX0_along_66 (by decide) ?_
              refine lv_iadd hx hb dX0_along_67 ?_
              refine tp_ti (nI_add n0 1) ?_
              refine lv_goto (tgt := 72) hx hb dX0_along_68 (by decide) ?_
              refine lv_aload_n hx hb dX0_along_72 rfl (lv_at hl 0 rfl) ?_
              refine va_get (D := D) (ci := 0) (v := .ref (h 4)) (C := RX0) (T := TX0) (N := 8) hx hb hts in_X0 hown hK hP 0 rfl rfl 5 (by decide) (hts _ q35) (fun _ h9 => h9) rfl dX0_along_73 ?_
              refine lv_iload_n hx hb dX0_along_76 rfl (lv_at hl 2 rfl) ?_
              refine tp_iald (v := nI (E n0)) hx hb hK hP 4 0 rfl rfl n0 rfl (by omega) ((hX n0 (by omega)).2.2.2) dX0_along_77 ?_
              refine vp_callSl (W.runS (As := [.int (nI (n0 + 1)), .int (nI (E n0))]) (rest := []) ⟨hx, hb, hml, hown, hts⟩ (met_stretch l (a := n0 + 1) (b := E n0) (by omega) (by omega)) (va_cwS 2 hts (lw_S q101 q102 q20 q103) rfl rfl rfl (by decide +kernel) ⟨Nat.le_of_ble_eq_true rfl, Nat.le_of_ble_eq_true rfl⟩) tp_ps rfl rfl hl.1 rfl (lv_room (Nat.le_of_ble_eq_true rfl)) dX0_along_78 ⟨Nat.le_of_ble_eq_true rfl, Nat.le_of_ble_eq_true rfl⟩) (fun r1 h1 => ?_)
              exact W.lret hx hb hr (fun t ht hW9 => ⟨_, rfl, by subst c6; exact ta_3 hW hn h1, ht⟩) (fun _ z => by cases z) dX0_along_81
      · have c3 : ax = 2 := (nI_eq (a := ax) (b := 2) (by omega) (by omega)).mp c3
        refine lv_iload_n hx hb dX0_along_32 rfl (lv_at hl 2 rfl) ?_
        refine lv_if_ne (tgt := 40) hx hb dX0_along_33 (by decide) (fun c4 => ?_) (fun c4 => ?_)
        · have c4 : ¬ (n0 = 0) := fun z => c4 ((nI_eq (a := n0) (b := 0) (by omega) (by omega)).mpr z)
          have hp := tw_P hW (show 0 < n0 by omega) hn
          refine lv_lconst (v := 1) hx hb dX0_along_40 (by decide) ?_
          refine lv_aload_n hx hb dX0_along_41 rfl (lv_at hl 0 rfl) ?_
          refine va_get (D := D) (ci := 0) (v := .ref (h 3)) (C := RX0) (T := TX0) (N := 8) hx hb hts in_X0 hown hK hP 0 rfl rfl 4 (by decide) (hts _ q34) (fun _ h9 => h9) rfl dX0_along_42 ?_
          refine lv_iload_n hx hb dX0_along_45 rfl (lv_at hl 2 rfl) ?_
          refine tp_iald (v := nI (P n0)) hx hb hK hP 3 0 rfl rfl n0 rfl (by omega) ((hX n0 hn).2.2.1.trans (tp_pas (by omega))) dX0_along_46 ?_
          refine lv_lshl (v := tp_1 (P n0)) hx hb dX0_along_47 rfl ?_
          exact W.lret hx hb hr (fun t ht hW9 => ⟨_, rfl, by subst c3; exact ta_2 hW hn (by omega), ht⟩) (fun _ z => by cases z) dX0_along_48
        · have c4 : n0 = 0 := (nI_eq (a := n0) (b := 0) (by omega) (by omega)).mp c4
          refine lv_lconst (v := 0) hx hb dX0_along_36 (by decide) ?_
          refine lv_goto (tgt := 48) hx hb dX0_along_37 (by decide) ?_
          exact W.lret hx hb hr (fun t ht hW9 => ⟨_, rfl, by subst c3; exact ta_20 c4, ht⟩) (fun _ z => by cases z) dX0_along_48
    · have c2 : ax = 1 := (nI_eq (a := ax) (b := 1) (by omega) (by omega)).mp c2
      refine lv_aload_n hx hb dX0_along_13 rfl (lv_at hl 0 rfl) ?_
      refine lv_iload_n hx hb dX0_along_14 rfl (lv_at hl 2 rfl) ?_
      refine lv_iconst (v := nI 1) hx hb dX0_along_15 (by decide) ?_
      refine lv_iadd hx hb dX0_along_16 ?_
      refine tp_ti (nI_add n0 1) ?_
      refine lv_aload_n hx hb dX0_along_17 rfl (lv_at hl 0 rfl) ?_
      refine va_get (D := D) (ci := 0) (v := .ref (h 4)) (C := RX0) (T := TX0) (N := 8) hx hb hts in_X0 hown hK hP 0 rfl rfl 5 (by decide) (hts _ q35) (fun _ h9 => h9) rfl dX0_along_18 ?_
      refine lv_iload_n hx hb dX0_along_21 rfl (lv_at hl 2 rfl) ?_
      refine tp_iald (v := nI (E n0)) hx hb hK hP 4 0 rfl rfl n0 rfl (by omega) ((hX n0 (by omega)).2.2.2) dX0_along_22 ?_
      refine vp_callSl (W.runV (As := [.int (nI (n0 + 1)), .int (nI (E n0))]) (rest := []) ⟨hx, hb, hml, hown, hts⟩ (met_row l D dA dJ dZ h on st nm vl pa en kp (p0 := n0) (a := n0 + 1) (b := E n0) hW hX hn (tw_bd1 hW hn) (Nat.le_refl _)) (cwV 2 hts (lw_V q127 q129 qs9 q20 q130) rfl rfl rfl (by decide +kernel) ⟨Nat.le_of_ble_eq_true rfl, Nat.le_of_ble_eq_true rfl⟩) (tp_pv hK hP (ci := 0) (q0 := 0) rfl rfl) rfl rfl hl.1 rfl (lv_room (Nat.le_of_ble_eq_true rfl)) dX0_along_23 ⟨Nat.le_of_ble_eq_true rfl, Nat.le_of_ble_eq_true rfl⟩) (fun r1 h1 => ?_)
      exact W.lret hx hb hr (fun t ht hW9 => ⟨_, rfl, by subst c2; exact ta_1 hW hn h1, ht⟩) (fun _ z => by cases z) dX0_along_26
  · have c1 : ax = 0 := (nI_eq (a := ax) (b := 0) (by omega) (by omega)).mp c1
    refine lv_lconst (v := 1) hx hb dX0_along_4 (by decide) ?_
    refine lv_iload_n hx hb dX0_along_5 rfl (lv_at hl 2 rfl) ?_
    refine lv_lshl (v := tp_1 n0) hx hb dX0_along_6 rfl ?_
    exact W.lret hx hb hr (fun t ht hW9 => ⟨_, rfl, by subst c1; exact ta_0 hW hn, ht⟩) (fun _ z => by cases z) dX0_along_7
end
section
set_option maxHeartbeats 4000000 in
set_option maxRecDepth 100000 in
theorem met_allBelow (l : Launch) (D : va_G) (dA dJ dZ : ClassId) (h : Nat → Nat) (on : Int32) (st : Int64) (nm vl pa en : Nat → Int32) (kp : Nat → Int64) {cN : Nat} {P E N : Nat → Nat} {w : Nat} (hW : tp_wf cN P E) (hX : tp_X cN P E N nm pa en) (hw : w ≤ 1) : Met l yX0_allBelow (ws_ yX0_allBelow cX0_allBelow 6 (some .long)) ({ frames := 1, cells := 0, slots := 0, locals := 21 }) (tp_Pr D (tp_ty dA dJ dZ) (tp_wX dA dJ h (nI cN) on st nm vl pa en kp) [.ref (h 0), .int (nI w)]) (vp_Sl (fun r => ∀ i, tp_b r i = true ↔ (w = 1 ∧ tp_b st i = true) ∨ ∃ k, k < cN ∧ tp_b st k = true ∧ tp_In E k i)) 0 0 (fun _ => False) := by
  refine Met.ofW (cc := cX0_allBelow) (maxL := 6) (ret := (some .long)) (by decide) rfl ?_
  intro p e s m args below meth c s₁ B hml hv
  obtain ⟨rfl, hP, hK⟩ := hv
  have hx := B.exec
  have hb := B.bytes
  have hr := B.returns
  have hts := atoms_spec (ws := ws_ yX0_allBelow cX0_allBelow 6 (some .long)) B.pre
  have hts : ∀ w ∈ lw_all, w.before _ s = true := fun w h => hts w (List.mem_cons_of_mem _ h)
  have hown : s.vm.findClass RX0 = some m.cls := findClass_of_methodNamed B.named
  have hlocks := B.notSynchronized
  have hl := lv_entry ([.ref (h 0), .int (nI w)]) (n := 6) (Nat.le_of_ble_eq_true rfl)
  rw [lg_entry_eq]
  generalize (lg_sl ([.ref (h 0), .int (nI w)]) ++ List.replicate (6 - (lg_sl ([.ref (h 0), .int (nI w)])).length) Slot.unset).toArray = ls at hl ⊢
  have hl : lv_has ls 6 [(0, .ref (h 0)), (1, .int (nI w))] := hl
  have hc := tw_c hW
  have J : ∀ (x0 : Int64), tp_low E st w 0 x0 0 → W p l e (headSpec (ws_ yX0_allBelow cX0_allBelow 6 (some .long)) ({ frames := 1, cells := 0, slots := 0, locals := 21 })).room s m ([.ref (h 0), .int (nI w)] : List Value).toArray below meth c s.heap [] 0 0 (MQ below (vp_Sl (fun r => ∀ i, tp_b r i = true ↔ (w = 1 ∧ tp_b st i = true) ∨ ∃ k, k < cN ∧ tp_b st k = true ∧ tp_In E k i)) ([.ref (h 0), .int (nI w)] : List Value).toArray s 0 0 (fun _ => False)) (F0 m 12 ls [.long x0]) := by
    intro x0 hx0
    refine lv_lstore_n (lv' := [(2, .long x0), (0, .ref (h 0)), (1, .int (nI w))]) hx hb dX0_allBelow_12 rfl hl (by decide) rfl (fun ls hl => ?_)
    refine lv_iconst (v := nI 0) hx hb dX0_allBelow_13 (by decide) ?_
    refine lv_istore (lv' := [(4, .int (nI 0)), (2, .long x0), (0, .ref (h 0)), (1, .int (nI w))]) hx hb dX0_allBelow_14 hl (by decide) rfl (fun ls hl => ?_)
    refine lv_iconst (v := nI 0) hx hb dX0_allBelow_16 (by decide) ?_
    refine lv_istore (lv' := [(5, .int (nI 0)), (4, .int (nI 0)), (2, .long x0), (0, .ref (h 0)), (1, .int (nI w))]) hx hb dX0_allBelow_17 hl (by decide) rfl (fun ls hl => ?_)
    have LP : ∀ (n : Nat) (i cv : Nat) (x : Int64), i ≤ cN → cN < i + n → cv ≤ 48 → tp_low E st w i x cv →  ∀ (ls : Array Slot), lv_has ls 6 [(0, .ref (h 0)), (1, .int (nI w)), (2, .long x), (4, .int (nI cv)), (5, .int (nI i))] → W p l e (headSpec (ws_ yX0_allBelow cX0_allBelow 6 (some .long)) ({ frames := 1, cells := 0, slots := 0, locals := 21 })).room s m ([.ref (h 0), .int (nI w)] : List Value).toArray below meth c s.heap [] 0 0 (MQ below (vp_Sl (fun r => ∀ i, tp_b r i = true ↔ (w = 1 ∧ tp_b st i = true) ∨ ∃ k, k < cN ∧ tp_b st k = true ∧ tp_In E k i)) ([.ref (h 0), .int (nI w)] : List Value).toArray s 0 0 (fun _ => False)) (F0 m 19 ls []) := by
      intro n
      induction n with
      | zero => intro i cv x hi hf hcv hx0 ls hl; exact absurd hf (by omega)
      | succ n ih =>
        intro i cv x hi hf hcv hx0 ls hl
        refine lv_iload hx hb dX0_allBelow_19 (lv_at hl 4 rfl) ?_
        refine lv_aload_n hx hb dX0_allBelow_21 rfl (lv_at hl 0 rfl) ?_
        refine va_get (D := D) (ci := 0) (v := .int (nI cN)) (C := RX0) (T := TX0) (N := 8) hx hb hts in_X0 hown hK hP 0 rfl rfl 0 (by decide) (hts _ q30) (fun _ h9 => h9) rfl dX0_allBelow_22 ?_
        refine lv_icmp_ge (tgt := 86) hx hb dX0_allBelow_25 (by decide) (fun c1 => ?_) (fun c1 => ?_)
        · have c1 : cN ≤ i := (nI_leI (a := cN) (b := i) (by omega) (by omega)).mp c1
          refine lv_lload_n hx hb dX0_allBelow_86 rfl (lv_at hl 2 rfl) ?_
          exact W.lret hx hb hr (fun t ht hW9 => ⟨_, rfl, by rw [show cN = i by omega]; exact hx0.1, ht⟩) (fun _ z => by cases z) dX0_allBelow_87
        · have c1 : ¬ (cN ≤ i) := fun z => c1 ((nI_leI (a := cN) (b := i) (by omega) (by omega)).mpr z)
          have hE0 := tw_E hW (show i < cN by omega)
          refine lv_aload_n hx hb dX0_allBelow_28 rfl (lv_at hl 0 rfl) ?_
          refine va_get (D := D) (ci := 0) (v := .long st) (C := RX0) (T := TX0) (N := 8) hx hb hts in_X0 hown hK hP 0 rfl rfl 6 (by decide) (hts _ q36) (fun _ h9 => h9) rfl dX0_allBelow_29 ?_
          refine lv_iload hx hb dX0_allBelow_32 (lv_at hl 4 rfl) ?_
          refine lv_lushr hx hb dX0_allBelow_34 rfl ?_
          refine lv_lconst (v := 1) hx hb dX0_allBelow_35 (by decide) ?_
          refine lv_land hx hb dX0_allBelow_36 ?_
          refine tp_tl (y := tp_l (tp_b st i)) (tp_ubit (by omega)) ?_
          refine lv_lconst (v := 0) hx hb dX0_allBelow_37 (by decide) ?_
          refine W.lcmp hx hb dX0_allBelow_38 ?_
          refine lv_if_eq (tgt := 80) hx hb dX0_allBelow_39 (by decide) (fun c2 => ?_) (fun c2 => ?_)
          · have c2 : tp_b st i = false := (tp_lcmp0 _).mp c2
            refine lv_iinc (v := nI (i + 1)) (lv' := [(5, .int (nI (i + 1))), (0, .ref (h 0)), (1, .int (nI w)), (2, .long x), (4, .int (nI cv))]) hx hb dX0_allBelow_80 hl (k := 4) rfl (nI_1 i) (by decide) rfl (fun ls hl => ?_)
            refine lv_goto (tgt := 19) hx hb dX0_allBelow_83 (by decide) ?_
            exact ih (i + 1) cv x (by omega) (by omega) hcv (tz_lows hx0 c2) ls (lv_sub hl [1, 2, 3, 4, 0] rfl)
          · have c2 : tp_b st i = true := by
              cases hbb : tp_b st i
              · exact absurd ((tp_lcmp0 _).mpr hbb) c2
              · rfl
            refine lv_aload_n hx hb dX0_allBelow_42 rfl (lv_at hl 0 rfl) ?_
            refine va_get (D := D) (ci := 0) (v := .ref (h 4)) (C := RX0) (T := TX0) (N := 8) hx hb hts in_X0 hown hK hP 0 rfl rfl 5 (by decide) (hts _ q35) (fun _ h9 => h9) rfl dX0_allBelow_43 ?_
            refine lv_iload hx hb dX0_allBelow_46 (lv_at hl 4 rfl) ?_
            refine tp_iald (v := nI (E i)) hx hb hK hP 4 0 rfl rfl i rfl (by omega) ((hX i (by omega)).2.2.2) dX0_allBelow_48 ?_
            refine lv_iload hx hb dX0_allBelow_49 (lv_at hl 3 rfl) ?_
            refine lv_icmp_le (tgt := 80) hx hb dX0_allBelow_51 (by decide) (fun c3 => ?_) (fun c3 => ?_)
            · have c3 : (E i) ≤ cv := (nI_leI (a := (E i)) (b := cv) (by omega) (by omega)).mp c3
              refine lv_iinc (v := nI (i + 1)) (lv' := [(5, .int (nI (i + 1))), (0, .ref (h 0)), (1, .int (nI w)), (2, .long x), (4, .int (nI cv))]) hx hb dX0_allBelow_80 hl (k := 4) rfl (nI_1 i) (by decide) rfl (fun ls hl => ?_)
              refine lv_goto (tgt := 19) hx hb dX0_allBelow_83 (by decide) ?_
              exact ih (i + 1) cv x (by omega) (by omega) hcv (tz_lowc hW (by omega) hx0 c2 c3) ls (lv_sub hl [1, 2, 3, 4, 0] rfl)
            · have c3 : ¬ ((E i) ≤ cv) := fun z => c3 ((nI_leI (a := (E i)) (b := cv) (by omega) (by omega)).mpr z)
              refine lv_lload_n hx hb dX0_allBelow_54 rfl (lv_at hl 2 rfl) ?_
              refine lv_iload hx hb dX0_allBelow_55 (lv_at hl 4 rfl) ?_
              refine lv_iconst (v := nI 1) hx hb dX0_allBelow_57 (by decide) ?_
              refine lv_iadd hx hb dX0_allBelow_58 ?_
              refine tp_ti (nI_add i 1) ?_
              refine lv_aload_n hx hb dX0_allBelow_59 rfl (lv_at hl 0 rfl) ?_
              refine va_get (D := D) (ci := 0) (v := .ref (h 4)) (C := RX0) (T := TX0) (N := 8) hx hb hts in_X0 hown hK hP 0 rfl rfl 5 (by decide) (hts _ q35) (fun _ h9 => h9) rfl dX0_allBelow_60 ?_
              refine lv_iload hx hb dX0_allBelow_63 (lv_at hl 4 rfl) ?_
              refine tp_iald (v := nI (E i)) hx hb hK hP 4 0 rfl rfl i rfl (by omega) ((hX i (by omega)).2.2.2) dX0_allBelow_65 ?_
              refine vp_callSl (W.runS (As := [.int (nI (i + 1)), .int (nI (E i))]) (rest := [.long x]) ⟨hx, hb, hml, hown, hts⟩ (met_stretch l (a := i + 1) (b := E i) (by omega) (by omega)) (va_cwS 2 hts (lw_S q101 q102 q20 q103) rfl rfl rfl (by decide +kernel) ⟨Nat.le_of_ble_eq_true rfl, Nat.le_of_ble_eq_true rfl⟩) tp_ps rfl rfl hl.1 rfl (lv_room (Nat.le_of_ble_eq_true rfl)) dX0_allBelow_66 ⟨Nat.le_of_ble_eq_true rfl, Nat.le_of_ble_eq_true rfl⟩) (fun r1 h1 => ?_)
              refine lv_lor hx hb dX0_allBelow_69 ?_
              refine lv_lstore_n (lv' := [(2, .long (x ||| r1)), (0, .ref (h 0)), (1, .int (nI w)), (4, .int (nI cv)), (5, .int (nI i))]) hx hb dX0_allBelow_70 rfl hl (by decide) rfl (fun ls hl => ?_)
              refine lv_aload_n hx hb dX0_allBelow_71 rfl (lv_at hl 1 rfl) ?_
              refine va_get (D := D) (ci := 0) (v := .ref (h 4)) (C := RX0) (T := TX0) (N := 8) hx hb hts in_X0 hown hK hP 0 rfl rfl 5 (by decide) (hts _ q35) (fun _ h9 => h9) rfl dX0_allBelow_72 ?_
              refine lv_iload hx hb dX0_allBelow_75 (lv_at hl 4 rfl) ?_
              refine tp_iald (v := nI (E i)) hx hb hK hP 4 0 rfl rfl i rfl (by omega) ((hX i (by omega)).2.2.2) dX0_allBelow_77 ?_
              refine lv_istore (lv' := [(4, .int (nI (E i))), (2, .long (x ||| r1)), (0, .ref (h 0)), (1, .int (nI w)), (5, .int (nI i))]) hx hb dX0_allBelow_78 hl (by decide) rfl (fun ls hl => ?_)
              refine lv_iinc (v := nI (i + 1)) (lv' := [(5, .int (nI (i + 1))), (4, .int (nI (E i))), (2, .long (x ||| r1)), (0, .ref (h 0)), (1, .int (nI w))]) hx hb dX0_allBelow_80 hl (k := 4) rfl (nI_1 i) (by decide) rfl (fun ls hl => ?_)
              refine lv_goto (tgt := 19) hx hb dX0_allBelow_83 (by decide) ?_
              exact ih (i + 1) (E i) _ (by omega) (by omega) (by omega) (tz_lown hx0 c2 (by omega) h1) ls (lv_sub hl [3, 4, 2, 1, 0] rfl)
    exact LP (cN + 1) 0 0 x0 (by omega) (by omega) (by omega) hx0 ls (lv_sub hl [3, 4, 2, 1, 0] rfl)
  refine lv_iload_n hx hb dX0_allBelow_0 rfl (lv_at hl 1 rfl) ?_
  refine lv_if_eq (tgt := 11) hx hb dX0_allBelow_1 (by decide) (fun c1 => ?_) (fun c1 => ?_)
  · have c1 : w = 0 := (nI_eq (a := w) (b := 0) (by omega) (by omega)).mp c1
    refine lv_lconst (v := 0) hx hb dX0_allBelow_11 (by decide) ?_
    exact J _ (by rw [c1]; exact tz_low0)
  · have c1 : ¬ (w = 0) := fun z => c1 ((nI_eq (a := w) (b := 0) (by omega) (by omega)).mpr z)
    refine lv_aload_n hx hb dX0_allBelow_4 rfl (lv_at hl 0 rfl) ?_
    refine va_get (D := D) (ci := 0) (v := .long st) (C := RX0) (T := TX0) (N := 8) hx hb hts in_X0 hown hK hP 0 rfl rfl 6 (by decide) (hts _ q36) (fun _ h9 => h9) rfl dX0_allBelow_5 ?_
    refine lv_goto (tgt := 12) hx hb dX0_allBelow_8 (by decide) ?_
    exact J _ (by rw [show w = 1 by omega]; exact tz_low1)

set_option maxHeartbeats 4000000 in
set_option maxRecDepth 100000 in
theorem met_allAbove (l : Launch) (D : va_G) (dA dJ dZ : ClassId) (h : Nat → Nat) (on : Int32) (st : Int64) (nm vl pa en : Nat → Int32) (kp : Nat → Int64) {cN : Nat} {P E N : Nat → Nat} {w : Nat} (hW : tp_wf cN P E) (hX : tp_X cN P E N nm pa en) (hw : w ≤ 1) : Met l yX0_allAbove (ws_ yX0_allAbove cX0_allAbove 7 (some .long)) ({ frames := 0, cells := 0, slots := 0, locals := 0 }) (tp_Pr D (tp_ty dA dJ dZ) (tp_wX dA dJ h (nI cN) on st nm vl pa en kp) [.ref (h 0), .int (nI w)]) (vp_Sl (fun r => ∀ i, tp_b r i = true ↔ (w = 1 ∧ tp_b st i = true) ∨ ∃ k, k < cN ∧ tp_b st k = true ∧ tp_In E i k)) 0 0 (fun _ => False) := by
  refine Met.ofW (cc := cX0_allAbove) (maxL := 7) (ret := (some .long)) (by decide) rfl ?_
  intro p e s m args below meth c s₁ B hml hv
  obtain ⟨rfl, hP, hK⟩ := hv
  have hx := B.exec
  have hb := B.bytes
  have hr := B.returns
  have hts := atoms_spec (ws := ws_ yX0_allAbove cX0_allAbove 7 (some .long)) B.pre
  have hts : ∀ w ∈ lw_all, w.before _ s = true := fun w h => hts w (List.mem_cons_of_mem _ h)
  have hown : s.vm.findClass RX0 = some m.cls := findClass_of_methodNamed B.named
  have hlocks := B.notSynchronized
  have hl := lv_entry ([.ref (h 0), .int (nI w)]) (n := 7) (Nat.le_of_ble_eq_true rfl)
  rw [lg_entry_eq]
  generalize (lg_sl ([.ref (h 0), .int (nI w)]) ++ List.replicate (7 - (lg_sl ([.ref (h 0), .int (nI w)])).length) Slot.unset).toArray = ls at hl ⊢
  have hl : lv_has ls 7 [(0, .ref (h 0)), (1, .int (nI w))] := hl
  have hc := tw_c hW
  refine lv_lconst (v := 0) hx hb dX0_allAbove_0 (by decide) ?_
  refine lv_lstore_n (lv' := [(2, .long 0), (0, .ref (h 0)), (1, .int (nI w))]) hx hb dX0_allAbove_1 rfl hl (by decide) rfl (fun ls hl => ?_)
  refine lv_iconst (v := nI 0) hx hb dX0_allAbove_2 (by decide) ?_
  refine lv_istore (lv' := [(4, .int (nI 0)), (2, .long 0), (0, .ref (h 0)), (1, .int (nI w))]) hx hb dX0_allAbove_3 hl (by decide) rfl (fun ls hl => ?_)
  have LP : ∀ (n : Nat) (i : Nat) (x : Int64), i ≤ cN → cN < i + n → tp_high E st i x →  ∀ (ls : Array Slot), lv_has ls 7 [(0, .ref (h 0)), (1, .int (nI w)), (2, .long x), (4, .int (nI i))] → W p l e (headSpec (ws_ yX0_allAbove cX0_allAbove 7 (some .long)) ({ frames := 0, cells := 0, slots := 0, locals := 0 })).room s m ([.ref (h 0), .int (nI w)] : List Value).toArray below meth c s.heap [] 0 0 (MQ below (vp_Sl (fun r => ∀ i, tp_b r i = true ↔ (w = 1 ∧ tp_b st i = true) ∨ ∃ k, k < cN ∧ tp_b st k = true ∧ tp_In E i k)) ([.ref (h 0), .int (nI w)] : List Value).toArray s 0 0 (fun _ => False)) (F0 m 5 ls []) := by
    intro n
    induction n with
    | zero => intro i x hi hf hx0 ls hl; exact absurd hf (by omega)
    | succ n ih =>
      intro i x hi hf hx0 ls hl
      refine lv_iload hx hb dX0_allAbove_5 (lv_at hl 3 rfl) ?_
      refine lv_aload_n hx hb dX0_allAbove_7 rfl (lv_at hl 0 rfl) ?_
      refine va_get (D := D) (ci := 0) (v := .int (nI cN)) (C := RX0) (T := TX0) (N := 8) hx hb hts in_X0 hown hK hP 0 rfl rfl 0 (by decide) (hts _ q30) (fun _ h9 => h9) rfl dX0_allAbove_8 ?_
      refine lv_icmp_ge (tgt := 95) hx hb dX0_allAbove_11 (by decide) (fun c1 => ?_) (fun c1 => ?_)
      · have c1 : cN ≤ i := (nI_leI (a := cN) (b := i) (by omega) (by omega)).mp c1
        have hxe : tp_high E st cN x := by rw [show cN = i by omega]; exact hx0
        refine lv_iload_n hx hb dX0_allAbove_95 rfl (lv_at hl 1 rfl) ?_
        refine lv_if_eq (tgt := 108) hx hb dX0_allAbove_96 (by decide) (fun c2 => ?_) (fun c2 => ?_)
        · have c2 : w = 0 := (nI_eq (a := w) (b := 0) (by omega) (by omega)).mp c2
          refine lv_lload_n hx hb dX0_allAbove_108 rfl (lv_at hl 2 rfl) ?_
          exact W.lret hx hb hr (fun t ht hW9 => ⟨_, rfl, fun q => by rw [hxe q]; exact ⟨fun z => Or.inr z, fun z => z.elim (fun y => absurd y.1 (by omega)) id⟩, ht⟩) (fun _ z => by cases z) dX0_allAbove_109
        · have c2 : ¬ (w = 0) := fun z => c2 ((nI_eq (a := w) (b := 0) (by omega) (by omega)).mpr z)
          refine lv_lload_n hx hb dX0_allAbove_99 rfl (lv_at hl 2 rfl) ?_
          refine lv_aload_n hx hb dX0_allAbove_100 rfl (lv_at hl 0 rfl) ?_
          refine va_get (D := D) (ci := 0) (v := .long st) (C := RX0) (T := TX0) (N := 8) hx hb hts in_X0 hown hK hP 0 rfl rfl 6 (by decide) (hts _ q36) (fun _ h9 => h9) rfl dX0_allAbove_101 ?_
          refine lv_lor hx hb dX0_allAbove_104 ?_
          refine lv_goto (tgt := 109) hx hb dX0_allAbove_105 (by decide) ?_
          exact W.lret hx hb hr (fun t ht hW9 => ⟨_, rfl, fun q => by rw [tp_or, Bool.or_eq_true, hxe q]; exact ⟨fun z => z.elim Or.inr (fun y => Or.inl ⟨by omega, y⟩), fun z => z.elim (fun y => Or.inr y.2) Or.inl⟩, ht⟩) (fun _ z => by cases z) dX0_allAbove_109
      · have c1 : ¬ (cN ≤ i) := fun z => c1 ((nI_leI (a := cN) (b := i) (by omega) (by omega)).mpr z)
        have JE : ∀ (xe : Int64), tp_high E st (i + 1) xe → ∀ (ls : Array Slot), lv_has ls 7 [(0, .ref (h 0)), (1, .int (nI w)), (2, .long xe), (4, .int (nI i))] → W p l e (headSpec (ws_ yX0_allAbove cX0_allAbove 7 (some .long)) ({ frames := 0, cells := 0, slots := 0, locals := 0 })).room s m ([.ref (h 0), .int (nI w)] : List Value).toArray below meth c s.heap [] 0 0 (MQ below (vp_Sl (fun r => ∀ i, tp_b r i = true ↔ (w = 1 ∧ tp_b st i = true) ∨ ∃ k, k < cN ∧ tp_b st k = true ∧ tp_In E i k)) ([.ref (h 0), .int (nI w)] : List Value).toArray s 0 0 (fun _ => False)) (F0 m 89 ls []) := by
          intro xe hxe ls hl
          refine lv_iinc (v := nI (i + 1)) (lv' := [(4, .int (nI (i + 1))), (0, .ref (h 0)), (1, .int (nI w)), (2, .long xe)]) hx hb dX0_allAbove_89 hl (k := 3) rfl (nI_1 i) (by decide) rfl (fun ls hl => ?_)
          refine lv_goto (tgt := 5) hx hb dX0_allAbove_92 (by decide) ?_
          exact ih (i + 1) xe (by omega) (by omega) hxe ls (lv_sub hl [1, 2, 3, 0] rfl)
        have LQ : ∀ (n2 : Nat) (j k : Nat) (y0 : Int64) (at' : Int32), k < n2 → j + k ≤ i → tp_clm E st i y0 at' k →  ∀ (ls : Array Slot), lv_has ls 7 [(0, .ref (h 0)), (1, .int (nI w)), (2, .long y0), (4, .int (nI i)), (5, .int at'), (6, .int (nI j))] → W p l e (headSpec (ws_ yX0_allAbove cX0_allAbove 7 (some .long)) ({ frames := 0, cells := 0, slots := 0, locals := 0 })).room s m ([.ref (h 0), .int (nI w)] : List Value).toArray below meth c s.heap [] 0 0 (MQ below (vp_Sl (fun r => ∀ i, tp_b r i = true ↔ (w = 1 ∧ tp_b st i = true) ∨ ∃ k, k < cN ∧ tp_b st k = true ∧ tp_In E i k)) ([.ref (h 0), .int (nI w)] : List Value).toArray s 0 0 (fun _ => False)) (F0 m 44 ls []) := by
          intro n2
          induction n2 with
          | zero => intro j k y0 at' hf2 hjk hw2 ls hl; exact absurd hf2 (by omega)
          | succ n2 ih2 =>
            intro j k y0 at' hf2 hjk hw2 ls hl
            rcases hw2 with ⟨e1, e2, e3⟩ | ⟨y, e1, ek, hy, g1, g2, g3⟩
            · subst e1
              refine lv_iload hx hb dX0_allAbove_44 (lv_at hl 5 rfl) ?_
              refine lv_bipush (v := nI 48) hx hb dX0_allAbove_46 (by decide) ?_
              refine lv_icmp_ge (tgt := 89) hx hb dX0_allAbove_48 (by decide) (fun z => absurd ((nI_leI (a := 48) (b := j) (by omega) (by omega)).mp z) (by omega)) (fun _ => ?_)
              refine lv_iload hx hb dX0_allAbove_51 (lv_at hl 4 rfl) ?_
              refine lv_if_lt (tgt := 89) hx hb dX0_allAbove_53 (by decide) (fun _ => ?_) (fun z => absurd ((by decide : (-1 : Int32) < 0)) z)
              exact JE _ e3 ls (lv_sub hl [0, 1, 2, 3] rfl)
            · subst e1
              refine lv_iload hx hb dX0_allAbove_44 (lv_at hl 5 rfl) ?_
              refine lv_bipush (v := nI 48) hx hb dX0_allAbove_46 (by decide) ?_
              refine lv_icmp_ge (tgt := 89) hx hb dX0_allAbove_48 (by decide) (fun z => absurd ((nI_leI (a := 48) (b := j) (by omega) (by omega)).mp z) (by omega)) (fun _ => ?_)
              refine lv_iload hx hb dX0_allAbove_51 (lv_at hl 4 rfl) ?_
              refine lv_if_lt (tgt := 89) hx hb dX0_allAbove_53 (by decide) (fun z => absurd z (nI_pos (by omega))) (fun _ => ?_)
              refine lv_lload_n hx hb dX0_allAbove_56 rfl (lv_at hl 2 rfl) ?_
              refine lv_iload hx hb dX0_allAbove_57 (lv_at hl 4 rfl) ?_
              refine lv_lushr hx hb dX0_allAbove_59 rfl ?_
              refine lv_lconst (v := 1) hx hb dX0_allAbove_60 (by decide) ?_
              refine lv_land hx hb dX0_allAbove_61 ?_
              refine tp_tl (y := tp_l (tp_b y0 y)) (tp_ubit (by omega)) ?_
              refine lv_lconst (v := 0) hx hb dX0_allAbove_62 (by decide) ?_
              refine W.lcmp hx hb dX0_allAbove_63 ?_
              refine lv_if_ne (tgt := 89) hx hb dX0_allAbove_64 (by decide) (fun d1 => ?_) (fun d1 => ?_)
              · have d1 : tp_b y0 y = true := by
                  cases hbb : tp_b y0 y
                  · exact absurd ((tp_lcmp0 _).mpr hbb) d1
                  · rfl
                exact JE _ (tz_clmx hW (by omega) g1 g2 g3 d1) ls (lv_sub hl [0, 1, 2, 3] rfl)
              · have d1 : tp_b y0 y = false := (tp_lcmp0 _).mp d1
                obtain ⟨k', hk', hw'⟩ := tz_clms hW (show i < cN by omega) hy g1 g2 g3
                refine lv_lload_n hx hb dX0_allAbove_67 rfl (lv_at hl 2 rfl) ?_
                refine lv_lconst (v := 1) hx hb dX0_allAbove_68 (by decide) ?_
                refine lv_iload hx hb dX0_allAbove_69 (lv_at hl 4 rfl) ?_
                refine lv_lshl (v := tp_1 y) hx hb dX0_allAbove_71 rfl ?_
                refine lv_lor hx hb dX0_allAbove_72 ?_
                refine lv_lstore_n (lv' := [(2, .long (y0 ||| (tp_1 y))), (0, .ref (h 0)), (1, .int (nI w)), (4, .int (nI i)), (5, .int (nI y)), (6, .int (nI j))]) hx hb dX0_allAbove_73 rfl hl (by decide) rfl (fun ls hl => ?_)
                refine lv_aload_n hx hb dX0_allAbove_74 rfl (lv_at hl 1 rfl) ?_
                refine va_get (D := D) (ci := 0) (v := .ref (h 3)) (C := RX0) (T := TX0) (N := 8) hx hb hts in_X0 hown hK hP 0 rfl rfl 4 (by decide) (hts _ q34) (fun _ h9 => h9) rfl dX0_allAbove_75 ?_
                refine lv_iload hx hb dX0_allAbove_78 (lv_at hl 4 rfl) ?_
                refine tp_iald (v := tp_pa P y) hx hb hK hP 3 0 rfl rfl y rfl (by omega) ((hX y (by omega)).2.2.1) dX0_allAbove_80 ?_
                refine lv_istore (lv' := [(5, .int (tp_pa P y)), (2, .long (y0 ||| (tp_1 y))), (0, .ref (h 0)), (1, .int (nI w)), (4, .int (nI i)), (6, .int (nI j))]) hx hb dX0_allAbove_81 hl (by decide) rfl (fun ls hl => ?_)
                refine lv_iinc (v := nI (j + 1)) (lv' := [(6, .int (nI (j + 1))), (5, .int (tp_pa P y)), (2, .long (y0 ||| (tp_1 y))), (0, .ref (h 0)), (1, .int (nI w)), (4, .int (nI i))]) hx hb dX0_allAbove_83 hl (k := 5) rfl (nI_1 j) (by decide) rfl (fun ls hl => ?_)
                refine lv_goto (tgt := 44) hx hb dX0_allAbove_86 (by decide) ?_
                exact ih2 (j + 1) k' _ _ (by omega) (by omega) hw' ls (lv_sub hl [3, 4, 2, 5, 1, 0] rfl)
        refine lv_aload_n hx hb dX0_allAbove_14 rfl (lv_at hl 0 rfl) ?_
        refine va_get (D := D) (ci := 0) (v := .long st) (C := RX0) (T := TX0) (N := 8) hx hb hts in_X0 hown hK hP 0 rfl rfl 6 (by decide) (hts _ q36) (fun _ h9 => h9) rfl dX0_allAbove_15 ?_
        refine lv_iload hx hb dX0_allAbove_18 (lv_at hl 3 rfl) ?_
        refine lv_lushr hx hb dX0_allAbove_20 rfl ?_
        refine lv_lconst (v := 1) hx hb dX0_allAbove_21 (by decide) ?_
        refine lv_land hx hb dX0_allAbove_22 ?_
        refine tp_tl (y := tp_l (tp_b st i)) (tp_ubit (by omega)) ?_
        refine lv_lconst (v := 0) hx hb dX0_allAbove_23 (by decide) ?_
        refine W.lcmp hx hb dX0_allAbove_24 ?_
        refine lv_if_eq (tgt := 38) hx hb dX0_allAbove_25 (by decide) (fun c2 => ?_) (fun c2 => ?_)
        · have c2 : tp_b st i = false := (tp_lcmp0 _).mp c2
          refine lv_iconst (v := -1) hx hb dX0_allAbove_38 (by decide) ?_
          refine lv_istore (lv' := [(5, .int (-1)), (0, .ref (h 0)), (1, .int (nI w)), (2, .long x), (4, .int (nI i))]) hx hb dX0_allAbove_39 hl (by decide) rfl (fun ls hl => ?_)
          refine lv_iconst (v := nI 0) hx hb dX0_allAbove_41 (by decide) ?_
          refine lv_istore (lv' := [(6, .int (nI 0)), (5, .int (-1)), (0, .ref (h 0)), (1, .int (nI w)), (2, .long x), (4, .int (nI i))]) hx hb dX0_allAbove_42 hl (by decide) rfl (fun ls hl => ?_)
          exact LQ 49 0 0 x (-1) (by omega) (by omega) (tz_clm0 hx0 c2) ls (lv_sub hl [2, 3, 4, 5, 1, 0] rfl)
        · have c2 : tp_b st i = true := by
            cases hbb : tp_b st i
            · exact absurd ((tp_lcmp0 _).mpr hbb) c2
            · rfl
          obtain ⟨k0, hk0, hw0⟩ := tz_clm1 hW (show i < cN by omega) hx0 c2
          refine lv_aload_n hx hb dX0_allAbove_28 rfl (lv_at hl 0 rfl) ?_
          refine va_get (D := D) (ci := 0) (v := .ref (h 3)) (C := RX0) (T := TX0) (N := 8) hx hb hts in_X0 hown hK hP 0 rfl rfl 4 (by decide) (hts _ q34) (fun _ h9 => h9) rfl dX0_allAbove_29 ?_
          refine lv_iload hx hb dX0_allAbove_32 (lv_at hl 3 rfl) ?_
          refine tp_iald (v := tp_pa P i) hx hb hK hP 3 0 rfl rfl i rfl (by omega) ((hX i (by omega)).2.2.1) dX0_allAbove_34 ?_
          refine lv_goto (tgt := 39) hx hb dX0_allAbove_35 (by decide) ?_
          refine lv_istore (lv' := [(5, .int (tp_pa P i)), (0, .ref (h 0)), (1, .int (nI w)), (2, .long x), (4, .int (nI i))]) hx hb dX0_allAbove_39 hl (by decide) rfl (fun ls hl => ?_)
          refine lv_iconst (v := nI 0) hx hb dX0_allAbove_41 (by decide) ?_
          refine lv_istore (lv' := [(6, .int (nI 0)), (5, .int (tp_pa P i)), (0, .ref (h 0)), (1, .int (nI w)), (2, .long x), (4, .int (nI i))]) hx hb dX0_allAbove_42 hl (by decide) rfl (fun ls hl => ?_)
          exact LQ 49 0 k0 x _ (by omega) (by omega) hw0 ls (lv_sub hl [2, 3, 4, 5, 1, 0] rfl)
  exact LP (cN + 1) 0 0 (by omega) (by omega) tz_high0 ls (lv_sub hl [2, 3, 1, 0] rfl)

set_option maxHeartbeats 4000000 in
set_option maxRecDepth 100000 in
theorem met_leastEnd (l : Launch) (D : va_G) (dA dJ dZ : ClassId) (h : Nat → Nat) (on : Int32) (st : Int64) (nm vl pa en : Nat → Int32) (kp : Nat → Int64) {cN : Nat} {P E N : Nat → Nat} (hW : tp_wf cN P E) (hX : tp_X cN P E N nm pa en) : Met l yX0_leastEnd (ws_ yX0_leastEnd cX0_leastEnd 4 (some .int)) ({ frames := 0, cells := 0, slots := 0, locals := 0 }) (tp_Pr D (tp_ty dA dJ dZ) (tp_wX dA dJ h (nI cN) on st nm vl pa en kp) [.ref (h 0)]) (vp_Si (fun r => ∃ q, r = nI q ∧ tp_lst E st cN cN q)) 0 0 (fun _ => False) := by
  refine Met.ofW (cc := cX0_leastEnd) (maxL := 4) (ret := (some .int)) (by decide) rfl ?_
  intro p e s m args below meth c s₁ B hml hv
  obtain ⟨rfl, hP, hK⟩ := hv
  have hx := B.exec
  have hb := B.bytes
  have hr := B.returns
  have hts := atoms_spec (ws := ws_ yX0_leastEnd cX0_leastEnd 4 (some .int)) B.pre
  have hts : ∀ w ∈ lw_all, w.before _ s = true := fun w h => hts w (List.mem_cons_of_mem _ h)
  have hown : s.vm.findClass RX0 = some m.cls := findClass_of_methodNamed B.named
  have hlocks := B.notSynchronized
  have hl := lv_entry ([.ref (h 0)]) (n := 4) (Nat.le_of_ble_eq_true rfl)
  rw [lg_entry_eq]
  generalize (lg_sl ([.ref (h 0)]) ++ List.replicate (4 - (lg_sl ([.ref (h 0)])).length) Slot.unset).toArray = ls at hl ⊢
  have hl : lv_has ls 4 [(0, .ref (h 0))] := hl
  have hc := tw_c hW
  refine lv_aload_n hx hb dX0_leastEnd_0 rfl (lv_at hl 0 rfl) ?_
  refine va_get (D := D) (ci := 0) (v := .int (nI cN)) (C := RX0) (T := TX0) (N := 8) hx hb hts in_X0 hown hK hP 0 rfl rfl 0 (by decide) (hts _ q30) (fun _ h9 => h9) rfl dX0_leastEnd_1 ?_
  refine lv_istore_n (lv' := [(1, .int (nI cN)), (0, .ref (h 0))]) hx hb dX0_leastEnd_4 rfl hl (by decide) rfl (fun ls hl => ?_)
  refine lv_iconst (v := nI 0) hx hb dX0_leastEnd_5 (by decide) ?_
  refine lv_istore_n (lv' := [(2, .int (nI 0)), (1, .int (nI cN)), (0, .ref (h 0))]) hx hb dX0_leastEnd_6 rfl hl (by decide) rfl (fun ls hl => ?_)
  have LP : ∀ (n : Nat) (i q : Nat), i ≤ cN → cN < i + n → tp_lst E st cN i q →  ∀ (ls : Array Slot), lv_has ls 4 [(0, .ref (h 0)), (1, .int (nI q)), (2, .int (nI i))] → W p l e (headSpec (ws_ yX0_leastEnd cX0_leastEnd 4 (some .int)) ({ frames := 0, cells := 0, slots := 0, locals := 0 })).room s m ([.ref (h 0)] : List Value).toArray below meth c s.heap [] 0 0 (MQ below (vp_Si (fun r => ∃ q, r = nI q ∧ tp_lst E st cN cN q)) ([.ref (h 0)] : List Value).toArray s 0 0 (fun _ => False)) (F0 m 7 ls []) := by
    intro n
    induction n with
    | zero => intro i q hi hf hx0 ls hl; exact absurd hf (by omega)
    | succ n ih =>
      intro i q hi hf hx0 ls hl
      have hq0 := hx0.1
      refine lv_iload_n hx hb dX0_leastEnd_7 rfl (lv_at hl 2 rfl) ?_
      refine lv_aload_n hx hb dX0_leastEnd_8 rfl (lv_at hl 0 rfl) ?_
      refine va_get (D := D) (ci := 0) (v := .int (nI cN)) (C := RX0) (T := TX0) (N := 8) hx hb hts in_X0 hown hK hP 0 rfl rfl 0 (by decide) (hts _ q30) (fun _ h9 => h9) rfl dX0_leastEnd_9 ?_
      refine lv_icmp_ge (tgt := 65) hx hb dX0_leastEnd_12 (by decide) (fun c1 => ?_) (fun c1 => ?_)
      · have c1 : cN ≤ i := (nI_leI (a := cN) (b := i) (by omega) (by omega)).mp c1
        refine lv_iload_n hx hb dX0_leastEnd_65 rfl (lv_at hl 1 rfl) ?_
        exact W.iret hx hb hr (fun t ht hW9 => ⟨_, rfl, ⟨q, rfl, by rw [show i = cN by omega] at hx0; exact hx0⟩, ht⟩) (fun _ z => by cases z) dX0_leastEnd_66
      · have c1 : ¬ (cN ≤ i) := fun z => c1 ((nI_leI (a := cN) (b := i) (by omega) (by omega)).mpr z)
        have hE0 := tw_E hW (show i < cN by omega)
        have JY : tp_lst E st cN (i + 1) (E i) → W p l e (headSpec (ws_ yX0_leastEnd cX0_leastEnd 4 (some .int)) ({ frames := 0, cells := 0, slots := 0, locals := 0 })).room s m ([.ref (h 0)] : List Value).toArray below meth c s.heap [] 0 0 (MQ below (vp_Si (fun r => ∃ q, r = nI q ∧ tp_lst E st cN cN q)) ([.ref (h 0)] : List Value).toArray s 0 0 (fun _ => False)) (F0 m 38 ls []) := by
          intro hq
          refine lv_iconst (v := nI 1) hx hb dX0_leastEnd_38 (by decide) ?_
          refine lv_goto (tgt := 43) hx hb dX0_leastEnd_39 (by decide) ?_
          refine lv_istore_n (lv' := [(3, .int (nI 1)), (0, .ref (h 0)), (1, .int (nI q)), (2, .int (nI i))]) hx hb dX0_leastEnd_43 rfl hl (by decide) rfl (fun ls hl => ?_)
          refine lv_iload_n hx hb dX0_leastEnd_44 rfl (lv_at hl 0 rfl) ?_
          refine lv_if_eq (tgt := 57) hx hb dX0_leastEnd_45 (by decide) (fun z => absurd ((nI_eq (a := 1) (b := 0) (by omega) (by omega)).mp z) (by omega)) (fun _ => ?_)
          refine lv_aload_n hx hb dX0_leastEnd_48 rfl (lv_at hl 1 rfl) ?_
          refine va_get (D := D) (ci := 0) (v := .ref (h 4)) (C := RX0) (T := TX0) (N := 8) hx hb hts in_X0 hown hK hP 0 rfl rfl 5 (by decide) (hts _ q35) (fun _ h9 => h9) rfl dX0_leastEnd_49 ?_
          refine lv_iload_n hx hb dX0_leastEnd_52 rfl (lv_at hl 3 rfl) ?_
          refine tp_iald (v := nI (E i)) hx hb hK hP 4 0 rfl rfl i rfl (by omega) ((hX i (by omega)).2.2.2) dX0_leastEnd_53 ?_
          refine lv_goto (tgt := 58) hx hb dX0_leastEnd_54 (by decide) ?_
          refine lv_istore_n (lv' := [(1, .int (nI (E i))), (3, .int (nI 1)), (0, .ref (h 0)), (2, .int (nI i))]) hx hb dX0_leastEnd_58 rfl hl (by decide) rfl (fun ls hl => ?_)
          refine lv_iinc (v := nI (i + 1)) (lv' := [(2, .int (nI (i + 1))), (1, .int (nI (E i))), (3, .int (nI 1)), (0, .ref (h 0))]) hx hb dX0_leastEnd_59 hl (k := 3) rfl (nI_1 i) (by decide) rfl (fun ls hl => ?_)
          refine lv_goto (tgt := 7) hx hb dX0_leastEnd_62 (by decide) ?_
          exact ih (i + 1) (E i) (by omega) (by omega) hq ls (lv_sub hl [3, 1, 0] rfl)
        have JN : tp_lst E st cN (i + 1) q → W p l e (headSpec (ws_ yX0_leastEnd cX0_leastEnd 4 (some .int)) ({ frames := 0, cells := 0, slots := 0, locals := 0 })).room s m ([.ref (h 0)] : List Value).toArray below meth c s.heap [] 0 0 (MQ below (vp_Si (fun r => ∃ q, r = nI q ∧ tp_lst E st cN cN q)) ([.ref (h 0)] : List Value).toArray s 0 0 (fun _ => False)) (F0 m 42 ls []) := by
          intro hq
          refine lv_iconst (v := nI 0) hx hb dX0_leastEnd_42 (by decide) ?_
          refine lv_istore_n (lv' := [(3, .int (nI 0)), (0, .ref (h 0)), (1, .int (nI q)), (2, .int (nI i))]) hx hb dX0_leastEnd_43 rfl hl (by decide) rfl (fun ls hl => ?_)
          refine lv_iload_n hx hb dX0_leastEnd_44 rfl (lv_at hl 0 rfl) ?_
          refine lv_if_eq (tgt := 57) hx hb dX0_leastEnd_45 (by decide) (fun _ => ?_) (fun z => absurd ((nI_eq (a := 0) (b := 0) (by omega) (by omega)).mpr (by omega)) z)
          refine lv_iload_n hx hb dX0_leastEnd_57 rfl (lv_at hl 2 rfl) ?_
          refine lv_istore_n (lv' := [(1, .int (nI q)), (3, .int (nI 0)), (0, .ref (h 0)), (2, .int (nI i))]) hx hb dX0_leastEnd_58 rfl hl (by decide) rfl (fun ls hl => ?_)
          refine lv_iinc (v := nI (i + 1)) (lv' := [(2, .int (nI (i + 1))), (1, .int (nI q)), (3, .int (nI 0)), (0, .ref (h 0))]) hx hb dX0_leastEnd_59 hl (k := 3) rfl (nI_1 i) (by decide) rfl (fun ls hl => ?_)
          refine lv_goto (tgt := 7) hx hb dX0_leastEnd_62 (by decide) ?_
          exact ih (i + 1) q (by omega) (by omega) hq ls (lv_sub hl [3, 1, 0] rfl)
        refine lv_aload_n hx hb dX0_leastEnd_15 rfl (lv_at hl 0 rfl) ?_
        refine va_get (D := D) (ci := 0) (v := .long st) (C := RX0) (T := TX0) (N := 8) hx hb hts in_X0 hown hK hP 0 rfl rfl 6 (by decide) (hts _ q36) (fun _ h9 => h9) rfl dX0_leastEnd_16 ?_
        refine lv_iload_n hx hb dX0_leastEnd_19 rfl (lv_at hl 2 rfl) ?_
        refine lv_lushr hx hb dX0_leastEnd_20 rfl ?_
        refine lv_lconst (v := 1) hx hb dX0_leastEnd_21 (by decide) ?_
        refine lv_land hx hb dX0_leastEnd_22 ?_
        refine tp_tl (y := tp_l (tp_b st i)) (tp_ubit (by omega)) ?_
        refine lv_lconst (v := 0) hx hb dX0_leastEnd_23 (by decide) ?_
        refine W.lcmp hx hb dX0_leastEnd_24 ?_
        refine lv_if_eq (tgt := 42) hx hb dX0_leastEnd_25 (by decide) (fun c2 => ?_) (fun c2 => ?_)
        · have c2 : tp_b st i = false := (tp_lcmp0 _).mp c2
          exact JN (tz_lsts hx0 (fun z => by rw [c2] at z; cases z))
        · have c2 : tp_b st i = true := by
            cases hbb : tp_b st i
            · exact absurd ((tp_lcmp0 _).mpr hbb) c2
            · rfl
          refine lv_aload_n hx hb dX0_leastEnd_28 rfl (lv_at hl 0 rfl) ?_
          refine va_get (D := D) (ci := 0) (v := .ref (h 4)) (C := RX0) (T := TX0) (N := 8) hx hb hts in_X0 hown hK hP 0 rfl rfl 5 (by decide) (hts _ q35) (fun _ h9 => h9) rfl dX0_leastEnd_29 ?_
          refine lv_iload_n hx hb dX0_leastEnd_32 rfl (lv_at hl 2 rfl) ?_
          refine tp_iald (v := nI (E i)) hx hb hK hP 4 0 rfl rfl i rfl (by omega) ((hX i (by omega)).2.2.2) dX0_leastEnd_33 ?_
          refine lv_iload_n hx hb dX0_leastEnd_34 rfl (lv_at hl 1 rfl) ?_
          refine lv_icmp_ge (tgt := 42) hx hb dX0_leastEnd_35 (by decide) (fun c3 => ?_) (fun c3 => ?_)
          · have c3 : q ≤ (E i) := (nI_leI (a := q) (b := (E i)) (by omega) (by omega)).mp c3
            exact JN (tz_lsts hx0 (fun _ => c3))
          · have c3 : ¬ (q ≤ (E i)) := fun z => c3 ((nI_leI (a := q) (b := (E i)) (by omega) (by omega)).mpr z)
            exact JY (tz_lstn hx0 c2 (by omega))
  exact LP (cN + 1) 0 cN (by omega) (by omega) tz_lst0 ls (lv_sub hl [2, 1, 0] rfl)

set_option maxHeartbeats 4000000 in
set_option maxRecDepth 100000 in
theorem met_allAlong (l : Launch) (D : va_G) (dA dJ dZ : ClassId) (h : Nat → Nat) (on : Int32) (st : Int64) (nm vl pa en : Nat → Int32) (kp : Nat → Int64) {cN : Nat} {P E N : Nat → Nat} {ax : Nat} (hW : tp_wf cN P E) (hX : tp_X cN P E N nm pa en) (hs : ∀ i, tp_b st i = true → i < cN) (hax : ax ≤ 10) : Met l yX0_allAlong (ws_ yX0_allAlong cX0_allAlong 5 (some .long)) ({ frames := 3, cells := 0, slots := 0, locals := 74 }) (tp_Pr D (tp_ty dA dJ dZ) (tp_wX dA dJ h (nI cN) on st nm vl pa en kp) [.ref (h 0), .int (nI ax)]) (vp_Sl (fun r => ∀ i, tp_b r i = true ↔ tp_al cN P E st ax cN i)) 0 0 (fun _ => False) := by
  refine Met.ofW (cc := cX0_allAlong) (maxL := 5) (ret := (some .long)) (by decide) rfl ?_
  intro p e s m args below meth c s₁ B hml hv
  obtain ⟨rfl, hP, hK⟩ := hv
  have hx := B.exec
  have hb := B.bytes
  have hr := B.returns
  have hts := atoms_spec (ws := ws_ yX0_allAlong cX0_allAlong 5 (some .long)) B.pre
  have hts : ∀ w ∈ lw_all, w.before _ s = true := fun w h => hts w (List.mem_cons_of_mem _ h)
  have hown : s.vm.findClass RX0 = some m.cls := findClass_of_methodNamed B.named
  have hlocks := B.notSynchronized
  have hl := lv_entry ([.ref (h 0), .int (nI ax)]) (n := 5) (Nat.le_of_ble_eq_true rfl)
  rw [lg_entry_eq]
  generalize (lg_sl ([.ref (h 0), .int (nI ax)]) ++ List.replicate (5 - (lg_sl ([.ref (h 0), .int (nI ax)])).length) Slot.unset).toArray = ls at hl ⊢
  have hl : lv_has ls 5 [(0, .ref (h 0)), (1, .int (nI ax))] := hl
  have hc := tw_c hW
  refine lv_aload_n hx hb dX0_allAlong_0 rfl (lv_at hl 0 rfl) ?_
  refine va_get (D := D) (ci := 0) (v := .long st) (C := RX0) (T := TX0) (N := 8) hx hb hts in_X0 hown hK hP 0 rfl rfl 6 (by decide) (hts _ q36) (fun _ h9 => h9) rfl dX0_allAlong_1 ?_
  refine lv_lconst (v := 0) hx hb dX0_allAlong_4 (by decide) ?_
  refine W.lcmp hx hb dX0_allAlong_5 ?_
  refine lv_if_ne (tgt := 11) hx hb dX0_allAlong_6 (by decide) (fun c1 => ?_) (fun c1 => ?_)
  · have c1 : ¬ st = 0 := fun z => c1 ((lg_cmp_eq _ _).mpr z)
    have h1c := tz_pos hc.2 hs c1
    have hcl := tp_c_le (tp_b st) 48
    refine lv_iload_n hx hb dX0_allAlong_11 rfl (lv_at hl 1 rfl) ?_
    refine lv_iconst (v := nI 3) hx hb dX0_allAlong_12 (by decide) ?_
    refine lv_icmp_eq (tgt := 22) hx hb dX0_allAlong_13 (by decide) (fun c2 => ?_) (fun c2 => ?_)
    · have c2 : ax = 3 := (nI_eq (a := ax) (b := 3) (by omega) (by omega)).mp c2
      refine lv_aload_n hx hb dX0_allAlong_22 rfl (lv_at hl 0 rfl) ?_
      refine lv_iload_n hx hb dX0_allAlong_23 rfl (lv_at hl 1 rfl) ?_
      refine lv_bipush (v := nI 9) hx hb dX0_allAlong_24 (by decide) ?_
      refine lv_icmp_ne (tgt := 33) hx hb dX0_allAlong_26 (by decide) (fun c3 => ?_) (fun c3 => ?_)
      · have c3 : ¬ (ax = 9) := fun z => c3 ((nI_eq (a := ax) (b := 9) (by omega) (by omega)).mpr z)
        refine lv_iconst (v := nI 0) hx hb dX0_allAlong_33 (by decide) ?_
        refine vp_callSl (W.runV (As := [.int (nI 0)]) (rest := []) ⟨hx, hb, hml, hown, hts⟩ (met_allBelow l D dA dJ dZ h on st nm vl pa en kp (w := 0) hW hX (by omega)) (cwV 1 hts (lw_V q97 q99 qs4 q20 q100) rfl rfl rfl (by decide +kernel) ⟨Nat.le_of_ble_eq_true rfl, Nat.le_of_ble_eq_true rfl⟩) (tp_pv hK hP (ci := 0) (q0 := 0) rfl rfl) rfl rfl hl.1 rfl (lv_room (Nat.le_of_ble_eq_true rfl)) dX0_allAlong_34 ⟨Nat.le_of_ble_eq_true rfl, Nat.le_of_ble_eq_true rfl⟩) (fun r1 h1 => ?_)
        exact W.lret hx hb hr (fun t ht hW9 => ⟨_, rfl, tz_al39 hW hs (Or.inl ⟨by omega, rfl⟩) h1, ht⟩) (fun _ z => by cases z) dX0_allAlong_37
      · have c3 : ax = 9 := (nI_eq (a := ax) (b := 9) (by omega) (by omega)).mp c3
        refine lv_iconst (v := nI 1) hx hb dX0_allAlong_29 (by decide) ?_
        refine lv_goto (tgt := 34) hx hb dX0_allAlong_30 (by decide) ?_
        refine vp_callSl (W.runV (As := [.int (nI 1)]) (rest := []) ⟨hx, hb, hml, hown, hts⟩ (met_allBelow l D dA dJ dZ h on st nm vl pa en kp (w := 1) hW hX (by omega)) (cwV 1 hts (lw_V q97 q99 qs4 q20 q100) rfl rfl rfl (by decide +kernel) ⟨Nat.le_of_ble_eq_true rfl, Nat.le_of_ble_eq_true rfl⟩) (tp_pv hK hP (ci := 0) (q0 := 0) rfl rfl) rfl rfl hl.1 rfl (lv_room (Nat.le_of_ble_eq_true rfl)) dX0_allAlong_34 ⟨Nat.le_of_ble_eq_true rfl, Nat.le_of_ble_eq_true rfl⟩) (fun r1 h1 => ?_)
        exact W.lret hx hb hr (fun t ht hW9 => ⟨_, rfl, tz_al39 hW hs (Or.inr ⟨by omega, rfl⟩) h1, ht⟩) (fun _ z => by cases z) dX0_allAlong_37
    · have c2 : ¬ (ax = 3) := fun z => c2 ((nI_eq (a := ax) (b := 3) (by omega) (by omega)).mpr z)
      refine lv_iload_n hx hb dX0_allAlong_16 rfl (lv_at hl 1 rfl) ?_
      refine lv_bipush (v := nI 9) hx hb dX0_allAlong_17 (by decide) ?_
      refine lv_icmp_ne (tgt := 38) hx hb dX0_allAlong_19 (by decide) (fun c2b => ?_) (fun c2b => ?_)
      · have c2b : ¬ (ax = 9) := fun z => c2b ((nI_eq (a := ax) (b := 9) (by omega) (by omega)).mpr z)
        refine lv_iload_n hx hb dX0_allAlong_38 rfl (lv_at hl 1 rfl) ?_
        refine lv_iconst (v := nI 4) hx hb dX0_allAlong_39 (by decide) ?_
        refine lv_icmp_eq (tgt := 49) hx hb dX0_allAlong_40 (by decide) (fun c4 => ?_) (fun c4 => ?_)
        · have c4 : ax = 4 := (nI_eq (a := ax) (b := 4) (by omega) (by omega)).mp c4
          refine lv_aload_n hx hb dX0_allAlong_49 rfl (lv_at hl 0 rfl) ?_
          refine lv_iload_n hx hb dX0_allAlong_50 rfl (lv_at hl 1 rfl) ?_
          refine lv_bipush (v := nI 10) hx hb dX0_allAlong_51 (by decide) ?_
          refine lv_icmp_ne (tgt := 60) hx hb dX0_allAlong_53 (by decide) (fun c6 => ?_) (fun c6 => ?_)
          · have c6 : ¬ (ax = 10) := fun z => c6 ((nI_eq (a := ax) (b := 10) (by omega) (by omega)).mpr z)
            refine lv_iconst (v := nI 0) hx hb dX0_allAlong_60 (by decide) ?_
            refine vp_callSl (W.runV (As := [.int (nI 0)]) (rest := []) ⟨hx, hb, hml, hown, hts⟩ (met_allAbove l D dA dJ dZ h on st nm vl pa en kp (w := 0) hW hX (by omega)) (cwV 1 hts (lw_V q105 q107 qs5 q20 q108) rfl rfl rfl (by decide +kernel) ⟨Nat.le_of_ble_eq_true rfl, Nat.le_of_ble_eq_true rfl⟩) (tp_pv hK hP (ci := 0) (q0 := 0) rfl rfl) rfl rfl hl.1 rfl (lv_room (Nat.le_of_ble_eq_true rfl)) dX0_allAlong_61 ⟨Nat.le_of_ble_eq_true rfl, Nat.le_of_ble_eq_true rfl⟩) (fun r1 h1 => ?_)
            exact W.lret hx hb hr (fun t ht hW9 => ⟨_, rfl, tz_al4 hs (Or.inl ⟨by omega, rfl⟩) h1, ht⟩) (fun _ z => by cases z) dX0_allAlong_64
          · have c6 : ax = 10 := (nI_eq (a := ax) (b := 10) (by omega) (by omega)).mp c6
            refine lv_iconst (v := nI 1) hx hb dX0_allAlong_56 (by decide) ?_
            refine lv_goto (tgt := 61) hx hb dX0_allAlong_57 (by decide) ?_
            refine vp_callSl (W.runV (As := [.int (nI 1)]) (rest := []) ⟨hx, hb, hml, hown, hts⟩ (met_allAbove l D dA dJ dZ h on st nm vl pa en kp (w := 1) hW hX (by omega)) (cwV 1 hts (lw_V q105 q107 qs5 q20 q108) rfl rfl rfl (by decide +kernel) ⟨Nat.le_of_ble_eq_true rfl, Nat.le_of_ble_eq_true rfl⟩) (tp_pv hK hP (ci := 0) (q0 := 0) rfl rfl) rfl rfl hl.1 rfl (lv_room (Nat.le_of_ble_eq_true rfl)) dX0_allAlong_61 ⟨Nat.le_of_ble_eq_true rfl, Nat.le_of_ble_eq_true rfl⟩) (fun r1 h1 => ?_)
            exact W.lret hx hb hr (fun t ht hW9 => ⟨_, rfl, tz_al4 hs (Or.inr ⟨by omega, rfl⟩) h1, ht⟩) (fun _ z => by cases z) dX0_allAlong_64
        · have c4 : ¬ (ax = 4) := fun z => c4 ((nI_eq (a := ax) (b := 4) (by omega) (by omega)).mpr z)
          refine lv_iload_n hx hb dX0_allAlong_43 rfl (lv_at hl 1 rfl) ?_
          refine lv_bipush (v := nI 10) hx hb dX0_allAlong_44 (by decide) ?_
          refine lv_icmp_ne (tgt := 65) hx hb dX0_allAlong_46 (by decide) (fun c5 => ?_) (fun c5 => ?_)
          · have c5 : ¬ (ax = 10) := fun z => c5 ((nI_eq (a := ax) (b := 10) (by omega) (by omega)).mpr z)
            refine lv_iload_n hx hb dX0_allAlong_65 rfl (lv_at hl 1 rfl) ?_
            refine lv_bipush (v := nI 7) hx hb dX0_allAlong_66 (by decide) ?_
            refine lv_icmp_ne (tgt := 85) hx hb dX0_allAlong_68 (by decide) (fun c7 => ?_) (fun c7 => ?_)
            · have c7 : ¬ (ax = 7) := fun z => c7 ((nI_eq (a := ax) (b := 7) (by omega) (by omega)).mpr z)
              refine lv_iload_n hx hb dX0_allAlong_85 rfl (lv_at hl 1 rfl) ?_
              refine lv_bipush (v := nI 8) hx hb dX0_allAlong_86 (by decide) ?_
              refine lv_icmp_ne (tgt := 118) hx hb dX0_allAlong_88 (by decide) (fun c8 => ?_) (fun c8 => ?_)
              · have c8 : ¬ (ax = 8) := fun z => c8 ((nI_eq (a := ax) (b := 8) (by omega) (by omega)).mpr z)
                refine lv_lconst (v := 0) hx hb dX0_allAlong_118 (by decide) ?_
                refine lv_lstore_n (lv' := [(2, .long 0), (0, .ref (h 0)), (1, .int (nI ax))]) hx hb dX0_allAlong_119 rfl hl (by decide) rfl (fun ls hl => ?_)
                refine lv_iconst (v := nI 0) hx hb dX0_allAlong_120 (by decide) ?_
                refine lv_istore (lv' := [(4, .int (nI 0)), (2, .long 0), (0, .ref (h 0)), (1, .int (nI ax))]) hx hb dX0_allAlong_121 hl (by decide) rfl (fun ls hl => ?_)
                have LP : ∀ (n : Nat) (i : Nat) (x : Int64), i ≤ cN → cN < i + n → (∀ k, tp_b x k = true ↔ tp_al cN P E st ax i k) →  ∀ (ls : Array Slot), lv_has ls 5 [(0, .ref (h 0)), (1, .int (nI ax)), (2, .long x), (4, .int (nI i))] → W p l e (headSpec (ws_ yX0_allAlong cX0_allAlong 5 (some .long)) ({ frames := 3, cells := 0, slots := 0, locals := 74 })).room s m ([.ref (h 0), .int (nI ax)] : List Value).toArray below meth c s.heap [] 0 0 (MQ below (vp_Sl (fun r => ∀ i, tp_b r i = true ↔ tp_al cN P E st ax cN i)) ([.ref (h 0), .int (nI ax)] : List Value).toArray s 0 0 (fun _ => False)) (F0 m 123 ls []) := by
                  intro n
                  induction n with
                  | zero => intro i x hi hf hx0 ls hl; exact absurd hf (by omega)
                  | succ n ih =>
                    intro i x hi hf hx0 ls hl
                    refine lv_iload hx hb dX0_allAlong_123 (lv_at hl 3 rfl) ?_
                    refine lv_aload_n hx hb dX0_allAlong_125 rfl (lv_at hl 0 rfl) ?_
                    refine va_get (D := D) (ci := 0) (v := .int (nI cN)) (C := RX0) (T := TX0) (N := 8) hx hb hts in_X0 hown hK hP 0 rfl rfl 0 (by decide) (hts _ q30) (fun _ h9 => h9) rfl dX0_allAlong_126 ?_
                    refine lv_icmp_ge (tgt := 166) hx hb dX0_allAlong_129 (by decide) (fun d1 => ?_) (fun d1 => ?_)
                    · have d1 : cN ≤ i := (nI_leI (a := cN) (b := i) (by omega) (by omega)).mp d1
                      refine lv_lload_n hx hb dX0_allAlong_166 rfl (lv_at hl 2 rfl) ?_
                      exact W.lret hx hb hr (fun t ht hW9 => ⟨_, rfl, by rw [show i = cN by omega] at hx0; exact hx0, ht⟩) (fun _ z => by cases z) dX0_allAlong_167
                    · have d1 : ¬ (cN ≤ i) := fun z => d1 ((nI_leI (a := cN) (b := i) (by omega) (by omega)).mpr z)
                      refine lv_lload_n hx hb dX0_allAlong_132 rfl (lv_at hl 2 rfl) ?_
                      refine lv_aload_n hx hb dX0_allAlong_133 rfl (lv_at hl 0 rfl) ?_
                      refine va_get (D := D) (ci := 0) (v := .long st) (C := RX0) (T := TX0) (N := 8) hx hb hts in_X0 hown hK hP 0 rfl rfl 6 (by decide) (hts _ q36) (fun _ h9 => h9) rfl dX0_allAlong_134 ?_
                      refine lv_iload hx hb dX0_allAlong_137 (lv_at hl 3 rfl) ?_
                      refine lv_lushr hx hb dX0_allAlong_139 rfl ?_
                      refine lv_lconst (v := 1) hx hb dX0_allAlong_140 (by decide) ?_
                      refine lv_land hx hb dX0_allAlong_141 ?_
                      refine tp_tl (y := tp_l (tp_b st i)) (tp_ubit (by omega)) ?_
                      refine lv_lconst (v := 0) hx hb dX0_allAlong_142 (by decide) ?_
                      refine W.lcmp hx hb dX0_allAlong_143 ?_
                      refine lv_if_eq (tgt := 157) hx hb dX0_allAlong_144 (by decide) (fun d2 => ?_) (fun d2 => ?_)
                      · have d2 : tp_b st i = false := (tp_lcmp0 _).mp d2
                        refine lv_lconst (v := 0) hx hb dX0_allAlong_157 (by decide) ?_
                        refine lv_lor hx hb dX0_allAlong_158 ?_
                        refine lv_lstore_n (lv' := [(2, .long (x ||| 0)), (0, .ref (h 0)), (1, .int (nI ax)), (4, .int (nI i))]) hx hb dX0_allAlong_159 rfl hl (by decide) rfl (fun ls hl => ?_)
                        refine lv_iinc (v := nI (i + 1)) (lv' := [(4, .int (nI (i + 1))), (2, .long (x ||| 0)), (0, .ref (h 0)), (1, .int (nI ax))]) hx hb dX0_allAlong_160 hl (k := 3) rfl (nI_1 i) (by decide) rfl (fun ls hl => ?_)
                        refine lv_goto (tgt := 123) hx hb dX0_allAlong_163 (by decide) ?_
                        exact ih (i + 1) _ (by omega) (by omega) (tz_aln hx0 d2) ls (lv_sub hl [2, 3, 1, 0] rfl)
                      · have d2 : tp_b st i = true := by
                          cases hbb : tp_b st i
                          · exact absurd ((tp_lcmp0 _).mpr hbb) d2
                          · rfl
                        refine lv_aload_n hx hb dX0_allAlong_147 rfl (lv_at hl 0 rfl) ?_
                        refine lv_iload_n hx hb dX0_allAlong_148 rfl (lv_at hl 1 rfl) ?_
                        refine lv_iload hx hb dX0_allAlong_149 (lv_at hl 3 rfl) ?_
                        refine vp_callSl (W.runV (As := [.int (nI ax), .int (nI i)]) (rest := [.long x]) ⟨hx, hb, hml, hown, hts⟩ (met_along l D dA dJ dZ h on st nm vl pa en kp (ax := ax) (n0 := i) hW hX hax (by omega)) (cwV 2 hts (lw_V q131 q133 qs10 q20 q134) rfl rfl rfl (by decide +kernel) ⟨Nat.le_of_ble_eq_true rfl, Nat.le_of_ble_eq_true rfl⟩) (tp_pv hK hP (ci := 0) (q0 := 0) rfl rfl) rfl rfl hl.1 rfl (lv_room (Nat.le_of_ble_eq_true rfl)) dX0_allAlong_151 ⟨Nat.le_of_ble_eq_true rfl, Nat.le_of_ble_eq_true rfl⟩) (fun r1 h1 => ?_)
                        refine lv_goto (tgt := 158) hx hb dX0_allAlong_154 (by decide) ?_
                        refine lv_lor hx hb dX0_allAlong_158 ?_
                        refine lv_lstore_n (lv' := [(2, .long (x ||| r1)), (0, .ref (h 0)), (1, .int (nI ax)), (4, .int (nI i))]) hx hb dX0_allAlong_159 rfl hl (by decide) rfl (fun ls hl => ?_)
                        refine lv_iinc (v := nI (i + 1)) (lv' := [(4, .int (nI (i + 1))), (2, .long (x ||| r1)), (0, .ref (h 0)), (1, .int (nI ax))]) hx hb dX0_allAlong_160 hl (k := 3) rfl (nI_1 i) (by decide) rfl (fun ls hl => ?_)
                        refine lv_goto (tgt := 123) hx hb dX0_allAlong_163 (by decide) ?_
                        exact ih (i + 1) _ (by omega) (by omega) (tz_aly hx0 d2 h1) ls (lv_sub hl [2, 3, 1, 0] rfl)
                exact LP (cN + 1) 0 0 (by omega) (by omega) tz_alz ls (lv_sub hl [2, 3, 1, 0] rfl)
              · have c8 : ax = 8 := (nI_eq (a := ax) (b := 8) (by omega) (by omega)).mp c8
                refine lv_aload_n hx hb dX0_allAlong_91 rfl (lv_at hl 0 rfl) ?_
                refine va_get (D := D) (ci := 0) (v := .long st) (C := RX0) (T := TX0) (N := 8) hx hb hts in_X0 hown hK hP 0 rfl rfl 6 (by decide) (hts _ q36) (fun _ h9 => h9) rfl dX0_allAlong_92 ?_
                refine vp_callSi (W.runS (As := [.long st]) (rest := []) ⟨hx, hb, hml, hown, hts⟩ (met_size l st) (va_cwS 1 hts (lw_S q113 q114 q20 q115) rfl rfl rfl (by decide +kernel) ⟨Nat.le_of_ble_eq_true rfl, Nat.le_of_ble_eq_true rfl⟩) tp_ps rfl rfl hl.1 rfl (lv_room (Nat.le_of_ble_eq_true rfl)) dX0_allAlong_95 ⟨Nat.le_of_ble_eq_true rfl, Nat.le_of_ble_eq_true rfl⟩) (fun r1 h1 => ?_)
                subst h1
                refine lv_istore_n (lv' := [(2, .int (nI (tp_c (tp_b st) 48))), (0, .ref (h 0)), (1, .int (nI ax))]) hx hb dX0_allAlong_98 rfl hl (by decide) rfl (fun ls hl => ?_)
                refine lv_aload_n hx hb dX0_allAlong_99 rfl (lv_at hl 1 rfl) ?_
                refine va_get (D := D) (ci := 0) (v := .long st) (C := RX0) (T := TX0) (N := 8) hx hb hts in_X0 hown hK hP 0 rfl rfl 6 (by decide) (hts _ q36) (fun _ h9 => h9) rfl dX0_allAlong_100 ?_
                refine lv_iload_n hx hb dX0_allAlong_103 rfl (lv_at hl 0 rfl) ?_
                refine lv_iconst (v := nI 1) hx hb dX0_allAlong_104 (by decide) ?_
                refine lv_isub hx hb dX0_allAlong_105 ?_
                refine tp_ti (y := nI (tp_c (tp_b st) 48 - 1)) (pk_sub h1c) ?_
                refine vp_callSi (W.runS (As := [.long st, .int (nI (tp_c (tp_b st) 48 - 1))]) (rest := []) ⟨hx, hb, hml, hown, hts⟩ (met_ranked l st (j := tp_c (tp_b st) 48 - 1) (by omega)) (va_cwS 2 hts (lw_S q116 q117 q20 q118) rfl rfl rfl (by decide +kernel) ⟨Nat.le_of_ble_eq_true rfl, Nat.le_of_ble_eq_true rfl⟩) tp_ps rfl rfl hl.1 rfl (lv_room (Nat.le_of_ble_eq_true rfl)) dX0_allAlong_106 ⟨Nat.le_of_ble_eq_true rfl, Nat.le_of_ble_eq_true rfl⟩) (fun r2 h2 => ?_)
                obtain ⟨n0, hn0, hr2, hb2, hk2⟩ : ∃ k, k < 48 ∧ r2 = nI k ∧ tp_b st k = true ∧ tp_c (tp_b st) k = tp_c (tp_b st) 48 - 1 := by
                  rcases h2 with ⟨-, z⟩ | z
                  · exact absurd z (by omega)
                  · exact z
                have hn1 := hs n0 hb2
                subst hr2
                refine lv_istore_n (lv' := [(3, .int (nI n0)), (2, .int (nI (tp_c (tp_b st) 48))), (0, .ref (h 0)), (1, .int (nI ax))]) hx hb dX0_allAlong_109 rfl hl (by decide) rfl (fun ls hl => ?_)
                refine lv_aload_n hx hb dX0_allAlong_110 rfl (lv_at hl 2 rfl) ?_
                refine lv_bipush (v := nI 8) hx hb dX0_allAlong_111 (by decide) ?_
                refine lv_iload_n hx hb dX0_allAlong_113 rfl (lv_at hl 0 rfl) ?_
                refine vp_callSl (W.runV (As := [.int (nI 8), .int (nI n0)]) (rest := []) ⟨hx, hb, hml, hown, hts⟩ (met_aside l D dA dJ dZ h on st nm vl pa en kp (ax := 8) (n0 := n0) hW hX (by omega) hn1) (cwV 2 hts (lw_V q119 q121 qs7 q20 q122) rfl rfl rfl (by decide +kernel) ⟨Nat.le_of_ble_eq_true rfl, Nat.le_of_ble_eq_true rfl⟩) (tp_pv hK hP (ci := 0) (q0 := 0) rfl rfl) rfl rfl hl.1 rfl (lv_room (Nat.le_of_ble_eq_true rfl)) dX0_allAlong_114 ⟨Nat.le_of_ble_eq_true rfl, Nat.le_of_ble_eq_true rfl⟩) (fun r3 h3 => ?_)
                exact W.lret hx hb hr (fun t ht hW9 => ⟨_, rfl, by rw [c8]; exact tz_al8 hn1 hb2 (tz_last hc.2 hs hb2 (by omega)) h3, ht⟩) (fun _ z => by cases z) dX0_allAlong_117
            · have c7 : ax = 7 := (nI_eq (a := ax) (b := 7) (by omega) (by omega)).mp c7
              refine lv_aload_n hx hb dX0_allAlong_71 rfl (lv_at hl 0 rfl) ?_
              refine vp_callSi (W.runV (As := []) (rest := []) ⟨hx, hb, hml, hown, hts⟩ (met_leastEnd l D dA dJ dZ h on st nm vl pa en kp hW hX) (cwV 0 hts (lw_V q109 q111 qs6 q20 q112) rfl rfl rfl (by decide +kernel) ⟨Nat.le_of_ble_eq_true rfl, Nat.le_of_ble_eq_true rfl⟩) (tp_pv hK hP (ci := 0) (q0 := 0) rfl rfl) rfl rfl hl.1 rfl (lv_room (Nat.le_of_ble_eq_true rfl)) dX0_allAlong_72 ⟨Nat.le_of_ble_eq_true rfl, Nat.le_of_ble_eq_true rfl⟩) (fun r1 h1 => ?_)
              obtain ⟨q, rfl, hq⟩ := h1
              have hq0 := hq.1
              refine lv_istore_n (lv' := [(2, .int (nI q)), (0, .ref (h 0)), (1, .int (nI ax))]) hx hb dX0_allAlong_75 rfl hl (by decide) rfl (fun ls hl => ?_)
              refine lv_iload_n hx hb dX0_allAlong_76 rfl (lv_at hl 0 rfl) ?_
              refine lv_aload_n hx hb dX0_allAlong_77 rfl (lv_at hl 1 rfl) ?_
              refine va_get (D := D) (ci := 0) (v := .int (nI cN)) (C := RX0) (T := TX0) (N := 8) hx hb hts in_X0 hown hK hP 0 rfl rfl 0 (by decide) (hts _ q30) (fun _ h9 => h9) rfl dX0_allAlong_78 ?_
              refine vp_callSl (W.runS (As := [.int (nI q), .int (nI cN)]) (rest := []) ⟨hx, hb, hml, hown, hts⟩ (met_stretch l (a := q) (b := cN) (by omega) (by omega)) (va_cwS 2 hts (lw_S q101 q102 q20 q103) rfl rfl rfl (by decide +kernel) ⟨Nat.le_of_ble_eq_true rfl, Nat.le_of_ble_eq_true rfl⟩) tp_ps rfl rfl hl.1 rfl (lv_room (Nat.le_of_ble_eq_true rfl)) dX0_allAlong_81 ⟨Nat.le_of_ble_eq_true rfl, Nat.le_of_ble_eq_true rfl⟩) (fun r2 h2 => ?_)
              exact W.lret hx hb hr (fun t ht hW9 => ⟨_, rfl, by rw [c7]; exact tz_al7 hW hq h2, ht⟩) (fun _ z => by cases z) dX0_allAlong_84
          · have c5 : ax = 10 := (nI_eq (a := ax) (b := 10) (by omega) (by omega)).mp c5
            refine lv_aload_n hx hb dX0_allAlong_49 rfl (lv_at hl 0 rfl) ?_
            refine lv_iload_n hx hb dX0_allAlong_50 rfl (lv_at hl 1 rfl) ?_
            refine lv_bipush (v := nI 10) hx hb dX0_allAlong_51 (by decide) ?_
            refine lv_icmp_ne (tgt := 60) hx hb dX0_allAlong_53 (by decide) (fun c6 => ?_) (fun c6 => ?_)
            · have c6 : ¬ (ax = 10) := fun z => c6 ((nI_eq (a := ax) (b := 10) (by omega) (by omega)).mpr z)
              refine lv_iconst (v := nI 0) hx hb dX0_allAlong_60 (by decide) ?_
              refine vp_callSl (W.runV (As := [.int (nI 0)]) (rest := []) ⟨hx, hb, hml, hown, hts⟩ (met_allAbove l D dA dJ dZ h on st nm vl pa en kp (w := 0) hW hX (by omega)) (cwV 1 hts (lw_V q105 q107 qs5 q20 q108) rfl rfl rfl (by decide +kernel) ⟨Nat.le_of_ble_eq_true rfl, Nat.le_of_ble_eq_true rfl⟩) (tp_pv hK hP (ci := 0) (q0 := 0) rfl rfl) rfl rfl hl.1 rfl (lv_room (Nat.le_of_ble_eq_true rfl)) dX0_allAlong_61 ⟨Nat.le_of_ble_eq_true rfl, Nat.le_of_ble_eq_true rfl⟩) (fun r1 h1 => ?_)
              exact W.lret hx hb hr (fun t ht hW9 => ⟨_, rfl, tz_al4 hs (Or.inl ⟨by omega, rfl⟩) h1, ht⟩) (fun _ z => by cases z) dX0_allAlong_64
            · have c6 : ax = 10 := (nI_eq (a := ax) (b := 10) (by omega) (by omega)).mp c6
              refine lv_iconst (v := nI 1) hx hb dX0_allAlong_56 (by decide) ?_
              refine lv_goto (tgt := 61) hx hb dX0_allAlong_57 (by decide) ?_
              refine vp_callSl (W.runV (As := [.int (nI 1)]) (rest := []) ⟨hx, hb, hml, hown, hts⟩ (met_allAbove l D dA dJ dZ h on st nm vl pa en kp (w := 1) hW hX (by omega)) (cwV 1 hts (lw_V q105 q107 qs5 q20 q108) rfl rfl rfl (by decide +kernel) ⟨Nat.le_of_ble_eq_true rfl, Nat.le_of_ble_eq_true rfl⟩) (tp_pv hK hP (ci := 0) (q0 := 0) rfl rfl) rfl rfl hl.1 rfl (lv_room (Nat.le_of_ble_eq_true rfl)) dX0_allAlong_61 ⟨Nat.le_of_ble_eq_true rfl, Nat.le_of_ble_eq_true rfl⟩) (fun r1 h1 => ?_)
              exact W.lret hx hb hr (fun t ht hW9 => ⟨_, rfl, tz_al4 hs (Or.inr ⟨by omega, rfl⟩) h1, ht⟩) (fun _ z => by cases z) dX0_allAlong_64
      · have c2b : ax = 9 := (nI_eq (a := ax) (b := 9) (by omega) (by omega)).mp c2b
        refine lv_aload_n hx hb dX0_allAlong_22 rfl (lv_at hl 0 rfl) ?_
        refine lv_iload_n hx hb dX0_allAlong_23 rfl (lv_at hl 1 rfl) ?_
        refine lv_bipush (v := nI 9) hx hb dX0_allAlong_24 (by decide) ?_
        refine lv_icmp_ne (tgt := 33) hx hb dX0_allAlong_26 (by decide) (fun c3 => ?_) (fun c3 => ?_)
        · have c3 : ¬ (ax = 9) := fun z => c3 ((nI_eq (a := ax) (b := 9) (by omega) (by omega)).mpr z)
          refine lv_iconst (v := nI 0) hx hb dX0_allAlong_33 (by decide) ?_
          refine vp_callSl (W.runV (As := [.int (nI 0)]) (rest := []) ⟨hx, hb, hml, hown, hts⟩ (met_allBelow l D dA dJ dZ h on st nm vl pa en kp (w := 0) hW hX (by omega)) (cwV 1 hts (lw_V q97 q99 qs4 q20 q100) rfl rfl rfl (by decide +kernel) ⟨Nat.le_of_ble_eq_true rfl, Nat.le_of_ble_eq_true rfl⟩) (tp_pv hK hP (ci := 0) (q0 := 0) rfl rfl) rfl rfl hl.1 rfl (lv_room (Nat.le_of_ble_eq_true rfl)) dX0_allAlong_34 ⟨Nat.le_of_ble_eq_true rfl, Nat.le_of_ble_eq_true rfl⟩) (fun r1 h1 => ?_)
          exact W.lret hx hb hr (fun t ht hW9 => ⟨_, rfl, tz_al39 hW hs (Or.inl ⟨by omega, rfl⟩) h1, ht⟩) (fun _ z => by cases z) dX0_allAlong_37
        · have c3 : ax = 9 := (nI_eq (a := ax) (b := 9) (by omega) (by omega)).mp c3
          refine lv_iconst (v := nI 1) hx hb dX0_allAlong_29 (by decide) ?_
          refine lv_goto (tgt := 34) hx hb dX0_allAlong_30 (by decide) ?_
          refine vp_callSl (W.runV (As := [.int (nI 1)]) (rest := []) ⟨hx, hb, hml, hown, hts⟩ (met_allBelow l D dA dJ dZ h on st nm vl pa en kp (w := 1) hW hX (by omega)) (cwV 1 hts (lw_V q97 q99 qs4 q20 q100) rfl rfl rfl (by decide +kernel) ⟨Nat.le_of_ble_eq_true rfl, Nat.le_of_ble_eq_true rfl⟩) (tp_pv hK hP (ci := 0) (q0 := 0) rfl rfl) rfl rfl hl.1 rfl (lv_room (Nat.le_of_ble_eq_true rfl)) dX0_allAlong_34 ⟨Nat.le_of_ble_eq_true rfl, Nat.le_of_ble_eq_true rfl⟩) (fun r1 h1 => ?_)
          exact W.lret hx hb hr (fun t ht hW9 => ⟨_, rfl, tz_al39 hW hs (Or.inr ⟨by omega, rfl⟩) h1, ht⟩) (fun _ z => by cases z) dX0_allAlong_37
  · have c1 : st = 0 := (lg_cmp_eq _ _).mp c1
    refine lv_lconst (v := 0) hx hb dX0_allAlong_9 (by decide) ?_
    exact W.lret hx hb hr (fun t ht hW9 => ⟨_, rfl, tz_al0 c1, ht⟩) (fun _ z => by cases z) dX0_allAlong_10
end
section
set_option maxHeartbeats 4000000 in
set_option maxRecDepth 100000 in
theorem met_placesAlong (l : Launch) (D : va_G) (dA dJ dZ : ClassId) (h : Nat → Nat) (on : Int32) (st : Int64) (nm vl pa en : Nat → Int32) (kp : Nat → Int64) {cN : Nat} {P E N : Nat → Nat} {ax t : Nat} {thr : Int64} {pl : Int32} (hW : tp_wf cN P E) (hX : tp_X cN P E N nm pa en) (hax : ax ≤ 10) (hth : ∀ i, tp_b thr i = true ↔ i < cN ∧ tp_pass N t i) (hp0 : ¬ pl = 0) (hp1 : -48 ≤ pl.toInt ∧ pl.toInt ≤ 48) : Met l yX0_placesAlong (ws_ yX0_placesAlong cX0_placesAlong 14 (some .long)) ({ frames := 3, cells := 0, slots := 0, locals := 74 }) (tp_Pr D (tp_ty dA dJ dZ) (tp_wX dA dJ h (nI cN) on st nm vl pa en kp) [.ref (h 0), .int (nI ax), .long thr, .int pl]) (vp_Sl (fun r => ∀ q, tp_b r q = true ↔ tp_pl cN P E N st ax t pl.toInt cN q)) 0 0 (fun _ => False) := by
  refine Met.ofW (cc := cX0_placesAlong) (maxL := 14) (ret := (some .long)) (by decide) rfl ?_
  intro p e s m args below meth c s₁ B hml hv
  obtain ⟨rfl, hP, hK⟩ := hv
  have hx := B.exec
  have hb := B.bytes
  have hr := B.returns
  have hts := atoms_spec (ws := ws_ yX0_placesAlong cX0_placesAlong 14 (some .long)) B.pre
  have hts : ∀ w ∈ lw_all, w.before _ s = true := fun w h => hts w (List.mem_cons_of_mem _ h)
  have hown : s.vm.findClass RX0 = some m.cls := findClass_of_methodNamed B.named
  have hlocks := B.notSynchronized
  have hl := lv_entry ([.ref (h 0), .int (nI ax), .long thr, .int pl]) (n := 14) (Nat.le_of_ble_eq_true rfl)
  rw [lg_entry_eq]
  generalize (lg_sl ([.ref (h 0), .int (nI ax), .long thr, .int pl]) ++ List.replicate (14 - (lg_sl ([.ref (h 0), .int (nI ax), .long thr, .int pl])).length) Slot.unset).toArray = ls at hl ⊢
  have hl : lv_has ls 14 [(0, .ref (h 0)), (1, .int (nI ax)), (2, .long thr), (4, .int pl)] := hl
  have hc := tw_c hW
  have hp0 : ¬ pl.toInt = 0 := fun z => hp0 (tn_eq0.mpr z)
  have J0 : ∀ (w : Nat), w ≤ 1 → (w = 1 ↔ tp_bw ax) → W p l e (headSpec (ws_ yX0_placesAlong cX0_placesAlong 14 (some .long)) ({ frames := 3, cells := 0, slots := 0, locals := 74 })).room s m ([.ref (h 0), .int (nI ax), .long thr, .int pl] : List Value).toArray below meth c s.heap [] 0 0 (MQ below (vp_Sl (fun r => ∀ q, tp_b r q = true ↔ tp_pl cN P E N st ax t pl.toInt cN q)) ([.ref (h 0), .int (nI ax), .long thr, .int pl] : List Value).toArray s 0 0 (fun _ => False)) (F0 m 28 ls [.int (nI w)]) := by
    intro w hw1 hwb
    refine lv_istore (lv' := [(5, .int (nI w)), (0, .ref (h 0)), (1, .int (nI ax)), (2, .long thr), (4, .int pl)]) hx hb dX0_placesAlong_28 hl (by decide) rfl (fun ls hl => ?_)
    refine lv_lconst (v := 0) hx hb dX0_placesAlong_30 (by decide) ?_
    refine lv_lstore (lv' := [(6, .long 0), (5, .int (nI w)), (0, .ref (h 0)), (1, .int (nI ax)), (2, .long thr), (4, .int pl)]) hx hb dX0_placesAlong_31 hl (by decide) rfl (fun ls hl => ?_)
    refine lv_iconst (v := nI 0) hx hb dX0_placesAlong_33 (by decide) ?_
    refine lv_istore (lv' := [(8, .int (nI 0)), (6, .long 0), (5, .int (nI w)), (0, .ref (h 0)), (1, .int (nI ax)), (2, .long thr), (4, .int pl)]) hx hb dX0_placesAlong_34 hl (by decide) rfl (fun ls hl => ?_)
    have LP : ∀ (n : Nat) (i : Nat) (x : Int64), i ≤ cN → cN < i + n → (∀ q, tp_b x q = true ↔ tp_pl cN P E N st ax t pl.toInt i q) →  ∀ (ls : Array Slot), lv_has ls 14 [(0, .ref (h 0)), (1, .int (nI ax)), (2, .long thr), (4, .int pl), (5, .int (nI w)), (6, .long x), (8, .int (nI i))] → W p l e (headSpec (ws_ yX0_placesAlong cX0_placesAlong 14 (some .long)) ({ frames := 3, cells := 0, slots := 0, locals := 74 })).room s m ([.ref (h 0), .int (nI ax), .long thr, .int pl] : List Value).toArray below meth c s.heap [] 0 0 (MQ below (vp_Sl (fun r => ∀ q, tp_b r q = true ↔ tp_pl cN P E N st ax t pl.toInt cN q)) ([.ref (h 0), .int (nI ax), .long thr, .int pl] : List Value).toArray s 0 0 (fun _ => False)) (F0 m 36 ls []) := by
      intro n
      induction n with
      | zero => intro i x hi hf hx0 ls hl; exact absurd hf (by omega)
      | succ n ih =>
        intro i x hi hf hx0 ls hl
        refine lv_iload hx hb dX0_placesAlong_36 (lv_at hl 6 rfl) ?_
        refine lv_aload_n hx hb dX0_placesAlong_38 rfl (lv_at hl 0 rfl) ?_
        refine va_get (D := D) (ci := 0) (v := .int (nI cN)) (C := RX0) (T := TX0) (N := 8) hx hb hts in_X0 hown hK hP 0 rfl rfl 0 (by decide) (hts _ q30) (fun _ h9 => h9) rfl dX0_placesAlong_39 ?_
        refine lv_icmp_ge (tgt := 164) hx hb dX0_placesAlong_42 (by decide) (fun c1 => ?_) (fun c1 => ?_)
        · have c1 : cN ≤ i := (nI_leI (a := cN) (b := i) (by omega) (by omega)).mp c1
          refine lv_lload hx hb dX0_placesAlong_164 (lv_at hl 5 rfl) ?_
          exact W.lret hx hb hr (fun t ht hW9 => ⟨_, rfl, by rw [show i = cN by omega] at hx0; exact hx0, ht⟩) (fun _ z => by cases z) dX0_placesAlong_166
        · have c1 : ¬ (cN ≤ i) := fun z => c1 ((nI_leI (a := cN) (b := i) (by omega) (by omega)).mpr z)
          refine lv_aload_n hx hb dX0_placesAlong_45 rfl (lv_at hl 0 rfl) ?_
          refine va_get (D := D) (ci := 0) (v := .long st) (C := RX0) (T := TX0) (N := 8) hx hb hts in_X0 hown hK hP 0 rfl rfl 6 (by decide) (hts _ q36) (fun _ h9 => h9) rfl dX0_placesAlong_46 ?_
          refine lv_iload hx hb dX0_placesAlong_49 (lv_at hl 6 rfl) ?_
          refine lv_lushr hx hb dX0_placesAlong_51 rfl ?_
          refine lv_lconst (v := 1) hx hb dX0_placesAlong_52 (by decide) ?_
          refine lv_land hx hb dX0_placesAlong_53 ?_
          refine tp_tl (y := tp_l (tp_b st i)) (tp_ubit (by omega)) ?_
          refine lv_lconst (v := 0) hx hb dX0_placesAlong_54 (by decide) ?_
          refine W.lcmp hx hb dX0_placesAlong_55 ?_
          refine lv_if_eq (tgt := 158) hx hb dX0_placesAlong_56 (by decide) (fun c2 => ?_) (fun c2 => ?_)
          · have c2 : tp_b st i = false := (tp_lcmp0 _).mp c2
            refine lv_iinc (v := nI (i + 1)) (lv' := [(8, .int (nI (i + 1))), (0, .ref (h 0)), (1, .int (nI ax)), (2, .long thr), (4, .int pl), (5, .int (nI w)), (6, .long x)]) hx hb dX0_placesAlong_158 hl (k := 6) rfl (nI_1 i) (by decide) rfl (fun ls hl => ?_)
            refine lv_goto (tgt := 36) hx hb dX0_placesAlong_161 (by decide) ?_
            exact ih (i + 1) x (by omega) (by omega) (tn_pln hx0 c2) ls (lv_sub hl [1, 2, 3, 4, 5, 6, 0] rfl)
          · have c2 : tp_b st i = true := by
              cases hbb : tp_b st i
              · exact absurd ((tp_lcmp0 _).mpr hbb) c2
              · rfl
            refine lv_aload_n hx hb dX0_placesAlong_59 rfl (lv_at hl 0 rfl) ?_
            refine lv_iload_n hx hb dX0_placesAlong_60 rfl (lv_at hl 1 rfl) ?_
            refine lv_iload hx hb dX0_placesAlong_61 (lv_at hl 6 rfl) ?_
            refine vp_callSl (W.runV (As := [.int (nI ax), .int (nI i)]) (rest := []) ⟨hx, hb, hml, hown, hts⟩ (met_along l D dA dJ dZ h on st nm vl pa en kp (ax := ax) (n0 := i) hW hX hax (by omega)) (cwV 2 hts (lw_V q131 q133 qs10 q20 q134) rfl rfl rfl (by decide +kernel) ⟨Nat.le_of_ble_eq_true rfl, Nat.le_of_ble_eq_true rfl⟩) (tp_pv hK hP (ci := 0) (q0 := 0) rfl rfl) rfl rfl hl.1 rfl (lv_room (Nat.le_of_ble_eq_true rfl)) dX0_placesAlong_63 ⟨Nat.le_of_ble_eq_true rfl, Nat.le_of_ble_eq_true rfl⟩) (fun r1 h1 => ?_)
            have hf := tn_f h1 hth
            refine lv_lload_n hx hb dX0_placesAlong_66 rfl (lv_at hl 2 rfl) ?_
            refine lv_land hx hb dX0_placesAlong_67 ?_
            refine lv_lstore (lv' := [(9, .long (r1 &&& thr)), (0, .ref (h 0)), (1, .int (nI ax)), (2, .long thr), (4, .int pl), (5, .int (nI w)), (6, .long x), (8, .int (nI i))]) hx hb dX0_placesAlong_68 hl (by decide) rfl (fun ls hl => ?_)
            refine lv_lload hx hb dX0_placesAlong_70 (lv_at hl 0 rfl) ?_
            refine vp_callSi (W.runS (As := [.long (r1 &&& thr)]) (rest := []) ⟨hx, hb, hml, hown, hts⟩ (met_size l (r1 &&& thr)) (va_cwS 1 hts (lw_S q113 q114 q20 q115) rfl rfl rfl (by decide +kernel) ⟨Nat.le_of_ble_eq_true rfl, Nat.le_of_ble_eq_true rfl⟩) tp_ps rfl rfl hl.1 rfl (lv_room (Nat.le_of_ble_eq_true rfl)) dX0_placesAlong_72 ⟨Nat.le_of_ble_eq_true rfl, Nat.le_of_ble_eq_true rfl⟩) (fun r2 h2 => ?_)
            rw [hf] at h2
            have hA := tp_c_le (tp_D (tp_F cN P E N ax t i)) 48
            generalize hAe : tp_c (tp_D (tp_F cN P E N ax t i)) 48 = A at h2 hA
            subst h2
            refine lv_istore (lv' := [(11, .int (nI A)), (9, .long (r1 &&& thr)), (0, .ref (h 0)), (1, .int (nI ax)), (2, .long thr), (4, .int pl), (5, .int (nI w)), (6, .long x), (8, .int (nI i))]) hx hb dX0_placesAlong_75 hl (by decide) rfl (fun ls hl => ?_)
            have J3 : ∀ (at' : Int32), ((at' = -1 ∧ ∀ q, ¬ tp_num (tp_D (tp_F cN P E N ax t i)) (tp_bw ax) pl.toInt q) ∨ ∃ k, k < 48 ∧ at' = nI k ∧ ∀ q, tp_num (tp_D (tp_F cN P E N ax t i)) (tp_bw ax) pl.toInt q ↔ q = k) → ∀ (ls : Array Slot), lv_has ls 14 [(0, .ref (h 0)), (1, .int (nI ax)), (2, .long thr), (4, .int pl), (5, .int (nI w)), (6, .long x), (8, .int (nI i)), (9, .long (r1 &&& thr)), (11, .int (nI A))] → W p l e (headSpec (ws_ yX0_placesAlong cX0_placesAlong 14 (some .long)) ({ frames := 3, cells := 0, slots := 0, locals := 74 })).room s m ([.ref (h 0), .int (nI ax), .long thr, .int pl] : List Value).toArray below meth c s.heap [] 0 0 (MQ below (vp_Sl (fun r => ∀ q, tp_b r q = true ↔ tp_pl cN P E N st ax t pl.toInt cN q)) ([.ref (h 0), .int (nI ax), .long thr, .int pl] : List Value).toArray s 0 0 (fun _ => False)) (F0 m 138 ls [.int at']) := by
              intro at' ha ls hl
              rcases ha with ⟨e1, e2⟩ | ⟨k, hk, e1, e2⟩
              · subst e1
                refine lv_istore (lv' := [(13, .int (-1)), (0, .ref (h 0)), (1, .int (nI ax)), (2, .long thr), (4, .int pl), (5, .int (nI w)), (6, .long x), (8, .int (nI i)), (9, .long (r1 &&& thr)), (11, .int (nI A))]) hx hb dX0_placesAlong_138 hl (by decide) rfl (fun ls hl => ?_)
                refine lv_lload hx hb dX0_placesAlong_140 (lv_at hl 6 rfl) ?_
                refine lv_iload hx hb dX0_placesAlong_142 (lv_at hl 0 rfl) ?_
                refine lv_if_ge (tgt := 151) hx hb dX0_placesAlong_144 (by decide) (fun z => absurd z ((by decide : ¬ (0 : Int32) ≤ -1))) (fun _ => ?_)
                refine lv_lconst (v := 0) hx hb dX0_placesAlong_147 (by decide) ?_
                refine lv_goto (tgt := 155) hx hb dX0_placesAlong_148 (by decide) ?_
                refine lv_lor hx hb dX0_placesAlong_155 ?_
                refine lv_lstore (lv' := [(6, .long (x ||| 0)), (13, .int (-1)), (0, .ref (h 0)), (1, .int (nI ax)), (2, .long thr), (4, .int pl), (5, .int (nI w)), (8, .int (nI i)), (9, .long (r1 &&& thr)), (11, .int (nI A))]) hx hb dX0_placesAlong_156 hl (by decide) rfl (fun ls hl => ?_)
                refine lv_iinc (v := nI (i + 1)) (lv' := [(8, .int (nI (i + 1))), (6, .long (x ||| 0)), (13, .int (-1)), (0, .ref (h 0)), (1, .int (nI ax)), (2, .long thr), (4, .int pl), (5, .int (nI w)), (9, .long (r1 &&& thr)), (11, .int (nI A))]) hx hb dX0_placesAlong_158 hl (k := 7) rfl (nI_1 i) (by decide) rfl (fun ls hl => ?_)
                refine lv_goto (tgt := 36) hx hb dX0_placesAlong_161 (by decide) ?_
                exact ih (i + 1) _ (by omega) (by omega) (tn_ply hx0 c2 (tn_y0 e2)) ls (lv_sub hl [3, 4, 5, 6, 7, 1, 0] rfl)
              · subst e1
                refine lv_istore (lv' := [(13, .int (nI k)), (0, .ref (h 0)), (1, .int (nI ax)), (2, .long thr), (4, .int pl), (5, .int (nI w)), (6, .long x), (8, .int (nI i)), (9, .long (r1 &&& thr)), (11, .int (nI A))]) hx hb dX0_placesAlong_138 hl (by decide) rfl (fun ls hl => ?_)
                refine lv_lload hx hb dX0_placesAlong_140 (lv_at hl 6 rfl) ?_
                refine lv_iload hx hb dX0_placesAlong_142 (lv_at hl 0 rfl) ?_
                refine lv_if_ge (tgt := 151) hx hb dX0_placesAlong_144 (by decide) (fun _ => ?_) (fun z => absurd (nI_pos' (by omega)) z)
                refine lv_lconst (v := 1) hx hb dX0_placesAlong_151 (by decide) ?_
                refine lv_iload hx hb dX0_placesAlong_152 (lv_at hl 0 rfl) ?_
                refine lv_lshl (v := tp_1 k) hx hb dX0_placesAlong_154 rfl ?_
                refine lv_lor hx hb dX0_placesAlong_155 ?_
                refine lv_lstore (lv' := [(6, .long (x ||| (tp_1 k))), (13, .int (nI k)), (0, .ref (h 0)), (1, .int (nI ax)), (2, .long thr), (4, .int pl), (5, .int (nI w)), (8, .int (nI i)), (9, .long (r1 &&& thr)), (11, .int (nI A))]) hx hb dX0_placesAlong_156 hl (by decide) rfl (fun ls hl => ?_)
                refine lv_iinc (v := nI (i + 1)) (lv' := [(8, .int (nI (i + 1))), (6, .long (x ||| (tp_1 k))), (13, .int (nI k)), (0, .ref (h 0)), (1, .int (nI ax)), (2, .long thr), (4, .int pl), (5, .int (nI w)), (9, .long (r1 &&& thr)), (11, .int (nI A))]) hx hb dX0_placesAlong_158 hl (k := 7) rfl (nI_1 i) (by decide) rfl (fun ls hl => ?_)
                refine lv_goto (tgt := 36) hx hb dX0_placesAlong_161 (by decide) ?_
                exact ih (i + 1) _ (by omega) (by omega) (tn_ply hx0 c2 (tn_y1 hk e2)) ls (lv_sub hl [3, 4, 5, 6, 7, 1, 0] rfl)
            have hwn := tn_wn (pl := pl.toInt) hA hp1
            have J2 : ∀ (ix : Int32), ((tp_bw ax ∧ ix.toInt = A - tp_wn A pl.toInt) ∨ (¬ tp_bw ax ∧ ix.toInt = tp_wn A pl.toInt - 1)) → ∀ (ls : Array Slot), lv_has ls 14 [(0, .ref (h 0)), (1, .int (nI ax)), (2, .long thr), (4, .int pl), (5, .int (nI w)), (6, .long x), (8, .int (nI i)), (9, .long (r1 &&& thr)), (11, .int (nI A))] → W p l e (headSpec (ws_ yX0_placesAlong cX0_placesAlong 14 (some .long)) ({ frames := 3, cells := 0, slots := 0, locals := 74 })).room s m ([.ref (h 0), .int (nI ax), .long thr, .int pl] : List Value).toArray below meth c s.heap [] 0 0 (MQ below (vp_Sl (fun r => ∀ q, tp_b r q = true ↔ tp_pl cN P E N st ax t pl.toInt cN q)) ([.ref (h 0), .int (nI ax), .long thr, .int pl] : List Value).toArray s 0 0 (fun _ => False)) (F0 m 113 ls [.int ix]) := by
              intro ix hi2 ls hl
              have hn := tn_ix (f := tp_D (tp_F cN P E N ax t i)) (bw := tp_bw ax) hp0 (by rw [hAe]; exact hi2)
              refine lv_istore (lv' := [(12, .int ix), (0, .ref (h 0)), (1, .int (nI ax)), (2, .long thr), (4, .int pl), (5, .int (nI w)), (6, .long x), (8, .int (nI i)), (9, .long (r1 &&& thr)), (11, .int (nI A))]) hx hb dX0_placesAlong_113 hl (by decide) rfl (fun ls hl => ?_)
              refine lv_iload hx hb dX0_placesAlong_115 (lv_at hl 0 rfl) ?_
              refine lv_if_lt (tgt := 127) hx hb dX0_placesAlong_117 (by decide) (fun e3 => ?_) (fun e3 => ?_)
              · refine lv_iconst (v := -1) hx hb dX0_placesAlong_127 (by decide) ?_
                refine lv_goto (tgt := 138) hx hb dX0_placesAlong_128 (by decide) ?_
                exact J3 _ (Or.inl ⟨rfl, tn_no (fun q hq => tn_Flt hc.2 hq) hn (Or.inl (tn_lt0.mp e3))⟩) ls (lv_sub hl [1, 2, 3, 4, 5, 6, 7, 8, 9] rfl)
              · obtain ⟨j, hj, ej⟩ := nI_of e3
                subst ej
                refine lv_iload hx hb dX0_placesAlong_120 (lv_at hl 0 rfl) ?_
                refine lv_iload hx hb dX0_placesAlong_122 (lv_at hl 9 rfl) ?_
                refine lv_icmp_lt (tgt := 131) hx hb dX0_placesAlong_124 (by decide) (fun e4 => ?_) (fun e4 => ?_)
                · have e4 : j < A := (nI_ltI (a := j) (b := A) (by omega) (by omega)).mp e4
                  refine lv_lload hx hb dX0_placesAlong_131 (lv_at hl 8 rfl) ?_
                  refine lv_iload hx hb dX0_placesAlong_133 (lv_at hl 0 rfl) ?_
                  refine vp_callSi (W.runS (As := [.long (r1 &&& thr), .int (nI j)]) (rest := []) ⟨hx, hb, hml, hown, hts⟩ (met_ranked l (r1 &&& thr) (j := j) (by omega)) (va_cwS 2 hts (lw_S q116 q117 q20 q118) rfl rfl rfl (by decide +kernel) ⟨Nat.le_of_ble_eq_true rfl, Nat.le_of_ble_eq_true rfl⟩) tp_ps rfl rfl hl.1 rfl (lv_room (Nat.le_of_ble_eq_true rfl)) dX0_placesAlong_135 ⟨Nat.le_of_ble_eq_true rfl, Nat.le_of_ble_eq_true rfl⟩) (fun r3 h3 => ?_)
                  rw [hf] at h3
                  refine J3 r3 ?_ ls (lv_sub hl [1, 2, 3, 4, 5, 6, 7, 8, 9] rfl)
                  rcases h3 with ⟨z1, z2⟩ | ⟨k, z1, z2, z3, z4⟩
                  · exact absurd z2 (by omega)
                  · exact Or.inr ⟨k, z1, z2, tn_yes hn (nI_toInt hj) z3 z4⟩
                · have e4 : ¬ (j < A) := fun z => e4 ((nI_ltI (a := j) (b := A) (by omega) (by omega)).mpr z)
                  refine lv_iconst (v := -1) hx hb dX0_placesAlong_127 (by decide) ?_
                  refine lv_goto (tgt := 138) hx hb dX0_placesAlong_128 (by decide) ?_
                  exact J3 _ (Or.inl ⟨rfl, tn_no (fun q hq => tn_Flt hc.2 hq) hn (Or.inr (by rw [nI_toInt hj]; omega))⟩) ls (lv_sub hl [1, 2, 3, 4, 5, 6, 7, 8, 9] rfl)
            have J1 : ∀ (ix : Int32), ix.toInt = tp_wn A pl.toInt - 1 → W p l e (headSpec (ws_ yX0_placesAlong cX0_placesAlong 14 (some .long)) ({ frames := 3, cells := 0, slots := 0, locals := 74 })).room s m ([.ref (h 0), .int (nI ax), .long thr, .int pl] : List Value).toArray below meth c s.heap [] 0 0 (MQ below (vp_Sl (fun r => ∀ q, tp_b r q = true ↔ tp_pl cN P E N st ax t pl.toInt cN q)) ([.ref (h 0), .int (nI ax), .long thr, .int pl] : List Value).toArray s 0 0 (fun _ => False)) (F0 m 94 ls [.int ix]) := by
              intro ix hi1
              refine lv_istore (lv' := [(12, .int ix), (11, .int (nI A)), (9, .long (r1 &&& thr)), (0, .ref (h 0)), (1, .int (nI ax)), (2, .long thr), (4, .int pl), (5, .int (nI w)), (6, .long x), (8, .int (nI i))]) hx hb dX0_placesAlong_94 hl (by decide) rfl (fun ls hl => ?_)
              refine lv_iload hx hb dX0_placesAlong_96 (lv_at hl 7 rfl) ?_
              refine lv_if_eq (tgt := 111) hx hb dX0_placesAlong_98 (by decide) (fun e2 => ?_) (fun e2 => ?_)
              · have e2 : w = 0 := (nI_eq (a := w) (b := 0) (by omega) (by omega)).mp e2
                refine lv_iload hx hb dX0_placesAlong_111 (lv_at hl 0 rfl) ?_
                exact J2 _ (Or.inr ⟨fun z => by have := hwb.mpr z; omega, hi1⟩) ls (lv_sub hl [3, 4, 5, 6, 7, 8, 9, 2, 1] rfl)
              · have e2 : ¬ (w = 0) := fun z => e2 ((nI_eq (a := w) (b := 0) (by omega) (by omega)).mpr z)
                refine lv_iload hx hb dX0_placesAlong_101 (lv_at hl 1 rfl) ?_
                refine lv_iconst (v := nI 1) hx hb dX0_placesAlong_103 (by decide) ?_
                refine lv_isub hx hb dX0_placesAlong_104 ?_
                refine lv_iload hx hb dX0_placesAlong_105 (lv_at hl 0 rfl) ?_
                refine lv_isub hx hb dX0_placesAlong_107 ?_
                refine lv_goto (tgt := 113) hx hb dX0_placesAlong_108 (by decide) ?_
                exact J2 _ (Or.inl ⟨hwb.mp (by omega), tn_j1 hA hwn hi1⟩) ls (lv_sub hl [3, 4, 5, 6, 7, 8, 9, 2, 1] rfl)
            refine lv_iload hx hb dX0_placesAlong_77 (lv_at hl 5 rfl) ?_
            refine lv_if_le (tgt := 89) hx hb dX0_placesAlong_79 (by decide) (fun e1 => ?_) (fun e1 => ?_)
            · refine lv_iload hx hb dX0_placesAlong_89 (lv_at hl 0 rfl) ?_
              refine lv_iload hx hb dX0_placesAlong_91 (lv_at hl 5 rfl) ?_
              refine lv_iadd hx hb dX0_placesAlong_93 ?_
              exact J1 _ (tn_i2 hA ⟨by have := tn_le0.mp e1; omega, by omega⟩)
            · refine lv_iload hx hb dX0_placesAlong_82 (lv_at hl 5 rfl) ?_
              refine lv_iconst (v := nI 1) hx hb dX0_placesAlong_84 (by decide) ?_
              refine lv_isub hx hb dX0_placesAlong_85 ?_
              refine lv_goto (tgt := 94) hx hb dX0_placesAlong_86 (by decide) ?_
              exact J1 _ (tn_i1 ⟨Int.not_le.mp (fun z => e1 (tn_le0.mpr z)), by omega⟩)
    exact LP (cN + 1) 0 0 (by omega) (by omega) tn_pl0 ls (lv_sub hl [3, 4, 5, 6, 2, 1, 0] rfl)
  have JY : tp_bw ax → W p l e (headSpec (ws_ yX0_placesAlong cX0_placesAlong 14 (some .long)) ({ frames := 3, cells := 0, slots := 0, locals := 74 })).room s m ([.ref (h 0), .int (nI ax), .long thr, .int pl] : List Value).toArray below meth c s.heap [] 0 0 (MQ below (vp_Sl (fun r => ∀ q, tp_b r q = true ↔ tp_pl cN P E N st ax t pl.toInt cN q)) ([.ref (h 0), .int (nI ax), .long thr, .int pl] : List Value).toArray s 0 0 (fun _ => False)) (F0 m 23 ls []) := by
    intro hq
    refine lv_iconst (v := nI 1) hx hb dX0_placesAlong_23 (by decide) ?_
    refine lv_goto (tgt := 28) hx hb dX0_placesAlong_24 (by decide) ?_
    exact J0 1 (Nat.le_refl 1) ⟨fun _ => hq, fun _ => rfl⟩
  refine lv_iload_n hx hb dX0_placesAlong_0 rfl (lv_at hl 1 rfl) ?_
  refine lv_iconst (v := nI 4) hx hb dX0_placesAlong_1 (by decide) ?_
  refine lv_icmp_eq (tgt := 23) hx hb dX0_placesAlong_2 (by decide) (fun c1 => ?_) (fun c1 => ?_)
  · have c1 : ax = 4 := (nI_eq (a := ax) (b := 4) (by omega) (by omega)).mp c1
    exact JY (Or.inl c1)
  · have c1 : ¬ (ax = 4) := fun z => c1 ((nI_eq (a := ax) (b := 4) (by omega) (by omega)).mpr z)
    refine lv_iload_n hx hb dX0_placesAlong_5 rfl (lv_at hl 1 rfl) ?_
    refine lv_bipush (v := nI 6) hx hb dX0_placesAlong_6 (by decide) ?_
    refine lv_icmp_eq (tgt := 23) hx hb dX0_placesAlong_8 (by decide) (fun c2 => ?_) (fun c2 => ?_)
    · have c2 : ax = 6 := (nI_eq (a := ax) (b := 6) (by omega) (by omega)).mp c2
      exact JY (Or.inr (Or.inl c2))
    · have c2 : ¬ (ax = 6) := fun z => c2 ((nI_eq (a := ax) (b := 6) (by omega) (by omega)).mpr z)
      refine lv_iload_n hx hb dX0_placesAlong_11 rfl (lv_at hl 1 rfl) ?_
      refine lv_bipush (v := nI 8) hx hb dX0_placesAlong_12 (by decide) ?_
      refine lv_icmp_eq (tgt := 23) hx hb dX0_placesAlong_14 (by decide) (fun c3 => ?_) (fun c3 => ?_)
      · have c3 : ax = 8 := (nI_eq (a := ax) (b := 8) (by omega) (by omega)).mp c3
        exact JY (Or.inr (Or.inr (Or.inl c3)))
      · have c3 : ¬ (ax = 8) := fun z => c3 ((nI_eq (a := ax) (b := 8) (by omega) (by omega)).mpr z)
        refine lv_iload_n hx hb dX0_placesAlong_17 rfl (lv_at hl 1 rfl) ?_
        refine lv_bipush (v := nI 10) hx hb dX0_placesAlong_18 (by decide) ?_
        refine lv_icmp_ne (tgt := 27) hx hb dX0_placesAlong_20 (by decide) (fun c4 => ?_) (fun c4 => ?_)
        · have c4 : ¬ (ax = 10) := fun z => c4 ((nI_eq (a := ax) (b := 10) (by omega) (by omega)).mpr z)
          refine lv_iconst (v := nI 0) hx hb dX0_placesAlong_27 (by decide) ?_
          exact J0 0 (Nat.zero_le 1) ⟨fun z => by omega, fun z => by rcases z with z | z | z | z <;> omega⟩
        · have c4 : ax = 10 := (nI_eq (a := ax) (b := 10) (by omega) (by omega)).mp c4
          exact JY (Or.inr (Or.inr (Or.inr c4)))

set_option maxHeartbeats 4000000 in
set_option maxRecDepth 100000 in
theorem met_node (l : Launch) (D : va_G) (dA dJ dZ : ClassId) (h : Nat → Nat) (on : Int32) (st : Int64) (nm vl pa en : Nat → Int32) (kp : Nat → Int64) (cN : Nat) (ix : Int32)  : Met l yX0_node (ws_ yX0_node cX0_node 2 (some .int)) ({ frames := 1, cells := 0, slots := 0, locals := 24 }) (tp_Pr D (tp_ty dA dJ dZ) (tp_wX dA dJ h (nI cN) on st nm vl pa en kp) [.ref (h 0), .int ix]) (vp_Si (fun r => tp_nd st ix r)) 0 0 (fun _ => False) := by
  refine Met.ofW (cc := cX0_node) (maxL := 2) (ret := (some .int)) (by decide) rfl ?_
  intro p e s m args below meth c s₁ B hml hv
  obtain ⟨rfl, hP, hK⟩ := hv
  have hx := B.exec
  have hb := B.bytes
  have hr := B.returns
  have hts := atoms_spec (ws := ws_ yX0_node cX0_node 2 (some .int)) B.pre
  have hts : ∀ w ∈ lw_all, w.before _ s = true := fun w h => hts w (List.mem_cons_of_mem _ h)
  have hown : s.vm.findClass RX0 = some m.cls := findClass_of_methodNamed B.named
  have hlocks := B.notSynchronized
  have hl := lv_entry ([.ref (h 0), .int ix]) (n := 2) (Nat.le_of_ble_eq_true rfl)
  rw [lg_entry_eq]
  generalize (lg_sl ([.ref (h 0), .int ix]) ++ List.replicate (2 - (lg_sl ([.ref (h 0), .int ix])).length) Slot.unset).toArray = ls at hl ⊢
  have hl : lv_has ls 2 [(0, .ref (h 0)), (1, .int ix)] := hl
  refine lv_iload_n hx hb dX0_node_0 rfl (lv_at hl 1 rfl) ?_
  refine lv_if_lt (tgt := 10) hx hb dX0_node_1 (by decide) (fun c1 => ?_) (fun c1 => ?_)
  · refine lv_iconst (v := -1) hx hb dX0_node_10 (by decide) ?_
    refine lv_goto (tgt := 22) hx hb dX0_node_11 (by decide) ?_
    exact W.iret hx hb hr (fun t ht hW9 => ⟨_, rfl, Or.inl ⟨c1, rfl⟩, ht⟩) (fun _ z => by cases z) dX0_node_22
  · obtain ⟨j, hj, ej⟩ := nI_of c1
    subst ej
    refine lv_iload_n hx hb dX0_node_4 rfl (lv_at hl 1 rfl) ?_
    refine lv_bipush (v := nI 48) hx hb dX0_node_5 (by decide) ?_
    refine lv_icmp_lt (tgt := 14) hx hb dX0_node_7 (by decide) (fun c2 => ?_) (fun c2 => ?_)
    · have c2 : j < 48 := (nI_ltI (a := j) (b := 48) (by omega) (by omega)).mp c2
      refine lv_aload_n hx hb dX0_node_14 rfl (lv_at hl 0 rfl) ?_
      refine va_get (D := D) (ci := 0) (v := .long st) (C := RX0) (T := TX0) (N := 8) hx hb hts in_X0 hown hK hP 0 rfl rfl 6 (by decide) (hts _ q36) (fun _ h9 => h9) rfl dX0_node_15 ?_
      refine lv_iload_n hx hb dX0_node_18 rfl (lv_at hl 1 rfl) ?_
      refine vp_callSi (W.runS (As := [.long st, .int (nI j)]) (rest := []) ⟨hx, hb, hml, hown, hts⟩ (met_ranked l st (j := j) (by omega)) (va_cwS 2 hts (lw_S q116 q117 q20 q118) rfl rfl rfl (by decide +kernel) ⟨Nat.le_of_ble_eq_true rfl, Nat.le_of_ble_eq_true rfl⟩) tp_ps rfl rfl hl.1 rfl (lv_room (Nat.le_of_ble_eq_true rfl)) dX0_node_19 ⟨Nat.le_of_ble_eq_true rfl, Nat.le_of_ble_eq_true rfl⟩) (fun r1 h1 => ?_)
      exact W.iret hx hb hr (fun t ht hW9 => ⟨_, rfl, Or.inr ⟨j, hj, rfl, h1⟩, ht⟩) (fun _ z => by cases z) dX0_node_22
    · have c2 : ¬ (j < 48) := fun z => c2 ((nI_ltI (a := j) (b := 48) (by omega) (by omega)).mpr z)
      refine lv_iconst (v := -1) hx hb dX0_node_10 (by decide) ?_
      refine lv_goto (tgt := 22) hx hb dX0_node_11 (by decide) ?_
      exact W.iret hx hb hr (fun t ht hW9 => ⟨_, rfl, Or.inr ⟨j, hj, rfl, Or.inl ⟨rfl, by have := tp_c_le (tp_b st) 48; omega⟩⟩, ht⟩) (fun _ z => by cases z) dX0_node_22

set_option maxHeartbeats 4000000 in
set_option maxRecDepth 100000 in
theorem met_sum (l : Launch) (D : va_G) (dA dJ dZ : ClassId) (h : Nat → Nat) (on : Int32) (st : Int64) (nm vl pa en : Nat → Int32) (kp : Nat → Int64) {cN : Nat} {P E N : Nat → Nat} (hW : tp_wf cN P E) (hX : tp_X cN P E N nm pa en) : Met l yX0_sum (ws_ yX0_sum cX0_sum 3 (some .int)) ({ frames := 0, cells := 0, slots := 0, locals := 0 }) (tp_Pr D (tp_ty dA dJ dZ) (tp_wX dA dJ h (nI cN) on st nm vl pa en kp) [.ref (h 0)]) (vp_Si (fun r => r = tp_sm (tp_b st) N vl cN)) 0 0 (fun _ => False) := by
  refine Met.ofW (cc := cX0_sum) (maxL := 3) (ret := (some .int)) (by decide) rfl ?_
  intro p e s m args below meth c s₁ B hml hv
  obtain ⟨rfl, hP, hK⟩ := hv
  have hx := B.exec
  have hb := B.bytes
  have hr := B.returns
  have hts := atoms_spec (ws := ws_ yX0_sum cX0_sum 3 (some .int)) B.pre
  have hts : ∀ w ∈ lw_all, w.before _ s = true := fun w h => hts w (List.mem_cons_of_mem _ h)
  have hown : s.vm.findClass RX0 = some m.cls := findClass_of_methodNamed B.named
  have hlocks := B.notSynchronized
  have hl := lv_entry ([.ref (h 0)]) (n := 3) (Nat.le_of_ble_eq_true rfl)
  rw [lg_entry_eq]
  generalize (lg_sl ([.ref (h 0)]) ++ List.replicate (3 - (lg_sl ([.ref (h 0)])).length) Slot.unset).toArray = ls at hl ⊢
  have hl : lv_has ls 3 [(0, .ref (h 0))] := hl
  have hc := tw_c hW
  refine lv_iconst (v := nI 0) hx hb dX0_sum_0 (by decide) ?_
  refine lv_istore_n (lv' := [(1, .int (nI 0)), (0, .ref (h 0))]) hx hb dX0_sum_1 rfl hl (by decide) rfl (fun ls hl => ?_)
  refine lv_iconst (v := nI 0) hx hb dX0_sum_2 (by decide) ?_
  refine lv_istore_n (lv' := [(2, .int (nI 0)), (1, .int (nI 0)), (0, .ref (h 0))]) hx hb dX0_sum_3 rfl hl (by decide) rfl (fun ls hl => ?_)
  have LP : ∀ (n : Nat) (i : Nat), i ≤ cN → cN < i + n →  ∀ (ls : Array Slot), lv_has ls 3 [(0, .ref (h 0)), (1, .int (tp_sm (tp_b st) N vl i)), (2, .int (nI i))] → W p l e (headSpec (ws_ yX0_sum cX0_sum 3 (some .int)) ({ frames := 0, cells := 0, slots := 0, locals := 0 })).room s m ([.ref (h 0)] : List Value).toArray below meth c s.heap [] 0 0 (MQ below (vp_Si (fun r => r = tp_sm (tp_b st) N vl cN)) ([.ref (h 0)] : List Value).toArray s 0 0 (fun _ => False)) (F0 m 4 ls []) := by
    intro n
    induction n with
    | zero => intro i hi hf ls hl; exact absurd hf (by omega)
    | succ n ih =>
      intro i hi hf ls hl
      refine lv_iload_n hx hb dX0_sum_4 rfl (lv_at hl 2 rfl) ?_
      refine lv_aload_n hx hb dX0_sum_5 rfl (lv_at hl 0 rfl) ?_
      refine va_get (D := D) (ci := 0) (v := .int (nI cN)) (C := RX0) (T := TX0) (N := 8) hx hb hts in_X0 hown hK hP 0 rfl rfl 0 (by decide) (hts _ q30) (fun _ h9 => h9) rfl dX0_sum_6 ?_
      refine lv_icmp_ge (tgt := 55) hx hb dX0_sum_9 (by decide) (fun c1 => ?_) (fun c1 => ?_)
      · have c1 : cN ≤ i := (nI_leI (a := cN) (b := i) (by omega) (by omega)).mp c1
        refine lv_iload_n hx hb dX0_sum_55 rfl (lv_at hl 1 rfl) ?_
        exact W.iret hx hb hr (fun t ht hW9 => ⟨_, rfl, by rw [show i = cN by omega], ht⟩) (fun _ z => by cases z) dX0_sum_56
      · have c1 : ¬ (cN ≤ i) := fun z => c1 ((nI_leI (a := cN) (b := i) (by omega) (by omega)).mpr z)
        have hN8 := (hX i (by omega)).2.1
        have JN : ¬ (tp_b st i = true ∧ N i = 8) → W p l e (headSpec (ws_ yX0_sum cX0_sum 3 (some .int)) ({ frames := 0, cells := 0, slots := 0, locals := 0 })).room s m ([.ref (h 0)] : List Value).toArray below meth c s.heap [] 0 0 (MQ below (vp_Si (fun r => r = tp_sm (tp_b st) N vl cN)) ([.ref (h 0)] : List Value).toArray s 0 0 (fun _ => False)) (F0 m 46 ls [.int (tp_sm (tp_b st) N vl i)]) := by
          intro hq
          refine lv_iconst (v := nI 0) hx hb dX0_sum_46 (by decide) ?_
          refine lv_iadd hx hb dX0_sum_47 ?_
          refine tp_ti (y := tp_sm (tp_b st) N vl (i + 1)) ((tn_smn hq).symm) ?_
          refine lv_istore_n (lv' := [(1, .int (tp_sm (tp_b st) N vl (i + 1))), (0, .ref (h 0)), (2, .int (nI i))]) hx hb dX0_sum_48 rfl hl (by decide) rfl (fun ls hl => ?_)
          refine lv_iinc (v := nI (i + 1)) (lv' := [(2, .int (nI (i + 1))), (1, .int (tp_sm (tp_b st) N vl (i + 1))), (0, .ref (h 0))]) hx hb dX0_sum_49 hl (k := 2) rfl (nI_1 i) (by decide) rfl (fun ls hl => ?_)
          refine lv_goto (tgt := 4) hx hb dX0_sum_52 (by decide) ?_
          exact ih (i + 1) (by omega) (by omega) ls (lv_sub hl [2, 1, 0] rfl)
        refine lv_iload_n hx hb dX0_sum_12 rfl (lv_at hl 1 rfl) ?_
        refine lv_aload_n hx hb dX0_sum_13 rfl (lv_at hl 0 rfl) ?_
        refine va_get (D := D) (ci := 0) (v := .long st) (C := RX0) (T := TX0) (N := 8) hx hb hts in_X0 hown hK hP 0 rfl rfl 6 (by decide) (hts _ q36) (fun _ h9 => h9) rfl dX0_sum_14 ?_
        refine lv_iload_n hx hb dX0_sum_17 rfl (lv_at hl 2 rfl) ?_
        refine lv_lushr hx hb dX0_sum_18 rfl ?_
        refine lv_lconst (v := 1) hx hb dX0_sum_19 (by decide) ?_
        refine lv_land hx hb dX0_sum_20 ?_
        refine tp_tl (y := tp_l (tp_b st i)) (tp_ubit (by omega)) ?_
        refine lv_lconst (v := 0) hx hb dX0_sum_21 (by decide) ?_
        refine W.lcmp hx hb dX0_sum_22 ?_
        refine lv_if_eq (tgt := 46) hx hb dX0_sum_23 (by decide) (fun c2 => ?_) (fun c2 => ?_)
        · have c2 : tp_b st i = false := (tp_lcmp0 _).mp c2
          exact JN (fun z => by rw [c2] at z; exact absurd z.1 (by decide))
        · have c2 : tp_b st i = true := by
            cases hbb : tp_b st i
            · exact absurd ((tp_lcmp0 _).mpr hbb) c2
            · rfl
          refine lv_aload_n hx hb dX0_sum_26 rfl (lv_at hl 0 rfl) ?_
          refine va_get (D := D) (ci := 0) (v := .ref (h 1)) (C := RX0) (T := TX0) (N := 8) hx hb hts in_X0 hown hK hP 0 rfl rfl 2 (by decide) (hts _ q32) (fun _ h9 => h9) rfl dX0_sum_27 ?_
          refine lv_iload_n hx hb dX0_sum_30 rfl (lv_at hl 2 rfl) ?_
          refine tp_iald (v := nI (N i)) hx hb hK hP 1 0 rfl rfl i rfl (by omega) ((hX i (by omega)).1) dX0_sum_31 ?_
          refine lv_bipush (v := nI 8) hx hb dX0_sum_32 (by decide) ?_
          refine lv_icmp_ne (tgt := 46) hx hb dX0_sum_34 (by decide) (fun c3 => ?_) (fun c3 => ?_)
          · have c3 : ¬ ((N i) = 8) := fun z => c3 ((nI_eq (a := (N i)) (b := 8) (by omega) (by omega)).mpr z)
            exact JN (fun z => c3 z.2)
          · have c3 : (N i) = 8 := (nI_eq (a := (N i)) (b := 8) (by omega) (by omega)).mp c3
            refine lv_aload_n hx hb dX0_sum_37 rfl (lv_at hl 0 rfl) ?_
            refine va_get (D := D) (ci := 0) (v := .ref (h 2)) (C := RX0) (T := TX0) (N := 8) hx hb hts in_X0 hown hK hP 0 rfl rfl 3 (by decide) (hts _ q33) (fun _ h9 => h9) rfl dX0_sum_38 ?_
            refine lv_iload_n hx hb dX0_sum_41 rfl (lv_at hl 2 rfl) ?_
            refine tp_iald (v := vl i) hx hb hK hP 2 0 rfl rfl i rfl (by omega) rfl dX0_sum_42 ?_
            refine lv_goto (tgt := 47) hx hb dX0_sum_43 (by decide) ?_
            refine lv_iadd hx hb dX0_sum_47 ?_
            refine tp_ti (y := tp_sm (tp_b st) N vl (i + 1)) ((tn_smy c2 c3).symm) ?_
            refine lv_istore_n (lv' := [(1, .int (tp_sm (tp_b st) N vl (i + 1))), (0, .ref (h 0)), (2, .int (nI i))]) hx hb dX0_sum_48 rfl hl (by decide) rfl (fun ls hl => ?_)
            refine lv_iinc (v := nI (i + 1)) (lv' := [(2, .int (nI (i + 1))), (1, .int (tp_sm (tp_b st) N vl (i + 1))), (0, .ref (h 0))]) hx hb dX0_sum_49 hl (k := 2) rfl (nI_1 i) (by decide) rfl (fun ls hl => ?_)
            refine lv_goto (tgt := 4) hx hb dX0_sum_52 (by decide) ?_
            exact ih (i + 1) (by omega) (by omega) ls (lv_sub hl [2, 1, 0] rfl)
  exact LP (cN + 1) 0 (by omega) (by omega) ls (lv_sub hl [2, 1, 0] rfl)
end
section
set_option maxHeartbeats 4000000 in
set_option maxRecDepth 100000 in
theorem mem_above (l : Launch) (D : va_G) (dA dJ dZ : ClassId) (h : Nat → Nat) (on : Int32) (st : Int64) (vl pa tx wd : Nat → Int32) (kp : Nat → Int64) {cN : Nat} {P E N : Nat → Nat} {a0 n0 : Nat} (hW : tp_wf cN P E) (hM : tp_M cN P N vl pa tx wd) (ha : a0 ≤ 48) (hn : n0 < cN) : Met l yX1_above (ws_ yX1_above cX1_above 4 (some .boolean)) ({ frames := 0, cells := 0, slots := 0, locals := 0 }) (tp_Pr D (tp_ty dA dJ dZ) (tp_wM dA dJ dZ h (nI cN) on st pa tx wd kp) [.ref (h 6), .int (nI a0), .int (nI n0)]) (vp_Si (fun r => tp_is r (tp_In E a0 n0))) 0 0 (fun _ => False) := by
  refine Met.ofW (cc := cX1_above) (maxL := 4) (ret := (some .boolean)) (by decide) rfl ?_
  intro p e s m args below meth c s₁ B hml hv
  obtain ⟨rfl, hP, hK⟩ := hv
  have hx := B.exec
  have hb := B.bytes
  have hr := B.returns
  have hts := atoms_spec (ws := ws_ yX1_above cX1_above 4 (some .boolean)) B.pre
  have hts : ∀ w ∈ lw_all, w.before _ s = true := fun w h => hts w (List.mem_cons_of_mem _ h)
  have hown : s.vm.findClass RX1 = some m.cls := findClass_of_methodNamed B.named
  have hlocks := B.notSynchronized
  have hl := lv_entry ([.ref (h 6), .int (nI a0), .int (nI n0)]) (n := 4) (Nat.le_of_ble_eq_true rfl)
  rw [lg_entry_eq]
  generalize (lg_sl ([.ref (h 6), .int (nI a0), .int (nI n0)]) ++ List.replicate (4 - (lg_sl ([.ref (h 6), .int (nI a0), .int (nI n0)])).length) Slot.unset).toArray = ls at hl ⊢
  have hl : lv_has ls 4 [(0, .ref (h 6)), (1, .int (nI a0)), (2, .int (nI n0))] := hl
  have hc := tw_c hW
  refine lv_aload_n hx hb dX1_above_0 rfl (lv_at hl 0 rfl) ?_
  refine va_get (D := D) (ci := 1) (v := .ref (h 7)) (C := RX1) (T := TX1) (N := 7) hx hb hts in_X1 hown hK hP 0 rfl rfl 1 (by decide) (hts _ q170) (fun _ h9 => h9) rfl dX1_above_1 ?_
  refine lv_iload_n hx hb dX1_above_4 rfl (lv_at hl 2 rfl) ?_
  refine tp_iald (v := tp_pa P n0) hx hb hK hP 1 0 rfl rfl n0 rfl (by omega) ((hM n0 (by omega)).1) dX1_above_5 ?_
  refine lv_istore_n (lv' := [(3, .int (tp_pa P n0)), (0, .ref (h 6)), (1, .int (nI a0)), (2, .int (nI n0))]) hx hb dX1_above_6 rfl hl (by decide) rfl (fun ls hl => ?_)
  obtain ⟨k0, hk0, hw0⟩ := tk_0 (a := a0) hW hn
  have LP : ∀ (n : Nat) (k : Nat) (at' : Int32), k < n → tp_sk E a0 n0 at' k →  ∀ (ls : Array Slot), lv_has ls 4 [(0, .ref (h 6)), (1, .int (nI a0)), (2, .int (nI n0)), (3, .int at')] → W p l e (headSpec (ws_ yX1_above cX1_above 4 (some .boolean)) ({ frames := 0, cells := 0, slots := 0, locals := 0 })).room s m ([.ref (h 6), .int (nI a0), .int (nI n0)] : List Value).toArray below meth c s.heap [] 0 0 (MQ below (vp_Si (fun r => tp_is r (tp_In E a0 n0))) ([.ref (h 6), .int (nI a0), .int (nI n0)] : List Value).toArray s 0 0 (fun _ => False)) (F0 m 7 ls []) := by
    intro n
    induction n with
    | zero => intro k at' hf hw ls hl; exact absurd hf (by omega)
    | succ n ih =>
      intro k at' hf hw ls hl
      rcases hw with ⟨e1, e2, hx0⟩ | ⟨y, e1, hy, ek, hx0⟩
      · subst e1
        refine lv_iload_n hx hb dX1_above_7 rfl (lv_at hl 3 rfl) ?_
        refine lv_if_lt (tgt := 26) hx hb dX1_above_8 (by decide) (fun _ => ?_) (fun z => absurd ((by decide : (-1 : Int32) < 0)) z)
        refine lv_iload_n hx hb dX1_above_26 rfl (lv_at hl 3 rfl) ?_
        refine lv_iload_n hx hb dX1_above_27 rfl (lv_at hl 1 rfl) ?_
        refine lv_icmp_ne (tgt := 35) hx hb dX1_above_28 (by decide) (fun _ => ?_) (fun z => absurd z (fun z => tp_nI_m1 (show a0 < 2 ^ 31 by omega) z.symm))
        refine lv_iconst (v := nI 0) hx hb dX1_above_35 (by decide) ?_
        exact W.zret hx hb hr rfl (fun t ht hW9 => ⟨_, rfl, Or.inr ⟨rfl, hx0⟩, ht⟩) (fun _ z => by cases z) dX1_above_36
      · subst e1
        refine lv_iload_n hx hb dX1_above_7 rfl (lv_at hl 3 rfl) ?_
        refine lv_if_lt (tgt := 26) hx hb dX1_above_8 (by decide) (fun z => absurd z (nI_pos (by omega))) (fun _ => ?_)
        refine lv_iload_n hx hb dX1_above_11 rfl (lv_at hl 3 rfl) ?_
        refine lv_iload_n hx hb dX1_above_12 rfl (lv_at hl 1 rfl) ?_
        refine lv_icmp_eq (tgt := 26) hx hb dX1_above_13 (by decide) (fun c1 => ?_) (fun c1 => ?_)
        · have c1 : y = a0 := (nI_eq (a := y) (b := a0) (by omega) (by omega)).mp c1
          refine lv_iload_n hx hb dX1_above_26 rfl (lv_at hl 3 rfl) ?_
          refine lv_iload_n hx hb dX1_above_27 rfl (lv_at hl 1 rfl) ?_
          refine lv_icmp_ne (tgt := 35) hx hb dX1_above_28 (by decide) (fun z => absurd ((nI_eq (a := y) (b := a0) (by omega) (by omega)).mpr (by omega)) z) (fun _ => ?_)
          refine lv_iconst (v := nI 1) hx hb dX1_above_31 (by decide) ?_
          refine lv_goto (tgt := 36) hx hb dX1_above_32 (by decide) ?_
          exact W.zret hx hb hr rfl (fun t ht hW9 => ⟨_, rfl, Or.inl ⟨rfl, hx0.mpr (Or.inl c1.symm)⟩, ht⟩) (fun _ z => by cases z) dX1_above_36
        · have c1 : ¬ (y = a0) := fun z => c1 ((nI_eq (a := y) (b := a0) (by omega) (by omega)).mpr z)
          obtain ⟨k', hk', hw'⟩ := tk_s hW hn hy hx0 c1
          refine lv_aload_n hx hb dX1_above_16 rfl (lv_at hl 0 rfl) ?_
          refine va_get (D := D) (ci := 1) (v := .ref (h 7)) (C := RX1) (T := TX1) (N := 7) hx hb hts in_X1 hown hK hP 0 rfl rfl 1 (by decide) (hts _ q170) (fun _ h9 => h9) rfl dX1_above_17 ?_
          refine lv_iload_n hx hb dX1_above_20 rfl (lv_at hl 3 rfl) ?_
          refine tp_iald (v := tp_pa P y) hx hb hK hP 1 0 rfl rfl y rfl (by omega) ((hM y (by omega)).1) dX1_above_21 ?_
          refine lv_istore_n (lv' := [(3, .int (tp_pa P y)), (0, .ref (h 6)), (1, .int (nI a0)), (2, .int (nI n0))]) hx hb dX1_above_22 rfl hl (by decide) rfl (fun ls hl => ?_)
          refine lv_goto (tgt := 7) hx hb dX1_above_23 (by decide) ?_
          exact ih k' _ (by omega) hw' ls (lv_sub hl [1, 2, 3, 0] rfl)
  exact LP 49 k0 (tp_pa P n0) (by omega) hw0 ls (lv_sub hl [1, 2, 3, 0] rfl)

set_option maxHeartbeats 4000000 in
set_option maxRecDepth 100000 in
theorem mem_leads (l : Launch) (D : va_G) (dA dJ dZ : ClassId) (h : Nat → Nat) (on : Int32) (st : Int64) (vl pa tx wd : Nat → Int32) (kp : Nat → Int64) {cN : Nat} {P E N : Nat → Nat} {ax n0 m0 : Nat} (hW : tp_wf cN P E) (hM : tp_M cN P N vl pa tx wd) (hax : ax ≤ 10) (hn : n0 < cN) (hm : m0 < cN) : Met l yX1_leads (ws_ yX1_leads cX1_leads 5 (some .boolean)) ({ frames := 1, cells := 0, slots := 0, locals := 23 }) (tp_Pr D (tp_ty dA dJ dZ) (tp_wM dA dJ dZ h (nI cN) on st pa tx wd kp) [.ref (h 6), .int (nI ax), .int (nI n0), .int (nI m0)]) (vp_Si (fun r => tp_is r (tp_lead P E ax n0 m0))) 0 0 (fun _ => False) := by
  refine Met.ofW (cc := cX1_leads) (maxL := 5) (ret := (some .boolean)) (by decide) rfl ?_
  intro p e s m args below meth c s₁ B hml hv
  obtain ⟨rfl, hP, hK⟩ := hv
  have hx := B.exec
  have hb := B.bytes
  have hr := B.returns
  have hts := atoms_spec (ws := ws_ yX1_leads cX1_leads 5 (some .boolean)) B.pre
  have hts : ∀ w ∈ lw_all, w.before _ s = true := fun w h => hts w (List.mem_cons_of_mem _ h)
  have hown : s.vm.findClass RX1 = some m.cls := findClass_of_methodNamed B.named
  have hlocks := B.notSynchronized
  have hl := lv_entry ([.ref (h 6), .int (nI ax), .int (nI n0), .int (nI m0)]) (n := 5) (Nat.le_of_ble_eq_true rfl)
  rw [lg_entry_eq]
  generalize (lg_sl ([.ref (h 6), .int (nI ax), .int (nI n0), .int (nI m0)]) ++ List.replicate (5 - (lg_sl ([.ref (h 6), .int (nI ax), .int (nI n0), .int (nI m0)])).length) Slot.unset).toArray = ls at hl ⊢
  have hl : lv_has ls 5 [(0, .ref (h 6)), (1, .int (nI ax)), (2, .int (nI n0)), (3, .int (nI m0))] := hl
  have hc := tw_c hW
  have J : ∀ (sw : Nat), sw ≤ 1 → (sw = 1 ↔ 0 < n0 ∧ 0 < m0 ∧ P n0 = P m0) → W p l e (headSpec (ws_ yX1_leads cX1_leads 5 (some .boolean)) ({ frames := 1, cells := 0, slots := 0, locals := 23 })).room s m ([.ref (h 6), .int (nI ax), .int (nI n0), .int (nI m0)] : List Value).toArray below meth c s.heap [] 0 0 (MQ below (vp_Si (fun r => tp_is r (tp_lead P E ax n0 m0))) ([.ref (h 6), .int (nI ax), .int (nI n0), .int (nI m0)] : List Value).toArray s 0 0 (fun _ => False)) (F0 m 29 ls [.int (nI sw)]) := by
    intro sw hsw1 hsw
    refine lv_istore (lv' := [(4, .int (nI sw)), (0, .ref (h 6)), (1, .int (nI ax)), (2, .int (nI n0)), (3, .int (nI m0))]) hx hb dX1_leads_29 hl (by decide) rfl (fun ls hl => ?_)
    refine lv_iload_n hx hb dX1_leads_31 rfl (lv_at hl 2 rfl) ?_
    refine lv_if_ne (tgt := 46) hx hb dX1_leads_32 (by decide) (fun cx => ?_) (fun cx => ?_)
    · have cx : ¬ (ax = 0) := fun z => cx ((nI_eq (a := ax) (b := 0) (by omega) (by omega)).mpr z)
      have c0 := cx
      refine lv_iload_n hx hb dX1_leads_46 rfl (lv_at hl 2 rfl) ?_
      refine lv_iconst (v := nI 1) hx hb dX1_leads_47 (by decide) ?_
      refine lv_icmp_ne (tgt := 67) hx hb dX1_leads_48 (by decide) (fun cx => ?_) (fun cx => ?_)
      · have cx : ¬ (ax = 1) := fun z => cx ((nI_eq (a := ax) (b := 1) (by omega) (by omega)).mpr z)
        have c1 := cx
        refine lv_iload_n hx hb dX1_leads_67 rfl (lv_at hl 2 rfl) ?_
        refine lv_iconst (v := nI 2) hx hb dX1_leads_68 (by decide) ?_
        refine lv_icmp_ne (tgt := 88) hx hb dX1_leads_69 (by decide) (fun cx => ?_) (fun cx => ?_)
        · have cx : ¬ (ax = 2) := fun z => cx ((nI_eq (a := ax) (b := 2) (by omega) (by omega)).mpr z)
          have c2 := cx
          refine lv_iload_n hx hb dX1_leads_88 rfl (lv_at hl 2 rfl) ?_
          refine lv_iconst (v := nI 3) hx hb dX1_leads_89 (by decide) ?_
          refine lv_icmp_ne (tgt := 100) hx hb dX1_leads_90 (by decide) (fun cx => ?_) (fun cx => ?_)
          · have cx : ¬ (ax = 3) := fun z => cx ((nI_eq (a := ax) (b := 3) (by omega) (by omega)).mpr z)
            have c3 := cx
            refine lv_iload_n hx hb dX1_leads_100 rfl (lv_at hl 2 rfl) ?_
            refine lv_iconst (v := nI 4) hx hb dX1_leads_101 (by decide) ?_
            refine lv_icmp_ne (tgt := 112) hx hb dX1_leads_102 (by decide) (fun cx => ?_) (fun cx => ?_)
            · have cx : ¬ (ax = 4) := fun z => cx ((nI_eq (a := ax) (b := 4) (by omega) (by omega)).mpr z)
              have c4 := cx
              refine lv_iload_n hx hb dX1_leads_112 rfl (lv_at hl 2 rfl) ?_
              refine lv_iconst (v := nI 5) hx hb dX1_leads_113 (by decide) ?_
              refine lv_icmp_ne (tgt := 133) hx hb dX1_leads_114 (by decide) (fun cx => ?_) (fun cx => ?_)
              · have cx : ¬ (ax = 5) := fun z => cx ((nI_eq (a := ax) (b := 5) (by omega) (by omega)).mpr z)
                have c5 := cx
                refine lv_iload_n hx hb dX1_leads_133 rfl (lv_at hl 2 rfl) ?_
                refine lv_bipush (v := nI 6) hx hb dX1_leads_134 (by decide) ?_
                refine lv_icmp_ne (tgt := 155) hx hb dX1_leads_136 (by decide) (fun cx => ?_) (fun cx => ?_)
                · have cx : ¬ (ax = 6) := fun z => cx ((nI_eq (a := ax) (b := 6) (by omega) (by omega)).mpr z)
                  have c6 := cx
                  refine lv_iload_n hx hb dX1_leads_155 rfl (lv_at hl 2 rfl) ?_
                  refine lv_bipush (v := nI 7) hx hb dX1_leads_156 (by decide) ?_
                  refine lv_icmp_ne (tgt := 181) hx hb dX1_leads_158 (by decide) (fun cx => ?_) (fun cx => ?_)
                  · have cx : ¬ (ax = 7) := fun z => cx ((nI_eq (a := ax) (b := 7) (by omega) (by omega)).mpr z)
                    have c7 := cx
                    refine lv_iload_n hx hb dX1_leads_181 rfl (lv_at hl 2 rfl) ?_
                    refine lv_bipush (v := nI 8) hx hb dX1_leads_182 (by decide) ?_
                    refine lv_icmp_ne (tgt := 207) hx hb dX1_leads_184 (by decide) (fun cx => ?_) (fun cx => ?_)
                    · have cx : ¬ (ax = 8) := fun z => cx ((nI_eq (a := ax) (b := 8) (by omega) (by omega)).mpr z)
                      have c8 := cx
                      refine lv_iload_n hx hb dX1_leads_207 rfl (lv_at hl 2 rfl) ?_
                      refine lv_bipush (v := nI 9) hx hb dX1_leads_208 (by decide) ?_
                      refine lv_icmp_ne (tgt := 233) hx hb dX1_leads_210 (by decide) (fun cx => ?_) (fun cx => ?_)
                      · have cx : ¬ (ax = 9) := fun z => cx ((nI_eq (a := ax) (b := 9) (by omega) (by omega)).mpr z)
                        have c9 := cx
                        have cx : ax = 10 := by omega
                        refine lv_iload_n hx hb dX1_leads_233 rfl (lv_at hl 4 rfl) ?_
                        refine lv_iload_n hx hb dX1_leads_234 rfl (lv_at hl 3 rfl) ?_
                        refine lv_icmp_eq (tgt := 247) hx hb dX1_leads_235 (by decide) (fun d1 => ?_) (fun d1 => ?_)
                        · have d1 : m0 = n0 := (nI_eq (a := m0) (b := n0) (by omega) (by omega)).mp d1
                          refine lv_iconst (v := nI 1) hx hb dX1_leads_247 (by decide) ?_
                          refine lv_goto (tgt := 252) hx hb dX1_leads_248 (by decide) ?_
                          exact W.zret hx hb hr rfl (fun t ht hW9 => ⟨_, rfl, by rw [cx]; exact Or.inl ⟨rfl, tl_10.mpr (Or.inl d1)⟩, ht⟩) (fun _ z => by cases z) dX1_leads_252
                        · have d1 : ¬ (m0 = n0) := fun z => d1 ((nI_eq (a := m0) (b := n0) (by omega) (by omega)).mpr z)
                          refine lv_aload_n hx hb dX1_leads_238 rfl (lv_at hl 1 rfl) ?_
                          refine lv_iload_n hx hb dX1_leads_239 rfl (lv_at hl 4 rfl) ?_
                          refine lv_iload_n hx hb dX1_leads_240 rfl (lv_at hl 3 rfl) ?_
                          refine vp_callSi (W.runV (As := [.int (nI m0), .int (nI n0)]) (rest := []) ⟨hx, hb, hml, hown, hts⟩ (mem_above l D dA dJ dZ h on st vl pa tx wd kp (a0 := m0) (n0 := n0) hW hM (by omega) (by omega)) (cwV 2 hts (lw_V q216 q218 qs14 q21 q219) rfl rfl rfl (by decide +kernel) ⟨Nat.le_of_ble_eq_true rfl, Nat.le_of_ble_eq_true rfl⟩) (tp_pv hK hP (ci := 1) (q0 := 0) rfl rfl) rfl rfl hl.1 rfl (lv_room (Nat.le_of_ble_eq_true rfl)) dX1_leads_241 ⟨Nat.le_of_ble_eq_true rfl, Nat.le_of_ble_eq_true rfl⟩) (fun r1 h1 => ?_)
                          rcases h1 with ⟨e1, q1⟩ | ⟨e1, q1⟩
                          · subst e1
                            refine lv_if_eq (tgt := 251) hx hb dX1_leads_244 (by decide) (fun z => absurd ((nI_eq (a := 1) (b := 0) (by omega) (by omega)).mp z) (by omega)) (fun _ => ?_)
                            refine lv_iconst (v := nI 1) hx hb dX1_leads_247 (by decide) ?_
                            refine lv_goto (tgt := 252) hx hb dX1_leads_248 (by decide) ?_
                            exact W.zret hx hb hr rfl (fun t ht hW9 => ⟨_, rfl, by rw [cx]; exact Or.inl ⟨rfl, tl_10.mpr (Or.inr q1)⟩, ht⟩) (fun _ z => by cases z) dX1_leads_252
                          · subst e1
                            refine lv_if_eq (tgt := 251) hx hb dX1_leads_244 (by decide) (fun _ => ?_) (fun z => absurd ((nI_eq (a := 0) (b := 0) (by omega) (by omega)).mpr (by omega)) z)
                            refine lv_iconst (v := nI 0) hx hb dX1_leads_251 (by decide) ?_
                            exact W.zret hx hb hr rfl (fun t ht hW9 => ⟨_, rfl, by rw [cx]; exact Or.inr ⟨rfl, fun z => (tl_10.mp z).elim d1 q1⟩, ht⟩) (fun _ z => by cases z) dX1_leads_252
                      · have cx : ax = 9 := (nI_eq (a := ax) (b := 9) (by omega) (by omega)).mp cx
                        refine lv_iload_n hx hb dX1_leads_213 rfl (lv_at hl 4 rfl) ?_
                        refine lv_iload_n hx hb dX1_leads_214 rfl (lv_at hl 3 rfl) ?_
                        refine lv_icmp_eq (tgt := 227) hx hb dX1_leads_215 (by decide) (fun d1 => ?_) (fun d1 => ?_)
                        · have d1 : m0 = n0 := (nI_eq (a := m0) (b := n0) (by omega) (by omega)).mp d1
                          refine lv_iconst (v := nI 1) hx hb dX1_leads_227 (by decide) ?_
                          refine lv_goto (tgt := 232) hx hb dX1_leads_228 (by decide) ?_
                          exact W.zret hx hb hr rfl (fun t ht hW9 => ⟨_, rfl, by rw [cx]; exact Or.inl ⟨rfl, tl_9.mpr (Or.inl d1)⟩, ht⟩) (fun _ z => by cases z) dX1_leads_232
                        · have d1 : ¬ (m0 = n0) := fun z => d1 ((nI_eq (a := m0) (b := n0) (by omega) (by omega)).mpr z)
                          refine lv_aload_n hx hb dX1_leads_218 rfl (lv_at hl 1 rfl) ?_
                          refine lv_iload_n hx hb dX1_leads_219 rfl (lv_at hl 3 rfl) ?_
                          refine lv_iload_n hx hb dX1_leads_220 rfl (lv_at hl 4 rfl) ?_
                          refine vp_callSi (W.runV (As := [.int (nI n0), .int (nI m0)]) (rest := []) ⟨hx, hb, hml, hown, hts⟩ (mem_above l D dA dJ dZ h on st vl pa tx wd kp (a0 := n0) (n0 := m0) hW hM (by omega) (by omega)) (cwV 2 hts (lw_V q216 q218 qs14 q21 q219) rfl rfl rfl (by decide +kernel) ⟨Nat.le_of_ble_eq_true rfl, Nat.le_of_ble_eq_true rfl⟩) (tp_pv hK hP (ci := 1) (q0 := 0) rfl rfl) rfl rfl hl.1 rfl (lv_room (Nat.le_of_ble_eq_true rfl)) dX1_leads_221 ⟨Nat.le_of_ble_eq_true rfl, Nat.le_of_ble_eq_true rfl⟩) (fun r1 h1 => ?_)
                          rcases h1 with ⟨e1, q1⟩ | ⟨e1, q1⟩
                          · subst e1
                            refine lv_if_eq (tgt := 231) hx hb dX1_leads_224 (by decide) (fun z => absurd ((nI_eq (a := 1) (b := 0) (by omega) (by omega)).mp z) (by omega)) (fun _ => ?_)
                            refine lv_iconst (v := nI 1) hx hb dX1_leads_227 (by decide) ?_
                            refine lv_goto (tgt := 232) hx hb dX1_leads_228 (by decide) ?_
                            exact W.zret hx hb hr rfl (fun t ht hW9 => ⟨_, rfl, by rw [cx]; exact Or.inl ⟨rfl, tl_9.mpr (Or.inr q1)⟩, ht⟩) (fun _ z => by cases z) dX1_leads_232
                          · subst e1
                            refine lv_if_eq (tgt := 231) hx hb dX1_leads_224 (by decide) (fun _ => ?_) (fun z => absurd ((nI_eq (a := 0) (b := 0) (by omega) (by omega)).mpr (by omega)) z)
                            refine lv_iconst (v := nI 0) hx hb dX1_leads_231 (by decide) ?_
                            exact W.zret hx hb hr rfl (fun t ht hW9 => ⟨_, rfl, by rw [cx]; exact Or.inr ⟨rfl, fun z => (tl_9.mp z).elim d1 q1⟩, ht⟩) (fun _ z => by cases z) dX1_leads_232
                    · have cx : ax = 8 := (nI_eq (a := ax) (b := 8) (by omega) (by omega)).mp cx
                      refine lv_iload_n hx hb dX1_leads_187 rfl (lv_at hl 4 rfl) ?_
                      refine lv_iload_n hx hb dX1_leads_188 rfl (lv_at hl 3 rfl) ?_
                      refine lv_icmp_ge (tgt := 205) hx hb dX1_leads_189 (by decide) (fun d1 => ?_) (fun d1 => ?_)
                      · have d1 : n0 ≤ m0 := (nI_leI (a := n0) (b := m0) (by omega) (by omega)).mp d1
                        refine lv_iconst (v := nI 0) hx hb dX1_leads_205 (by decide) ?_
                        exact W.zret hx hb hr rfl (fun t ht hW9 => ⟨_, rfl, by rw [cx]; exact Or.inr ⟨rfl, fun z => by have z := (tl_8.mp z).1; omega⟩, ht⟩) (fun _ z => by cases z) dX1_leads_206
                      · have d1 : ¬ (n0 ≤ m0) := fun z => d1 ((nI_leI (a := n0) (b := m0) (by omega) (by omega)).mpr z)
                        refine lv_aload_n hx hb dX1_leads_192 rfl (lv_at hl 1 rfl) ?_
                        refine lv_iload_n hx hb dX1_leads_193 rfl (lv_at hl 4 rfl) ?_
                        refine lv_iload_n hx hb dX1_leads_194 rfl (lv_at hl 3 rfl) ?_
                        refine vp_callSi (W.runV (As := [.int (nI m0), .int (nI n0)]) (rest := []) ⟨hx, hb, hml, hown, hts⟩ (mem_above l D dA dJ dZ h on st vl pa tx wd kp (a0 := m0) (n0 := n0) hW hM (by omega) (by omega)) (cwV 2 hts (lw_V q216 q218 qs14 q21 q219) rfl rfl rfl (by decide +kernel) ⟨Nat.le_of_ble_eq_true rfl, Nat.le_of_ble_eq_true rfl⟩) (tp_pv hK hP (ci := 1) (q0 := 0) rfl rfl) rfl rfl hl.1 rfl (lv_room (Nat.le_of_ble_eq_true rfl)) dX1_leads_195 ⟨Nat.le_of_ble_eq_true rfl, Nat.le_of_ble_eq_true rfl⟩) (fun r1 h1 => ?_)
                        rcases h1 with ⟨e1, q1⟩ | ⟨e1, q1⟩
                        · subst e1
                          refine lv_if_ne (tgt := 205) hx hb dX1_leads_198 (by decide) (fun _ => ?_) (fun z => absurd ((nI_eq (a := 1) (b := 0) (by omega) (by omega)).mp z) (by omega))
                          refine lv_iconst (v := nI 0) hx hb dX1_leads_205 (by decide) ?_
                          exact W.zret hx hb hr rfl (fun t ht hW9 => ⟨_, rfl, by rw [cx]; exact Or.inr ⟨rfl, fun z => (tl_8.mp z).2 q1⟩, ht⟩) (fun _ z => by cases z) dX1_leads_206
                        · subst e1
                          refine lv_if_ne (tgt := 205) hx hb dX1_leads_198 (by decide) (fun z => absurd ((nI_eq (a := 0) (b := 0) (by omega) (by omega)).mpr (by omega)) z) (fun _ => ?_)
                          refine lv_iconst (v := nI 1) hx hb dX1_leads_201 (by decide) ?_
                          refine lv_goto (tgt := 206) hx hb dX1_leads_202 (by decide) ?_
                          exact W.zret hx hb hr rfl (fun t ht hW9 => ⟨_, rfl, by rw [cx]; exact Or.inl ⟨rfl, tl_8.mpr ⟨by omega, q1⟩⟩, ht⟩) (fun _ z => by cases z) dX1_leads_206
                  · have cx : ax = 7 := (nI_eq (a := ax) (b := 7) (by omega) (by omega)).mp cx
                    refine lv_iload_n hx hb dX1_leads_161 rfl (lv_at hl 4 rfl) ?_
                    refine lv_iload_n hx hb dX1_leads_162 rfl (lv_at hl 3 rfl) ?_
                    refine lv_icmp_le (tgt := 179) hx hb dX1_leads_163 (by decide) (fun d1 => ?_) (fun d1 => ?_)
                    · have d1 : m0 ≤ n0 := (nI_leI (a := m0) (b := n0) (by omega) (by omega)).mp d1
                      refine lv_iconst (v := nI 0) hx hb dX1_leads_179 (by decide) ?_
                      exact W.zret hx hb hr rfl (fun t ht hW9 => ⟨_, rfl, by rw [cx]; exact Or.inr ⟨rfl, fun z => by have z := (tl_7.mp z).1; omega⟩, ht⟩) (fun _ z => by cases z) dX1_leads_180
                    · have d1 : ¬ (m0 ≤ n0) := fun z => d1 ((nI_leI (a := m0) (b := n0) (by omega) (by omega)).mpr z)
                      refine lv_aload_n hx hb dX1_leads_166 rfl (lv_at hl 1 rfl) ?_
                      refine lv_iload_n hx hb dX1_leads_167 rfl (lv_at hl 3 rfl) ?_
                      refine lv_iload_n hx hb dX1_leads_168 rfl (lv_at hl 4 rfl) ?_
                      refine vp_callSi (W.runV (As := [.int (nI n0), .int (nI m0)]) (rest := []) ⟨hx, hb, hml, hown, hts⟩ (mem_above l D dA dJ dZ h on st vl pa tx wd kp (a0 := n0) (n0 := m0) hW hM (by omega) (by omega)) (cwV 2 hts (lw_V q216 q218 qs14 q21 q219) rfl rfl rfl (by decide +kernel) ⟨Nat.le_of_ble_eq_true rfl, Nat.le_of_ble_eq_true rfl⟩) (tp_pv hK hP (ci := 1) (q0 := 0) rfl rfl) rfl rfl hl.1 rfl (lv_room (Nat.le_of_ble_eq_true rfl)) dX1_leads_169 ⟨Nat.le_of_ble_eq_true rfl, Nat.le_of_ble_eq_true rfl⟩) (fun r1 h1 => ?_)
                      rcases h1 with ⟨e1, q1⟩ | ⟨e1, q1⟩
                      · subst e1
                        refine lv_if_ne (tgt := 179) hx hb dX1_leads_172 (by decide) (fun _ => ?_) (fun z => absurd ((nI_eq (a := 1) (b := 0) (by omega) (by omega)).mp z) (by omega))
                        refine lv_iconst (v := nI 0) hx hb dX1_leads_179 (by decide) ?_
                        exact W.zret hx hb hr rfl (fun t ht hW9 => ⟨_, rfl, by rw [cx]; exact Or.inr ⟨rfl, fun z => (tl_7.mp z).2 q1⟩, ht⟩) (fun _ z => by cases z) dX1_leads_180
                      · subst e1
                        refine lv_if_ne (tgt := 179) hx hb dX1_leads_172 (by decide) (fun z => absurd ((nI_eq (a := 0) (b := 0) (by omega) (by omega)).mpr (by omega)) z) (fun _ => ?_)
                        refine lv_iconst (v := nI 1) hx hb dX1_leads_175 (by decide) ?_
                        refine lv_goto (tgt := 180) hx hb dX1_leads_176 (by decide) ?_
                        exact W.zret hx hb hr rfl (fun t ht hW9 => ⟨_, rfl, by rw [cx]; exact Or.inl ⟨rfl, tl_7.mpr ⟨by omega, q1⟩⟩, ht⟩) (fun _ z => by cases z) dX1_leads_180
                · have cx : ax = 6 := (nI_eq (a := ax) (b := 6) (by omega) (by omega)).mp cx
                  refine lv_iload hx hb dX1_leads_139 (lv_at hl 0 rfl) ?_
                  refine lv_if_eq (tgt := 153) hx hb dX1_leads_141 (by decide) (fun d1 => ?_) (fun d1 => ?_)
                  · have d1 : sw = 0 := (nI_eq (a := sw) (b := 0) (by omega) (by omega)).mp d1
                    refine lv_iconst (v := nI 0) hx hb dX1_leads_153 (by decide) ?_
                    exact W.zret hx hb hr rfl (fun t ht hW9 => ⟨_, rfl, by rw [cx]; exact Or.inr ⟨rfl, fun z => by have z := tl_6.mp z; have := hsw.mpr ⟨z.1, z.2.1, z.2.2.1⟩; omega⟩, ht⟩) (fun _ z => by cases z) dX1_leads_154
                  · have d1 : ¬ (sw = 0) := fun z => d1 ((nI_eq (a := sw) (b := 0) (by omega) (by omega)).mpr z)
                    have hsi := hsw.mp (by omega)
                    refine lv_iload_n hx hb dX1_leads_144 rfl (lv_at hl 4 rfl) ?_
                    refine lv_iload_n hx hb dX1_leads_145 rfl (lv_at hl 3 rfl) ?_
                    refine lv_icmp_ge (tgt := 153) hx hb dX1_leads_146 (by decide) (fun d2 => ?_) (fun d2 => ?_)
                    · have d2 : n0 ≤ m0 := (nI_leI (a := n0) (b := m0) (by omega) (by omega)).mp d2
                      refine lv_iconst (v := nI 0) hx hb dX1_leads_153 (by decide) ?_
                      exact W.zret hx hb hr rfl (fun t ht hW9 => ⟨_, rfl, by rw [cx]; exact Or.inr ⟨rfl, fun z => by have z := (tl_6.mp z).2.2.2; omega⟩, ht⟩) (fun _ z => by cases z) dX1_leads_154
                    · have d2 : ¬ (n0 ≤ m0) := fun z => d2 ((nI_leI (a := n0) (b := m0) (by omega) (by omega)).mpr z)
                      refine lv_iconst (v := nI 1) hx hb dX1_leads_149 (by decide) ?_
                      refine lv_goto (tgt := 154) hx hb dX1_leads_150 (by decide) ?_
                      exact W.zret hx hb hr rfl (fun t ht hW9 => ⟨_, rfl, by rw [cx]; exact Or.inl ⟨rfl, tl_6.mpr ⟨hsi.1, hsi.2.1, hsi.2.2, by omega⟩⟩, ht⟩) (fun _ z => by cases z) dX1_leads_154
              · have cx : ax = 5 := (nI_eq (a := ax) (b := 5) (by omega) (by omega)).mp cx
                refine lv_iload hx hb dX1_leads_117 (lv_at hl 0 rfl) ?_
                refine lv_if_eq (tgt := 131) hx hb dX1_leads_119 (by decide) (fun d1 => ?_) (fun d1 => ?_)
                · have d1 : sw = 0 := (nI_eq (a := sw) (b := 0) (by omega) (by omega)).mp d1
                  refine lv_iconst (v := nI 0) hx hb dX1_leads_131 (by decide) ?_
                  exact W.zret hx hb hr rfl (fun t ht hW9 => ⟨_, rfl, by rw [cx]; exact Or.inr ⟨rfl, fun z => by have z := tl_5.mp z; have := hsw.mpr ⟨z.1, z.2.1, z.2.2.1⟩; omega⟩, ht⟩) (fun _ z => by cases z) dX1_leads_132
                · have d1 : ¬ (sw = 0) := fun z => d1 ((nI_eq (a := sw) (b := 0) (by omega) (by omega)).mpr z)
                  have hsi := hsw.mp (by omega)
                  refine lv_iload_n hx hb dX1_leads_122 rfl (lv_at hl 4 rfl) ?_
                  refine lv_iload_n hx hb dX1_leads_123 rfl (lv_at hl 3 rfl) ?_
                  refine lv_icmp_le (tgt := 131) hx hb dX1_leads_124 (by decide) (fun d2 => ?_) (fun d2 => ?_)
                  · have d2 : m0 ≤ n0 := (nI_leI (a := m0) (b := n0) (by omega) (by omega)).mp d2
                    refine lv_iconst (v := nI 0) hx hb dX1_leads_131 (by decide) ?_
                    exact W.zret hx hb hr rfl (fun t ht hW9 => ⟨_, rfl, by rw [cx]; exact Or.inr ⟨rfl, fun z => by have z := (tl_5.mp z).2.2.2; omega⟩, ht⟩) (fun _ z => by cases z) dX1_leads_132
                  · have d2 : ¬ (m0 ≤ n0) := fun z => d2 ((nI_leI (a := m0) (b := n0) (by omega) (by omega)).mpr z)
                    refine lv_iconst (v := nI 1) hx hb dX1_leads_127 (by decide) ?_
                    refine lv_goto (tgt := 132) hx hb dX1_leads_128 (by decide) ?_
                    exact W.zret hx hb hr rfl (fun t ht hW9 => ⟨_, rfl, by rw [cx]; exact Or.inl ⟨rfl, tl_5.mpr ⟨hsi.1, hsi.2.1, hsi.2.2, by omega⟩⟩, ht⟩) (fun _ z => by cases z) dX1_leads_132
            · have cx : ax = 4 := (nI_eq (a := ax) (b := 4) (by omega) (by omega)).mp cx
              refine lv_aload_n hx hb dX1_leads_105 rfl (lv_at hl 1 rfl) ?_
              refine lv_iload_n hx hb dX1_leads_106 rfl (lv_at hl 4 rfl) ?_
              refine lv_iload_n hx hb dX1_leads_107 rfl (lv_at hl 3 rfl) ?_
              refine vp_callSi (W.runV (As := [.int (nI m0), .int (nI n0)]) (rest := []) ⟨hx, hb, hml, hown, hts⟩ (mem_above l D dA dJ dZ h on st vl pa tx wd kp (a0 := m0) (n0 := n0) hW hM (by omega) (by omega)) (cwV 2 hts (lw_V q216 q218 qs14 q21 q219) rfl rfl rfl (by decide +kernel) ⟨Nat.le_of_ble_eq_true rfl, Nat.le_of_ble_eq_true rfl⟩) (tp_pv hK hP (ci := 1) (q0 := 0) rfl rfl) rfl rfl hl.1 rfl (lv_room (Nat.le_of_ble_eq_true rfl)) dX1_leads_108 ⟨Nat.le_of_ble_eq_true rfl, Nat.le_of_ble_eq_true rfl⟩) (fun r1 h1 => ?_)
              rcases h1 with ⟨e1, q1⟩ | ⟨e1, q1⟩
              · subst e1
                exact W.zret hx hb hr rfl (fun t ht hW9 => ⟨_, rfl, by rw [cx]; exact Or.inl ⟨rfl, tl_4.mpr q1⟩, ht⟩) (fun _ z => by cases z) dX1_leads_111
              · subst e1
                exact W.zret hx hb hr rfl (fun t ht hW9 => ⟨_, rfl, by rw [cx]; exact Or.inr ⟨rfl, fun z => q1 (tl_4.mp z)⟩, ht⟩) (fun _ z => by cases z) dX1_leads_111
          · have cx : ax = 3 := (nI_eq (a := ax) (b := 3) (by omega) (by omega)).mp cx
            refine lv_aload_n hx hb dX1_leads_93 rfl (lv_at hl 1 rfl) ?_
            refine lv_iload_n hx hb dX1_leads_94 rfl (lv_at hl 3 rfl) ?_
            refine lv_iload_n hx hb dX1_leads_95 rfl (lv_at hl 4 rfl) ?_
            refine vp_callSi (W.runV (As := [.int (nI n0), .int (nI m0)]) (rest := []) ⟨hx, hb, hml, hown, hts⟩ (mem_above l D dA dJ dZ h on st vl pa tx wd kp (a0 := n0) (n0 := m0) hW hM (by omega) (by omega)) (cwV 2 hts (lw_V q216 q218 qs14 q21 q219) rfl rfl rfl (by decide +kernel) ⟨Nat.le_of_ble_eq_true rfl, Nat.le_of_ble_eq_true rfl⟩) (tp_pv hK hP (ci := 1) (q0 := 0) rfl rfl) rfl rfl hl.1 rfl (lv_room (Nat.le_of_ble_eq_true rfl)) dX1_leads_96 ⟨Nat.le_of_ble_eq_true rfl, Nat.le_of_ble_eq_true rfl⟩) (fun r1 h1 => ?_)
            rcases h1 with ⟨e1, q1⟩ | ⟨e1, q1⟩
            · subst e1
              exact W.zret hx hb hr rfl (fun t ht hW9 => ⟨_, rfl, by rw [cx]; exact Or.inl ⟨rfl, tl_3.mpr q1⟩, ht⟩) (fun _ z => by cases z) dX1_leads_99
            · subst e1
              exact W.zret hx hb hr rfl (fun t ht hW9 => ⟨_, rfl, by rw [cx]; exact Or.inr ⟨rfl, fun z => q1 (tl_3.mp z)⟩, ht⟩) (fun _ z => by cases z) dX1_leads_99
        · have cx : ax = 2 := (nI_eq (a := ax) (b := 2) (by omega) (by omega)).mp cx
          rcases Nat.eq_zero_or_pos n0 with en0 | en0
          · refine lv_aload_n hx hb dX1_leads_72 rfl (lv_at hl 1 rfl) ?_
            refine va_get (D := D) (ci := 1) (v := .ref (h 7)) (C := RX1) (T := TX1) (N := 7) hx hb hts in_X1 hown hK hP 0 rfl rfl 1 (by decide) (hts _ q170) (fun _ h9 => h9) rfl dX1_leads_73 ?_
            refine lv_iload_n hx hb dX1_leads_76 rfl (lv_at hl 3 rfl) ?_
            refine tp_iald (v := -1) hx hb hK hP 1 0 rfl rfl n0 rfl (by omega) (by rw [(hM n0 (by omega)).1, en0]; exact tp_pa0 P) dX1_leads_77 ?_
            refine lv_iload_n hx hb dX1_leads_78 rfl (lv_at hl 4 rfl) ?_
            refine lv_icmp_ne (tgt := 86) hx hb dX1_leads_79 (by decide) (fun _ => ?_) (fun z => absurd z (fun z => tp_nI_m1 (show m0 < 2 ^ 31 by omega) z.symm))
            refine lv_iconst (v := nI 0) hx hb dX1_leads_86 (by decide) ?_
            exact W.zret hx hb hr rfl (fun t ht hW9 => ⟨_, rfl, by rw [cx]; exact Or.inr ⟨rfl, fun z => by have := (tl_2.mp z).1; omega⟩, ht⟩) (fun _ z => by cases z) dX1_leads_87
          · have hpn := tw_P hW en0 hn
            refine lv_aload_n hx hb dX1_leads_72 rfl (lv_at hl 1 rfl) ?_
            refine va_get (D := D) (ci := 1) (v := .ref (h 7)) (C := RX1) (T := TX1) (N := 7) hx hb hts in_X1 hown hK hP 0 rfl rfl 1 (by decide) (hts _ q170) (fun _ h9 => h9) rfl dX1_leads_73 ?_
            refine lv_iload_n hx hb dX1_leads_76 rfl (lv_at hl 3 rfl) ?_
            refine tp_iald (v := nI (P n0)) hx hb hK hP 1 0 rfl rfl n0 rfl (by omega) ((hM n0 (by omega)).1.trans (tp_pas (by omega))) dX1_leads_77 ?_
            refine lv_iload_n hx hb dX1_leads_78 rfl (lv_at hl 4 rfl) ?_
            refine lv_icmp_ne (tgt := 86) hx hb dX1_leads_79 (by decide) (fun d1 => ?_) (fun d1 => ?_)
            · have d1 : ¬ ((P n0) = m0) := fun z => d1 ((nI_eq (a := (P n0)) (b := m0) (by omega) (by omega)).mpr z)
              refine lv_iconst (v := nI 0) hx hb dX1_leads_86 (by decide) ?_
              exact W.zret hx hb hr rfl (fun t ht hW9 => ⟨_, rfl, by rw [cx]; exact Or.inr ⟨rfl, fun z => d1 (tl_2.mp z).2⟩, ht⟩) (fun _ z => by cases z) dX1_leads_87
            · have d1 : (P n0) = m0 := (nI_eq (a := (P n0)) (b := m0) (by omega) (by omega)).mp d1
              refine lv_iconst (v := nI 1) hx hb dX1_leads_82 (by decide) ?_
              refine lv_goto (tgt := 87) hx hb dX1_leads_83 (by decide) ?_
              exact W.zret hx hb hr rfl (fun t ht hW9 => ⟨_, rfl, by rw [cx]; exact Or.inl ⟨rfl, tl_2.mpr ⟨en0, d1⟩⟩, ht⟩) (fun _ z => by cases z) dX1_leads_87
      · have cx : ax = 1 := (nI_eq (a := ax) (b := 1) (by omega) (by omega)).mp cx
        rcases Nat.eq_zero_or_pos m0 with em0 | em0
        · refine lv_aload_n hx hb dX1_leads_51 rfl (lv_at hl 1 rfl) ?_
          refine va_get (D := D) (ci := 1) (v := .ref (h 7)) (C := RX1) (T := TX1) (N := 7) hx hb hts in_X1 hown hK hP 0 rfl rfl 1 (by decide) (hts _ q170) (fun _ h9 => h9) rfl dX1_leads_52 ?_
          refine lv_iload_n hx hb dX1_leads_55 rfl (lv_at hl 4 rfl) ?_
          refine tp_iald (v := -1) hx hb hK hP 1 0 rfl rfl m0 rfl (by omega) (by rw [(hM m0 (by omega)).1, em0]; exact tp_pa0 P) dX1_leads_56 ?_
          refine lv_iload_n hx hb dX1_leads_57 rfl (lv_at hl 3 rfl) ?_
          refine lv_icmp_ne (tgt := 65) hx hb dX1_leads_58 (by decide) (fun _ => ?_) (fun z => absurd z (fun z => tp_nI_m1 (show n0 < 2 ^ 31 by omega) z.symm))
          refine lv_iconst (v := nI 0) hx hb dX1_leads_65 (by decide) ?_
          exact W.zret hx hb hr rfl (fun t ht hW9 => ⟨_, rfl, by rw [cx]; exact Or.inr ⟨rfl, fun z => by have := (tl_1.mp z).1; omega⟩, ht⟩) (fun _ z => by cases z) dX1_leads_66
        · have hpm := tw_P hW em0 hm
          refine lv_aload_n hx hb dX1_leads_51 rfl (lv_at hl 1 rfl) ?_
          refine va_get (D := D) (ci := 1) (v := .ref (h 7)) (C := RX1) (T := TX1) (N := 7) hx hb hts in_X1 hown hK hP 0 rfl rfl 1 (by decide) (hts _ q170) (fun _ h9 => h9) rfl dX1_leads_52 ?_
          refine lv_iload_n hx hb dX1_leads_55 rfl (lv_at hl 4 rfl) ?_
          refine tp_iald (v := nI (P m0)) hx hb hK hP 1 0 rfl rfl m0 rfl (by omega) ((hM m0 (by omega)).1.trans (tp_pas (by omega))) dX1_leads_56 ?_
          refine lv_iload_n hx hb dX1_leads_57 rfl (lv_at hl 3 rfl) ?_
          refine lv_icmp_ne (tgt := 65) hx hb dX1_leads_58 (by decide) (fun d1 => ?_) (fun d1 => ?_)
          · have d1 : ¬ ((P m0) = n0) := fun z => d1 ((nI_eq (a := (P m0)) (b := n0) (by omega) (by omega)).mpr z)
            refine lv_iconst (v := nI 0) hx hb dX1_leads_65 (by decide) ?_
            exact W.zret hx hb hr rfl (fun t ht hW9 => ⟨_, rfl, by rw [cx]; exact Or.inr ⟨rfl, fun z => d1 (tl_1.mp z).2⟩, ht⟩) (fun _ z => by cases z) dX1_leads_66
          · have d1 : (P m0) = n0 := (nI_eq (a := (P m0)) (b := n0) (by omega) (by omega)).mp d1
            refine lv_iconst (v := nI 1) hx hb dX1_leads_61 (by decide) ?_
            refine lv_goto (tgt := 66) hx hb dX1_leads_62 (by decide) ?_
            exact W.zret hx hb hr rfl (fun t ht hW9 => ⟨_, rfl, by rw [cx]; exact Or.inl ⟨rfl, tl_1.mpr ⟨em0, d1⟩⟩, ht⟩) (fun _ z => by cases z) dX1_leads_66
    · have cx : ax = 0 := (nI_eq (a := ax) (b := 0) (by omega) (by omega)).mp cx
      refine lv_iload_n hx hb dX1_leads_35 rfl (lv_at hl 4 rfl) ?_
      refine lv_iload_n hx hb dX1_leads_36 rfl (lv_at hl 3 rfl) ?_
      refine lv_icmp_ne (tgt := 44) hx hb dX1_leads_37 (by decide) (fun d1 => ?_) (fun d1 => ?_)
      · have d1 : ¬ (m0 = n0) := fun z => d1 ((nI_eq (a := m0) (b := n0) (by omega) (by omega)).mpr z)
        refine lv_iconst (v := nI 0) hx hb dX1_leads_44 (by decide) ?_
        exact W.zret hx hb hr rfl (fun t ht hW9 => ⟨_, rfl, by rw [cx]; exact Or.inr ⟨rfl, fun z => d1 (tl_0.mp z)⟩, ht⟩) (fun _ z => by cases z) dX1_leads_45
      · have d1 : m0 = n0 := (nI_eq (a := m0) (b := n0) (by omega) (by omega)).mp d1
        refine lv_iconst (v := nI 1) hx hb dX1_leads_40 (by decide) ?_
        refine lv_goto (tgt := 45) hx hb dX1_leads_41 (by decide) ?_
        exact W.zret hx hb hr rfl (fun t ht hW9 => ⟨_, rfl, by rw [cx]; exact Or.inl ⟨rfl, tl_0.mpr d1⟩, ht⟩) (fun _ z => by cases z) dX1_leads_45
  rcases Nat.eq_zero_or_pos n0 with en0 | en0
  · refine lv_aload_n hx hb dX1_leads_0 rfl (lv_at hl 0 rfl) ?_
    refine va_get (D := D) (ci := 1) (v := .ref (h 7)) (C := RX1) (T := TX1) (N := 7) hx hb hts in_X1 hown hK hP 0 rfl rfl 1 (by decide) (hts _ q170) (fun _ h9 => h9) rfl dX1_leads_1 ?_
    refine lv_iload_n hx hb dX1_leads_4 rfl (lv_at hl 2 rfl) ?_
    refine tp_iald (v := -1) hx hb hK hP 1 0 rfl rfl n0 rfl (by omega) (by rw [(hM n0 (by omega)).1, en0]; exact tp_pa0 P) dX1_leads_5 ?_
    refine lv_if_lt (tgt := 28) hx hb dX1_leads_6 (by decide) (fun _ => ?_) (fun z => absurd ((by decide : (-1 : Int32) < 0)) z)
    refine lv_iconst (v := nI 0) hx hb dX1_leads_28 (by decide) ?_
    exact J 0 (by omega) ⟨fun z => by omega, fun z => by omega⟩
  · have hpn := tw_P hW en0 hn
    refine lv_aload_n hx hb dX1_leads_0 rfl (lv_at hl 0 rfl) ?_
    refine va_get (D := D) (ci := 1) (v := .ref (h 7)) (C := RX1) (T := TX1) (N := 7) hx hb hts in_X1 hown hK hP 0 rfl rfl 1 (by decide) (hts _ q170) (fun _ h9 => h9) rfl dX1_leads_1 ?_
    refine lv_iload_n hx hb dX1_leads_4 rfl (lv_at hl 2 rfl) ?_
    refine tp_iald (v := nI (P n0)) hx hb hK hP 1 0 rfl rfl n0 rfl (by omega) ((hM n0 (by omega)).1.trans (tp_pas (by omega))) dX1_leads_5 ?_
    refine lv_if_lt (tgt := 28) hx hb dX1_leads_6 (by decide) (fun z => absurd z (nI_pos (by omega))) (fun _ => ?_)
    refine lv_aload_n hx hb dX1_leads_9 rfl (lv_at hl 0 rfl) ?_
    refine va_get (D := D) (ci := 1) (v := .ref (h 7)) (C := RX1) (T := TX1) (N := 7) hx hb hts in_X1 hown hK hP 0 rfl rfl 1 (by decide) (hts _ q170) (fun _ h9 => h9) rfl dX1_leads_10 ?_
    refine lv_iload_n hx hb dX1_leads_13 rfl (lv_at hl 2 rfl) ?_
    refine tp_iald (v := nI (P n0)) hx hb hK hP 1 0 rfl rfl n0 rfl (by omega) ((hM n0 (by omega)).1.trans (tp_pas (by omega))) dX1_leads_14 ?_
    refine lv_aload_n hx hb dX1_leads_15 rfl (lv_at hl 0 rfl) ?_
    refine va_get (D := D) (ci := 1) (v := .ref (h 7)) (C := RX1) (T := TX1) (N := 7) hx hb hts in_X1 hown hK hP 0 rfl rfl 1 (by decide) (hts _ q170) (fun _ h9 => h9) rfl dX1_leads_16 ?_
    refine lv_iload_n hx hb dX1_leads_19 rfl (lv_at hl 3 rfl) ?_
    rcases Nat.eq_zero_or_pos m0 with em0 | em0
    · refine tp_iald (v := -1) hx hb hK hP 1 0 rfl rfl m0 rfl (by omega) (by rw [(hM m0 (by omega)).1, em0]; exact tp_pa0 P) dX1_leads_20 ?_
      refine lv_icmp_ne (tgt := 28) hx hb dX1_leads_21 (by decide) (fun _ => ?_) (fun z => absurd z (tp_nI_m1 (show P n0 < 2 ^ 31 by omega)))
      refine lv_iconst (v := nI 0) hx hb dX1_leads_28 (by decide) ?_
      exact J 0 (by omega) ⟨fun z => by omega, fun z => by omega⟩
    · have hpm := tw_P hW em0 hm
      refine tp_iald (v := nI (P m0)) hx hb hK hP 1 0 rfl rfl m0 rfl (by omega) ((hM m0 (by omega)).1.trans (tp_pas (by omega))) dX1_leads_20 ?_
      refine lv_icmp_ne (tgt := 28) hx hb dX1_leads_21 (by decide) (fun d1 => ?_) (fun d1 => ?_)
      · have d1 : ¬ ((P n0) = (P m0)) := fun z => d1 ((nI_eq (a := (P n0)) (b := (P m0)) (by omega) (by omega)).mpr z)
        refine lv_iconst (v := nI 0) hx hb dX1_leads_28 (by decide) ?_
        exact J 0 (by omega) ⟨fun z => by omega, fun z => absurd z.2.2 d1⟩
      · have d1 : (P n0) = (P m0) := (nI_eq (a := (P n0)) (b := (P m0)) (by omega) (by omega)).mp d1
        refine lv_iconst (v := nI 1) hx hb dX1_leads_24 (by decide) ?_
        refine lv_goto (tgt := 29) hx hb dX1_leads_25 (by decide) ?_
        exact J 1 (by omega) ⟨fun _ => ⟨en0, em0, d1⟩, fun _ => rfl⟩
end
section
set_option maxHeartbeats 4000000 in
set_option maxRecDepth 100000 in
theorem mem_passes (l : Launch) (D : va_G) (dA dJ dZ : ClassId) (h : Nat → Nat) (on : Int32) (st : Int64) (vl pa tx wd : Nat → Int32) (kp : Nat → Int64) {cN : Nat} {P E N : Nat → Nat} {t m0 : Nat} (hW : tp_wf cN P E) (hM : tp_M cN P N vl pa tx wd) (ht : t ≤ 10) (hm : m0 < cN) : Met l yX1_passes (ws_ yX1_passes cX1_passes 3 (some .boolean)) ({ frames := 0, cells := 0, slots := 0, locals := 0 }) (tp_Pr D (tp_ty dA dJ dZ) (tp_wM dA dJ dZ h (nI cN) on st pa tx wd kp) [.ref (h 6), .int (nI t), .int (nI m0)]) (vp_Si (fun r => tp_is r (tp_pass N t m0))) 0 0 (fun _ => False) := by
  refine Met.ofW (cc := cX1_passes) (maxL := 3) (ret := (some .boolean)) (by decide) rfl ?_
  intro p e s m args below meth c s₁ B hml hv
  obtain ⟨rfl, hP, hK⟩ := hv
  have hx := B.exec
  have hb := B.bytes
  have hr := B.returns
  have hts := atoms_spec (ws := ws_ yX1_passes cX1_passes 3 (some .boolean)) B.pre
  have hts : ∀ w ∈ lw_all, w.before _ s = true := fun w h => hts w (List.mem_cons_of_mem _ h)
  have hown : s.vm.findClass RX1 = some m.cls := findClass_of_methodNamed B.named
  have hlocks := B.notSynchronized
  have hl := lv_entry ([.ref (h 6), .int (nI t), .int (nI m0)]) (n := 3) (Nat.le_of_ble_eq_true rfl)
  rw [lg_entry_eq]
  generalize (lg_sl ([.ref (h 6), .int (nI t), .int (nI m0)]) ++ List.replicate (3 - (lg_sl ([.ref (h 6), .int (nI t), .int (nI m0)])).length) Slot.unset).toArray = ls at hl ⊢
  have hl : lv_has ls 3 [(0, .ref (h 6)), (1, .int (nI t)), (2, .int (nI m0))] := hl
  have hc := tw_c hW
  have hN8 := (hM m0 hm).2.2.2
  refine lv_iload_n hx hb dX1_passes_0 rfl (lv_at hl 1 rfl) ?_
  refine lv_bipush (v := nI 10) hx hb dX1_passes_1 (by decide) ?_
  refine lv_icmp_ne (tgt := 8) hx hb dX1_passes_3 (by decide) (fun c1 => ?_) (fun c1 => ?_)
  · have c1 : ¬ (t = 10) := fun z => c1 ((nI_eq (a := t) (b := 10) (by omega) (by omega)).mpr z)
    refine lv_iload_n hx hb dX1_passes_8 rfl (lv_at hl 1 rfl) ?_
    refine lv_bipush (v := nI 8) hx hb dX1_passes_9 (by decide) ?_
    refine lv_icmp_ne (tgt := 21) hx hb dX1_passes_11 (by decide) (fun c2 => ?_) (fun c2 => ?_)
    · have c2 : ¬ (t = 8) := fun z => c2 ((nI_eq (a := t) (b := 8) (by omega) (by omega)).mpr z)
      by_cases e8 : N m0 = 8
      · refine lv_aload_n hx hb dX1_passes_21 rfl (lv_at hl 0 rfl) ?_
        refine va_get (D := D) (ci := 1) (v := .ref (h 8)) (C := RX1) (T := TX1) (N := 7) hx hb hts in_X1 hown hK hP 0 rfl rfl 2 (by decide) (hts _ q171) (fun _ h9 => h9) rfl dX1_passes_22 ?_
        refine lv_iload_n hx hb dX1_passes_25 rfl (lv_at hl 2 rfl) ?_
        refine tp_zald (v := nI 1) hx hb hK hP 2 2 rfl rfl m0 rfl (by omega) ((hM m0 hm).2.1.trans (if_pos e8)) dX1_passes_26 ?_
        refine lv_if_ne (tgt := 50) hx hb dX1_passes_27 (by decide) (fun _ => ?_) (fun z => absurd ((nI_eq (a := 1) (b := 0) (by omega) (by omega)).mp z) (by omega))
        refine lv_iconst (v := nI 0) hx hb dX1_passes_50 (by decide) ?_
        exact W.zret hx hb hr rfl (fun t ht hW9 => ⟨_, rfl, Or.inr ⟨rfl, fun z => by rcases z with z | z | z <;> omega⟩, ht⟩) (fun _ z => by cases z) dX1_passes_51
      · refine lv_aload_n hx hb dX1_passes_21 rfl (lv_at hl 0 rfl) ?_
        refine va_get (D := D) (ci := 1) (v := .ref (h 8)) (C := RX1) (T := TX1) (N := 7) hx hb hts in_X1 hown hK hP 0 rfl rfl 2 (by decide) (hts _ q171) (fun _ h9 => h9) rfl dX1_passes_22 ?_
        refine lv_iload_n hx hb dX1_passes_25 rfl (lv_at hl 2 rfl) ?_
        refine tp_zald (v := nI 0) hx hb hK hP 2 2 rfl rfl m0 rfl (by omega) ((hM m0 hm).2.1.trans (if_neg e8)) dX1_passes_26 ?_
        refine lv_if_ne (tgt := 50) hx hb dX1_passes_27 (by decide) (fun z => absurd ((nI_eq (a := 0) (b := 0) (by omega) (by omega)).mpr (by omega)) z) (fun _ => ?_)
        refine lv_iload_n hx hb dX1_passes_30 rfl (lv_at hl 1 rfl) ?_
        refine lv_bipush (v := nI 9) hx hb dX1_passes_31 (by decide) ?_
        refine lv_icmp_eq (tgt := 46) hx hb dX1_passes_33 (by decide) (fun c3 => ?_) (fun c3 => ?_)
        · have c3 : t = 9 := (nI_eq (a := t) (b := 9) (by omega) (by omega)).mp c3
          refine lv_iconst (v := nI 1) hx hb dX1_passes_46 (by decide) ?_
          refine lv_goto (tgt := 51) hx hb dX1_passes_47 (by decide) ?_
          exact W.zret hx hb hr rfl (fun t ht hW9 => ⟨_, rfl, Or.inl ⟨rfl, Or.inr (Or.inl ⟨c3, e8⟩)⟩, ht⟩) (fun _ z => by cases z) dX1_passes_51
        · have c3 : ¬ (t = 9) := fun z => c3 ((nI_eq (a := t) (b := 9) (by omega) (by omega)).mpr z)
          refine lv_aload_n hx hb dX1_passes_36 rfl (lv_at hl 0 rfl) ?_
          refine va_get (D := D) (ci := 1) (v := .ref (h 9)) (C := RX1) (T := TX1) (N := 7) hx hb hts in_X1 hown hK hP 0 rfl rfl 3 (by decide) (hts _ q172) (fun _ h9 => h9) rfl dX1_passes_37 ?_
          refine lv_iload_n hx hb dX1_passes_40 rfl (lv_at hl 2 rfl) ?_
          refine tp_iald (v := nI (N m0)) hx hb hK hP 3 0 rfl rfl m0 rfl (by omega) ((hM m0 hm).2.2.1.trans (if_neg e8)) dX1_passes_41 ?_
          refine lv_iload_n hx hb dX1_passes_42 rfl (lv_at hl 1 rfl) ?_
          refine lv_icmp_ne (tgt := 50) hx hb dX1_passes_43 (by decide) (fun c4 => ?_) (fun c4 => ?_)
          · have c4 : ¬ ((N m0) = t) := fun z => c4 ((nI_eq (a := (N m0)) (b := t) (by omega) (by omega)).mpr z)
            refine lv_iconst (v := nI 0) hx hb dX1_passes_50 (by decide) ?_
            exact W.zret hx hb hr rfl (fun t ht hW9 => ⟨_, rfl, Or.inr ⟨rfl, fun z => by rcases z with z | z | z <;> omega⟩, ht⟩) (fun _ z => by cases z) dX1_passes_51
          · have c4 : (N m0) = t := (nI_eq (a := (N m0)) (b := t) (by omega) (by omega)).mp c4
            refine lv_iconst (v := nI 1) hx hb dX1_passes_46 (by decide) ?_
            refine lv_goto (tgt := 51) hx hb dX1_passes_47 (by decide) ?_
            exact W.zret hx hb hr rfl (fun t ht hW9 => ⟨_, rfl, Or.inl ⟨rfl, Or.inr (Or.inr c4.symm)⟩, ht⟩) (fun _ z => by cases z) dX1_passes_51
    · have c2 : t = 8 := (nI_eq (a := t) (b := 8) (by omega) (by omega)).mp c2
      by_cases e8 : N m0 = 8
      · refine lv_aload_n hx hb dX1_passes_14 rfl (lv_at hl 0 rfl) ?_
        refine va_get (D := D) (ci := 1) (v := .ref (h 8)) (C := RX1) (T := TX1) (N := 7) hx hb hts in_X1 hown hK hP 0 rfl rfl 2 (by decide) (hts _ q171) (fun _ h9 => h9) rfl dX1_passes_15 ?_
        refine lv_iload_n hx hb dX1_passes_18 rfl (lv_at hl 2 rfl) ?_
        refine tp_zald (v := nI 1) hx hb hK hP 2 2 rfl rfl m0 rfl (by omega) ((hM m0 hm).2.1.trans (if_pos e8)) dX1_passes_19 ?_
        exact W.zret hx hb hr rfl (fun t ht hW9 => ⟨_, rfl, Or.inl ⟨rfl, Or.inr (Or.inr (by omega))⟩, ht⟩) (fun _ z => by cases z) dX1_passes_20
      · refine lv_aload_n hx hb dX1_passes_14 rfl (lv_at hl 0 rfl) ?_
        refine va_get (D := D) (ci := 1) (v := .ref (h 8)) (C := RX1) (T := TX1) (N := 7) hx hb hts in_X1 hown hK hP 0 rfl rfl 2 (by decide) (hts _ q171) (fun _ h9 => h9) rfl dX1_passes_15 ?_
        refine lv_iload_n hx hb dX1_passes_18 rfl (lv_at hl 2 rfl) ?_
        refine tp_zald (v := nI 0) hx hb hK hP 2 2 rfl rfl m0 rfl (by omega) ((hM m0 hm).2.1.trans (if_neg e8)) dX1_passes_19 ?_
        exact W.zret hx hb hr rfl (fun t ht hW9 => ⟨_, rfl, Or.inr ⟨rfl, fun z => by rcases z with z | z | z <;> omega⟩, ht⟩) (fun _ z => by cases z) dX1_passes_20
  · have c1 : t = 10 := (nI_eq (a := t) (b := 10) (by omega) (by omega)).mp c1
    refine lv_iconst (v := nI 1) hx hb dX1_passes_6 (by decide) ?_
    exact W.zret hx hb hr rfl (fun t ht hW9 => ⟨_, rfl, Or.inl ⟨rfl, Or.inl c1⟩, ht⟩) (fun _ z => by cases z) dX1_passes_7

set_option maxHeartbeats 4000000 in
set_option maxRecDepth 100000 in
theorem mem_backwards (l : Launch) {ax : Nat} (hax : ax ≤ 10) : Met l yX1_backwards (ws_ yX1_backwards cX1_backwards 1 (some .boolean)) ({ frames := 0, cells := 0, slots := 0, locals := 0 }) (va_Pc [.int (nI ax)] (fun _ => True)) (vp_Si (fun r => tp_is r (ax = 2 ∨ tp_bw ax))) 0 0 (fun _ => False) := by
  refine Met.ofW (cc := cX1_backwards) (maxL := 1) (ret := (some .boolean)) (by decide) rfl ?_
  intro p e s m args below meth c s₁ B hml hv
  obtain ⟨rfl, -⟩ := hv
  have hx := B.exec
  have hb := B.bytes
  have hr := B.returns
  have hts := atoms_spec (ws := ws_ yX1_backwards cX1_backwards 1 (some .boolean)) B.pre
  have hts : ∀ w ∈ lw_all, w.before _ s = true := fun w h => hts w (List.mem_cons_of_mem _ h)
  have hown : s.vm.findClass RX1 = some m.cls := findClass_of_methodNamed B.named
  have hlocks := B.notSynchronized
  have hl := lv_entry ([.int (nI ax)]) (n := 1) (Nat.le_of_ble_eq_true rfl)
  rw [lg_entry_eq]
  generalize (lg_sl ([.int (nI ax)]) ++ List.replicate (1 - (lg_sl ([.int (nI ax)])).length) Slot.unset).toArray = ls at hl ⊢
  have hl : lv_has ls 1 [(0, .int (nI ax))] := hl
  have JY : (ax = 2 ∨ tp_bw ax) → W p l e (headSpec (ws_ yX1_backwards cX1_backwards 1 (some .boolean)) ({ frames := 0, cells := 0, slots := 0, locals := 0 })).room s m ([.int (nI ax)] : List Value).toArray below meth c s.heap [] 0 0 (MQ below (vp_Si (fun r => tp_is r (ax = 2 ∨ tp_bw ax))) ([.int (nI ax)] : List Value).toArray s 0 0 (fun _ => False)) (F0 m 28 ls []) := by
    intro hq
    refine lv_iconst (v := nI 1) hx hb dX1_backwards_28 (by decide) ?_
    refine lv_goto (tgt := 33) hx hb dX1_backwards_29 (by decide) ?_
    exact W.zret hx hb hr rfl (fun t ht hW9 => ⟨_, rfl, Or.inl ⟨rfl, hq⟩, ht⟩) (fun _ z => by cases z) dX1_backwards_33
  refine lv_iload_n hx hb dX1_backwards_0 rfl (lv_at hl 0 rfl) ?_
  refine lv_iconst (v := nI 2) hx hb dX1_backwards_1 (by decide) ?_
  refine lv_icmp_eq (tgt := 28) hx hb dX1_backwards_2 (by decide) (fun c1 => ?_) (fun c1 => ?_)
  · have c1 : ax = 2 := (nI_eq (a := ax) (b := 2) (by omega) (by omega)).mp c1
    exact JY (Or.inl c1)
  · have c1 : ¬ (ax = 2) := fun z => c1 ((nI_eq (a := ax) (b := 2) (by omega) (by omega)).mpr z)
    have f0 := c1
    refine lv_iload_n hx hb dX1_backwards_5 rfl (lv_at hl 0 rfl) ?_
    refine lv_iconst (v := nI 4) hx hb dX1_backwards_6 (by decide) ?_
    refine lv_icmp_eq (tgt := 28) hx hb dX1_backwards_7 (by decide) (fun c1 => ?_) (fun c1 => ?_)
    · have c1 : ax = 4 := (nI_eq (a := ax) (b := 4) (by omega) (by omega)).mp c1
      exact JY (Or.inr (Or.inl c1))
    · have c1 : ¬ (ax = 4) := fun z => c1 ((nI_eq (a := ax) (b := 4) (by omega) (by omega)).mpr z)
      have f1 := c1
      refine lv_iload_n hx hb dX1_backwards_10 rfl (lv_at hl 0 rfl) ?_
      refine lv_bipush (v := nI 6) hx hb dX1_backwards_11 (by decide) ?_
      refine lv_icmp_eq (tgt := 28) hx hb dX1_backwards_13 (by decide) (fun c1 => ?_) (fun c1 => ?_)
      · have c1 : ax = 6 := (nI_eq (a := ax) (b := 6) (by omega) (by omega)).mp c1
        exact JY (Or.inr (Or.inr (Or.inl c1)))
      · have c1 : ¬ (ax = 6) := fun z => c1 ((nI_eq (a := ax) (b := 6) (by omega) (by omega)).mpr z)
        have f2 := c1
        refine lv_iload_n hx hb dX1_backwards_16 rfl (lv_at hl 0 rfl) ?_
        refine lv_bipush (v := nI 8) hx hb dX1_backwards_17 (by decide) ?_
        refine lv_icmp_eq (tgt := 28) hx hb dX1_backwards_19 (by decide) (fun c1 => ?_) (fun c1 => ?_)
        · have c1 : ax = 8 := (nI_eq (a := ax) (b := 8) (by omega) (by omega)).mp c1
          exact JY (Or.inr (Or.inr (Or.inr (Or.inl c1))))
        · have c1 : ¬ (ax = 8) := fun z => c1 ((nI_eq (a := ax) (b := 8) (by omega) (by omega)).mpr z)
          have f3 := c1
          refine lv_iload_n hx hb dX1_backwards_22 rfl (lv_at hl 0 rfl) ?_
          refine lv_bipush (v := nI 10) hx hb dX1_backwards_23 (by decide) ?_
          refine lv_icmp_ne (tgt := 32) hx hb dX1_backwards_25 (by decide) (fun c1 => ?_) (fun c1 => ?_)
          · have c1 : ¬ (ax = 10) := fun z => c1 ((nI_eq (a := ax) (b := 10) (by omega) (by omega)).mpr z)
            refine lv_iconst (v := nI 0) hx hb dX1_backwards_32 (by decide) ?_
            exact W.zret hx hb hr rfl (fun t ht hW9 => ⟨_, rfl, Or.inr ⟨rfl, fun z => by rcases z with z | z | z | z | z <;> omega⟩, ht⟩) (fun _ z => by cases z) dX1_backwards_33
          · have c1 : ax = 10 := (nI_eq (a := ax) (b := 10) (by omega) (by omega)).mp c1
            exact JY (Or.inr (Or.inr (Or.inr (Or.inr c1))))

set_option maxHeartbeats 4000000 in
set_option maxRecDepth 100000 in
theorem mem_found (l : Launch) (D : va_G) (dA dJ dZ : ClassId) (h : Nat → Nat) (on : Int32) (st : Int64) (vl pa tx wd : Nat → Int32) (kp : Nat → Int64) {cN : Nat} {P E N : Nat → Nat} {n0 ax t : Nat} {pl : Int32} (hW : tp_wf cN P E) (hM : tp_M cN P N vl pa tx wd) (hn : n0 < cN) (hax : ax ≤ 10) (ht : t ≤ 10) (hp1 : -48 ≤ pl.toInt ∧ pl.toInt ≤ 48) : Met l yX1_found (ws_ yX1_found cX1_found 12 (some .long)) ({ frames := 2, cells := 0, slots := 0, locals := 47 }) (tp_Pr D (tp_ty dA dJ dZ) (tp_wM dA dJ dZ h (nI cN) on st pa tx wd kp) [.ref (h 6), .int (nI n0), .int (nI ax), .int (nI t), .int pl]) (vp_Sl (fun r => ∀ q, tp_b r q = true ↔ tp_num (tp_D (tp_F cN P E N ax t n0)) (ax = 2 ∨ tp_bw ax) pl.toInt q)) 0 0 (fun _ => False) := by
  refine Met.ofW (cc := cX1_found) (maxL := 12) (ret := (some .long)) (by decide) rfl ?_
  intro p e s m args below meth c s₁ B hml hv
  obtain ⟨rfl, hP, hK⟩ := hv
  have hx := B.exec
  have hb := B.bytes
  have hr := B.returns
  have hts := atoms_spec (ws := ws_ yX1_found cX1_found 12 (some .long)) B.pre
  have hts : ∀ w ∈ lw_all, w.before _ s = true := fun w h => hts w (List.mem_cons_of_mem _ h)
  have hown : s.vm.findClass RX1 = some m.cls := findClass_of_methodNamed B.named
  have hlocks := B.notSynchronized
  have hl := lv_entry ([.ref (h 6), .int (nI n0), .int (nI ax), .int (nI t), .int pl]) (n := 12) (Nat.le_of_ble_eq_true rfl)
  rw [lg_entry_eq]
  generalize (lg_sl ([.ref (h 6), .int (nI n0), .int (nI ax), .int (nI t), .int pl]) ++ List.replicate (12 - (lg_sl ([.ref (h 6), .int (nI n0), .int (nI ax), .int (nI t), .int pl])).length) Slot.unset).toArray = ls at hl ⊢
  have hl : lv_has ls 12 [(0, .ref (h 6)), (1, .int (nI n0)), (2, .int (nI ax)), (3, .int (nI t)), (4, .int pl)] := hl
  have hc := tw_c hW
  obtain ⟨f, hfe⟩ : ∃ f, f = tp_D (tp_F cN P E N ax t n0) := ⟨_, rfl⟩
  have hall : tp_c f 48 = tp_c f cN := by rw [hfe]; exact tk_all hc.2
  have hcle := tp_c_le f cN
  have hyes : ∀ i, i < cN → tp_lead P E ax n0 i → tp_pass N t i → f i = true := fun i z1 z2 z3 => by rw [hfe]; exact tk_yes z1 z2 z3
  have hno : ∀ i, ¬ (tp_lead P E ax n0 i ∧ tp_pass N t i) → f i = false := fun i z => by rw [hfe]; exact tk_no z
  refine lv_iconst (v := nI 0) hx hb dX1_found_0 (by decide) ?_
  refine lv_istore (lv' := [(5, .int (nI 0)), (0, .ref (h 6)), (1, .int (nI n0)), (2, .int (nI ax)), (3, .int (nI t)), (4, .int pl)]) hx hb dX1_found_1 hl (by decide) rfl (fun ls hl => ?_)
  refine lv_iconst (v := nI 0) hx hb dX1_found_3 (by decide) ?_
  refine lv_istore (lv' := [(6, .int (nI 0)), (5, .int (nI 0)), (0, .ref (h 6)), (1, .int (nI n0)), (2, .int (nI ax)), (3, .int (nI t)), (4, .int pl)]) hx hb dX1_found_4 hl (by decide) rfl (fun ls hl => ?_)
  have J : ∀ (wn : Int32), wn.toInt = tp_wn (tp_c f 48) pl.toInt → ∀ (ls : Array Slot), lv_has ls 12 [(0, .ref (h 6)), (1, .int (nI n0)), (2, .int (nI ax)), (3, .int (nI t)), (4, .int pl)] → W p l e (headSpec (ws_ yX1_found cX1_found 12 (some .long)) ({ frames := 2, cells := 0, slots := 0, locals := 47 })).room s m ([.ref (h 6), .int (nI n0), .int (nI ax), .int (nI t), .int pl] : List Value).toArray below meth c s.heap [] 0 0 (MQ below (vp_Sl (fun r => ∀ q, tp_b r q = true ↔ tp_num (tp_D (tp_F cN P E N ax t n0)) (ax = 2 ∨ tp_bw ax) pl.toInt q)) ([.ref (h 6), .int (nI n0), .int (nI ax), .int (nI t), .int pl] : List Value).toArray s 0 0 (fun _ => False)) (F0 m 62 ls [.int wn]) := by
    intro wn hwn ls hl
    refine lv_istore (lv' := [(6, .int wn), (0, .ref (h 6)), (1, .int (nI n0)), (2, .int (nI ax)), (3, .int (nI t)), (4, .int pl)]) hx hb dX1_found_62 hl (by decide) rfl (fun ls hl => ?_)
    refine lv_lconst (v := 0) hx hb dX1_found_64 (by decide) ?_
    refine lv_lstore (lv' := [(7, .long 0), (6, .int wn), (0, .ref (h 6)), (1, .int (nI n0)), (2, .int (nI ax)), (3, .int (nI t)), (4, .int pl)]) hx hb dX1_found_65 hl (by decide) rfl (fun ls hl => ?_)
    refine lv_iconst (v := nI 0) hx hb dX1_found_67 (by decide) ?_
    refine lv_istore (lv' := [(9, .int (nI 0)), (7, .long 0), (6, .int wn), (0, .ref (h 6)), (1, .int (nI n0)), (2, .int (nI ax)), (3, .int (nI t)), (4, .int pl)]) hx hb dX1_found_68 hl (by decide) rfl (fun ls hl => ?_)
    refine lv_iconst (v := nI 0) hx hb dX1_found_70 (by decide) ?_
    refine lv_istore (lv' := [(10, .int (nI 0)), (9, .int (nI 0)), (7, .long 0), (6, .int wn), (0, .ref (h 6)), (1, .int (nI n0)), (2, .int (nI ax)), (3, .int (nI t)), (4, .int pl)]) hx hb dX1_found_71 hl (by decide) rfl (fun ls hl => ?_)
    by_cases hB : (ax = 2 ∨ tp_bw ax)
    · have LQ : ∀ (n : Nat) (i nb : Nat) (x : Int64), i ≤ cN → cN < i + n → nb + tp_c f (cN - i) = tp_c f cN → (∀ q, tp_b x q = true ↔ cN - i ≤ q ∧ tp_num f (ax = 2 ∨ tp_bw ax) pl.toInt q) →  ∀ (ls : Array Slot), lv_has ls 12 [(0, .ref (h 6)), (1, .int (nI n0)), (2, .int (nI ax)), (3, .int (nI t)), (4, .int pl), (6, .int wn), (7, .long x), (9, .int (nI nb)), (10, .int (nI i))] → W p l e (headSpec (ws_ yX1_found cX1_found 12 (some .long)) ({ frames := 2, cells := 0, slots := 0, locals := 47 })).room s m ([.ref (h 6), .int (nI n0), .int (nI ax), .int (nI t), .int pl] : List Value).toArray below meth c s.heap [] 0 0 (MQ below (vp_Sl (fun r => ∀ q, tp_b r q = true ↔ tp_num (tp_D (tp_F cN P E N ax t n0)) (ax = 2 ∨ tp_bw ax) pl.toInt q)) ([.ref (h 6), .int (nI n0), .int (nI ax), .int (nI t), .int pl] : List Value).toArray s 0 0 (fun _ => False)) (F0 m 73 ls []) := by
        intro n
        induction n with
        | zero => intro i nb x hi hf hnb hx0 ls hl; exact absurd hf (by omega)
        | succ n ih =>
          intro i nb x hi hf hnb hx0 ls hl
          refine lv_iload hx hb dX1_found_73 (lv_at hl 8 rfl) ?_
          refine lv_aload_n hx hb dX1_found_75 rfl (lv_at hl 0 rfl) ?_
          refine va_get (D := D) (ci := 1) (v := .int (nI cN)) (C := RX1) (T := TX1) (N := 7) hx hb hts in_X1 hown hK hP 0 rfl rfl 0 (by decide) (hts _ q169) (fun _ h9 => h9) rfl dX1_found_76 ?_
          refine lv_icmp_ge (tgt := 156) hx hb dX1_found_79 (by decide) (fun c1 => ?_) (fun c1 => ?_)
          · have c1 : cN ≤ i := (nI_leI (a := cN) (b := i) (by omega) (by omega)).mp c1
            refine lv_lload hx hb dX1_found_156 (lv_at hl 6 rfl) ?_
            exact W.lret hx hb hr (fun t ht hW9 => ⟨_, rfl, fun q => by rw [← hfe, hx0 q, show cN - i = 0 by omega]; exact ⟨fun z => z.2, fun z => ⟨Nat.zero_le _, z⟩⟩, ht⟩) (fun _ z => by cases z) dX1_found_158
          · have c1 : ¬ (cN ≤ i) := fun z => c1 ((nI_leI (a := cN) (b := i) (by omega) (by omega)).mpr z)
            refine lv_iload_n hx hb dX1_found_82 rfl (lv_at hl 2 rfl) ?_
            refine vp_callSi (W.runS (As := [.int (nI ax)]) (rest := []) ⟨hx, hb, hml, hown, hts⟩ (mem_backwards l (ax := ax) hax) (va_cwS 1 hts (lw_S q243 q244 q21 q245) rfl rfl rfl (by decide +kernel) ⟨Nat.le_of_ble_eq_true rfl, Nat.le_of_ble_eq_true rfl⟩) tp_ps rfl rfl hl.1 rfl (lv_room (Nat.le_of_ble_eq_true rfl)) dX1_found_83 ⟨Nat.le_of_ble_eq_true rfl, Nat.le_of_ble_eq_true rfl⟩) (fun r0 h0b => ?_)
            rcases h0b with ⟨e1, q0⟩ | ⟨e1, q0⟩
            · subst e1
              refine lv_if_eq (tgt := 101) hx hb dX1_found_86 (by decide) (fun z => absurd ((nI_eq (a := 1) (b := 0) (by omega) (by omega)).mp z) (by omega)) (fun _ => ?_)
              refine lv_aload_n hx hb dX1_found_89 rfl (lv_at hl 0 rfl) ?_
              refine va_get (D := D) (ci := 1) (v := .int (nI cN)) (C := RX1) (T := TX1) (N := 7) hx hb hts in_X1 hown hK hP 0 rfl rfl 0 (by decide) (hts _ q169) (fun _ h9 => h9) rfl dX1_found_90 ?_
              refine lv_iconst (v := nI 1) hx hb dX1_found_93 (by decide) ?_
              refine lv_isub hx hb dX1_found_94 ?_
              refine tp_ti (y := nI (cN - 1)) (pk_sub (by omega)) ?_
              refine lv_iload hx hb dX1_found_95 (lv_at hl 8 rfl) ?_
              refine lv_isub hx hb dX1_found_97 ?_
              refine tp_ti (y := nI (cN - 1 - i)) (pk_sub (by omega)) ?_
              refine lv_goto (tgt := 103) hx hb dX1_found_98 (by decide) ?_
              refine lv_istore (lv' := [(11, .int (nI (cN - 1 - i))), (0, .ref (h 6)), (1, .int (nI n0)), (2, .int (nI ax)), (3, .int (nI t)), (4, .int pl), (6, .int wn), (7, .long x), (9, .int (nI nb)), (10, .int (nI i))]) hx hb dX1_found_103 hl (by decide) rfl (fun ls hl => ?_)
              have hm1 : cN - i = cN - 1 - i + 1 := by omega
              have hm2 : cN - (i + 1) = cN - 1 - i := by omega
              refine lv_aload_n hx hb dX1_found_105 rfl (lv_at hl 1 rfl) ?_
              refine lv_iload_n hx hb dX1_found_106 rfl (lv_at hl 3 rfl) ?_
              refine lv_iload_n hx hb dX1_found_107 rfl (lv_at hl 2 rfl) ?_
              refine lv_iload hx hb dX1_found_108 (lv_at hl 0 rfl) ?_
              refine vp_callSi (W.runV (As := [.int (nI ax), .int (nI n0), .int (nI (cN - 1 - i))]) (rest := []) ⟨hx, hb, hml, hown, hts⟩ (mem_leads l D dA dJ dZ h on st vl pa tx wd kp (ax := ax) (n0 := n0) (m0 := (cN - 1 - i)) hW hM hax hn (by omega)) (cwV 3 hts (lw_V q235 q237 qs16 q21 q238) rfl rfl rfl (by decide +kernel) ⟨Nat.le_of_ble_eq_true rfl, Nat.le_of_ble_eq_true rfl⟩) (tp_pv hK hP (ci := 1) (q0 := 0) rfl rfl) rfl rfl hl.1 rfl (lv_room (Nat.le_of_ble_eq_true rfl)) dX1_found_110 ⟨Nat.le_of_ble_eq_true rfl, Nat.le_of_ble_eq_true rfl⟩) (fun r1 h1 => ?_)
              rcases h1 with ⟨e1, q1⟩ | ⟨e1, q1⟩
              · subst e1
                refine lv_if_eq (tgt := 150) hx hb dX1_found_113 (by decide) (fun z => absurd ((nI_eq (a := 1) (b := 0) (by omega) (by omega)).mp z) (by omega)) (fun _ => ?_)
                refine lv_aload_n hx hb dX1_found_116 rfl (lv_at hl 1 rfl) ?_
                refine lv_iload_n hx hb dX1_found_117 rfl (lv_at hl 4 rfl) ?_
                refine lv_iload hx hb dX1_found_118 (lv_at hl 0 rfl) ?_
                refine vp_callSi (W.runV (As := [.int (nI t), .int (nI (cN - 1 - i))]) (rest := []) ⟨hx, hb, hml, hown, hts⟩ (mem_passes l D dA dJ dZ h on st vl pa tx wd kp (t := t) (m0 := (cN - 1 - i)) hW hM ht (by omega)) (cwV 2 hts (lw_V q239 q241 qs17 q21 q242) rfl rfl rfl (by decide +kernel) ⟨Nat.le_of_ble_eq_true rfl, Nat.le_of_ble_eq_true rfl⟩) (tp_pv hK hP (ci := 1) (q0 := 0) rfl rfl) rfl rfl hl.1 rfl (lv_room (Nat.le_of_ble_eq_true rfl)) dX1_found_120 ⟨Nat.le_of_ble_eq_true rfl, Nat.le_of_ble_eq_true rfl⟩) (fun r2 h2 => ?_)
                rcases h2 with ⟨e1, q2⟩ | ⟨e1, q2⟩
                · subst e1
                  refine lv_if_eq (tgt := 150) hx hb dX1_found_123 (by decide) (fun z => absurd ((nI_eq (a := 1) (b := 0) (by omega) (by omega)).mp z) (by omega)) (fun _ => ?_)
                  have hfm := hyes (cN - 1 - i) (by omega) q1 q2
                  refine lv_iinc (v := nI (nb + 1)) (lv' := [(9, .int (nI (nb + 1))), (11, .int (nI (cN - 1 - i))), (0, .ref (h 6)), (1, .int (nI n0)), (2, .int (nI ax)), (3, .int (nI t)), (4, .int pl), (6, .int wn), (7, .long x), (10, .int (nI i))]) hx hb dX1_found_126 hl (k := 8) rfl (nI_1 nb) (by decide) rfl (fun ls hl => ?_)
                  have hnb2 : nb + 1 + tp_c f (cN - 1 - i) = tp_c f cN := by rw [hm1, tp_c_t hfm] at hnb; omega
                  have hnm := tk_bk (pl := pl.toInt) hB hfm
                  have JA : tp_num f (ax = 2 ∨ tp_bw ax) pl.toInt (cN - 1 - i) → W p l e (headSpec (ws_ yX1_found cX1_found 12 (some .long)) ({ frames := 2, cells := 0, slots := 0, locals := 47 })).room s m ([.ref (h 6), .int (nI n0), .int (nI ax), .int (nI t), .int pl] : List Value).toArray below meth c s.heap [] 0 0 (MQ below (vp_Sl (fun r => ∀ q, tp_b r q = true ↔ tp_num (tp_D (tp_F cN P E N ax t n0)) (ax = 2 ∨ tp_bw ax) pl.toInt q)) ([.ref (h 6), .int (nI n0), .int (nI ax), .int (nI t), .int pl] : List Value).toArray s 0 0 (fun _ => False)) (F0 m 141 ls []) := by
                    intro hq
                    refine lv_lload hx hb dX1_found_141 (lv_at hl 8 rfl) ?_
                    refine lv_lconst (v := 1) hx hb dX1_found_143 (by decide) ?_
                    refine lv_iload hx hb dX1_found_144 (lv_at hl 1 rfl) ?_
                    refine lv_lshl (v := tp_1 (cN - 1 - i)) hx hb dX1_found_146 rfl ?_
                    refine lv_lor hx hb dX1_found_147 ?_
                    refine lv_lstore (lv' := [(7, .long (x ||| (tp_1 (cN - 1 - i)))), (9, .int (nI (nb + 1))), (11, .int (nI (cN - 1 - i))), (0, .ref (h 6)), (1, .int (nI n0)), (2, .int (nI ax)), (3, .int (nI t)), (4, .int pl), (6, .int wn), (10, .int (nI i))]) hx hb dX1_found_148 hl (by decide) rfl (fun ls hl => ?_)
                    refine lv_iinc (v := nI (i + 1)) (lv' := [(10, .int (nI (i + 1))), (7, .long (x ||| (tp_1 (cN - 1 - i)))), (9, .int (nI (nb + 1))), (11, .int (nI (cN - 1 - i))), (0, .ref (h 6)), (1, .int (nI n0)), (2, .int (nI ax)), (3, .int (nI t)), (4, .int pl), (6, .int wn)]) hx hb dX1_found_150 hl (k := 9) rfl (nI_1 i) (by decide) rfl (fun ls hl => ?_)
                    refine lv_goto (tgt := 73) hx hb dX1_found_153 (by decide) ?_
                    exact ih (i + 1) (nb + 1) _ (by omega) (by omega) (by rw [hm2]; exact hnb2) (by rw [hm2]; exact tk_dad hm1 (by omega) hx0 hq) ls (lv_sub hl [4, 5, 6, 7, 8, 9, 1, 2, 0] rfl)
                  have JS : ¬ tp_num f (ax = 2 ∨ tp_bw ax) pl.toInt (cN - 1 - i) → W p l e (headSpec (ws_ yX1_found cX1_found 12 (some .long)) ({ frames := 2, cells := 0, slots := 0, locals := 47 })).room s m ([.ref (h 6), .int (nI n0), .int (nI ax), .int (nI t), .int pl] : List Value).toArray below meth c s.heap [] 0 0 (MQ below (vp_Sl (fun r => ∀ q, tp_b r q = true ↔ tp_num (tp_D (tp_F cN P E N ax t n0)) (ax = 2 ∨ tp_bw ax) pl.toInt q)) ([.ref (h 6), .int (nI n0), .int (nI ax), .int (nI t), .int pl] : List Value).toArray s 0 0 (fun _ => False)) (F0 m 150 ls []) := by
                    intro hq
                    refine lv_iinc (v := nI (i + 1)) (lv' := [(10, .int (nI (i + 1))), (9, .int (nI (nb + 1))), (11, .int (nI (cN - 1 - i))), (0, .ref (h 6)), (1, .int (nI n0)), (2, .int (nI ax)), (3, .int (nI t)), (4, .int pl), (6, .int wn), (7, .long x)]) hx hb dX1_found_150 hl (k := 9) rfl (nI_1 i) (by decide) rfl (fun ls hl => ?_)
                    refine lv_goto (tgt := 73) hx hb dX1_found_153 (by decide) ?_
                    exact ih (i + 1) (nb + 1) _ (by omega) (by omega) (by rw [hm2]; exact hnb2) (by rw [hm2]; exact tk_dno hm1 hx0 hq) ls (lv_sub hl [3, 4, 5, 6, 7, 8, 9, 1, 0] rfl)
                  refine lv_iload hx hb dX1_found_129 (lv_at hl 6 rfl) ?_
                  refine lv_if_eq (tgt := 141) hx hb dX1_found_131 (by decide) (fun d1 => ?_) (fun d1 => ?_)
                  · exact JA (hnm.mpr (Or.inl (tn_eq0.mp d1)))
                  · refine lv_iload hx hb dX1_found_134 (lv_at hl 0 rfl) ?_
                    refine lv_iload hx hb dX1_found_136 (lv_at hl 7 rfl) ?_
                    refine lv_icmp_ne (tgt := 150) hx hb dX1_found_138 (by decide) (fun d2 => ?_) (fun d2 => ?_)
                    · exact JS (fun z => by
                        rcases hnm.mp z with w | w
                        · exact d1 (tn_eq0.mpr w)
                        · exact d2 ((tk_eqw (by omega)).mpr (by rw [hwn]; rw [hall] at w ⊢; omega)))
                    · exact JA (hnm.mpr (Or.inr (by have := (tk_eqw (show nb + 1 < 2 ^ 31 by omega)).mp d2; rw [hwn] at this; rw [hall] at this ⊢; omega)))
                · subst e1
                  refine lv_if_eq (tgt := 150) hx hb dX1_found_123 (by decide) (fun _ => ?_) (fun z => absurd ((nI_eq (a := 0) (b := 0) (by omega) (by omega)).mpr (by omega)) z)
                  have hfm := hno (cN - 1 - i) (fun z => q2 z.2)
                  refine lv_iinc (v := nI (i + 1)) (lv' := [(10, .int (nI (i + 1))), (11, .int (nI (cN - 1 - i))), (0, .ref (h 6)), (1, .int (nI n0)), (2, .int (nI ax)), (3, .int (nI t)), (4, .int pl), (6, .int wn), (7, .long x), (9, .int (nI nb))]) hx hb dX1_found_150 hl (k := 9) rfl (nI_1 i) (by decide) rfl (fun ls hl => ?_)
                  refine lv_goto (tgt := 73) hx hb dX1_found_153 (by decide) ?_
                  exact ih (i + 1) nb x (by omega) (by omega) (by rw [hm1, tp_c_f hfm] at hnb; rw [hm2]; exact hnb) (by rw [hm2]; exact tk_dno hm1 hx0 (fun z => by have z1 := z.1; rw [hfm] at z1; cases z1)) ls (lv_sub hl [2, 3, 4, 5, 6, 7, 8, 9, 0] rfl)
              · subst e1
                refine lv_if_eq (tgt := 150) hx hb dX1_found_113 (by decide) (fun _ => ?_) (fun z => absurd ((nI_eq (a := 0) (b := 0) (by omega) (by omega)).mpr (by omega)) z)
                have hfm := hno (cN - 1 - i) (fun z => q1 z.1)
                refine lv_iinc (v := nI (i + 1)) (lv' := [(10, .int (nI (i + 1))), (11, .int (nI (cN - 1 - i))), (0, .ref (h 6)), (1, .int (nI n0)), (2, .int (nI ax)), (3, .int (nI t)), (4, .int pl), (6, .int wn), (7, .long x), (9, .int (nI nb))]) hx hb dX1_found_150 hl (k := 9) rfl (nI_1 i) (by decide) rfl (fun ls hl => ?_)
                refine lv_goto (tgt := 73) hx hb dX1_found_153 (by decide) ?_
                exact ih (i + 1) nb x (by omega) (by omega) (by rw [hm1, tp_c_f hfm] at hnb; rw [hm2]; exact hnb) (by rw [hm2]; exact tk_dno hm1 hx0 (fun z => by have z1 := z.1; rw [hfm] at z1; cases z1)) ls (lv_sub hl [2, 3, 4, 5, 6, 7, 8, 9, 0] rfl)
            · subst e1
              exact absurd hB q0
      exact LQ (cN + 1) 0 0 0 (by omega) (by omega) (by rw [Nat.sub_zero]; omega) (fun q => by rw [tp_0]; exact ⟨fun z => (by cases z), fun z => by have z1 := z.2.1; rw [hfe] at z1; have := (tp_D_iff.mp z1).1; omega⟩) ls (lv_sub hl [4, 5, 6, 7, 8, 3, 2, 1, 0] rfl)
    · have LQ : ∀ (n : Nat) (i nb : Nat) (x : Int64), i ≤ cN → cN < i + n → nb = tp_c f i → (∀ q, tp_b x q = true ↔ q < i ∧ tp_num f (ax = 2 ∨ tp_bw ax) pl.toInt q) →  ∀ (ls : Array Slot), lv_has ls 12 [(0, .ref (h 6)), (1, .int (nI n0)), (2, .int (nI ax)), (3, .int (nI t)), (4, .int pl), (6, .int wn), (7, .long x), (9, .int (nI nb)), (10, .int (nI i))] → W p l e (headSpec (ws_ yX1_found cX1_found 12 (some .long)) ({ frames := 2, cells := 0, slots := 0, locals := 47 })).room s m ([.ref (h 6), .int (nI n0), .int (nI ax), .int (nI t), .int pl] : List Value).toArray below meth c s.heap [] 0 0 (MQ below (vp_Sl (fun r => ∀ q, tp_b r q = true ↔ tp_num (tp_D (tp_F cN P E N ax t n0)) (ax = 2 ∨ tp_bw ax) pl.toInt q)) ([.ref (h 6), .int (nI n0), .int (nI ax), .int (nI t), .int pl] : List Value).toArray s 0 0 (fun _ => False)) (F0 m 73 ls []) := by
        intro n
        induction n with
        | zero => intro i nb x hi hf hnb hx0 ls hl; exact absurd hf (by omega)
        | succ n ih =>
          intro i nb x hi hf hnb hx0 ls hl
          refine lv_iload hx hb dX1_found_73 (lv_at hl 8 rfl) ?_
          refine lv_aload_n hx hb dX1_found_75 rfl (lv_at hl 0 rfl) ?_
          refine va_get (D := D) (ci := 1) (v := .int (nI cN)) (C := RX1) (T := TX1) (N := 7) hx hb hts in_X1 hown hK hP 0 rfl rfl 0 (by decide) (hts _ q169) (fun _ h9 => h9) rfl dX1_found_76 ?_
          refine lv_icmp_ge (tgt := 156) hx hb dX1_found_79 (by decide) (fun c1 => ?_) (fun c1 => ?_)
          · have c1 : cN ≤ i := (nI_leI (a := cN) (b := i) (by omega) (by omega)).mp c1
            refine lv_lload hx hb dX1_found_156 (lv_at hl 6 rfl) ?_
            exact W.lret hx hb hr (fun t ht hW9 => ⟨_, rfl, fun q => by rw [← hfe, hx0 q]; exact ⟨fun z => z.2, fun z => ⟨by have z1 := z.1; rw [hfe] at z1; have := (tp_D_iff.mp z1).1; omega, z⟩⟩, ht⟩) (fun _ z => by cases z) dX1_found_158
          · have c1 : ¬ (cN ≤ i) := fun z => c1 ((nI_leI (a := cN) (b := i) (by omega) (by omega)).mpr z)
            refine lv_iload_n hx hb dX1_found_82 rfl (lv_at hl 2 rfl) ?_
            refine vp_callSi (W.runS (As := [.int (nI ax)]) (rest := []) ⟨hx, hb, hml, hown, hts⟩ (mem_backwards l (ax := ax) hax) (va_cwS 1 hts (lw_S q243 q244 q21 q245) rfl rfl rfl (by decide +kernel) ⟨Nat.le_of_ble_eq_true rfl, Nat.le_of_ble_eq_true rfl⟩) tp_ps rfl rfl hl.1 rfl (lv_room (Nat.le_of_ble_eq_true rfl)) dX1_found_83 ⟨Nat.le_of_ble_eq_true rfl, Nat.le_of_ble_eq_true rfl⟩) (fun r0 h0b => ?_)
            rcases h0b with ⟨e1, q0⟩ | ⟨e1, q0⟩
            · subst e1
              exact absurd q0 hB
            · subst e1
              refine lv_if_eq (tgt := 101) hx hb dX1_found_86 (by decide) (fun _ => ?_) (fun z => absurd ((nI_eq (a := 0) (b := 0) (by omega) (by omega)).mpr (by omega)) z)
              refine lv_iload hx hb dX1_found_101 (lv_at hl 8 rfl) ?_
              refine lv_istore (lv' := [(11, .int (nI i)), (0, .ref (h 6)), (1, .int (nI n0)), (2, .int (nI ax)), (3, .int (nI t)), (4, .int pl), (6, .int wn), (7, .long x), (9, .int (nI nb)), (10, .int (nI i))]) hx hb dX1_found_103 hl (by decide) rfl (fun ls hl => ?_)
              refine lv_aload_n hx hb dX1_found_105 rfl (lv_at hl 1 rfl) ?_
              refine lv_iload_n hx hb dX1_found_106 rfl (lv_at hl 3 rfl) ?_
              refine lv_iload_n hx hb dX1_found_107 rfl (lv_at hl 2 rfl) ?_
              refine lv_iload hx hb dX1_found_108 (lv_at hl 0 rfl) ?_
              refine vp_callSi (W.runV (As := [.int (nI ax), .int (nI n0), .int (nI i)]) (rest := []) ⟨hx, hb, hml, hown, hts⟩ (mem_leads l D dA dJ dZ h on st vl pa tx wd kp (ax := ax) (n0 := n0) (m0 := i) hW hM hax hn (by omega)) (cwV 3 hts (lw_V q235 q237 qs16 q21 q238) rfl rfl rfl (by decide +kernel) ⟨Nat.le_of_ble_eq_true rfl, Nat.le_of_ble_eq_true rfl⟩) (tp_pv hK hP (ci := 1) (q0 := 0) rfl rfl) rfl rfl hl.1 rfl (lv_room (Nat.le_of_ble_eq_true rfl)) dX1_found_110 ⟨Nat.le_of_ble_eq_true rfl, Nat.le_of_ble_eq_true rfl⟩) (fun r1 h1 => ?_)
              rcases h1 with ⟨e1, q1⟩ | ⟨e1, q1⟩
              · subst e1
                refine lv_if_eq (tgt := 150) hx hb dX1_found_113 (by decide) (fun z => absurd ((nI_eq (a := 1) (b := 0) (by omega) (by omega)).mp z) (by omega)) (fun _ => ?_)
                refine lv_aload_n hx hb dX1_found_116 rfl (lv_at hl 1 rfl) ?_
                refine lv_iload_n hx hb dX1_found_117 rfl (lv_at hl 4 rfl) ?_
                refine lv_iload hx hb dX1_found_118 (lv_at hl 0 rfl) ?_
                refine vp_callSi (W.runV (As := [.int (nI t), .int (nI i)]) (rest := []) ⟨hx, hb, hml, hown, hts⟩ (mem_passes l D dA dJ dZ h on st vl pa tx wd kp (t := t) (m0 := i) hW hM ht (by omega)) (cwV 2 hts (lw_V q239 q241 qs17 q21 q242) rfl rfl rfl (by decide +kernel) ⟨Nat.le_of_ble_eq_true rfl, Nat.le_of_ble_eq_true rfl⟩) (tp_pv hK hP (ci := 1) (q0 := 0) rfl rfl) rfl rfl hl.1 rfl (lv_room (Nat.le_of_ble_eq_true rfl)) dX1_found_120 ⟨Nat.le_of_ble_eq_true rfl, Nat.le_of_ble_eq_true rfl⟩) (fun r2 h2 => ?_)
                rcases h2 with ⟨e1, q2⟩ | ⟨e1, q2⟩
                · subst e1
                  refine lv_if_eq (tgt := 150) hx hb dX1_found_123 (by decide) (fun z => absurd ((nI_eq (a := 1) (b := 0) (by omega) (by omega)).mp z) (by omega)) (fun _ => ?_)
                  have hfm := hyes i (by omega) q1 q2
                  refine lv_iinc (v := nI (nb + 1)) (lv' := [(9, .int (nI (nb + 1))), (11, .int (nI i)), (0, .ref (h 6)), (1, .int (nI n0)), (2, .int (nI ax)), (3, .int (nI t)), (4, .int pl), (6, .int wn), (7, .long x), (10, .int (nI i))]) hx hb dX1_found_126 hl (k := 8) rfl (nI_1 nb) (by decide) rfl (fun ls hl => ?_)
                  have hcl := tp_c_le f i
                  have hnb2 : nb + 1 = tp_c f (i + 1) := by rw [tp_c_t hfm]; omega
                  have hnm := tk_fw (pl := pl.toInt) hB hfm
                  have JA : tp_num f (ax = 2 ∨ tp_bw ax) pl.toInt i → W p l e (headSpec (ws_ yX1_found cX1_found 12 (some .long)) ({ frames := 2, cells := 0, slots := 0, locals := 47 })).room s m ([.ref (h 6), .int (nI n0), .int (nI ax), .int (nI t), .int pl] : List Value).toArray below meth c s.heap [] 0 0 (MQ below (vp_Sl (fun r => ∀ q, tp_b r q = true ↔ tp_num (tp_D (tp_F cN P E N ax t n0)) (ax = 2 ∨ tp_bw ax) pl.toInt q)) ([.ref (h 6), .int (nI n0), .int (nI ax), .int (nI t), .int pl] : List Value).toArray s 0 0 (fun _ => False)) (F0 m 141 ls []) := by
                    intro hq
                    refine lv_lload hx hb dX1_found_141 (lv_at hl 8 rfl) ?_
                    refine lv_lconst (v := 1) hx hb dX1_found_143 (by decide) ?_
                    refine lv_iload hx hb dX1_found_144 (lv_at hl 1 rfl) ?_
                    refine lv_lshl (v := tp_1 i) hx hb dX1_found_146 rfl ?_
                    refine lv_lor hx hb dX1_found_147 ?_
                    refine lv_lstore (lv' := [(7, .long (x ||| (tp_1 i))), (9, .int (nI (nb + 1))), (11, .int (nI i)), (0, .ref (h 6)), (1, .int (nI n0)), (2, .int (nI ax)), (3, .int (nI t)), (4, .int pl), (6, .int wn), (10, .int (nI i))]) hx hb dX1_found_148 hl (by decide) rfl (fun ls hl => ?_)
                    refine lv_iinc (v := nI (i + 1)) (lv' := [(10, .int (nI (i + 1))), (7, .long (x ||| (tp_1 i))), (9, .int (nI (nb + 1))), (11, .int (nI i)), (0, .ref (h 6)), (1, .int (nI n0)), (2, .int (nI ax)), (3, .int (nI t)), (4, .int pl), (6, .int wn)]) hx hb dX1_found_150 hl (k := 9) rfl (nI_1 i) (by decide) rfl (fun ls hl => ?_)
                    refine lv_goto (tgt := 73) hx hb dX1_found_153 (by decide) ?_
                    exact ih (i + 1) (nb + 1) _ (by omega) (by omega) hnb2 (tp_add (by omega) hx0 hq) ls (lv_sub hl [4, 5, 6, 7, 8, 9, 1, 2, 0] rfl)
                  have JS : ¬ tp_num f (ax = 2 ∨ tp_bw ax) pl.toInt i → W p l e (headSpec (ws_ yX1_found cX1_found 12 (some .long)) ({ frames := 2, cells := 0, slots := 0, locals := 47 })).room s m ([.ref (h 6), .int (nI n0), .int (nI ax), .int (nI t), .int pl] : List Value).toArray below meth c s.heap [] 0 0 (MQ below (vp_Sl (fun r => ∀ q, tp_b r q = true ↔ tp_num (tp_D (tp_F cN P E N ax t n0)) (ax = 2 ∨ tp_bw ax) pl.toInt q)) ([.ref (h 6), .int (nI n0), .int (nI ax), .int (nI t), .int pl] : List Value).toArray s 0 0 (fun _ => False)) (F0 m 150 ls []) := by
                    intro hq
                    refine lv_iinc (v := nI (i + 1)) (lv' := [(10, .int (nI (i + 1))), (9, .int (nI (nb + 1))), (11, .int (nI i)), (0, .ref (h 6)), (1, .int (nI n0)), (2, .int (nI ax)), (3, .int (nI t)), (4, .int pl), (6, .int wn), (7, .long x)]) hx hb dX1_found_150 hl (k := 9) rfl (nI_1 i) (by decide) rfl (fun ls hl => ?_)
                    refine lv_goto (tgt := 73) hx hb dX1_found_153 (by decide) ?_
                    exact ih (i + 1) (nb + 1) _ (by omega) (by omega) hnb2 (tk_nad hx0 hq) ls (lv_sub hl [3, 4, 5, 6, 7, 8, 9, 1, 0] rfl)
                  refine lv_iload hx hb dX1_found_129 (lv_at hl 6 rfl) ?_
                  refine lv_if_eq (tgt := 141) hx hb dX1_found_131 (by decide) (fun d1 => ?_) (fun d1 => ?_)
                  · exact JA (hnm.mpr (Or.inl (tn_eq0.mp d1)))
                  · refine lv_iload hx hb dX1_found_134 (lv_at hl 0 rfl) ?_
                    refine lv_iload hx hb dX1_found_136 (lv_at hl 7 rfl) ?_
                    refine lv_icmp_ne (tgt := 150) hx hb dX1_found_138 (by decide) (fun d2 => ?_) (fun d2 => ?_)
                    · exact JS (fun z => by
                        rcases hnm.mp z with w | w
                        · exact d1 (tn_eq0.mpr w)
                        · exact d2 ((tk_eqw (by omega)).mpr (by rw [hwn]; rw [hall] at w ⊢; omega)))
                    · exact JA (hnm.mpr (Or.inr (by have := (tk_eqw (show nb + 1 < 2 ^ 31 by omega)).mp d2; rw [hwn] at this; rw [hall] at this ⊢; omega)))
                · subst e1
                  refine lv_if_eq (tgt := 150) hx hb dX1_found_123 (by decide) (fun _ => ?_) (fun z => absurd ((nI_eq (a := 0) (b := 0) (by omega) (by omega)).mpr (by omega)) z)
                  have hfm := hno i (fun z => q2 z.2)
                  refine lv_iinc (v := nI (i + 1)) (lv' := [(10, .int (nI (i + 1))), (11, .int (nI i)), (0, .ref (h 6)), (1, .int (nI n0)), (2, .int (nI ax)), (3, .int (nI t)), (4, .int pl), (6, .int wn), (7, .long x), (9, .int (nI nb))]) hx hb dX1_found_150 hl (k := 9) rfl (nI_1 i) (by decide) rfl (fun ls hl => ?_)
                  refine lv_goto (tgt := 73) hx hb dX1_found_153 (by decide) ?_
                  exact ih (i + 1) nb x (by omega) (by omega) (by rw [tp_c_f hfm]; exact hnb) (tk_nad hx0 (fun z => by have z1 := z.1; rw [hfm] at z1; cases z1)) ls (lv_sub hl [2, 3, 4, 5, 6, 7, 8, 9, 0] rfl)
              · subst e1
                refine lv_if_eq (tgt := 150) hx hb dX1_found_113 (by decide) (fun _ => ?_) (fun z => absurd ((nI_eq (a := 0) (b := 0) (by omega) (by omega)).mpr (by omega)) z)
                have hfm := hno i (fun z => q1 z.1)
                refine lv_iinc (v := nI (i + 1)) (lv' := [(10, .int (nI (i + 1))), (11, .int (nI i)), (0, .ref (h 6)), (1, .int (nI n0)), (2, .int (nI ax)), (3, .int (nI t)), (4, .int pl), (6, .int wn), (7, .long x), (9, .int (nI nb))]) hx hb dX1_found_150 hl (k := 9) rfl (nI_1 i) (by decide) rfl (fun ls hl => ?_)
                refine lv_goto (tgt := 73) hx hb dX1_found_153 (by decide) ?_
                exact ih (i + 1) nb x (by omega) (by omega) (by rw [tp_c_f hfm]; exact hnb) (tk_nad hx0 (fun z => by have z1 := z.1; rw [hfm] at z1; cases z1)) ls (lv_sub hl [2, 3, 4, 5, 6, 7, 8, 9, 0] rfl)
      exact LQ (cN + 1) 0 0 0 (by omega) (by omega) rfl (tp_add0 _) ls (lv_sub hl [4, 5, 6, 7, 8, 3, 2, 1, 0] rfl)
  have LP : ∀ (n : Nat) (i : Nat), i ≤ cN → cN < i + n →  ∀ (ls : Array Slot), lv_has ls 12 [(0, .ref (h 6)), (1, .int (nI n0)), (2, .int (nI ax)), (3, .int (nI t)), (4, .int pl), (5, .int (nI (tp_c f i))), (6, .int (nI i))] → W p l e (headSpec (ws_ yX1_found cX1_found 12 (some .long)) ({ frames := 2, cells := 0, slots := 0, locals := 47 })).room s m ([.ref (h 6), .int (nI n0), .int (nI ax), .int (nI t), .int pl] : List Value).toArray below meth c s.heap [] 0 0 (MQ below (vp_Sl (fun r => ∀ q, tp_b r q = true ↔ tp_num (tp_D (tp_F cN P E N ax t n0)) (ax = 2 ∨ tp_bw ax) pl.toInt q)) ([.ref (h 6), .int (nI n0), .int (nI ax), .int (nI t), .int pl] : List Value).toArray s 0 0 (fun _ => False)) (F0 m 6 ls []) := by
    intro n
    induction n with
    | zero => intro i hi hf ls hl; exact absurd hf (by omega)
    | succ n ih =>
      intro i hi hf ls hl
      refine lv_iload hx hb dX1_found_6 (lv_at hl 6 rfl) ?_
      refine lv_aload_n hx hb dX1_found_8 rfl (lv_at hl 0 rfl) ?_
      refine va_get (D := D) (ci := 1) (v := .int (nI cN)) (C := RX1) (T := TX1) (N := 7) hx hb hts in_X1 hown hK hP 0 rfl rfl 0 (by decide) (hts _ q169) (fun _ h9 => h9) rfl dX1_found_9 ?_
      refine lv_icmp_ge (tgt := 45) hx hb dX1_found_12 (by decide) (fun c1 => ?_) (fun c1 => ?_)
      · have c1 : cN ≤ i := (nI_leI (a := cN) (b := i) (by omega) (by omega)).mp c1
        have hi2 : i = cN := by omega
        have hci := tp_c_le f i
        refine lv_iload hx hb dX1_found_45 (lv_at hl 4 rfl) ?_
        refine lv_if_ge (tgt := 60) hx hb dX1_found_47 (by decide) (fun d1 => ?_) (fun d1 => ?_)
        · refine lv_iload hx hb dX1_found_60 (lv_at hl 4 rfl) ?_
          exact J _ (tk_w2 (tn_ge0.mp d1)) ls (lv_sub hl [0, 1, 2, 3, 4] rfl)
        · refine lv_iload hx hb dX1_found_50 (lv_at hl 5 rfl) ?_
          refine lv_iload hx hb dX1_found_52 (lv_at hl 4 rfl) ?_
          refine lv_iadd hx hb dX1_found_54 ?_
          refine lv_iconst (v := nI 1) hx hb dX1_found_55 (by decide) ?_
          refine lv_iadd hx hb dX1_found_56 ?_
          refine lv_goto (tgt := 62) hx hb dX1_found_57 (by decide) ?_
          exact J _ (by rw [hall, ← hi2]; exact tk_w1 (by omega) ⟨Int.not_le.mp (fun z => d1 (tn_ge0.mpr z)), hp1.1⟩) ls (lv_sub hl [0, 1, 2, 3, 4] rfl)
      · have c1 : ¬ (cN ≤ i) := fun z => c1 ((nI_leI (a := cN) (b := i) (by omega) (by omega)).mpr z)
        refine lv_aload_n hx hb dX1_found_15 rfl (lv_at hl 0 rfl) ?_
        refine lv_iload_n hx hb dX1_found_16 rfl (lv_at hl 2 rfl) ?_
        refine lv_iload_n hx hb dX1_found_17 rfl (lv_at hl 1 rfl) ?_
        refine lv_iload hx hb dX1_found_18 (lv_at hl 6 rfl) ?_
        refine vp_callSi (W.runV (As := [.int (nI ax), .int (nI n0), .int (nI i)]) (rest := []) ⟨hx, hb, hml, hown, hts⟩ (mem_leads l D dA dJ dZ h on st vl pa tx wd kp (ax := ax) (n0 := n0) (m0 := i) hW hM hax hn (by omega)) (cwV 3 hts (lw_V q235 q237 qs16 q21 q238) rfl rfl rfl (by decide +kernel) ⟨Nat.le_of_ble_eq_true rfl, Nat.le_of_ble_eq_true rfl⟩) (tp_pv hK hP (ci := 1) (q0 := 0) rfl rfl) rfl rfl hl.1 rfl (lv_room (Nat.le_of_ble_eq_true rfl)) dX1_found_20 ⟨Nat.le_of_ble_eq_true rfl, Nat.le_of_ble_eq_true rfl⟩) (fun r1 h1 => ?_)
        rcases h1 with ⟨e1, q1⟩ | ⟨e1, q1⟩
        · subst e1
          refine lv_if_eq (tgt := 39) hx hb dX1_found_23 (by decide) (fun z => absurd ((nI_eq (a := 1) (b := 0) (by omega) (by omega)).mp z) (by omega)) (fun _ => ?_)
          refine lv_aload_n hx hb dX1_found_26 rfl (lv_at hl 0 rfl) ?_
          refine lv_iload_n hx hb dX1_found_27 rfl (lv_at hl 3 rfl) ?_
          refine lv_iload hx hb dX1_found_28 (lv_at hl 6 rfl) ?_
          refine vp_callSi (W.runV (As := [.int (nI t), .int (nI i)]) (rest := []) ⟨hx, hb, hml, hown, hts⟩ (mem_passes l D dA dJ dZ h on st vl pa tx wd kp (t := t) (m0 := i) hW hM ht (by omega)) (cwV 2 hts (lw_V q239 q241 qs17 q21 q242) rfl rfl rfl (by decide +kernel) ⟨Nat.le_of_ble_eq_true rfl, Nat.le_of_ble_eq_true rfl⟩) (tp_pv hK hP (ci := 1) (q0 := 0) rfl rfl) rfl rfl hl.1 rfl (lv_room (Nat.le_of_ble_eq_true rfl)) dX1_found_30 ⟨Nat.le_of_ble_eq_true rfl, Nat.le_of_ble_eq_true rfl⟩) (fun r2 h2 => ?_)
          rcases h2 with ⟨e1, q2⟩ | ⟨e1, q2⟩
          · subst e1
            refine lv_if_eq (tgt := 39) hx hb dX1_found_33 (by decide) (fun z => absurd ((nI_eq (a := 1) (b := 0) (by omega) (by omega)).mp z) (by omega)) (fun _ => ?_)
            have hfm := hyes i (by omega) q1 q2
            refine lv_iinc (v := nI ((tp_c f i) + 1)) (lv' := [(5, .int (nI ((tp_c f i) + 1))), (0, .ref (h 6)), (1, .int (nI n0)), (2, .int (nI ax)), (3, .int (nI t)), (4, .int pl), (6, .int (nI i))]) hx hb dX1_found_36 hl (k := 5) rfl (nI_1 (tp_c f i)) (by decide) rfl (fun ls hl => ?_)
            refine lv_iinc (v := nI (i + 1)) (lv' := [(6, .int (nI (i + 1))), (5, .int (nI ((tp_c f i) + 1))), (0, .ref (h 6)), (1, .int (nI n0)), (2, .int (nI ax)), (3, .int (nI t)), (4, .int pl)]) hx hb dX1_found_39 hl (k := 6) rfl (nI_1 i) (by decide) rfl (fun ls hl => ?_)
            refine lv_goto (tgt := 6) hx hb dX1_found_42 (by decide) ?_
            exact ih (i + 1) (by omega) (by omega) ls (by rw [tp_c_t hfm]; exact lv_sub hl [2, 3, 4, 5, 6, 1, 0] rfl)
          · subst e1
            refine lv_if_eq (tgt := 39) hx hb dX1_found_33 (by decide) (fun _ => ?_) (fun z => absurd ((nI_eq (a := 0) (b := 0) (by omega) (by omega)).mpr (by omega)) z)
            have hfm := hno i (fun z => q2 z.2)
            refine lv_iinc (v := nI (i + 1)) (lv' := [(6, .int (nI (i + 1))), (0, .ref (h 6)), (1, .int (nI n0)), (2, .int (nI ax)), (3, .int (nI t)), (4, .int pl), (5, .int (nI (tp_c f i)))]) hx hb dX1_found_39 hl (k := 6) rfl (nI_1 i) (by decide) rfl (fun ls hl => ?_)
            refine lv_goto (tgt := 6) hx hb dX1_found_42 (by decide) ?_
            exact ih (i + 1) (by omega) (by omega) ls (by rw [tp_c_f hfm]; exact lv_sub hl [1, 2, 3, 4, 5, 6, 0] rfl)
        · subst e1
          refine lv_if_eq (tgt := 39) hx hb dX1_found_23 (by decide) (fun _ => ?_) (fun z => absurd ((nI_eq (a := 0) (b := 0) (by omega) (by omega)).mpr (by omega)) z)
          have hfm := hno i (fun z => q1 z.1)
          refine lv_iinc (v := nI (i + 1)) (lv' := [(6, .int (nI (i + 1))), (0, .ref (h 6)), (1, .int (nI n0)), (2, .int (nI ax)), (3, .int (nI t)), (4, .int pl), (5, .int (nI (tp_c f i)))]) hx hb dX1_found_39 hl (k := 6) rfl (nI_1 i) (by decide) rfl (fun ls hl => ?_)
          refine lv_goto (tgt := 6) hx hb dX1_found_42 (by decide) ?_
          exact ih (i + 1) (by omega) (by omega) ls (by rw [tp_c_f hfm]; exact lv_sub hl [1, 2, 3, 4, 5, 6, 0] rfl)
  exact LP (cN + 1) 0 (by omega) (by omega) ls (lv_sub hl [2, 3, 4, 5, 6, 1, 0] rfl)

set_option maxHeartbeats 4000000 in
set_option maxRecDepth 100000 in
theorem mem_size (l : Launch) (D : va_G) (dA dJ dZ : ClassId) (h : Nat → Nat) (on : Int32) (st : Int64) (pa tx wd : Nat → Int32) (kp : Nat → Int64) (cN : Nat)  : Met l yX1_size (ws_ yX1_size cX1_size 3 (some .int)) ({ frames := 0, cells := 0, slots := 0, locals := 0 }) (tp_Pr D (tp_ty dA dJ dZ) (tp_wM dA dJ dZ h (nI cN) on st pa tx wd kp) [.ref (h 6)]) (vp_Si (fun r => r = nI (tp_c (tp_b st) 48))) 0 0 (fun _ => False) := by
  refine Met.ofW (cc := cX1_size) (maxL := 3) (ret := (some .int)) (by decide) rfl ?_
  intro p e s m args below meth c s₁ B hml hv
  obtain ⟨rfl, hP, hK⟩ := hv
  have hx := B.exec
  have hb := B.bytes
  have hr := B.returns
  have hts := atoms_spec (ws := ws_ yX1_size cX1_size 3 (some .int)) B.pre
  have hts : ∀ w ∈ lw_all, w.before _ s = true := fun w h => hts w (List.mem_cons_of_mem _ h)
  have hown : s.vm.findClass RX1 = some m.cls := findClass_of_methodNamed B.named
  have hlocks := B.notSynchronized
  have hl := lv_entry ([.ref (h 6)]) (n := 3) (Nat.le_of_ble_eq_true rfl)
  rw [lg_entry_eq]
  generalize (lg_sl ([.ref (h 6)]) ++ List.replicate (3 - (lg_sl ([.ref (h 6)])).length) Slot.unset).toArray = ls at hl ⊢
  have hl : lv_has ls 3 [(0, .ref (h 6))] := hl
  refine lv_iconst (v := nI 0) hx hb dX1_size_0 (by decide) ?_
  refine lv_istore_n (lv' := [(1, .int (nI 0)), (0, .ref (h 6))]) hx hb dX1_size_1 rfl hl (by decide) rfl (fun ls hl => ?_)
  refine lv_iconst (v := nI 0) hx hb dX1_size_2 (by decide) ?_
  refine lv_istore_n (lv' := [(2, .int (nI 0)), (1, .int (nI 0)), (0, .ref (h 6))]) hx hb dX1_size_3 rfl hl (by decide) rfl (fun ls hl => ?_)
  have LP : ∀ (n : Nat) (i : Nat), i ≤ 48 → 48 < i + n →  ∀ (ls : Array Slot), lv_has ls 3 [(0, .ref (h 6)), (1, .int (nI (tp_c (tp_b st) i))), (2, .int (nI i))] → W p l e (headSpec (ws_ yX1_size cX1_size 3 (some .int)) ({ frames := 0, cells := 0, slots := 0, locals := 0 })).room s m ([.ref (h 6)] : List Value).toArray below meth c s.heap [] 0 0 (MQ below (vp_Si (fun r => r = nI (tp_c (tp_b st) 48))) ([.ref (h 6)] : List Value).toArray s 0 0 (fun _ => False)) (F0 m 4 ls []) := by
    intro n
    induction n with
    | zero => intro i hi hf ls hl; exact absurd hf (by omega)
    | succ n ih =>
      intro i hi hf ls hl
      refine lv_iload_n hx hb dX1_size_4 rfl (lv_at hl 2 rfl) ?_
      refine lv_bipush (v := nI 48) hx hb dX1_size_5 (by decide) ?_
      refine lv_icmp_ge (tgt := 28) hx hb dX1_size_7 (by decide) (fun c1 => ?_) (fun c1 => ?_)
      · have c1 : 48 ≤ i := (nI_leI (a := 48) (b := i) (by omega) (by omega)).mp c1
        refine lv_iload_n hx hb dX1_size_28 rfl (lv_at hl 1 rfl) ?_
        exact W.iret hx hb hr (fun t ht hW9 => ⟨_, rfl, by rw [show i = 48 by omega], ht⟩) (fun _ z => by cases z) dX1_size_29
      · have c1 : ¬ (48 ≤ i) := fun z => c1 ((nI_leI (a := 48) (b := i) (by omega) (by omega)).mpr z)
        refine lv_iload_n hx hb dX1_size_10 rfl (lv_at hl 1 rfl) ?_
        refine lv_aload_n hx hb dX1_size_11 rfl (lv_at hl 0 rfl) ?_
        refine va_get (D := D) (ci := 1) (v := .long st) (C := RX1) (T := TX1) (N := 7) hx hb hts in_X1 hown hK hP 0 rfl rfl 5 (by decide) (hts _ q174) (fun _ h9 => h9) rfl dX1_size_12 ?_
        refine lv_iload_n hx hb dX1_size_15 rfl (lv_at hl 2 rfl) ?_
        refine lv_lshr hx hb dX1_size_16 rfl ?_
        refine lv_lconst (v := 1) hx hb dX1_size_17 (by decide) ?_
        refine lv_land hx hb dX1_size_18 ?_
        refine tp_tl (y := tp_l (tp_b st i)) (tp_sbit (by omega)) ?_
        refine lv_l2i hx hb dX1_size_19 rfl ?_
        refine tp_ti (y := nI ((tp_b st i).toNat)) (by rw [tp_li, tp_iN]) ?_
        refine lv_iadd hx hb dX1_size_20 ?_
        refine tp_ti (nI_add (tp_c (tp_b st) i) ((tp_b st i).toNat)) ?_
        refine lv_istore_n (lv' := [(1, .int (nI ((tp_c (tp_b st) i) + ((tp_b st i).toNat)))), (0, .ref (h 6)), (2, .int (nI i))]) hx hb dX1_size_21 rfl hl (by decide) rfl (fun ls hl => ?_)
        refine lv_iinc (v := nI (i + 1)) (lv' := [(2, .int (nI (i + 1))), (1, .int (nI ((tp_c (tp_b st) i) + ((tp_b st i).toNat)))), (0, .ref (h 6))]) hx hb dX1_size_22 hl (k := 2) rfl (nI_1 i) (by decide) rfl (fun ls hl => ?_)
        refine lv_goto (tgt := 4) hx hb dX1_size_25 (by decide) ?_
        exact ih (i + 1) (by omega) (by omega) ls (lv_sub hl [2, 1, 0] rfl)
  exact LP 49 0 (by omega) (by omega) ls (lv_sub hl [2, 1, 0] rfl)

set_option maxHeartbeats 4000000 in
set_option maxRecDepth 100000 in
theorem mem_refused (l : Launch) (a t : Int32)  : Met l yX1_refused (ws_ yX1_refused cX1_refused 2 (some .boolean)) ({ frames := 0, cells := 0, slots := 0, locals := 0 }) (va_Pc [.int a, .int t] (fun _ => True)) (vp_Si (fun r => tp_is r (a < 0 ∨ nI 10 < a ∨ t < 0 ∨ nI 10 < t))) 0 0 (fun _ => False) := by
  refine Met.ofW (cc := cX1_refused) (maxL := 2) (ret := (some .boolean)) (by decide) rfl ?_
  intro p e s m args below meth c s₁ B hml hv
  obtain ⟨rfl, -⟩ := hv
  have hx := B.exec
  have hb := B.bytes
  have hr := B.returns
  have hts := atoms_spec (ws := ws_ yX1_refused cX1_refused 2 (some .boolean)) B.pre
  have hts : ∀ w ∈ lw_all, w.before _ s = true := fun w h => hts w (List.mem_cons_of_mem _ h)
  have hown : s.vm.findClass RX1 = some m.cls := findClass_of_methodNamed B.named
  have hlocks := B.notSynchronized
  have hl := lv_entry ([.int a, .int t]) (n := 2) (Nat.le_of_ble_eq_true rfl)
  rw [lg_entry_eq]
  generalize (lg_sl ([.int a, .int t]) ++ List.replicate (2 - (lg_sl ([.int a, .int t])).length) Slot.unset).toArray = ls at hl ⊢
  have hl : lv_has ls 2 [(0, .int a), (1, .int t)] := hl
  have JY : (a < 0 ∨ nI 10 < a ∨ t < 0 ∨ nI 10 < t) → W p l e (headSpec (ws_ yX1_refused cX1_refused 2 (some .boolean)) ({ frames := 0, cells := 0, slots := 0, locals := 0 })).room s m ([.int a, .int t] : List Value).toArray below meth c s.heap [] 0 0 (MQ below (vp_Si (fun r => tp_is r (a < 0 ∨ nI 10 < a ∨ t < 0 ∨ nI 10 < t))) ([.int a, .int t] : List Value).toArray s 0 0 (fun _ => False)) (F0 m 20 ls []) := by
    intro hq
    refine lv_iconst (v := nI 1) hx hb dX1_refused_20 (by decide) ?_
    refine lv_goto (tgt := 25) hx hb dX1_refused_21 (by decide) ?_
    exact W.zret hx hb hr rfl (fun t ht hW9 => ⟨_, rfl, Or.inl ⟨rfl, hq⟩, ht⟩) (fun _ z => by cases z) dX1_refused_25
  refine lv_iload_n hx hb dX1_refused_0 rfl (lv_at hl 0 rfl) ?_
  refine lv_if_lt (tgt := 20) hx hb dX1_refused_1 (by decide) (fun c1 => ?_) (fun c1 => ?_)
  · exact JY (Or.inl c1)
  · refine lv_iload_n hx hb dX1_refused_4 rfl (lv_at hl 0 rfl) ?_
    refine lv_bipush (v := nI 10) hx hb dX1_refused_5 (by decide) ?_
    refine lv_icmp_gt (tgt := 20) hx hb dX1_refused_7 (by decide) (fun c2 => ?_) (fun c2 => ?_)
    · exact JY (Or.inr (Or.inl c2))
    · refine lv_iload_n hx hb dX1_refused_10 rfl (lv_at hl 1 rfl) ?_
      refine lv_if_lt (tgt := 20) hx hb dX1_refused_11 (by decide) (fun c3 => ?_) (fun c3 => ?_)
      · exact JY (Or.inr (Or.inr (Or.inl c3)))
      · refine lv_iload_n hx hb dX1_refused_14 rfl (lv_at hl 1 rfl) ?_
        refine lv_bipush (v := nI 10) hx hb dX1_refused_15 (by decide) ?_
        refine lv_icmp_le (tgt := 24) hx hb dX1_refused_17 (by decide) (fun c4 => ?_) (fun c4 => ?_)
        · refine lv_iconst (v := nI 0) hx hb dX1_refused_24 (by decide) ?_
          exact W.zret hx hb hr rfl (fun t ht hW9 => ⟨_, rfl, Or.inr ⟨rfl, fun z => by
            rcases z with z | z | z | z
            · exact c1 z
            · exact c2 z
            · exact c3 z
            · exact absurd (Int32.lt_of_lt_of_le z c4) (Int32.lt_irrefl)⟩, ht⟩) (fun _ z => by cases z) dX1_refused_25
        · exact JY (Or.inr (Or.inr (Or.inr (Int32.not_le.mp c4))))

set_option maxHeartbeats 4000000 in
set_option maxRecDepth 100000 in
theorem mem_node (l : Launch) (D : va_G) (dA dJ dZ : ClassId) (h : Nat → Nat) (on : Int32) (st : Int64) (pa tx wd : Nat → Int32) (kp : Nat → Int64) (cN : Nat) (ix : Int32) (hc : cN ≤ 48) (hs : ∀ i, tp_b st i = true → i < cN) : Met l yX1_node (ws_ yX1_node cX1_node 4 (some .int)) ({ frames := 0, cells := 0, slots := 0, locals := 0 }) (tp_Pr D (tp_ty dA dJ dZ) (tp_wM dA dJ dZ h (nI cN) on st pa tx wd kp) [.ref (h 6), .int ix]) (vp_Si (fun r => tp_nd st ix r)) 0 0 (fun _ => False) := by
  refine Met.ofW (cc := cX1_node) (maxL := 4) (ret := (some .int)) (by decide) rfl ?_
  intro p e s m args below meth c s₁ B hml hv
  obtain ⟨rfl, hP, hK⟩ := hv
  have hx := B.exec
  have hb := B.bytes
  have hr := B.returns
  have hts := atoms_spec (ws := ws_ yX1_node cX1_node 4 (some .int)) B.pre
  have hts : ∀ w ∈ lw_all, w.before _ s = true := fun w h => hts w (List.mem_cons_of_mem _ h)
  have hown : s.vm.findClass RX1 = some m.cls := findClass_of_methodNamed B.named
  have hlocks := B.notSynchronized
  have hl := lv_entry ([.ref (h 6), .int ix]) (n := 4) (Nat.le_of_ble_eq_true rfl)
  rw [lg_entry_eq]
  generalize (lg_sl ([.ref (h 6), .int ix]) ++ List.replicate (4 - (lg_sl ([.ref (h 6), .int ix])).length) Slot.unset).toArray = ls at hl ⊢
  have hl : lv_has ls 4 [(0, .ref (h 6)), (1, .int ix)] := hl
  refine lv_iconst (v := nI 0) hx hb dX1_node_0 (by decide) ?_
  refine lv_istore_n (lv' := [(2, .int (nI 0)), (0, .ref (h 6)), (1, .int ix)]) hx hb dX1_node_1 rfl hl (by decide) rfl (fun ls hl => ?_)
  refine lv_iconst (v := nI 0) hx hb dX1_node_2 (by decide) ?_
  refine lv_istore_n (lv' := [(3, .int (nI 0)), (2, .int (nI 0)), (0, .ref (h 6)), (1, .int ix)]) hx hb dX1_node_3 rfl hl (by decide) rfl (fun ls hl => ?_)
  have LP : ∀ (n : Nat) (i : Nat), i ≤ cN → cN < i + n → (∀ k, k < i → tp_b st k = true → ¬ ix = nI (tp_c (tp_b st) k)) →  ∀ (ls : Array Slot), lv_has ls 4 [(0, .ref (h 6)), (1, .int ix), (2, .int (nI (tp_c (tp_b st) i))), (3, .int (nI i))] → W p l e (headSpec (ws_ yX1_node cX1_node 4 (some .int)) ({ frames := 0, cells := 0, slots := 0, locals := 0 })).room s m ([.ref (h 6), .int ix] : List Value).toArray below meth c s.heap [] 0 0 (MQ below (vp_Si (fun r => tp_nd st ix r)) ([.ref (h 6), .int ix] : List Value).toArray s 0 0 (fun _ => False)) (F0 m 4 ls []) := by
    intro n
    induction n with
    | zero => intro i hi hf hne ls hl; exact absurd hf (by omega)
    | succ n ih =>
      intro i hi hf hne ls hl
      have hcl := tp_c_le (tp_b st) i
      refine lv_iload_n hx hb dX1_node_4 rfl (lv_at hl 3 rfl) ?_
      refine lv_aload_n hx hb dX1_node_5 rfl (lv_at hl 0 rfl) ?_
      refine va_get (D := D) (ci := 1) (v := .int (nI cN)) (C := RX1) (T := TX1) (N := 7) hx hb hts in_X1 hown hK hP 0 rfl rfl 0 (by decide) (hts _ q169) (fun _ h9 => h9) rfl dX1_node_6 ?_
      refine lv_icmp_ge (tgt := 41) hx hb dX1_node_9 (by decide) (fun c1 => ?_) (fun c1 => ?_)
      · have c1 : cN ≤ i := (nI_leI (a := cN) (b := i) (by omega) (by omega)).mp c1
        refine lv_iconst (v := -1) hx hb dX1_node_41 (by decide) ?_
        exact W.iret hx hb hr (fun t ht hW9 => ⟨_, rfl, by
          rcases Int32.lt_or_le ix 0 with z | z
          · exact Or.inl ⟨z, rfl⟩
          · obtain ⟨j, hj, ej⟩ := nI_of (Int32.not_lt.mpr z)
            refine Or.inr ⟨j, hj, ej, tk_rkc hc hs (Or.inl ⟨rfl, ?_⟩)⟩
            rw [show cN = i by omega]
            rcases Nat.lt_or_ge j (tp_c (tp_b st) i) with w | w
            · obtain ⟨k, w1, w2, w3⟩ := tp_c_at w
              exact absurd (by rw [ej, w3]) (hne k w1 w2)
            · exact w, ht⟩) (fun _ z => by cases z) dX1_node_42
      · have c1 : ¬ (cN ≤ i) := fun z => c1 ((nI_leI (a := cN) (b := i) (by omega) (by omega)).mpr z)
        refine lv_aload_n hx hb dX1_node_12 rfl (lv_at hl 0 rfl) ?_
        refine va_get (D := D) (ci := 1) (v := .long st) (C := RX1) (T := TX1) (N := 7) hx hb hts in_X1 hown hK hP 0 rfl rfl 5 (by decide) (hts _ q174) (fun _ h9 => h9) rfl dX1_node_13 ?_
        refine lv_iload_n hx hb dX1_node_16 rfl (lv_at hl 3 rfl) ?_
        refine lv_lshr hx hb dX1_node_17 rfl ?_
        refine lv_lconst (v := 1) hx hb dX1_node_18 (by decide) ?_
        refine lv_land hx hb dX1_node_19 ?_
        refine tp_tl (y := tp_l (tp_b st i)) (tp_sbit (by omega)) ?_
        refine lv_lconst (v := 1) hx hb dX1_node_20 (by decide) ?_
        refine W.lcmp hx hb dX1_node_21 ?_
        refine lv_if_ne (tgt := 35) hx hb dX1_node_22 (by decide) (fun c2 => ?_) (fun c2 => ?_)
        · have c2 : tp_b st i = false := by
            cases hbb : tp_b st i
            · rfl
            · exact absurd ((tp_lcmp1 _).mpr hbb) c2
          refine lv_iinc (v := nI (i + 1)) (lv' := [(3, .int (nI (i + 1))), (0, .ref (h 6)), (1, .int ix), (2, .int (nI (tp_c (tp_b st) i)))]) hx hb dX1_node_35 hl (k := 3) rfl (nI_1 i) (by decide) rfl (fun ls hl => ?_)
          refine lv_goto (tgt := 4) hx hb dX1_node_38 (by decide) ?_
          exact ih (i + 1) (by omega) (by omega) (fun k z1 z2 => by
            rcases Nat.lt_or_ge k i with w | w
            · exact hne k w z2
            · rw [show k = i by omega, c2] at z2; cases z2) ls (by rw [tp_c_f c2]; exact lv_sub hl [1, 2, 3, 0] rfl)
        · have c2 : tp_b st i = true := (tp_lcmp1 _).mp c2
          refine lv_iload_n hx hb dX1_node_25 rfl (lv_at hl 2 rfl) ?_
          refine lv_iload_n hx hb dX1_node_26 rfl (lv_at hl 1 rfl) ?_
          refine lv_icmp_ne (tgt := 32) hx hb dX1_node_27 (by decide) (fun c3 => ?_) (fun c3 => ?_)
          · refine lv_iinc (v := nI ((tp_c (tp_b st) i) + 1)) (lv' := [(2, .int (nI ((tp_c (tp_b st) i) + 1))), (0, .ref (h 6)), (1, .int ix), (3, .int (nI i))]) hx hb dX1_node_32 hl (k := 2) rfl (nI_1 (tp_c (tp_b st) i)) (by decide) rfl (fun ls hl => ?_)
            refine lv_iinc (v := nI (i + 1)) (lv' := [(3, .int (nI (i + 1))), (2, .int (nI ((tp_c (tp_b st) i) + 1))), (0, .ref (h 6)), (1, .int ix)]) hx hb dX1_node_35 hl (k := 3) rfl (nI_1 i) (by decide) rfl (fun ls hl => ?_)
            refine lv_goto (tgt := 4) hx hb dX1_node_38 (by decide) ?_
            exact ih (i + 1) (by omega) (by omega) (fun k z1 z2 => by
              rcases Nat.lt_or_ge k i with w | w
              · exact hne k w z2
              · rw [show k = i by omega]; exact fun z => c3 z.symm) ls (by rw [tp_c_t c2]; exact lv_sub hl [2, 3, 1, 0] rfl)
          · refine lv_iload_n hx hb dX1_node_30 rfl (lv_at hl 3 rfl) ?_
            exact W.iret hx hb hr (fun t ht hW9 => ⟨_, rfl, Or.inr ⟨tp_c (tp_b st) i, by omega, c3.symm, Or.inr ⟨i, by omega, rfl, c2, rfl⟩⟩, ht⟩) (fun _ z => by cases z) dX1_node_31
  exact LP (cN + 1) 0 (by omega) (by omega) (fun k z => absurd z (Nat.not_lt_zero _)) ls (lv_sub hl [2, 3, 1, 0] rfl)

set_option maxHeartbeats 4000000 in
set_option maxRecDepth 100000 in
theorem mem_sum (l : Launch) (D : va_G) (dA dJ dZ : ClassId) (h : Nat → Nat) (on : Int32) (st : Int64) (vl pa tx wd : Nat → Int32) (kp : Nat → Int64) {cN : Nat} {P E N : Nat → Nat} (hW : tp_wf cN P E) (hM : tp_M cN P N vl pa tx wd) : Met l yX1_sum (ws_ yX1_sum cX1_sum 3 (some .int)) ({ frames := 0, cells := 0, slots := 0, locals := 0 }) (tp_Pr D (tp_ty dA dJ dZ) (tp_wM dA dJ dZ h (nI cN) on st pa tx wd kp) [.ref (h 6)]) (vp_Si (fun r => r = tp_sm (tp_b st) N vl cN)) 0 0 (fun _ => False) := by
  refine Met.ofW (cc := cX1_sum) (maxL := 3) (ret := (some .int)) (by decide) rfl ?_
  intro p e s m args below meth c s₁ B hml hv
  obtain ⟨rfl, hP, hK⟩ := hv
  have hx := B.exec
  have hb := B.bytes
  have hr := B.returns
  have hts := atoms_spec (ws := ws_ yX1_sum cX1_sum 3 (some .int)) B.pre
  have hts : ∀ w ∈ lw_all, w.before _ s = true := fun w h => hts w (List.mem_cons_of_mem _ h)
  have hown : s.vm.findClass RX1 = some m.cls := findClass_of_methodNamed B.named
  have hlocks := B.notSynchronized
  have hl := lv_entry ([.ref (h 6)]) (n := 3) (Nat.le_of_ble_eq_true rfl)
  rw [lg_entry_eq]
  generalize (lg_sl ([.ref (h 6)]) ++ List.replicate (3 - (lg_sl ([.ref (h 6)])).length) Slot.unset).toArray = ls at hl ⊢
  have hl : lv_has ls 3 [(0, .ref (h 6))] := hl
  have hc := tw_c hW
  refine lv_iconst (v := nI 0) hx hb dX1_sum_0 (by decide) ?_
  refine lv_istore_n (lv' := [(1, .int (nI 0)), (0, .ref (h 6))]) hx hb dX1_sum_1 rfl hl (by decide) rfl (fun ls hl => ?_)
  refine lv_iconst (v := nI 0) hx hb dX1_sum_2 (by decide) ?_
  refine lv_istore_n (lv' := [(2, .int (nI 0)), (1, .int (nI 0)), (0, .ref (h 6))]) hx hb dX1_sum_3 rfl hl (by decide) rfl (fun ls hl => ?_)
  have LP : ∀ (n : Nat) (i : Nat), i ≤ cN → cN < i + n →  ∀ (ls : Array Slot), lv_has ls 3 [(0, .ref (h 6)), (1, .int (tp_sm (tp_b st) N vl i)), (2, .int (nI i))] → W p l e (headSpec (ws_ yX1_sum cX1_sum 3 (some .int)) ({ frames := 0, cells := 0, slots := 0, locals := 0 })).room s m ([.ref (h 6)] : List Value).toArray below meth c s.heap [] 0 0 (MQ below (vp_Si (fun r => r = tp_sm (tp_b st) N vl cN)) ([.ref (h 6)] : List Value).toArray s 0 0 (fun _ => False)) (F0 m 4 ls []) := by
    intro n
    induction n with
    | zero => intro i hi hf ls hl; exact absurd hf (by omega)
    | succ n ih =>
      intro i hi hf ls hl
      refine lv_iload_n hx hb dX1_sum_4 rfl (lv_at hl 2 rfl) ?_
      refine lv_aload_n hx hb dX1_sum_5 rfl (lv_at hl 0 rfl) ?_
      refine va_get (D := D) (ci := 1) (v := .int (nI cN)) (C := RX1) (T := TX1) (N := 7) hx hb hts in_X1 hown hK hP 0 rfl rfl 0 (by decide) (hts _ q169) (fun _ h9 => h9) rfl dX1_sum_6 ?_
      refine lv_icmp_ge (tgt := 49) hx hb dX1_sum_9 (by decide) (fun c1 => ?_) (fun c1 => ?_)
      · have c1 : cN ≤ i := (nI_leI (a := cN) (b := i) (by omega) (by omega)).mp c1
        refine lv_iload_n hx hb dX1_sum_49 rfl (lv_at hl 1 rfl) ?_
        exact W.iret hx hb hr (fun t ht hW9 => ⟨_, rfl, by rw [show i = cN by omega], ht⟩) (fun _ z => by cases z) dX1_sum_50
      · have c1 : ¬ (cN ≤ i) := fun z => c1 ((nI_leI (a := cN) (b := i) (by omega) (by omega)).mpr z)
        have JN : ¬ (tp_b st i = true ∧ N i = 8) → W p l e (headSpec (ws_ yX1_sum cX1_sum 3 (some .int)) ({ frames := 0, cells := 0, slots := 0, locals := 0 })).room s m ([.ref (h 6)] : List Value).toArray below meth c s.heap [] 0 0 (MQ below (vp_Si (fun r => r = tp_sm (tp_b st) N vl cN)) ([.ref (h 6)] : List Value).toArray s 0 0 (fun _ => False)) (F0 m 43 ls []) := by
          intro hq
          refine lv_iinc (v := nI (i + 1)) (lv' := [(2, .int (nI (i + 1))), (0, .ref (h 6)), (1, .int (tp_sm (tp_b st) N vl i))]) hx hb dX1_sum_43 hl (k := 2) rfl (nI_1 i) (by decide) rfl (fun ls hl => ?_)
          refine lv_goto (tgt := 4) hx hb dX1_sum_46 (by decide) ?_
          exact ih (i + 1) (by omega) (by omega) ls (by rw [tn_smz hq]; exact lv_sub hl [1, 2, 0] rfl)
        refine lv_aload_n hx hb dX1_sum_12 rfl (lv_at hl 0 rfl) ?_
        refine va_get (D := D) (ci := 1) (v := .long st) (C := RX1) (T := TX1) (N := 7) hx hb hts in_X1 hown hK hP 0 rfl rfl 5 (by decide) (hts _ q174) (fun _ h9 => h9) rfl dX1_sum_13 ?_
        refine lv_iload_n hx hb dX1_sum_16 rfl (lv_at hl 2 rfl) ?_
        refine lv_lshr hx hb dX1_sum_17 rfl ?_
        refine lv_lconst (v := 1) hx hb dX1_sum_18 (by decide) ?_
        refine lv_land hx hb dX1_sum_19 ?_
        refine tp_tl (y := tp_l (tp_b st i)) (tp_sbit (by omega)) ?_
        refine lv_lconst (v := 1) hx hb dX1_sum_20 (by decide) ?_
        refine W.lcmp hx hb dX1_sum_21 ?_
        refine lv_if_ne (tgt := 43) hx hb dX1_sum_22 (by decide) (fun c2 => ?_) (fun c2 => ?_)
        · have c2 : tp_b st i = false := by
            cases hbb : tp_b st i
            · rfl
            · exact absurd ((tp_lcmp1 _).mpr hbb) c2
          exact JN (fun z => by rw [c2] at z; exact absurd z.1 (by decide))
        · have c2 : tp_b st i = true := (tp_lcmp1 _).mp c2
          by_cases e8 : N i = 8
          · refine lv_aload_n hx hb dX1_sum_25 rfl (lv_at hl 0 rfl) ?_
            refine va_get (D := D) (ci := 1) (v := .ref (h 8)) (C := RX1) (T := TX1) (N := 7) hx hb hts in_X1 hown hK hP 0 rfl rfl 2 (by decide) (hts _ q171) (fun _ h9 => h9) rfl dX1_sum_26 ?_
            refine lv_iload_n hx hb dX1_sum_29 rfl (lv_at hl 2 rfl) ?_
            refine tp_zald (v := nI 1) hx hb hK hP 2 2 rfl rfl i rfl (by omega) ((hM i (by omega)).2.1.trans (if_pos e8)) dX1_sum_30 ?_
            refine lv_if_eq (tgt := 43) hx hb dX1_sum_31 (by decide) (fun z => absurd ((nI_eq (a := 1) (b := 0) (by omega) (by omega)).mp z) (by omega)) (fun _ => ?_)
            refine lv_iload_n hx hb dX1_sum_34 rfl (lv_at hl 1 rfl) ?_
            refine lv_aload_n hx hb dX1_sum_35 rfl (lv_at hl 0 rfl) ?_
            refine va_get (D := D) (ci := 1) (v := .ref (h 9)) (C := RX1) (T := TX1) (N := 7) hx hb hts in_X1 hown hK hP 0 rfl rfl 3 (by decide) (hts _ q172) (fun _ h9 => h9) rfl dX1_sum_36 ?_
            refine lv_iload_n hx hb dX1_sum_39 rfl (lv_at hl 2 rfl) ?_
            refine tp_iald (v := vl i) hx hb hK hP 3 0 rfl rfl i rfl (by omega) ((hM i (by omega)).2.2.1.trans (if_pos e8)) dX1_sum_40 ?_
            refine lv_iadd hx hb dX1_sum_41 ?_
            refine tp_ti (y := tp_sm (tp_b st) N vl (i + 1)) ((tn_smy c2 e8).symm) ?_
            refine lv_istore_n (lv' := [(1, .int (tp_sm (tp_b st) N vl (i + 1))), (0, .ref (h 6)), (2, .int (nI i))]) hx hb dX1_sum_42 rfl hl (by decide) rfl (fun ls hl => ?_)
            refine lv_iinc (v := nI (i + 1)) (lv' := [(2, .int (nI (i + 1))), (1, .int (tp_sm (tp_b st) N vl (i + 1))), (0, .ref (h 6))]) hx hb dX1_sum_43 hl (k := 2) rfl (nI_1 i) (by decide) rfl (fun ls hl => ?_)
            refine lv_goto (tgt := 4) hx hb dX1_sum_46 (by decide) ?_
            exact ih (i + 1) (by omega) (by omega) ls (lv_sub hl [2, 1, 0] rfl)
          · refine lv_aload_n hx hb dX1_sum_25 rfl (lv_at hl 0 rfl) ?_
            refine va_get (D := D) (ci := 1) (v := .ref (h 8)) (C := RX1) (T := TX1) (N := 7) hx hb hts in_X1 hown hK hP 0 rfl rfl 2 (by decide) (hts _ q171) (fun _ h9 => h9) rfl dX1_sum_26 ?_
            refine lv_iload_n hx hb dX1_sum_29 rfl (lv_at hl 2 rfl) ?_
            refine tp_zald (v := nI 0) hx hb hK hP 2 2 rfl rfl i rfl (by omega) ((hM i (by omega)).2.1.trans (if_neg e8)) dX1_sum_30 ?_
            refine lv_if_eq (tgt := 43) hx hb dX1_sum_31 (by decide) (fun _ => ?_) (fun z => absurd ((nI_eq (a := 0) (b := 0) (by omega) (by omega)).mpr (by omega)) z)
            exact JN (fun z => e8 z.2)
  exact LP (cN + 1) 0 (by omega) (by omega) ls (lv_sub hl [2, 1, 0] rfl)
end
section
set_option maxHeartbeats 4000000 in
set_option maxRecDepth 100000 in
theorem met_forget (l : Launch) (D : va_G) (dA dJ dZ : ClassId) (h : Nat → Nat) (cn on : Int32) (st : Int64) (nm vl pa en : Nat → Int32) (kp : Nat → Int64) (sz : Nat)  : Met l yX0_forget (ws_ yX0_forget cX0_forget 1 none) ({ frames := 0, cells := 0, slots := 0, locals := 0 }) (tp_Pm D (tp_ty dA dJ dZ) (tp_wX dA dJ h cn on st nm vl pa en kp) sz [.ref (h 0)]) (va_Qv (fun (u : va_W) => ∃ kp', u = tp_wX dA dJ h cn on 1 nm vl pa en kp' ∧ kp' 0 = 0 ∧ kp' 1 = 0) (tp_B D (tp_ty dA dJ dZ) (va_A (tp_wX dA dJ h cn on st nm vl pa en kp) sz)) (va_A (tp_wX dA dJ h cn on st nm vl pa en kp) sz)) 0 0 (va_A (tp_wX dA dJ h cn on st nm vl pa en kp) sz) := by
  refine Met.ofW (cc := cX0_forget) (maxL := 1) (ret := none) (by decide) rfl ?_
  intro p e s m args below meth c s₁ B hml hv
  obtain ⟨rfl, hsz, hP, hK, hD0⟩ := hv
  subst hsz
  have hD := hD0.self (sz := s.heap.size)
  generalize hAe : va_A (tp_wX dA dJ h cn on st nm vl pa en kp) s.heap.size = A at hD ⊢
  have hA : ∀ q : Nat, s.heap.size ≤ q → A q := fun q h => by rw [← hAe]; exact Or.inr h
  have hS : va_S A s.heap s.heap [] := va_S.rf
  have hP : va_P D tp_cl (tp_wX dA dJ h cn on st nm vl pa en kp) s.heap := hP
  have hx := B.exec
  have hb := B.bytes
  have hr := B.returns
  have hts := atoms_spec (ws := ws_ yX0_forget cX0_forget 1 none) B.pre
  have hts : ∀ w ∈ lw_all, w.before _ s = true := fun w h => hts w (List.mem_cons_of_mem _ h)
  have hown : s.vm.findClass RX0 = some m.cls := findClass_of_methodNamed B.named
  have hlocks := B.notSynchronized
  have hl := lv_entry ([.ref (h 0)]) (n := 1) (Nat.le_of_ble_eq_true rfl)
  rw [lg_entry_eq]
  generalize (lg_sl ([.ref (h 0)]) ++ List.replicate (1 - (lg_sl ([.ref (h 0)])).length) Slot.unset).toArray = ls at hl ⊢
  have hl : lv_has ls 1 [(0, .ref (h 0))] := hl
  refine lv_aload_n hx hb dX0_forget_0 rfl (lv_at hl 0 rfl) ?_
  refine lv_lconst (v := 1) hx hb dX0_forget_1 (by decide) ?_
  refine va_put (D := D) (ci := 0) (v := .long 1) (ty := .long) (C := RX0) (T := TX0) (N := 8) hx hb hts in_X0 tyX0 tyX0_ok nmX0 hown hK hP hD hS 0 rfl rfl 6 (by decide) (hts _ q36) (fun _ h9 => h9) rfl (by decide +kernel) rfl rfl (Nat.le_of_ble_eq_true rfl) dX0_forget_2 (fun H locs hP hD hS => ?_)
  have hP : va_P D tp_cl (tp_wX dA dJ h cn on 1 nm vl pa en kp) H := hP
  have hD : va_D A (tp_wX dA dJ h cn on 1 nm vl pa en kp) := hD
  refine lv_aload_n hx hb dX0_forget_5 rfl (lv_at hl 0 rfl) ?_
  refine va_get (D := D) (ci := 0) (v := .ref (h 5)) (C := RX0) (T := TX0) (N := 8) hx hb hts in_X0 hown hK hP 0 rfl rfl 7 (by decide) (hts _ q37) (fun _ h9 => h9) rfl dX0_forget_6 ?_
  refine lv_iconst (v := nI 0) hx hb dX0_forget_9 (by decide) ?_
  refine lv_lconst (v := 0) hx hb dX0_forget_10 (by decide) ?_
  refine tp_last hx hb hK hP hD hS 5 1 rfl rfl 0 rfl (by decide) dX0_forget_11 (fun H locs hP hD hS => ?_)
  have hP : va_P D tp_cl (tp_wX dA dJ h cn on 1 nm vl pa en (vp_updL kp 0 0)) H := hP
  have hD : va_D A (tp_wX dA dJ h cn on 1 nm vl pa en (vp_updL kp 0 0)) := hD
  refine lv_aload_n hx hb dX0_forget_12 rfl (lv_at hl 0 rfl) ?_
  refine va_get (D := D) (ci := 0) (v := .ref (h 5)) (C := RX0) (T := TX0) (N := 8) hx hb hts in_X0 hown hK hP 0 rfl rfl 7 (by decide) (hts _ q37) (fun _ h9 => h9) rfl dX0_forget_13 ?_
  refine lv_iconst (v := nI 1) hx hb dX0_forget_16 (by decide) ?_
  refine lv_lconst (v := 0) hx hb dX0_forget_17 (by decide) ?_
  refine tp_last hx hb hK hP hD hS 5 1 rfl rfl 1 rfl (by decide) dX0_forget_18 (fun H locs hP hD hS => ?_)
  have hP : va_P D tp_cl (tp_wX dA dJ h cn on 1 nm vl pa en (vp_updL (vp_updL kp 0 0) 1 0)) H := hP
  have hD : va_D A (tp_wX dA dJ h cn on 1 nm vl pa en (vp_updL (vp_updL kp 0 0) 1 0)) := hD
  exact W.vret hx hb hr (fun t ht hW9 => ⟨⟨(tp_wX dA dJ h cn on 1 nm vl pa en (vp_updL (vp_updL kp 0 0) 1 0)), rfl, ⟨_, rfl, rfl, rfl⟩, by rw [ht]; exact hP, va_K.moved hW9.alike hK, hD⟩, hS.F ht⟩) hS.2.2 dX0_forget_19

set_option maxHeartbeats 4000000 in
set_option maxRecDepth 100000 in
theorem met_start (l : Launch) (D : va_G) (dA dJ dZ : ClassId) (h : Nat → Nat) (cn on : Int32) (st : Int64) (nm vl pa en : Nat → Int32) (kp : Nat → Int64) (sz : Nat)  : Met l yX0_start (ws_ yX0_start cX0_start 1 none) ({ frames := 0, cells := 0, slots := 0, locals := 0 }) (tp_Pm D (tp_ty dA dJ dZ) (tp_wX dA dJ h cn on st nm vl pa en kp) sz [.ref (h 0)]) (va_Qv (fun (u : va_W) => u = tp_wX dA dJ h cn on 1 nm vl pa en kp) (tp_B D (tp_ty dA dJ dZ) (va_A (tp_wX dA dJ h cn on st nm vl pa en kp) sz)) (va_A (tp_wX dA dJ h cn on st nm vl pa en kp) sz)) 0 0 (va_A (tp_wX dA dJ h cn on st nm vl pa en kp) sz) := by
  refine Met.ofW (cc := cX0_start) (maxL := 1) (ret := none) (by decide) rfl ?_
  intro p e s m args below meth c s₁ B hml hv
  obtain ⟨rfl, hsz, hP, hK, hD0⟩ := hv
  subst hsz
  have hD := hD0.self (sz := s.heap.size)
  generalize hAe : va_A (tp_wX dA dJ h cn on st nm vl pa en kp) s.heap.size = A at hD ⊢
  have hA : ∀ q : Nat, s.heap.size ≤ q → A q := fun q h => by rw [← hAe]; exact Or.inr h
  have hS : va_S A s.heap s.heap [] := va_S.rf
  have hP : va_P D tp_cl (tp_wX dA dJ h cn on st nm vl pa en kp) s.heap := hP
  have hx := B.exec
  have hb := B.bytes
  have hr := B.returns
  have hts := atoms_spec (ws := ws_ yX0_start cX0_start 1 none) B.pre
  have hts : ∀ w ∈ lw_all, w.before _ s = true := fun w h => hts w (List.mem_cons_of_mem _ h)
  have hown : s.vm.findClass RX0 = some m.cls := findClass_of_methodNamed B.named
  have hlocks := B.notSynchronized
  have hl := lv_entry ([.ref (h 0)]) (n := 1) (Nat.le_of_ble_eq_true rfl)
  rw [lg_entry_eq]
  generalize (lg_sl ([.ref (h 0)]) ++ List.replicate (1 - (lg_sl ([.ref (h 0)])).length) Slot.unset).toArray = ls at hl ⊢
  have hl : lv_has ls 1 [(0, .ref (h 0))] := hl
  refine lv_aload_n hx hb dX0_start_0 rfl (lv_at hl 0 rfl) ?_
  refine lv_lconst (v := 1) hx hb dX0_start_1 (by decide) ?_
  refine va_put (D := D) (ci := 0) (v := .long 1) (ty := .long) (C := RX0) (T := TX0) (N := 8) hx hb hts in_X0 tyX0 tyX0_ok nmX0 hown hK hP hD hS 0 rfl rfl 6 (by decide) (hts _ q36) (fun _ h9 => h9) rfl (by decide +kernel) rfl rfl (Nat.le_of_ble_eq_true rfl) dX0_start_2 (fun H locs hP hD hS => ?_)
  have hP : va_P D tp_cl (tp_wX dA dJ h cn on 1 nm vl pa en kp) H := hP
  have hD : va_D A (tp_wX dA dJ h cn on 1 nm vl pa en kp) := hD
  exact W.vret hx hb hr (fun t ht hW9 => ⟨⟨(tp_wX dA dJ h cn on 1 nm vl pa en kp), rfl, rfl, by rw [ht]; exact hP, va_K.moved hW9.alike hK, hD⟩, hS.F ht⟩) hS.2.2 dX0_start_5

set_option maxHeartbeats 4000000 in
set_option maxRecDepth 100000 in
theorem met_keep (l : Launch) (D : va_G) (dA dJ dZ : ClassId) (h : Nat → Nat) (cn on : Int32) (st : Int64) (nm vl pa en : Nat → Int32) (kp : Nat → Int64) (sl : Int32) (sz : Nat)  : Met l yX0_keep (ws_ yX0_keep cX0_keep 2 none) ({ frames := 0, cells := 0, slots := 0, locals := 0 }) (tp_Pm D (tp_ty dA dJ dZ) (tp_wX dA dJ h cn on st nm vl pa en kp) sz [.ref (h 0), .int sl]) (va_Qv (fun (u : va_W) => ∃ j, j < 2 ∧ sl &&& nI 1 = nI j ∧ u = tp_wX dA dJ h cn on st nm vl pa en (vp_updL kp j st)) (tp_B D (tp_ty dA dJ dZ) (va_A (tp_wX dA dJ h cn on st nm vl pa en kp) sz)) (va_A (tp_wX dA dJ h cn on st nm vl pa en kp) sz)) 0 0 (va_A (tp_wX dA dJ h cn on st nm vl pa en kp) sz) := by
  refine Met.ofW (cc := cX0_keep) (maxL := 2) (ret := none) (by decide) rfl ?_
  intro p e s m args below meth c s₁ B hml hv
  obtain ⟨rfl, hsz, hP, hK, hD0⟩ := hv
  subst hsz
  have hD := hD0.self (sz := s.heap.size)
  generalize hAe : va_A (tp_wX dA dJ h cn on st nm vl pa en kp) s.heap.size = A at hD ⊢
  have hA : ∀ q : Nat, s.heap.size ≤ q → A q := fun q h => by rw [← hAe]; exact Or.inr h
  have hS : va_S A s.heap s.heap [] := va_S.rf
  have hP : va_P D tp_cl (tp_wX dA dJ h cn on st nm vl pa en kp) s.heap := hP
  have hx := B.exec
  have hb := B.bytes
  have hr := B.returns
  have hts := atoms_spec (ws := ws_ yX0_keep cX0_keep 2 none) B.pre
  have hts : ∀ w ∈ lw_all, w.before _ s = true := fun w h => hts w (List.mem_cons_of_mem _ h)
  have hown : s.vm.findClass RX0 = some m.cls := findClass_of_methodNamed B.named
  have hlocks := B.notSynchronized
  have hl := lv_entry ([.ref (h 0), .int sl]) (n := 2) (Nat.le_of_ble_eq_true rfl)
  rw [lg_entry_eq]
  generalize (lg_sl ([.ref (h 0), .int sl]) ++ List.replicate (2 - (lg_sl ([.ref (h 0), .int sl])).length) Slot.unset).toArray = ls at hl ⊢
  have hl : lv_has ls 2 [(0, .ref (h 0)), (1, .int sl)] := hl
  obtain ⟨j, hj, ej⟩ := tp_and1 sl
  refine lv_aload_n hx hb dX0_keep_0 rfl (lv_at hl 0 rfl) ?_
  refine va_get (D := D) (ci := 0) (v := .ref (h 5)) (C := RX0) (T := TX0) (N := 8) hx hb hts in_X0 hown hK hP 0 rfl rfl 7 (by decide) (hts _ q37) (fun _ h9 => h9) rfl dX0_keep_1 ?_
  refine lv_iload_n hx hb dX0_keep_4 rfl (lv_at hl 1 rfl) ?_
  refine lv_iconst (v := nI 1) hx hb dX0_keep_5 (by decide) ?_
  refine lv_iand hx hb dX0_keep_6 ?_
  refine tp_ti (y := nI j) (ej) ?_
  refine lv_aload_n hx hb dX0_keep_7 rfl (lv_at hl 0 rfl) ?_
  refine va_get (D := D) (ci := 0) (v := .long st) (C := RX0) (T := TX0) (N := 8) hx hb hts in_X0 hown hK hP 0 rfl rfl 6 (by decide) (hts _ q36) (fun _ h9 => h9) rfl dX0_keep_8 ?_
  refine tp_last hx hb hK hP hD hS 5 1 rfl rfl j rfl hj dX0_keep_11 (fun H locs hP hD hS => ?_)
  have hP : va_P D tp_cl (tp_wX dA dJ h cn on st nm vl pa en (vp_updL kp j st)) H := hP
  have hD : va_D A (tp_wX dA dJ h cn on st nm vl pa en (vp_updL kp j st)) := hD
  exact W.vret hx hb hr (fun t ht hW9 => ⟨⟨(tp_wX dA dJ h cn on st nm vl pa en (vp_updL kp j st)), rfl, ⟨j, hj, ej, rfl⟩, by rw [ht]; exact hP, va_K.moved hW9.alike hK, hD⟩, hS.F ht⟩) hS.2.2 dX0_keep_12

set_option maxHeartbeats 4000000 in
set_option maxRecDepth 100000 in
theorem met_mix (l : Launch) (D : va_G) (dA dJ dZ : ClassId) (h : Nat → Nat) (cn on : Int32) (st : Int64) (nm vl pa en : Nat → Int32) (kp : Nat → Int64) (sl kd : Int32) (sz : Nat)  : Met l yX0_mix (ws_ yX0_mix cX0_mix 5 (some .int)) ({ frames := 1, cells := 0, slots := 0, locals := 23 }) (tp_Pm D (tp_ty dA dJ dZ) (tp_wX dA dJ h cn on st nm vl pa en kp) sz [.ref (h 0), .int sl, .int kd]) (va_Qi (fun (r : Int32) (u : va_W) => ((kd < 0 ∨ nI 2 < kd) ∧ r = -1 ∧ u = tp_wX dA dJ h cn on st nm vl pa en kp) ∨ (¬ (kd < 0 ∨ nI 2 < kd) ∧ ∃ j, j < 2 ∧ sl &&& nI 1 = nI j ∧ r = nI (tp_c (tp_b (tp_mx kd st (kp j))) 48) ∧ u = tp_wX dA dJ h cn on (tp_mx kd st (kp j)) nm vl pa en kp)) (tp_B D (tp_ty dA dJ dZ) (va_A (tp_wX dA dJ h cn on st nm vl pa en kp) sz)) (va_A (tp_wX dA dJ h cn on st nm vl pa en kp) sz)) 0 0 (va_A (tp_wX dA dJ h cn on st nm vl pa en kp) sz) := by
  refine Met.ofW (cc := cX0_mix) (maxL := 5) (ret := (some .int)) (by decide) rfl ?_
  intro p e s m args below meth c s₁ B hml hv
  obtain ⟨rfl, hsz, hP, hK, hD0⟩ := hv
  subst hsz
  have hD := hD0.self (sz := s.heap.size)
  generalize hAe : va_A (tp_wX dA dJ h cn on st nm vl pa en kp) s.heap.size = A at hD ⊢
  have hA : ∀ q : Nat, s.heap.size ≤ q → A q := fun q h => by rw [← hAe]; exact Or.inr h
  have hS : va_S A s.heap s.heap [] := va_S.rf
  have hP : va_P D tp_cl (tp_wX dA dJ h cn on st nm vl pa en kp) s.heap := hP
  have hx := B.exec
  have hb := B.bytes
  have hr := B.returns
  have hts := atoms_spec (ws := ws_ yX0_mix cX0_mix 5 (some .int)) B.pre
  have hts : ∀ w ∈ lw_all, w.before _ s = true := fun w h => hts w (List.mem_cons_of_mem _ h)
  have hown : s.vm.findClass RX0 = some m.cls := findClass_of_methodNamed B.named
  have hlocks := B.notSynchronized
  have hl := lv_entry ([.ref (h 0), .int sl, .int kd]) (n := 5) (Nat.le_of_ble_eq_true rfl)
  rw [lg_entry_eq]
  generalize (lg_sl ([.ref (h 0), .int sl, .int kd]) ++ List.replicate (5 - (lg_sl ([.ref (h 0), .int sl, .int kd])).length) Slot.unset).toArray = ls at hl ⊢
  have hl : lv_has ls 5 [(0, .ref (h 0)), (1, .int sl), (2, .int kd)] := hl
  have JB : (kd < 0 ∨ nI 2 < kd) → W p l e (headSpec (ws_ yX0_mix cX0_mix 5 (some .int)) ({ frames := 1, cells := 0, slots := 0, locals := 23 })).room s m ([.ref (h 0), .int sl, .int kd] : List Value).toArray below meth c s.heap [] 0 0 (MQ below (va_Qi (fun (r : Int32) (u : va_W) => ((kd < 0 ∨ nI 2 < kd) ∧ r = -1 ∧ u = tp_wX dA dJ h cn on st nm vl pa en kp) ∨ (¬ (kd < 0 ∨ nI 2 < kd) ∧ ∃ j, j < 2 ∧ sl &&& nI 1 = nI j ∧ r = nI (tp_c (tp_b (tp_mx kd st (kp j))) 48) ∧ u = tp_wX dA dJ h cn on (tp_mx kd st (kp j)) nm vl pa en kp)) (tp_B D (tp_ty dA dJ dZ) (A)) (A)) ([.ref (h 0), .int sl, .int kd] : List Value).toArray s 0 0 (A)) (F0 m 9 ls []) := by
    intro hq
    refine lv_iconst (v := -1) hx hb dX0_mix_9 (by decide) ?_
    exact W.iret hx hb hr (fun t ht hW9 => ⟨⟨_, (tp_wX dA dJ h cn on st nm vl pa en kp), rfl, Or.inl ⟨hq, rfl, rfl⟩, by rw [ht]; exact hP, va_K.moved hW9.alike hK, hD⟩, hS.F ht⟩) hS.2.2 dX0_mix_10
  refine lv_iload_n hx hb dX0_mix_0 rfl (lv_at hl 2 rfl) ?_
  refine lv_if_lt (tgt := 9) hx hb dX0_mix_1 (by decide) (fun c1 => ?_) (fun c1 => ?_)
  · exact JB (Or.inl c1)
  · refine lv_iload_n hx hb dX0_mix_4 rfl (lv_at hl 2 rfl) ?_
    refine lv_iconst (v := nI 2) hx hb dX0_mix_5 (by decide) ?_
    refine lv_icmp_le (tgt := 11) hx hb dX0_mix_6 (by decide) (fun c2 => ?_) (fun c2 => ?_)
    · have hok : ¬ (kd < 0 ∨ nI 2 < kd) := fun z => z.elim c1 (fun z => absurd (Int32.lt_of_lt_of_le z c2) Int32.lt_irrefl)
      obtain ⟨j, hj, ej⟩ := tp_and1 sl
      refine lv_aload_n hx hb dX0_mix_11 rfl (lv_at hl 0 rfl) ?_
      refine va_get (D := D) (ci := 0) (v := .ref (h 5)) (C := RX0) (T := TX0) (N := 8) hx hb hts in_X0 hown hK hP 0 rfl rfl 7 (by decide) (hts _ q37) (fun _ h9 => h9) rfl dX0_mix_12 ?_
      refine lv_iload_n hx hb dX0_mix_15 rfl (lv_at hl 1 rfl) ?_
      refine lv_iconst (v := nI 1) hx hb dX0_mix_16 (by decide) ?_
      refine lv_iand hx hb dX0_mix_17 ?_
      refine tp_ti (y := nI j) (ej) ?_
      refine tp_lald hx hb hK hP 5 1 rfl rfl j rfl hj rfl dX0_mix_18 ?_
      refine lv_lstore_n (lv' := [(3, .long (kp j)), (0, .ref (h 0)), (1, .int sl), (2, .int kd)]) hx hb dX0_mix_19 rfl hl (by decide) rfl (fun ls hl => ?_)
      refine lv_aload_n hx hb dX0_mix_20 rfl (lv_at hl 1 rfl) ?_
      refine lv_iload_n hx hb dX0_mix_21 rfl (lv_at hl 3 rfl) ?_
      refine lv_if_ne (tgt := 34) hx hb dX0_mix_22 (by decide) (fun c3 => ?_) (fun c3 => ?_)
      · refine lv_iload_n hx hb dX0_mix_34 rfl (lv_at hl 3 rfl) ?_
        refine lv_iconst (v := nI 1) hx hb dX0_mix_35 (by decide) ?_
        refine lv_icmp_ne (tgt := 48) hx hb dX0_mix_36 (by decide) (fun c4 => ?_) (fun c4 => ?_)
        · refine lv_aload_n hx hb dX0_mix_48 rfl (lv_at hl 1 rfl) ?_
          refine va_get (D := D) (ci := 0) (v := .long st) (C := RX0) (T := TX0) (N := 8) hx hb hts in_X0 hown hK hP 0 rfl rfl 6 (by decide) (hts _ q36) (fun _ h9 => h9) rfl dX0_mix_49 ?_
          refine lv_lload_n hx hb dX0_mix_52 rfl (lv_at hl 0 rfl) ?_
          refine lv_ldc2 hx hb hown (hts _ q104) dX0_mix_53 ?_
          refine lv_lxor hx hb dX0_mix_56 ?_
          refine lv_land hx hb dX0_mix_57 ?_
          refine tp_tl (y := tp_mx kd st (kp j)) (by unfold tp_mx; rw [if_neg c3, if_neg c4]) ?_
          refine va_put (D := D) (ci := 0) (v := .long (tp_mx kd st (kp j))) (ty := .long) (C := RX0) (T := TX0) (N := 8) hx hb hts in_X0 tyX0 tyX0_ok nmX0 hown hK hP hD hS 0 rfl rfl 6 (by decide) (hts _ q36) (fun _ h9 => h9) rfl (by decide +kernel) rfl rfl (Nat.le_of_ble_eq_true rfl) dX0_mix_58 (fun H locs hP hD hS => ?_)
          have hP : va_P D tp_cl (tp_wX dA dJ h cn on (tp_mx kd st (kp j)) nm vl pa en kp) H := hP
          have hD : va_D A (tp_wX dA dJ h cn on (tp_mx kd st (kp j)) nm vl pa en kp) := hD
          refine lv_aload_n hx hb dX0_mix_61 rfl (lv_at hl 1 rfl) ?_
          refine va_get (D := D) (ci := 0) (v := .long (tp_mx kd st (kp j))) (C := RX0) (T := TX0) (N := 8) hx hb hts in_X0 hown hK hP 0 rfl rfl 6 (by decide) (hts _ q36) (fun _ h9 => h9) rfl dX0_mix_62 ?_
          refine vp_callSi (W.runS (As := [.long (tp_mx kd st (kp j))]) (rest := []) ⟨hx, hb, hml, hown, hts⟩ (met_size l (tp_mx kd st (kp j))) (va_cwS 1 hts (lw_S q113 q114 q20 q115) rfl rfl rfl (by decide +kernel) ⟨Nat.le_of_ble_eq_true rfl, Nat.le_of_ble_eq_true rfl⟩) tp_ps rfl rfl hl.1 rfl (lv_room (Nat.le_of_ble_eq_true rfl)) dX0_mix_65 ⟨Nat.le_of_ble_eq_true rfl, Nat.le_of_ble_eq_true rfl⟩) (fun r1 h1 => ?_)
          exact W.iret hx hb hr (fun t ht hW9 => ⟨⟨_, (tp_wX dA dJ h cn on (tp_mx kd st (kp j)) nm vl pa en kp), rfl, Or.inr ⟨hok, j, hj, ej, h1, rfl⟩, by rw [ht]; exact hP, va_K.moved hW9.alike hK, hD⟩, hS.F ht⟩) hS.2.2 dX0_mix_68
        · refine lv_aload_n hx hb dX0_mix_39 rfl (lv_at hl 1 rfl) ?_
          refine va_get (D := D) (ci := 0) (v := .long st) (C := RX0) (T := TX0) (N := 8) hx hb hts in_X0 hown hK hP 0 rfl rfl 6 (by decide) (hts _ q36) (fun _ h9 => h9) rfl dX0_mix_40 ?_
          refine lv_lload_n hx hb dX0_mix_43 rfl (lv_at hl 0 rfl) ?_
          refine lv_lor hx hb dX0_mix_44 ?_
          refine lv_goto (tgt := 58) hx hb dX0_mix_45 (by decide) ?_
          refine tp_tl (y := tp_mx kd st (kp j)) (by unfold tp_mx; rw [if_neg c3, if_pos c4]) ?_
          refine va_put (D := D) (ci := 0) (v := .long (tp_mx kd st (kp j))) (ty := .long) (C := RX0) (T := TX0) (N := 8) hx hb hts in_X0 tyX0 tyX0_ok nmX0 hown hK hP hD hS 0 rfl rfl 6 (by decide) (hts _ q36) (fun _ h9 => h9) rfl (by decide +kernel) rfl rfl (Nat.le_of_ble_eq_true rfl) dX0_mix_58 (fun H locs hP hD hS => ?_)
          have hP : va_P D tp_cl (tp_wX dA dJ h cn on (tp_mx kd st (kp j)) nm vl pa en kp) H := hP
          have hD : va_D A (tp_wX dA dJ h cn on (tp_mx kd st (kp j)) nm vl pa en kp) := hD
          refine lv_aload_n hx hb dX0_mix_61 rfl (lv_at hl 1 rfl) ?_
          refine va_get (D := D) (ci := 0) (v := .long (tp_mx kd st (kp j))) (C := RX0) (T := TX0) (N := 8) hx hb hts in_X0 hown hK hP 0 rfl rfl 6 (by decide) (hts _ q36) (fun _ h9 => h9) rfl dX0_mix_62 ?_
          refine vp_callSi (W.runS (As := [.long (tp_mx kd st (kp j))]) (rest := []) ⟨hx, hb, hml, hown, hts⟩ (met_size l (tp_mx kd st (kp j))) (va_cwS 1 hts (lw_S q113 q114 q20 q115) rfl rfl rfl (by decide +kernel) ⟨Nat.le_of_ble_eq_true rfl, Nat.le_of_ble_eq_true rfl⟩) tp_ps rfl rfl hl.1 rfl (lv_room (Nat.le_of_ble_eq_true rfl)) dX0_mix_65 ⟨Nat.le_of_ble_eq_true rfl, Nat.le_of_ble_eq_true rfl⟩) (fun r1 h1 => ?_)
          exact W.iret hx hb hr (fun t ht hW9 => ⟨⟨_, (tp_wX dA dJ h cn on (tp_mx kd st (kp j)) nm vl pa en kp), rfl, Or.inr ⟨hok, j, hj, ej, h1, rfl⟩, by rw [ht]; exact hP, va_K.moved hW9.alike hK, hD⟩, hS.F ht⟩) hS.2.2 dX0_mix_68
      · refine lv_aload_n hx hb dX0_mix_25 rfl (lv_at hl 1 rfl) ?_
        refine va_get (D := D) (ci := 0) (v := .long st) (C := RX0) (T := TX0) (N := 8) hx hb hts in_X0 hown hK hP 0 rfl rfl 6 (by decide) (hts _ q36) (fun _ h9 => h9) rfl dX0_mix_26 ?_
        refine lv_lload_n hx hb dX0_mix_29 rfl (lv_at hl 0 rfl) ?_
        refine lv_land hx hb dX0_mix_30 ?_
        refine lv_goto (tgt := 58) hx hb dX0_mix_31 (by decide) ?_
        refine tp_tl (y := tp_mx kd st (kp j)) (by unfold tp_mx; rw [if_pos c3]) ?_
        refine va_put (D := D) (ci := 0) (v := .long (tp_mx kd st (kp j))) (ty := .long) (C := RX0) (T := TX0) (N := 8) hx hb hts in_X0 tyX0 tyX0_ok nmX0 hown hK hP hD hS 0 rfl rfl 6 (by decide) (hts _ q36) (fun _ h9 => h9) rfl (by decide +kernel) rfl rfl (Nat.le_of_ble_eq_true rfl) dX0_mix_58 (fun H locs hP hD hS => ?_)
        have hP : va_P D tp_cl (tp_wX dA dJ h cn on (tp_mx kd st (kp j)) nm vl pa en kp) H := hP
        have hD : va_D A (tp_wX dA dJ h cn on (tp_mx kd st (kp j)) nm vl pa en kp) := hD
        refine lv_aload_n hx hb dX0_mix_61 rfl (lv_at hl 1 rfl) ?_
        refine va_get (D := D) (ci := 0) (v := .long (tp_mx kd st (kp j))) (C := RX0) (T := TX0) (N := 8) hx hb hts in_X0 hown hK hP 0 rfl rfl 6 (by decide) (hts _ q36) (fun _ h9 => h9) rfl dX0_mix_62 ?_
        refine vp_callSi (W.runS (As := [.long (tp_mx kd st (kp j))]) (rest := []) ⟨hx, hb, hml, hown, hts⟩ (met_size l (tp_mx kd st (kp j))) (va_cwS 1 hts (lw_S q113 q114 q20 q115) rfl rfl rfl (by decide +kernel) ⟨Nat.le_of_ble_eq_true rfl, Nat.le_of_ble_eq_true rfl⟩) tp_ps rfl rfl hl.1 rfl (lv_room (Nat.le_of_ble_eq_true rfl)) dX0_mix_65 ⟨Nat.le_of_ble_eq_true rfl, Nat.le_of_ble_eq_true rfl⟩) (fun r1 h1 => ?_)
        exact W.iret hx hb hr (fun t ht hW9 => ⟨⟨_, (tp_wX dA dJ h cn on (tp_mx kd st (kp j)) nm vl pa en kp), rfl, Or.inr ⟨hok, j, hj, ej, h1, rfl⟩, by rw [ht]; exact hP, va_K.moved hW9.alike hK, hD⟩, hS.F ht⟩) hS.2.2 dX0_mix_68
    · exact JB (Or.inr (Int32.not_le.mp c2))

set_option maxHeartbeats 4000000 in
set_option maxRecDepth 100000 in
theorem met_close (l : Launch) (D : va_G) (dA dJ dZ : ClassId) (h : Nat → Nat) (st : Int64) (nm vl pa en : Nat → Int32) (kp : Nat → Int64) {cN : Nat} {P E N : Nat → Nat} {oN : Nat} (sz : Nat) (hW : tp_wf cN P E) (hX : tp_X cN P E N nm pa en) (ho : oN < cN) : Met l yX0_close (ws_ yX0_close cX0_close 1 (some .int)) ({ frames := 0, cells := 0, slots := 0, locals := 0 }) (tp_Pm D (tp_ty dA dJ dZ) (tp_wX dA dJ h (nI cN) (nI oN) st nm vl pa en kp) sz [.ref (h 0)]) (va_Qi (fun (r : Int32) (u : va_W) => (oN = 0 ∧ r = -1 ∧ u = tp_wX dA dJ h (nI cN) (nI oN) st nm vl pa en kp) ∨ (0 < oN ∧ r = nI 0 ∧ u = tp_wX dA dJ h (nI cN) (nI (P oN)) st nm vl pa en kp)) (tp_B D (tp_ty dA dJ dZ) (va_A (tp_wX dA dJ h (nI cN) (nI oN) st nm vl pa en kp) sz)) (va_A (tp_wX dA dJ h (nI cN) (nI oN) st nm vl pa en kp) sz)) 0 0 (va_A (tp_wX dA dJ h (nI cN) (nI oN) st nm vl pa en kp) sz) := by
  refine Met.ofW (cc := cX0_close) (maxL := 1) (ret := (some .int)) (by decide) rfl ?_
  intro p e s m args below meth c s₁ B hml hv
  obtain ⟨rfl, hsz, hP, hK, hD0⟩ := hv
  subst hsz
  have hD := hD0.self (sz := s.heap.size)
  generalize hAe : va_A (tp_wX dA dJ h (nI cN) (nI oN) st nm vl pa en kp) s.heap.size = A at hD ⊢
  have hA : ∀ q : Nat, s.heap.size ≤ q → A q := fun q h => by rw [← hAe]; exact Or.inr h
  have hS : va_S A s.heap s.heap [] := va_S.rf
  have hP : va_P D tp_cl (tp_wX dA dJ h (nI cN) (nI oN) st nm vl pa en kp) s.heap := hP
  have hx := B.exec
  have hb := B.bytes
  have hr := B.returns
  have hts := atoms_spec (ws := ws_ yX0_close cX0_close 1 (some .int)) B.pre
  have hts : ∀ w ∈ lw_all, w.before _ s = true := fun w h => hts w (List.mem_cons_of_mem _ h)
  have hown : s.vm.findClass RX0 = some m.cls := findClass_of_methodNamed B.named
  have hlocks := B.notSynchronized
  have hl := lv_entry ([.ref (h 0)]) (n := 1) (Nat.le_of_ble_eq_true rfl)
  rw [lg_entry_eq]
  generalize (lg_sl ([.ref (h 0)]) ++ List.replicate (1 - (lg_sl ([.ref (h 0)])).length) Slot.unset).toArray = ls at hl ⊢
  have hl : lv_has ls 1 [(0, .ref (h 0))] := hl
  have hc := tw_c hW
  refine lv_aload_n hx hb dX0_close_0 rfl (lv_at hl 0 rfl) ?_
  refine va_get (D := D) (ci := 0) (v := .int (nI oN)) (C := RX0) (T := TX0) (N := 8) hx hb hts in_X0 hown hK hP 0 rfl rfl 1 (by decide) (hts _ q31) (fun _ h9 => h9) rfl dX0_close_1 ?_
  refine lv_if_ne (tgt := 9) hx hb dX0_close_4 (by decide) (fun c1 => ?_) (fun c1 => ?_)
  · have c1 : ¬ (oN = 0) := fun z => c1 ((nI_eq (a := oN) (b := 0) (by omega) (by omega)).mpr z)
    refine lv_aload_n hx hb dX0_close_9 rfl (lv_at hl 0 rfl) ?_
    refine lv_aload_n hx hb dX0_close_10 rfl (lv_at hl 0 rfl) ?_
    refine va_get (D := D) (ci := 0) (v := .ref (h 3)) (C := RX0) (T := TX0) (N := 8) hx hb hts in_X0 hown hK hP 0 rfl rfl 4 (by decide) (hts _ q34) (fun _ h9 => h9) rfl dX0_close_11 ?_
    refine lv_aload_n hx hb dX0_close_14 rfl (lv_at hl 0 rfl) ?_
    refine va_get (D := D) (ci := 0) (v := .int (nI oN)) (C := RX0) (T := TX0) (N := 8) hx hb hts in_X0 hown hK hP 0 rfl rfl 1 (by decide) (hts _ q31) (fun _ h9 => h9) rfl dX0_close_15 ?_
    refine tp_iald (v := nI (P oN)) hx hb hK hP 3 0 rfl rfl oN rfl (by omega) ((hX oN ho).2.2.1.trans (tp_pas (by omega))) dX0_close_18 ?_
    refine va_put (D := D) (ci := 0) (v := .int (nI (P oN))) (ty := .int) (C := RX0) (T := TX0) (N := 8) hx hb hts in_X0 tyX0 tyX0_ok nmX0 hown hK hP hD hS 0 rfl rfl 1 (by decide) (hts _ q31) (fun _ h9 => h9) rfl (by decide +kernel) rfl rfl (Nat.le_of_ble_eq_true rfl) dX0_close_19 (fun H locs hP hD hS => ?_)
    have hP : va_P D tp_cl (tp_wX dA dJ h (nI cN) (nI (P oN)) st nm vl pa en kp) H := hP
    have hD : va_D A (tp_wX dA dJ h (nI cN) (nI (P oN)) st nm vl pa en kp) := hD
    refine lv_iconst (v := nI 0) hx hb dX0_close_22 (by decide) ?_
    exact W.iret hx hb hr (fun t ht hW9 => ⟨⟨_, (tp_wX dA dJ h (nI cN) (nI (P oN)) st nm vl pa en kp), rfl, Or.inr ⟨by omega, rfl, rfl⟩, by rw [ht]; exact hP, va_K.moved hW9.alike hK, hD⟩, hS.F ht⟩) hS.2.2 dX0_close_23
  · have c1 : oN = 0 := (nI_eq (a := oN) (b := 0) (by omega) (by omega)).mp c1
    refine lv_iconst (v := -1) hx hb dX0_close_7 (by decide) ?_
    exact W.iret hx hb hr (fun t ht hW9 => ⟨⟨_, (tp_wX dA dJ h (nI cN) (nI oN) st nm vl pa en kp), rfl, Or.inl ⟨c1, rfl, rfl⟩, by rw [ht]; exact hP, va_K.moved hW9.alike hK, hD⟩, hS.F ht⟩) hS.2.2 dX0_close_8

set_option maxHeartbeats 4000000 in
set_option maxRecDepth 100000 in
theorem met_append (l : Launch) (D : va_G) (dA dJ dZ : ClassId) (h : Nat → Nat) (st : Int64) (nm vl pa en : Nat → Int32) (kp : Nat → Int64) {cN : Nat} {P E N : Nat → Nat} {oN : Nat} (nw v : Int32) (sz : Nat) (hW : tp_wf cN P E) (hX : tp_X cN P E N nm pa en) (ho : oN < cN) (hEo : E oN = cN) (hc48 : cN < 48) : Met l yX0_append (ws_ yX0_append cX0_append 6 none) ({ frames := 1, cells := 0, slots := 0, locals := 20 }) (tp_Pm D (tp_ty dA dJ dZ) (tp_wX dA dJ h (nI cN) (nI oN) st nm vl pa en kp) sz [.ref (h 0), .int nw, .int v]) (va_Qv (fun (u : va_W) => ∃ en' kp', u = tp_wX dA dJ h (nI (cN + 1)) (nI oN) 1 (upd nm cN nw) (upd vl cN v) (upd pa cN (nI oN)) en' kp' ∧ (∀ k, k < cN + 1 → en' k = nI (tp_E1 E cN oN k)) ∧ kp' 0 = 0 ∧ kp' 1 = 0) (tp_B D (tp_ty dA dJ dZ) (va_A (tp_wX dA dJ h (nI cN) (nI oN) st nm vl pa en kp) sz)) (va_A (tp_wX dA dJ h (nI cN) (nI oN) st nm vl pa en kp) sz)) 0 0 (va_A (tp_wX dA dJ h (nI cN) (nI oN) st nm vl pa en kp) sz) := by
  refine Met.ofW (cc := cX0_append) (maxL := 6) (ret := none) (by decide) rfl ?_
  intro p e s m args below meth c s₁ B hml hv
  obtain ⟨rfl, hsz, hP, hK, hD0⟩ := hv
  subst hsz
  have hD := hD0.self (sz := s.heap.size)
  generalize hAe : va_A (tp_wX dA dJ h (nI cN) (nI oN) st nm vl pa en kp) s.heap.size = A at hD ⊢
  have hA : ∀ q : Nat, s.heap.size ≤ q → A q := fun q h => by rw [← hAe]; exact Or.inr h
  have hS : va_S A s.heap s.heap [] := va_S.rf
  have hP : va_P D tp_cl (tp_wX dA dJ h (nI cN) (nI oN) st nm vl pa en kp) s.heap := hP
  have hx := B.exec
  have hb := B.bytes
  have hr := B.returns
  have hts := atoms_spec (ws := ws_ yX0_append cX0_append 6 none) B.pre
  have hts : ∀ w ∈ lw_all, w.before _ s = true := fun w h => hts w (List.mem_cons_of_mem _ h)
  have hown : s.vm.findClass RX0 = some m.cls := findClass_of_methodNamed B.named
  have hlocks := B.notSynchronized
  have hl := lv_entry ([.ref (h 0), .int nw, .int v]) (n := 6) (Nat.le_of_ble_eq_true rfl)
  rw [lg_entry_eq]
  generalize (lg_sl ([.ref (h 0), .int nw, .int v]) ++ List.replicate (6 - (lg_sl ([.ref (h 0), .int nw, .int v])).length) Slot.unset).toArray = ls at hl ⊢
  have hl : lv_has ls 6 [(0, .ref (h 0)), (1, .int nw), (2, .int v)] := hl
  have hc := tw_c hW
  refine lv_aload_n hx hb dX0_append_0 rfl (lv_at hl 0 rfl) ?_
  refine va_get (D := D) (ci := 0) (v := .int (nI cN)) (C := RX0) (T := TX0) (N := 8) hx hb hts in_X0 hown hK hP 0 rfl rfl 0 (by decide) (hts _ q30) (fun _ h9 => h9) rfl dX0_append_1 ?_
  refine lv_istore_n (lv' := [(3, .int (nI cN)), (0, .ref (h 0)), (1, .int nw), (2, .int v)]) hx hb dX0_append_4 rfl hl (by decide) rfl (fun ls hl => ?_)
  refine lv_aload_n hx hb dX0_append_5 rfl (lv_at hl 1 rfl) ?_
  refine va_get (D := D) (ci := 0) (v := .ref (h 1)) (C := RX0) (T := TX0) (N := 8) hx hb hts in_X0 hown hK hP 0 rfl rfl 2 (by decide) (hts _ q32) (fun _ h9 => h9) rfl dX0_append_6 ?_
  refine lv_iload_n hx hb dX0_append_9 rfl (lv_at hl 0 rfl) ?_
  refine lv_iload_n hx hb dX0_append_10 rfl (lv_at hl 2 rfl) ?_
  refine tp_iast hx hb hK hP hD hS 1 0 rfl rfl cN rfl (by omega) dX0_append_11 (fun H locs hP hD hS => ?_)
  have hP : va_P D tp_cl (tp_wX dA dJ h (nI cN) (nI oN) st (upd nm cN nw) vl pa en kp) H := hP
  have hD : va_D A (tp_wX dA dJ h (nI cN) (nI oN) st (upd nm cN nw) vl pa en kp) := hD
  refine lv_aload_n hx hb dX0_append_12 rfl (lv_at hl 1 rfl) ?_
  refine va_get (D := D) (ci := 0) (v := .ref (h 2)) (C := RX0) (T := TX0) (N := 8) hx hb hts in_X0 hown hK hP 0 rfl rfl 3 (by decide) (hts _ q33) (fun _ h9 => h9) rfl dX0_append_13 ?_
  refine lv_iload_n hx hb dX0_append_16 rfl (lv_at hl 0 rfl) ?_
  refine lv_iload_n hx hb dX0_append_17 rfl (lv_at hl 3 rfl) ?_
  refine tp_iast hx hb hK hP hD hS 2 0 rfl rfl cN rfl (by omega) dX0_append_18 (fun H locs hP hD hS => ?_)
  have hP : va_P D tp_cl (tp_wX dA dJ h (nI cN) (nI oN) st (upd nm cN nw) (upd vl cN v) pa en kp) H := hP
  have hD : va_D A (tp_wX dA dJ h (nI cN) (nI oN) st (upd nm cN nw) (upd vl cN v) pa en kp) := hD
  refine lv_aload_n hx hb dX0_append_19 rfl (lv_at hl 1 rfl) ?_
  refine va_get (D := D) (ci := 0) (v := .ref (h 3)) (C := RX0) (T := TX0) (N := 8) hx hb hts in_X0 hown hK hP 0 rfl rfl 4 (by decide) (hts _ q34) (fun _ h9 => h9) rfl dX0_append_20 ?_
  refine lv_iload_n hx hb dX0_append_23 rfl (lv_at hl 0 rfl) ?_
  refine lv_aload_n hx hb dX0_append_24 rfl (lv_at hl 1 rfl) ?_
  refine va_get (D := D) (ci := 0) (v := .int (nI oN)) (C := RX0) (T := TX0) (N := 8) hx hb hts in_X0 hown hK hP 0 rfl rfl 1 (by decide) (hts _ q31) (fun _ h9 => h9) rfl dX0_append_25 ?_
  refine tp_iast hx hb hK hP hD hS 3 0 rfl rfl cN rfl (by omega) dX0_append_28 (fun H locs hP hD hS => ?_)
  have hP : va_P D tp_cl (tp_wX dA dJ h (nI cN) (nI oN) st (upd nm cN nw) (upd vl cN v) (upd pa cN (nI oN)) en kp) H := hP
  have hD : va_D A (tp_wX dA dJ h (nI cN) (nI oN) st (upd nm cN nw) (upd vl cN v) (upd pa cN (nI oN)) en kp) := hD
  refine lv_aload_n hx hb dX0_append_29 rfl (lv_at hl 1 rfl) ?_
  refine va_get (D := D) (ci := 0) (v := .ref (h 4)) (C := RX0) (T := TX0) (N := 8) hx hb hts in_X0 hown hK hP 0 rfl rfl 5 (by decide) (hts _ q35) (fun _ h9 => h9) rfl dX0_append_30 ?_
  refine lv_iload_n hx hb dX0_append_33 rfl (lv_at hl 0 rfl) ?_
  refine lv_iload_n hx hb dX0_append_34 rfl (lv_at hl 0 rfl) ?_
  refine lv_iconst (v := nI 1) hx hb dX0_append_35 (by decide) ?_
  refine lv_iadd hx hb dX0_append_36 ?_
  refine tp_ti (nI_add cN 1) ?_
  refine tp_iast hx hb hK hP hD hS 4 0 rfl rfl cN rfl (by omega) dX0_append_37 (fun H locs hP hD hS => ?_)
  have hP : va_P D tp_cl (tp_wX dA dJ h (nI cN) (nI oN) st (upd nm cN nw) (upd vl cN v) (upd pa cN (nI oN)) (upd en cN (nI (cN + 1))) kp) H := hP
  have hD : va_D A (tp_wX dA dJ h (nI cN) (nI oN) st (upd nm cN nw) (upd vl cN v) (upd pa cN (nI oN)) (upd en cN (nI (cN + 1))) kp) := hD
  refine lv_aload_n hx hb dX0_append_38 rfl (lv_at hl 1 rfl) ?_
  refine lv_dup hx hb dX0_append_39 rfl ?_
  refine va_get (D := D) (ci := 0) (v := .int (nI cN)) (C := RX0) (T := TX0) (N := 8) hx hb hts in_X0 hown hK hP 0 rfl rfl 0 (by decide) (hts _ q30) (fun _ h9 => h9) rfl dX0_append_40 ?_
  refine lv_iconst (v := nI 1) hx hb dX0_append_43 (by decide) ?_
  refine lv_iadd hx hb dX0_append_44 ?_
  refine tp_ti (nI_add cN 1) ?_
  refine va_put (D := D) (ci := 0) (v := .int (nI (cN + 1))) (ty := .int) (C := RX0) (T := TX0) (N := 8) hx hb hts in_X0 tyX0 tyX0_ok nmX0 hown hK hP hD hS 0 rfl rfl 0 (by decide) (hts _ q30) (fun _ h9 => h9) rfl (by decide +kernel) rfl rfl (Nat.le_of_ble_eq_true rfl) dX0_append_45 (fun H locs hP hD hS => ?_)
  have hP : va_P D tp_cl (tp_wX dA dJ h (nI (cN + 1)) (nI oN) st (upd nm cN nw) (upd vl cN v) (upd pa cN (nI oN)) (upd en cN (nI (cN + 1))) kp) H := hP
  have hD : va_D A (tp_wX dA dJ h (nI (cN + 1)) (nI oN) st (upd nm cN nw) (upd vl cN v) (upd pa cN (nI oN)) (upd en cN (nI (cN + 1))) kp) := hD
  refine lv_aload_n hx hb dX0_append_48 rfl (lv_at hl 1 rfl) ?_
  refine va_get (D := D) (ci := 0) (v := .int (nI oN)) (C := RX0) (T := TX0) (N := 8) hx hb hts in_X0 hown hK hP 0 rfl rfl 1 (by decide) (hts _ q31) (fun _ h9 => h9) rfl dX0_append_49 ?_
  refine lv_istore (lv' := [(4, .int (nI oN)), (3, .int (nI cN)), (0, .ref (h 0)), (1, .int nw), (2, .int v)]) hx hb dX0_append_52 hl (by decide) rfl (fun ls hl => ?_)
  refine lv_iconst (v := nI 0) hx hb dX0_append_54 (by decide) ?_
  refine lv_istore (lv' := [(5, .int (nI 0)), (4, .int (nI oN)), (3, .int (nI cN)), (0, .ref (h 0)), (1, .int nw), (2, .int v)]) hx hb dX0_append_55 hl (by decide) rfl (fun ls hl => ?_)
  have LP : ∀ (n : Nat) (i k : Nat) (ee : Nat → Int32) (at' : Int32) (H : Heap) (locs : List Loc), k < n → i + k ≤ oN + 1 → tp_apd E cN oN ee at' k → va_P D tp_cl (tp_wX dA dJ h (nI (cN + 1)) (nI oN) st (upd nm cN nw) (upd vl cN v) (upd pa cN (nI oN)) ee kp) H → va_D A (tp_wX dA dJ h (nI (cN + 1)) (nI oN) st (upd nm cN nw) (upd vl cN v) (upd pa cN (nI oN)) ee kp) → va_S A s.heap H locs →  ∀ (ls : Array Slot), lv_has ls 6 [(0, .ref (h 0)), (1, .int nw), (2, .int v), (4, .int at'), (5, .int (nI i))] → W p l e (headSpec (ws_ yX0_append cX0_append 6 none) ({ frames := 1, cells := 0, slots := 0, locals := 20 })).room s m ([.ref (h 0), .int nw, .int v] : List Value).toArray below meth c H locs 0 0 (MQ below (va_Qv (fun (u : va_W) => ∃ en' kp', u = tp_wX dA dJ h (nI (cN + 1)) (nI oN) 1 (upd nm cN nw) (upd vl cN v) (upd pa cN (nI oN)) en' kp' ∧ (∀ k, k < cN + 1 → en' k = nI (tp_E1 E cN oN k)) ∧ kp' 0 = 0 ∧ kp' 1 = 0) (tp_B D (tp_ty dA dJ dZ) (A)) (A)) ([.ref (h 0), .int nw, .int v] : List Value).toArray s 0 0 (A)) (F0 m 57 ls []) := by
    intro n
    induction n with
    | zero => intro i k ee at' H locs hf hik hw0 hP hD hS ls hl; exact absurd hf (by omega)
    | succ n ih =>
      intro i k ee at' H locs hf hik hw0 hP hD hS ls hl
      rcases hw0 with ⟨hec, ⟨e1, e2, hx0⟩ | ⟨y, e1, ek, hy, hx0⟩⟩
      · subst e1
        refine lv_iload hx hb dX0_append_57 (lv_at hl 4 rfl) ?_
        refine lv_bipush (v := nI 48) hx hb dX0_append_59 (by decide) ?_
        refine lv_icmp_ge (tgt := 95) hx hb dX0_append_61 (by decide) (fun z => absurd ((nI_leI (a := 48) (b := i) (by omega) (by omega)).mp z) (by omega)) (fun _ => ?_)
        refine lv_iload hx hb dX0_append_64 (lv_at hl 3 rfl) ?_
        refine lv_if_lt (tgt := 95) hx hb dX0_append_66 (by decide) (fun _ => ?_) (fun z => absurd ((by decide : (-1 : Int32) < 0)) z)
        refine lv_aload_n hx hb dX0_append_95 rfl (lv_at hl 0 rfl) ?_
        have hFc := va_free (wc := tp_wX dA dJ h (nI (cN + 1)) (nI oN) st (upd nm cN nw) (upd vl cN v) (upd pa cN (nI oN)) ee kp) hD hS hA [0, 1, 2, 3, 4, 5] rfl
        refine va_callv (va_runV (As := []) (rest := []) ⟨hx, hb, hml, hown, hts⟩ (met_forget l D dA dJ dZ h (nI (cN + 1)) (nI oN) st (upd nm cN nw) (upd vl cN v) (upd pa cN (nI oN)) ee kp H.size) (cwV 0 hts (lw_V q65 q67 qs1 q20 q68) rfl rfl rfl (by decide +kernel) ⟨Nat.le_of_ble_eq_true rfl, Nat.le_of_ble_eq_true rfl⟩) (tp_pvm hK hP hD (ci := 0) (q0 := 0) rfl rfl) rfl rfl hl.1 rfl (lv_room (Nat.le_of_ble_eq_true rfl)) dX0_append_96 ⟨Nat.le_of_ble_eq_true rfl, Nat.le_of_ble_eq_true rfl⟩) hS (fun q _ z => hFc q z) hFc (fun u t H1 locs ht hvm hw hB hz1 hk1 hS => ?_)
        obtain ⟨hP, hK1, hD1⟩ := hB
        rw [ht] at hP
        have hD := hD1.weaken (fun _ q _ z => hFc q.1 z)
        generalize H1 = H at hP hS ⊢
        obtain ⟨kp1, rfl, hk0, hk1'⟩ := hw
        exact W.vret hx hb hr (fun t ht hW9 => ⟨⟨(tp_wX dA dJ h (nI (cN + 1)) (nI oN) 1 (upd nm cN nw) (upd vl cN v) (upd pa cN (nI oN)) ee kp1), rfl, ⟨_, _, rfl, fun k hk => by
          rcases Nat.lt_or_ge k cN with z | z
          · exact hx0 k z
          · rw [show k = cN by omega, hec, tu_Ec], hk0, hk1'⟩, by rw [ht]; exact hP, va_K.moved hW9.alike hK, hD⟩, hS.F ht⟩) hS.2.2 dX0_append_99
      · subst e1
        have hyc : y < cN := by
          rcases hy with z | z
          · omega
          · have := z.1; omega
        obtain ⟨k', hk', hw'⟩ := tu_s hW ho hec hy hx0
        refine lv_iload hx hb dX0_append_57 (lv_at hl 4 rfl) ?_
        refine lv_bipush (v := nI 48) hx hb dX0_append_59 (by decide) ?_
        refine lv_icmp_ge (tgt := 95) hx hb dX0_append_61 (by decide) (fun z => absurd ((nI_leI (a := 48) (b := i) (by omega) (by omega)).mp z) (by omega)) (fun _ => ?_)
        refine lv_iload hx hb dX0_append_64 (lv_at hl 3 rfl) ?_
        refine lv_if_lt (tgt := 95) hx hb dX0_append_66 (by decide) (fun z => absurd z (nI_pos (by omega))) (fun _ => ?_)
        refine lv_aload_n hx hb dX0_append_69 rfl (lv_at hl 0 rfl) ?_
        refine va_get (D := D) (ci := 0) (v := .ref (h 4)) (C := RX0) (T := TX0) (N := 8) hx hb hts in_X0 hown hK hP 0 rfl rfl 5 (by decide) (hts _ q35) (fun _ h9 => h9) rfl dX0_append_70 ?_
        refine lv_iload hx hb dX0_append_73 (lv_at hl 3 rfl) ?_
        refine lv_aload_n hx hb dX0_append_75 rfl (lv_at hl 0 rfl) ?_
        refine va_get (D := D) (ci := 0) (v := .int (nI (cN + 1))) (C := RX0) (T := TX0) (N := 8) hx hb hts in_X0 hown hK hP 0 rfl rfl 0 (by decide) (hts _ q30) (fun _ h9 => h9) rfl dX0_append_76 ?_
        refine tp_iast hx hb hK hP hD hS 4 0 rfl rfl y rfl (by omega) dX0_append_79 (fun H locs hP hD hS => ?_)
        have hP : va_P D tp_cl (tp_wX dA dJ h (nI (cN + 1)) (nI oN) st (upd nm cN nw) (upd vl cN v) (upd pa cN (nI oN)) (upd ee y (nI (cN + 1))) kp) H := hP
        have hD : va_D A (tp_wX dA dJ h (nI (cN + 1)) (nI oN) st (upd nm cN nw) (upd vl cN v) (upd pa cN (nI oN)) (upd ee y (nI (cN + 1))) kp) := hD
        refine lv_aload_n hx hb dX0_append_80 rfl (lv_at hl 0 rfl) ?_
        refine va_get (D := D) (ci := 0) (v := .ref (h 3)) (C := RX0) (T := TX0) (N := 8) hx hb hts in_X0 hown hK hP 0 rfl rfl 4 (by decide) (hts _ q34) (fun _ h9 => h9) rfl dX0_append_81 ?_
        refine lv_iload hx hb dX0_append_84 (lv_at hl 3 rfl) ?_
        refine tp_iald (v := tp_pa P y) hx hb hK hP 3 0 rfl rfl y rfl (by omega) ((pk_un (by omega)).trans (hX y hyc).2.2.1) dX0_append_86 ?_
        refine lv_istore (lv' := [(4, .int (tp_pa P y)), (0, .ref (h 0)), (1, .int nw), (2, .int v), (5, .int (nI i))]) hx hb dX0_append_87 hl (by decide) rfl (fun ls hl => ?_)
        refine lv_iinc (v := nI (i + 1)) (lv' := [(5, .int (nI (i + 1))), (4, .int (tp_pa P y)), (0, .ref (h 0)), (1, .int nw), (2, .int v)]) hx hb dX0_append_89 hl (k := 4) rfl (nI_1 i) (by decide) rfl (fun ls hl => ?_)
        refine lv_goto (tgt := 57) hx hb dX0_append_92 (by decide) ?_
        exact ih (i + 1) k' _ _ _ _ (by omega) (by omega) hw' hP hD hS ls (lv_sub hl [2, 3, 4, 1, 0] rfl)
  exact LP 50 0 (oN + 1) (upd en cN (nI (cN + 1))) (nI oN) _ _ (by omega) (by omega) (tu_0 (fun k hk => (hX k hk).2.2.2)) hP hD hS ls (lv_sub hl [3, 4, 5, 1, 0] rfl)

set_option maxHeartbeats 4000000 in
set_option maxRecDepth 100000 in
theorem met_open (l : Launch) (D : va_G) (dA dJ dZ : ClassId) (h : Nat → Nat) (st : Int64) (nm vl pa en : Nat → Int32) (kp : Nat → Int64) {cN : Nat} {P E N : Nat → Nat} {oN : Nat} (x : Int32) (sz : Nat) (hW : tp_wf cN P E) (hX : tp_X cN P E N nm pa en) (ho : oN < cN) (hEo : E oN = cN) : Met l yX0_open (ws_ yX0_open cX0_open 2 (some .int)) ({ frames := 2, cells := 0, slots := 0, locals := 45 }) (tp_Pm D (tp_ty dA dJ dZ) (tp_wX dA dJ h (nI cN) (nI oN) st nm vl pa en kp) sz [.ref (h 0), .int x]) (va_Qi (fun (r : Int32) (u : va_W) => (cN = 48 ∧ r = -1 ∧ u = tp_wX dA dJ h (nI cN) (nI oN) st nm vl pa en kp) ∨ (cN < 48 ∧ r = nI (cN + 1) ∧ ∃ en' kp', u = tp_wX dA dJ h (nI (cN + 1)) (nI cN) 1 (upd nm cN (x &&& nI 7)) (upd vl cN (nI 0)) (upd pa cN (nI oN)) en' kp' ∧ (∀ k, k < cN + 1 → en' k = nI (tp_E1 E cN oN k)) ∧ kp' 0 = 0 ∧ kp' 1 = 0)) (tp_B D (tp_ty dA dJ dZ) (va_A (tp_wX dA dJ h (nI cN) (nI oN) st nm vl pa en kp) sz)) (va_A (tp_wX dA dJ h (nI cN) (nI oN) st nm vl pa en kp) sz)) 0 0 (va_A (tp_wX dA dJ h (nI cN) (nI oN) st nm vl pa en kp) sz) := by
  refine Met.ofW (cc := cX0_open) (maxL := 2) (ret := (some .int)) (by decide) rfl ?_
  intro p e s m args below meth c s₁ B hml hv
  obtain ⟨rfl, hsz, hP, hK, hD0⟩ := hv
  subst hsz
  have hD := hD0.self (sz := s.heap.size)
  generalize hAe : va_A (tp_wX dA dJ h (nI cN) (nI oN) st nm vl pa en kp) s.heap.size = A at hD ⊢
  have hA : ∀ q : Nat, s.heap.size ≤ q → A q := fun q h => by rw [← hAe]; exact Or.inr h
  have hS : va_S A s.heap s.heap [] := va_S.rf
  have hP : va_P D tp_cl (tp_wX dA dJ h (nI cN) (nI oN) st nm vl pa en kp) s.heap := hP
  have hx := B.exec
  have hb := B.bytes
  have hr := B.returns
  have hts := atoms_spec (ws := ws_ yX0_open cX0_open 2 (some .int)) B.pre
  have hts : ∀ w ∈ lw_all, w.before _ s = true := fun w h => hts w (List.mem_cons_of_mem _ h)
  have hown : s.vm.findClass RX0 = some m.cls := findClass_of_methodNamed B.named
  have hlocks := B.notSynchronized
  have hl := lv_entry ([.ref (h 0), .int x]) (n := 2) (Nat.le_of_ble_eq_true rfl)
  rw [lg_entry_eq]
  generalize (lg_sl ([.ref (h 0), .int x]) ++ List.replicate (2 - (lg_sl ([.ref (h 0), .int x])).length) Slot.unset).toArray = ls at hl ⊢
  have hl : lv_has ls 2 [(0, .ref (h 0)), (1, .int x)] := hl
  have hc := tw_c hW
  refine lv_aload_n hx hb dX0_open_0 rfl (lv_at hl 0 rfl) ?_
  refine va_get (D := D) (ci := 0) (v := .int (nI cN)) (C := RX0) (T := TX0) (N := 8) hx hb hts in_X0 hown hK hP 0 rfl rfl 0 (by decide) (hts _ q30) (fun _ h9 => h9) rfl dX0_open_1 ?_
  refine lv_bipush (v := nI 48) hx hb dX0_open_4 (by decide) ?_
  refine lv_icmp_lt (tgt := 11) hx hb dX0_open_6 (by decide) (fun c1 => ?_) (fun c1 => ?_)
  · have c1 : cN < 48 := (nI_ltI (a := cN) (b := 48) (by omega) (by omega)).mp c1
    refine lv_aload_n hx hb dX0_open_11 rfl (lv_at hl 0 rfl) ?_
    refine lv_iload_n hx hb dX0_open_12 rfl (lv_at hl 1 rfl) ?_
    refine lv_bipush (v := nI 7) hx hb dX0_open_13 (by decide) ?_
    refine lv_iand hx hb dX0_open_15 ?_
    refine lv_iconst (v := nI 0) hx hb dX0_open_16 (by decide) ?_
    have hFc := va_free (wc := tp_wX dA dJ h (nI cN) (nI oN) st nm vl pa en kp) hD hS hA [0, 1, 2, 3, 4, 5] rfl
    refine va_callv (va_runV (As := [.int (x &&& (nI 7)), .int (nI 0)]) (rest := []) ⟨hx, hb, hml, hown, hts⟩ (met_append l D dA dJ dZ h st nm vl pa en kp (x &&& nI 7) (nI 0) s.heap.size hW hX ho hEo (by omega)) (cwV 2 hts (lw_V q61 q63 qs0 q20 q64) rfl rfl rfl (by decide +kernel) ⟨Nat.le_of_ble_eq_true rfl, Nat.le_of_ble_eq_true rfl⟩) (tp_pvm hK hP hD (ci := 0) (q0 := 0) rfl rfl) rfl rfl hl.1 rfl (lv_room (Nat.le_of_ble_eq_true rfl)) dX0_open_17 ⟨Nat.le_of_ble_eq_true rfl, Nat.le_of_ble_eq_true rfl⟩) hS (fun q _ z => hFc q z) hFc (fun u t H1 locs ht hvm hw hB hz1 hk1 hS => ?_)
    obtain ⟨hP, hK1, hD1⟩ := hB
    rw [ht] at hP
    have hD := hD1.weaken (fun _ q _ z => hFc q.1 z)
    generalize H1 = H at hP hS ⊢
    obtain ⟨en1, kp1, rfl, he1, hk0, hk1'⟩ := hw
    refine lv_aload_n hx hb dX0_open_20 rfl (lv_at hl 0 rfl) ?_
    refine lv_aload_n hx hb dX0_open_21 rfl (lv_at hl 0 rfl) ?_
    refine va_get (D := D) (ci := 0) (v := .int (nI (cN + 1))) (C := RX0) (T := TX0) (N := 8) hx hb hts in_X0 hown hK hP 0 rfl rfl 0 (by decide) (hts _ q30) (fun _ h9 => h9) rfl dX0_open_22 ?_
    refine lv_iconst (v := nI 1) hx hb dX0_open_25 (by decide) ?_
    refine lv_isub hx hb dX0_open_26 ?_
    refine tp_ti (y := nI cN) (nI_pred cN) ?_
    refine va_put (D := D) (ci := 0) (v := .int (nI cN)) (ty := .int) (C := RX0) (T := TX0) (N := 8) hx hb hts in_X0 tyX0 tyX0_ok nmX0 hown hK hP hD hS 0 rfl rfl 1 (by decide) (hts _ q31) (fun _ h9 => h9) rfl (by decide +kernel) rfl rfl (Nat.le_of_ble_eq_true rfl) dX0_open_27 (fun H locs hP hD hS => ?_)
    have hP : va_P D tp_cl (tp_wX dA dJ h (nI (cN + 1)) (nI cN) 1 (upd nm cN (x &&& nI 7)) (upd vl cN (nI 0)) (upd pa cN (nI oN)) en1 kp1) H := hP
    have hD : va_D A (tp_wX dA dJ h (nI (cN + 1)) (nI cN) 1 (upd nm cN (x &&& nI 7)) (upd vl cN (nI 0)) (upd pa cN (nI oN)) en1 kp1) := hD
    refine lv_aload_n hx hb dX0_open_30 rfl (lv_at hl 0 rfl) ?_
    refine va_get (D := D) (ci := 0) (v := .int (nI (cN + 1))) (C := RX0) (T := TX0) (N := 8) hx hb hts in_X0 hown hK hP 0 rfl rfl 0 (by decide) (hts _ q30) (fun _ h9 => h9) rfl dX0_open_31 ?_
    exact W.iret hx hb hr (fun t ht hW9 => ⟨⟨_, (tp_wX dA dJ h (nI (cN + 1)) (nI cN) 1 (upd nm cN (x &&& nI 7)) (upd vl cN (nI 0)) (upd pa cN (nI oN)) en1 kp1), rfl, Or.inr ⟨by omega, rfl, _, _, rfl, he1, hk0, hk1'⟩, by rw [ht]; exact hP, va_K.moved hW9.alike hK, hD⟩, hS.F ht⟩) hS.2.2 dX0_open_34
  · have c1 : ¬ (cN < 48) := fun z => c1 ((nI_ltI (a := cN) (b := 48) (by omega) (by omega)).mpr z)
    refine lv_iconst (v := -1) hx hb dX0_open_9 (by decide) ?_
    exact W.iret hx hb hr (fun t ht hW9 => ⟨⟨_, (tp_wX dA dJ h (nI cN) (nI oN) st nm vl pa en kp), rfl, Or.inl ⟨by omega, rfl, rfl⟩, by rw [ht]; exact hP, va_K.moved hW9.alike hK, hD⟩, hS.F ht⟩) hS.2.2 dX0_open_10

set_option maxHeartbeats 4000000 in
set_option maxRecDepth 100000 in
theorem met_text (l : Launch) (D : va_G) (dA dJ dZ : ClassId) (h : Nat → Nat) (st : Int64) (nm vl pa en : Nat → Int32) (kp : Nat → Int64) {cN : Nat} {P E N : Nat → Nat} {oN : Nat} (x : Int32) (sz : Nat) (hW : tp_wf cN P E) (hX : tp_X cN P E N nm pa en) (ho : oN < cN) (hEo : E oN = cN) : Met l yX0_text (ws_ yX0_text cX0_text 2 (some .int)) ({ frames := 2, cells := 0, slots := 0, locals := 45 }) (tp_Pm D (tp_ty dA dJ dZ) (tp_wX dA dJ h (nI cN) (nI oN) st nm vl pa en kp) sz [.ref (h 0), .int x]) (va_Qi (fun (r : Int32) (u : va_W) => (cN = 48 ∧ r = -1 ∧ u = tp_wX dA dJ h (nI cN) (nI oN) st nm vl pa en kp) ∨ (cN < 48 ∧ r = nI (cN + 1) ∧ ∃ en' kp', u = tp_wX dA dJ h (nI (cN + 1)) (nI oN) 1 (upd nm cN (nI 8)) (upd vl cN (x)) (upd pa cN (nI oN)) en' kp' ∧ (∀ k, k < cN + 1 → en' k = nI (tp_E1 E cN oN k)) ∧ kp' 0 = 0 ∧ kp' 1 = 0)) (tp_B D (tp_ty dA dJ dZ) (va_A (tp_wX dA dJ h (nI cN) (nI oN) st nm vl pa en kp) sz)) (va_A (tp_wX dA dJ h (nI cN) (nI oN) st nm vl pa en kp) sz)) 0 0 (va_A (tp_wX dA dJ h (nI cN) (nI oN) st nm vl pa en kp) sz) := by
  refine Met.ofW (cc := cX0_text) (maxL := 2) (ret := (some .int)) (by decide) rfl ?_
  intro p e s m args below meth c s₁ B hml hv
  obtain ⟨rfl, hsz, hP, hK, hD0⟩ := hv
  subst hsz
  have hD := hD0.self (sz := s.heap.size)
  generalize hAe : va_A (tp_wX dA dJ h (nI cN) (nI oN) st nm vl pa en kp) s.heap.size = A at hD ⊢
  have hA : ∀ q : Nat, s.heap.size ≤ q → A q := fun q h => by rw [← hAe]; exact Or.inr h
  have hS : va_S A s.heap s.heap [] := va_S.rf
  have hP : va_P D tp_cl (tp_wX dA dJ h (nI cN) (nI oN) st nm vl pa en kp) s.heap := hP
  have hx := B.exec
  have hb := B.bytes
  have hr := B.returns
  have hts := atoms_spec (ws := ws_ yX0_text cX0_text 2 (some .int)) B.pre
  have hts : ∀ w ∈ lw_all, w.before _ s = true := fun w h => hts w (List.mem_cons_of_mem _ h)
  have hown : s.vm.findClass RX0 = some m.cls := findClass_of_methodNamed B.named
  have hlocks := B.notSynchronized
  have hl := lv_entry ([.ref (h 0), .int x]) (n := 2) (Nat.le_of_ble_eq_true rfl)
  rw [lg_entry_eq]
  generalize (lg_sl ([.ref (h 0), .int x]) ++ List.replicate (2 - (lg_sl ([.ref (h 0), .int x])).length) Slot.unset).toArray = ls at hl ⊢
  have hl : lv_has ls 2 [(0, .ref (h 0)), (1, .int x)] := hl
  have hc := tw_c hW
  refine lv_aload_n hx hb dX0_text_0 rfl (lv_at hl 0 rfl) ?_
  refine va_get (D := D) (ci := 0) (v := .int (nI cN)) (C := RX0) (T := TX0) (N := 8) hx hb hts in_X0 hown hK hP 0 rfl rfl 0 (by decide) (hts _ q30) (fun _ h9 => h9) rfl dX0_text_1 ?_
  refine lv_bipush (v := nI 48) hx hb dX0_text_4 (by decide) ?_
  refine lv_icmp_lt (tgt := 11) hx hb dX0_text_6 (by decide) (fun c1 => ?_) (fun c1 => ?_)
  · have c1 : cN < 48 := (nI_ltI (a := cN) (b := 48) (by omega) (by omega)).mp c1
    refine lv_aload_n hx hb dX0_text_11 rfl (lv_at hl 0 rfl) ?_
    refine lv_bipush (v := nI 8) hx hb dX0_text_12 (by decide) ?_
    refine lv_iload_n hx hb dX0_text_14 rfl (lv_at hl 1 rfl) ?_
    have hFc := va_free (wc := tp_wX dA dJ h (nI cN) (nI oN) st nm vl pa en kp) hD hS hA [0, 1, 2, 3, 4, 5] rfl
    refine va_callv (va_runV (As := [.int (nI 8), .int x]) (rest := []) ⟨hx, hb, hml, hown, hts⟩ (met_append l D dA dJ dZ h st nm vl pa en kp (nI 8) x s.heap.size hW hX ho hEo (by omega)) (cwV 2 hts (lw_V q61 q63 qs0 q20 q64) rfl rfl rfl (by decide +kernel) ⟨Nat.le_of_ble_eq_true rfl, Nat.le_of_ble_eq_true rfl⟩) (tp_pvm hK hP hD (ci := 0) (q0 := 0) rfl rfl) rfl rfl hl.1 rfl (lv_room (Nat.le_of_ble_eq_true rfl)) dX0_text_15 ⟨Nat.le_of_ble_eq_true rfl, Nat.le_of_ble_eq_true rfl⟩) hS (fun q _ z => hFc q z) hFc (fun u t H1 locs ht hvm hw hB hz1 hk1 hS => ?_)
    obtain ⟨hP, hK1, hD1⟩ := hB
    rw [ht] at hP
    have hD := hD1.weaken (fun _ q _ z => hFc q.1 z)
    generalize H1 = H at hP hS ⊢
    obtain ⟨en1, kp1, rfl, he1, hk0, hk1'⟩ := hw
    refine lv_aload_n hx hb dX0_text_18 rfl (lv_at hl 0 rfl) ?_
    refine va_get (D := D) (ci := 0) (v := .int (nI (cN + 1))) (C := RX0) (T := TX0) (N := 8) hx hb hts in_X0 hown hK hP 0 rfl rfl 0 (by decide) (hts _ q30) (fun _ h9 => h9) rfl dX0_text_19 ?_
    exact W.iret hx hb hr (fun t ht hW9 => ⟨⟨_, (tp_wX dA dJ h (nI (cN + 1)) (nI oN) 1 (upd nm cN (nI 8)) (upd vl cN (x)) (upd pa cN (nI oN)) en1 kp1), rfl, Or.inr ⟨by omega, rfl, _, _, rfl, he1, hk0, hk1'⟩, by rw [ht]; exact hP, va_K.moved hW9.alike hK, hD⟩, hS.F ht⟩) hS.2.2 dX0_text_22
  · have c1 : ¬ (cN < 48) := fun z => c1 ((nI_ltI (a := cN) (b := 48) (by omega) (by omega)).mpr z)
    refine lv_iconst (v := -1) hx hb dX0_text_9 (by decide) ?_
    exact W.iret hx hb hr (fun t ht hW9 => ⟨⟨_, (tp_wX dA dJ h (nI cN) (nI oN) st nm vl pa en kp), rfl, Or.inl ⟨by omega, rfl, rfl⟩, by rw [ht]; exact hP, va_K.moved hW9.alike hK, hD⟩, hS.F ht⟩) hS.2.2 dX0_text_10
end
section
set_option maxHeartbeats 4000000 in
set_option maxRecDepth 100000 in
theorem met_step (l : Launch) (D : va_G) (dA dJ dZ : ClassId) (h : Nat → Nat) (on : Int32) (st : Int64) (nm vl pa en : Nat → Int32) (kp : Nat → Int64) {cN : Nat} {P E N : Nat → Nat} (ia it ip : Int32) (sz : Nat) (hW : tp_wf cN P E) (hX : tp_X cN P E N nm pa en) (hs : ∀ i, tp_b st i = true → i < cN) : Met l yX0_step (ws_ yX0_step cX0_step 6 (some .int)) ({ frames := 4, cells := 0, slots := 0, locals := 107 }) (tp_Pm D (tp_ty dA dJ dZ) (tp_wX dA dJ h (nI cN) on st nm vl pa en kp) sz [.ref (h 0), .int ia, .int it, .int ip]) (va_Qi (fun (r : Int32) (u : va_W) => ((ia < 0 ∨ nI 10 < ia ∨ it < 0 ∨ nI 10 < it ∨ ip < -48 ∨ nI 48 < ip) ∧ r = -1 ∧ u = tp_wX dA dJ h (nI cN) on st nm vl pa en kp) ∨ (¬ (ia < 0 ∨ nI 10 < ia ∨ it < 0 ∨ nI 10 < it ∨ ip < -48 ∨ nI 48 < ip) ∧ ∃ ax t st', ax ≤ 10 ∧ t ≤ 10 ∧ ia = nI ax ∧ it = nI t ∧ (∀ q, tp_b st' q = true ↔ tp_pl cN P E N st ax t ip.toInt cN q) ∧ r = nI (tp_c (tp_b st') 48) ∧ u = tp_wX dA dJ h (nI cN) on st' nm vl pa en kp)) (tp_B D (tp_ty dA dJ dZ) (va_A (tp_wX dA dJ h (nI cN) on st nm vl pa en kp) sz)) (va_A (tp_wX dA dJ h (nI cN) on st nm vl pa en kp) sz)) 0 0 (va_A (tp_wX dA dJ h (nI cN) on st nm vl pa en kp) sz) := by
  refine Met.ofW (cc := cX0_step) (maxL := 6) (ret := (some .int)) (by decide) rfl ?_
  intro p e s m args below meth c s₁ B hml hv
  obtain ⟨rfl, hsz, hP, hK, hD0⟩ := hv
  subst hsz
  have hD := hD0.self (sz := s.heap.size)
  generalize hAe : va_A (tp_wX dA dJ h (nI cN) on st nm vl pa en kp) s.heap.size = A at hD ⊢
  have hA : ∀ q : Nat, s.heap.size ≤ q → A q := fun q h => by rw [← hAe]; exact Or.inr h
  have hS : va_S A s.heap s.heap [] := va_S.rf
  have hP : va_P D tp_cl (tp_wX dA dJ h (nI cN) on st nm vl pa en kp) s.heap := hP
  have hx := B.exec
  have hb := B.bytes
  have hr := B.returns
  have hts := atoms_spec (ws := ws_ yX0_step cX0_step 6 (some .int)) B.pre
  have hts : ∀ w ∈ lw_all, w.before _ s = true := fun w h => hts w (List.mem_cons_of_mem _ h)
  have hown : s.vm.findClass RX0 = some m.cls := findClass_of_methodNamed B.named
  have hlocks := B.notSynchronized
  have hl := lv_entry ([.ref (h 0), .int ia, .int it, .int ip]) (n := 6) (Nat.le_of_ble_eq_true rfl)
  rw [lg_entry_eq]
  generalize (lg_sl ([.ref (h 0), .int ia, .int it, .int ip]) ++ List.replicate (6 - (lg_sl ([.ref (h 0), .int ia, .int it, .int ip])).length) Slot.unset).toArray = ls at hl ⊢
  have hl : lv_has ls 6 [(0, .ref (h 0)), (1, .int ia), (2, .int it), (3, .int ip)] := hl
  have hc := tw_c hW
  have JB : (ia < 0 ∨ nI 10 < ia ∨ it < 0 ∨ nI 10 < it ∨ ip < -48 ∨ nI 48 < ip) → W p l e (headSpec (ws_ yX0_step cX0_step 6 (some .int)) ({ frames := 4, cells := 0, slots := 0, locals := 107 })).room s m ([.ref (h 0), .int ia, .int it, .int ip] : List Value).toArray below meth c s.heap [] 0 0 (MQ below (va_Qi (fun (r : Int32) (u : va_W) => ((ia < 0 ∨ nI 10 < ia ∨ it < 0 ∨ nI 10 < it ∨ ip < -48 ∨ nI 48 < ip) ∧ r = -1 ∧ u = tp_wX dA dJ h (nI cN) on st nm vl pa en kp) ∨ (¬ (ia < 0 ∨ nI 10 < ia ∨ it < 0 ∨ nI 10 < it ∨ ip < -48 ∨ nI 48 < ip) ∧ ∃ ax t st', ax ≤ 10 ∧ t ≤ 10 ∧ ia = nI ax ∧ it = nI t ∧ (∀ q, tp_b st' q = true ↔ tp_pl cN P E N st ax t ip.toInt cN q) ∧ r = nI (tp_c (tp_b st') 48) ∧ u = tp_wX dA dJ h (nI cN) on st' nm vl pa en kp)) (tp_B D (tp_ty dA dJ dZ) (A)) (A)) ([.ref (h 0), .int ia, .int it, .int ip] : List Value).toArray s 0 0 (A)) (F0 m 32 ls []) := by
    intro hq
    refine lv_iconst (v := -1) hx hb dX0_step_32 (by decide) ?_
    exact W.iret hx hb hr (fun t ht hW9 => ⟨⟨_, (tp_wX dA dJ h (nI cN) on st nm vl pa en kp), rfl, Or.inl ⟨hq, rfl, rfl⟩, by rw [ht]; exact hP, va_K.moved hW9.alike hK, hD⟩, hS.F ht⟩) hS.2.2 dX0_step_33
  refine lv_iload_n hx hb dX0_step_0 rfl (lv_at hl 1 rfl) ?_
  refine lv_if_lt (tgt := 32) hx hb dX0_step_1 (by decide) (fun c1 => ?_) (fun c1 => ?_)
  · exact JB (Or.inl c1)
  · refine lv_iload_n hx hb dX0_step_4 rfl (lv_at hl 1 rfl) ?_
    refine lv_bipush (v := nI 10) hx hb dX0_step_5 (by decide) ?_
    refine lv_icmp_gt (tgt := 32) hx hb dX0_step_7 (by decide) (fun c2 => ?_) (fun c2 => ?_)
    · exact JB (Or.inr (Or.inl c2))
    · refine lv_iload_n hx hb dX0_step_10 rfl (lv_at hl 2 rfl) ?_
      refine lv_if_lt (tgt := 32) hx hb dX0_step_11 (by decide) (fun c3 => ?_) (fun c3 => ?_)
      · exact JB (Or.inr (Or.inr (Or.inl c3)))
      · refine lv_iload_n hx hb dX0_step_14 rfl (lv_at hl 2 rfl) ?_
        refine lv_bipush (v := nI 10) hx hb dX0_step_15 (by decide) ?_
        refine lv_icmp_gt (tgt := 32) hx hb dX0_step_17 (by decide) (fun c4 => ?_) (fun c4 => ?_)
        · exact JB (Or.inr (Or.inr (Or.inr (Or.inl c4))))
        · refine lv_iload_n hx hb dX0_step_20 rfl (lv_at hl 3 rfl) ?_
          refine lv_bipush (v := -48) hx hb dX0_step_21 (by decide) ?_
          refine lv_icmp_lt (tgt := 32) hx hb dX0_step_23 (by decide) (fun c5 => ?_) (fun c5 => ?_)
          · exact JB (Or.inr (Or.inr (Or.inr (Or.inr (Or.inl c5)))))
          · refine lv_iload_n hx hb dX0_step_26 rfl (lv_at hl 3 rfl) ?_
            refine lv_bipush (v := nI 48) hx hb dX0_step_27 (by decide) ?_
            refine lv_icmp_le (tgt := 34) hx hb dX0_step_29 (by decide) (fun c6 => ?_) (fun c6 => ?_)
            · have hok : ¬ (ia < 0 ∨ nI 10 < ia ∨ it < 0 ∨ nI 10 < it ∨ ip < -48 ∨ nI 48 < ip) := fun z => by
                rcases z with z | z | z | z | z | z
                · exact c1 z
                · exact c2 z
                · exact c3 z
                · exact c4 z
                · exact c5 z
                · exact absurd (Int32.lt_of_lt_of_le z c6) Int32.lt_irrefl
              obtain ⟨ax, hax, ea⟩ := nI_of2 (M := nI 10) (n := 10) (by decide) c1 (Int32.not_lt.mp c2)
              obtain ⟨t0, ht0, et⟩ := nI_of2 (M := nI 10) (n := 10) (by decide) c3 (Int32.not_lt.mp c4)
              have hp1 : -48 ≤ ip.toInt ∧ ip.toInt ≤ 48 := by
                have z1 := Int32.not_lt.mp c5
                rw [Int32.le_iff_toInt_le, show (-48 : Int32).toInt = -48 from by decide] at z1
                have z2 := c6
                rw [Int32.le_iff_toInt_le, show (nI 48).toInt = 48 from by decide] at z2
                exact ⟨z1, z2⟩
              rw [ea] at hl
              rw [et] at hl
              refine lv_aload_n hx hb dX0_step_34 rfl (lv_at hl 0 rfl) ?_
              refine lv_iload_n hx hb dX0_step_35 rfl (lv_at hl 2 rfl) ?_
              refine vp_callSl (W.runV (As := [.int (nI t0)]) (rest := []) ⟨hx, hb, hml, hown, hts⟩ (met_passing l D dA dJ dZ h on st nm vl pa en kp (t := t0) hW hX ht0) (cwV 1 hts (lw_V q89 q91 qs2 q20 q92) rfl rfl rfl (by decide +kernel) ⟨Nat.le_of_ble_eq_true rfl, Nat.le_of_ble_eq_true rfl⟩) (tp_pv hK hP (ci := 0) (q0 := 0) rfl rfl) rfl rfl hl.1 rfl (lv_room (Nat.le_of_ble_eq_true rfl)) dX0_step_36 ⟨Nat.le_of_ble_eq_true rfl, Nat.le_of_ble_eq_true rfl⟩) (fun thr hth => ?_)
              refine lv_lstore (lv' := [(4, .long thr), (0, .ref (h 0)), (1, .int (nI ax)), (2, .int (nI t0)), (3, .int ip)]) hx hb dX0_step_39 hl (by decide) rfl (fun ls hl => ?_)
              refine lv_aload_n hx hb dX0_step_41 rfl (lv_at hl 1 rfl) ?_
              refine lv_iload_n hx hb dX0_step_42 rfl (lv_at hl 4 rfl) ?_
              refine lv_if_ne (tgt := 57) hx hb dX0_step_43 (by decide) (fun d1 => ?_) (fun d1 => ?_)
              · refine lv_aload_n hx hb dX0_step_57 rfl (lv_at hl 1 rfl) ?_
                refine lv_iload_n hx hb dX0_step_58 rfl (lv_at hl 2 rfl) ?_
                refine lv_lload hx hb dX0_step_59 (lv_at hl 0 rfl) ?_
                refine lv_iload_n hx hb dX0_step_61 rfl (lv_at hl 4 rfl) ?_
                refine vp_callSl (W.runV (As := [.int (nI ax), .long thr, .int ip]) (rest := [.ref (h 0)]) ⟨hx, hb, hml, hown, hts⟩ (met_placesAlong l D dA dJ dZ h on st nm vl pa en kp (ax := ax) (t := t0) (thr := thr) (pl := ip) hW hX hax hth d1 hp1) (cwV 3 hts (lw_V q135 q137 qs11 q20 q138) rfl rfl rfl (by decide +kernel) ⟨Nat.le_of_ble_eq_true rfl, Nat.le_of_ble_eq_true rfl⟩) (tp_pv hK hP (ci := 0) (q0 := 0) rfl rfl) rfl rfl hl.1 rfl (lv_room (Nat.le_of_ble_eq_true rfl)) dX0_step_62 ⟨Nat.le_of_ble_eq_true rfl, Nat.le_of_ble_eq_true rfl⟩) (fun r1 h1 => ?_)
                refine va_put (D := D) (ci := 0) (v := .long r1) (ty := .long) (C := RX0) (T := TX0) (N := 8) hx hb hts in_X0 tyX0 tyX0_ok nmX0 hown hK hP hD hS 0 rfl rfl 6 (by decide) (hts _ q36) (fun _ h9 => h9) rfl (by decide +kernel) rfl rfl (Nat.le_of_ble_eq_true rfl) dX0_step_65 (fun H locs hP hD hS => ?_)
                have hP : va_P D tp_cl (tp_wX dA dJ h (nI cN) on r1 nm vl pa en kp) H := hP
                have hD : va_D A (tp_wX dA dJ h (nI cN) on r1 nm vl pa en kp) := hD
                refine lv_aload_n hx hb dX0_step_68 rfl (lv_at hl 1 rfl) ?_
                refine va_get (D := D) (ci := 0) (v := .long r1) (C := RX0) (T := TX0) (N := 8) hx hb hts in_X0 hown hK hP 0 rfl rfl 6 (by decide) (hts _ q36) (fun _ h9 => h9) rfl dX0_step_69 ?_
                refine vp_callSi (W.runS (As := [.long r1]) (rest := []) ⟨hx, hb, hml, hown, hts⟩ (met_size l r1) (va_cwS 1 hts (lw_S q113 q114 q20 q115) rfl rfl rfl (by decide +kernel) ⟨Nat.le_of_ble_eq_true rfl, Nat.le_of_ble_eq_true rfl⟩) tp_ps rfl rfl hl.1 rfl (lv_room (Nat.le_of_ble_eq_true rfl)) dX0_step_72 ⟨Nat.le_of_ble_eq_true rfl, Nat.le_of_ble_eq_true rfl⟩) (fun r9 h9 => ?_)
                exact W.iret hx hb hr (fun t ht hW9 => ⟨⟨_, (tp_wX dA dJ h (nI cN) on r1 nm vl pa en kp), rfl, Or.inr ⟨hok, ax, t0, _, hax, ht0, ea, et, h1, h9, rfl⟩, by rw [ht]; exact hP, va_K.moved hW9.alike hK, hD⟩, hS.F ht⟩) hS.2.2 dX0_step_75
              · refine lv_aload_n hx hb dX0_step_46 rfl (lv_at hl 1 rfl) ?_
                refine lv_iload_n hx hb dX0_step_47 rfl (lv_at hl 2 rfl) ?_
                refine vp_callSl (W.runV (As := [.int (nI ax)]) (rest := [.ref (h 0)]) ⟨hx, hb, hml, hown, hts⟩ (met_allAlong l D dA dJ dZ h on st nm vl pa en kp (ax := ax) hW hX hs hax) (cwV 1 hts (lw_V q93 q95 qs3 q20 q96) rfl rfl rfl (by decide +kernel) ⟨Nat.le_of_ble_eq_true rfl, Nat.le_of_ble_eq_true rfl⟩) (tp_pv hK hP (ci := 0) (q0 := 0) rfl rfl) rfl rfl hl.1 rfl (lv_room (Nat.le_of_ble_eq_true rfl)) dX0_step_48 ⟨Nat.le_of_ble_eq_true rfl, Nat.le_of_ble_eq_true rfl⟩) (fun r1 h1 => ?_)
                refine lv_lload hx hb dX0_step_51 (lv_at hl 0 rfl) ?_
                refine lv_land hx hb dX0_step_53 ?_
                refine lv_goto (tgt := 65) hx hb dX0_step_54 (by decide) ?_
                refine va_put (D := D) (ci := 0) (v := .long (r1 &&& thr)) (ty := .long) (C := RX0) (T := TX0) (N := 8) hx hb hts in_X0 tyX0 tyX0_ok nmX0 hown hK hP hD hS 0 rfl rfl 6 (by decide) (hts _ q36) (fun _ h9 => h9) rfl (by decide +kernel) rfl rfl (Nat.le_of_ble_eq_true rfl) dX0_step_65 (fun H locs hP hD hS => ?_)
                have hP : va_P D tp_cl (tp_wX dA dJ h (nI cN) on (r1 &&& thr) nm vl pa en kp) H := hP
                have hD : va_D A (tp_wX dA dJ h (nI cN) on (r1 &&& thr) nm vl pa en kp) := hD
                refine lv_aload_n hx hb dX0_step_68 rfl (lv_at hl 1 rfl) ?_
                refine va_get (D := D) (ci := 0) (v := .long (r1 &&& thr)) (C := RX0) (T := TX0) (N := 8) hx hb hts in_X0 hown hK hP 0 rfl rfl 6 (by decide) (hts _ q36) (fun _ h9 => h9) rfl dX0_step_69 ?_
                refine vp_callSi (W.runS (As := [.long (r1 &&& thr)]) (rest := []) ⟨hx, hb, hml, hown, hts⟩ (met_size l (r1 &&& thr)) (va_cwS 1 hts (lw_S q113 q114 q20 q115) rfl rfl rfl (by decide +kernel) ⟨Nat.le_of_ble_eq_true rfl, Nat.le_of_ble_eq_true rfl⟩) tp_ps rfl rfl hl.1 rfl (lv_room (Nat.le_of_ble_eq_true rfl)) dX0_step_72 ⟨Nat.le_of_ble_eq_true rfl, Nat.le_of_ble_eq_true rfl⟩) (fun r9 h9 => ?_)
                exact W.iret hx hb hr (fun t ht hW9 => ⟨⟨_, (tp_wX dA dJ h (nI cN) on (r1 &&& thr) nm vl pa en kp), rfl, Or.inr ⟨hok, ax, t0, _, hax, ht0, ea, et, by rw [tn_eq0.mp d1]; exact ty_0 h1 hth, h9, rfl⟩, by rw [ht]; exact hP, va_K.moved hW9.alike hK, hD⟩, hS.F ht⟩) hS.2.2 dX0_step_75
            · exact JB (Or.inr (Or.inr (Or.inr (Or.inr (Or.inr (Int32.not_le.mp c6))))))

set_option maxHeartbeats 4000000 in
set_option maxRecDepth 100000 in
theorem met_having (l : Launch) (D : va_G) (dA dJ dZ : ClassId) (h : Nat → Nat) (on : Int32) (st : Int64) (nm vl pa en : Nat → Int32) (kp : Nat → Int64) {cN : Nat} {P E N : Nat → Nat} (ia it : Int32) {w : Nat} (sz : Nat) (hW : tp_wf cN P E) (hX : tp_X cN P E N nm pa en) (hs : ∀ i, tp_b st i = true → i < cN) (hw : w ≤ 1) : Met l yX0_having (ws_ yX0_having cX0_having 9 (some .int)) ({ frames := 3, cells := 0, slots := 0, locals := 74 }) (tp_Pm D (tp_ty dA dJ dZ) (tp_wX dA dJ h (nI cN) on st nm vl pa en kp) sz [.ref (h 0), .int ia, .int it, .int (nI w)]) (va_Qi (fun (r : Int32) (u : va_W) => ((ia < 0 ∨ nI 10 < ia ∨ it < 0 ∨ nI 10 < it) ∧ r = -1 ∧ u = tp_wX dA dJ h (nI cN) on st nm vl pa en kp) ∨ (¬ (ia < 0 ∨ nI 10 < ia ∨ it < 0 ∨ nI 10 < it) ∧ ∃ ax t st', ax ≤ 10 ∧ t ≤ 10 ∧ ia = nI ax ∧ it = nI t ∧ (∀ q, tp_b st' q = true ↔ tp_b st q = true ∧ (tp_hv cN P E N ax t q ↔ w = 1)) ∧ r = nI (tp_c (tp_b st') 48) ∧ u = tp_wX dA dJ h (nI cN) on st' nm vl pa en kp)) (tp_B D (tp_ty dA dJ dZ) (va_A (tp_wX dA dJ h (nI cN) on st nm vl pa en kp) sz)) (va_A (tp_wX dA dJ h (nI cN) on st nm vl pa en kp) sz)) 0 0 (va_A (tp_wX dA dJ h (nI cN) on st nm vl pa en kp) sz) := by
  refine Met.ofW (cc := cX0_having) (maxL := 9) (ret := (some .int)) (by decide) rfl ?_
  intro p e s m args below meth c s₁ B hml hv
  obtain ⟨rfl, hsz, hP, hK, hD0⟩ := hv
  subst hsz
  have hD := hD0.self (sz := s.heap.size)
  generalize hAe : va_A (tp_wX dA dJ h (nI cN) on st nm vl pa en kp) s.heap.size = A at hD ⊢
  have hA : ∀ q : Nat, s.heap.size ≤ q → A q := fun q h => by rw [← hAe]; exact Or.inr h
  have hS : va_S A s.heap s.heap [] := va_S.rf
  have hP : va_P D tp_cl (tp_wX dA dJ h (nI cN) on st nm vl pa en kp) s.heap := hP
  have hx := B.exec
  have hb := B.bytes
  have hr := B.returns
  have hts := atoms_spec (ws := ws_ yX0_having cX0_having 9 (some .int)) B.pre
  have hts : ∀ w ∈ lw_all, w.before _ s = true := fun w h => hts w (List.mem_cons_of_mem _ h)
  have hown : s.vm.findClass RX0 = some m.cls := findClass_of_methodNamed B.named
  have hlocks := B.notSynchronized
  have hl := lv_entry ([.ref (h 0), .int ia, .int it, .int (nI w)]) (n := 9) (Nat.le_of_ble_eq_true rfl)
  rw [lg_entry_eq]
  generalize (lg_sl ([.ref (h 0), .int ia, .int it, .int (nI w)]) ++ List.replicate (9 - (lg_sl ([.ref (h 0), .int ia, .int it, .int (nI w)])).length) Slot.unset).toArray = ls at hl ⊢
  have hl : lv_has ls 9 [(0, .ref (h 0)), (1, .int ia), (2, .int it), (3, .int (nI w))] := hl
  have hc := tw_c hW
  have JB : (ia < 0 ∨ nI 10 < ia ∨ it < 0 ∨ nI 10 < it) → W p l e (headSpec (ws_ yX0_having cX0_having 9 (some .int)) ({ frames := 3, cells := 0, slots := 0, locals := 74 })).room s m ([.ref (h 0), .int ia, .int it, .int (nI w)] : List Value).toArray below meth c s.heap [] 0 0 (MQ below (va_Qi (fun (r : Int32) (u : va_W) => ((ia < 0 ∨ nI 10 < ia ∨ it < 0 ∨ nI 10 < it) ∧ r = -1 ∧ u = tp_wX dA dJ h (nI cN) on st nm vl pa en kp) ∨ (¬ (ia < 0 ∨ nI 10 < ia ∨ it < 0 ∨ nI 10 < it) ∧ ∃ ax t st', ax ≤ 10 ∧ t ≤ 10 ∧ ia = nI ax ∧ it = nI t ∧ (∀ q, tp_b st' q = true ↔ tp_b st q = true ∧ (tp_hv cN P E N ax t q ↔ w = 1)) ∧ r = nI (tp_c (tp_b st') 48) ∧ u = tp_wX dA dJ h (nI cN) on st' nm vl pa en kp)) (tp_B D (tp_ty dA dJ dZ) (A)) (A)) ([.ref (h 0), .int ia, .int it, .int (nI w)] : List Value).toArray s 0 0 (A)) (F0 m 20 ls []) := by
    intro hq
    refine lv_iconst (v := -1) hx hb dX0_having_20 (by decide) ?_
    exact W.iret hx hb hr (fun t ht hW9 => ⟨⟨_, (tp_wX dA dJ h (nI cN) on st nm vl pa en kp), rfl, Or.inl ⟨hq, rfl, rfl⟩, by rw [ht]; exact hP, va_K.moved hW9.alike hK, hD⟩, hS.F ht⟩) hS.2.2 dX0_having_21
  refine lv_iload_n hx hb dX0_having_0 rfl (lv_at hl 1 rfl) ?_
  refine lv_if_lt (tgt := 20) hx hb dX0_having_1 (by decide) (fun c1 => ?_) (fun c1 => ?_)
  · exact JB (Or.inl c1)
  · refine lv_iload_n hx hb dX0_having_4 rfl (lv_at hl 1 rfl) ?_
    refine lv_bipush (v := nI 10) hx hb dX0_having_5 (by decide) ?_
    refine lv_icmp_gt (tgt := 20) hx hb dX0_having_7 (by decide) (fun c2 => ?_) (fun c2 => ?_)
    · exact JB (Or.inr (Or.inl c2))
    · refine lv_iload_n hx hb dX0_having_10 rfl (lv_at hl 2 rfl) ?_
      refine lv_if_lt (tgt := 20) hx hb dX0_having_11 (by decide) (fun c3 => ?_) (fun c3 => ?_)
      · exact JB (Or.inr (Or.inr (Or.inl c3)))
      · refine lv_iload_n hx hb dX0_having_14 rfl (lv_at hl 2 rfl) ?_
        refine lv_bipush (v := nI 10) hx hb dX0_having_15 (by decide) ?_
        refine lv_icmp_le (tgt := 22) hx hb dX0_having_17 (by decide) (fun c4 => ?_) (fun c4 => ?_)
        · have hok : ¬ (ia < 0 ∨ nI 10 < ia ∨ it < 0 ∨ nI 10 < it) := fun z => by
            rcases z with z | z | z | z
            · exact c1 z
            · exact c2 z
            · exact c3 z
            · exact absurd (Int32.lt_of_lt_of_le z c4) Int32.lt_irrefl
          obtain ⟨ax, hax, ea⟩ := nI_of2 (M := nI 10) (n := 10) (by decide) c1 (Int32.not_lt.mp c2)
          obtain ⟨t0, ht0, et⟩ := nI_of2 (M := nI 10) (n := 10) (by decide) c3 c4
          rw [ea] at hl
          rw [et] at hl
          refine lv_aload_n hx hb dX0_having_22 rfl (lv_at hl 0 rfl) ?_
          refine lv_iload_n hx hb dX0_having_23 rfl (lv_at hl 2 rfl) ?_
          refine vp_callSl (W.runV (As := [.int (nI t0)]) (rest := []) ⟨hx, hb, hml, hown, hts⟩ (met_passing l D dA dJ dZ h on st nm vl pa en kp (t := t0) hW hX ht0) (cwV 1 hts (lw_V q89 q91 qs2 q20 q92) rfl rfl rfl (by decide +kernel) ⟨Nat.le_of_ble_eq_true rfl, Nat.le_of_ble_eq_true rfl⟩) (tp_pv hK hP (ci := 0) (q0 := 0) rfl rfl) rfl rfl hl.1 rfl (lv_room (Nat.le_of_ble_eq_true rfl)) dX0_having_24 ⟨Nat.le_of_ble_eq_true rfl, Nat.le_of_ble_eq_true rfl⟩) (fun thr hth => ?_)
          refine lv_lstore (lv' := [(4, .long thr), (0, .ref (h 0)), (1, .int (nI ax)), (2, .int (nI t0)), (3, .int (nI w))]) hx hb dX0_having_27 hl (by decide) rfl (fun ls hl => ?_)
          refine lv_iconst (v := nI 0) hx hb dX0_having_29 (by decide) ?_
          refine lv_istore (lv' := [(6, .int (nI 0)), (4, .long thr), (0, .ref (h 0)), (1, .int (nI ax)), (2, .int (nI t0)), (3, .int (nI w))]) hx hb dX0_having_30 hl (by decide) rfl (fun ls hl => ?_)
          have LP : ∀ (n : Nat) (i : Nat) (x : Int64) (H : Heap) (locs : List Loc), i ≤ cN → cN < i + n → tp_fl st (fun q => tp_hv cN P E N ax t0 q ↔ w = 1) i x → va_P D tp_cl (tp_wX dA dJ h (nI cN) on x nm vl pa en kp) H → va_D A (tp_wX dA dJ h (nI cN) on x nm vl pa en kp) → va_S A s.heap H locs →  ∀ (ls : Array Slot), lv_has ls 9 [(0, .ref (h 0)), (1, .int (nI ax)), (2, .int (nI t0)), (3, .int (nI w)), (4, .long thr), (6, .int (nI i))] → W p l e (headSpec (ws_ yX0_having cX0_having 9 (some .int)) ({ frames := 3, cells := 0, slots := 0, locals := 74 })).room s m ([.ref (h 0), .int ia, .int it, .int (nI w)] : List Value).toArray below meth c H locs 0 0 (MQ below (va_Qi (fun (r : Int32) (u : va_W) => ((ia < 0 ∨ nI 10 < ia ∨ it < 0 ∨ nI 10 < it) ∧ r = -1 ∧ u = tp_wX dA dJ h (nI cN) on st nm vl pa en kp) ∨ (¬ (ia < 0 ∨ nI 10 < ia ∨ it < 0 ∨ nI 10 < it) ∧ ∃ ax t st', ax ≤ 10 ∧ t ≤ 10 ∧ ia = nI ax ∧ it = nI t ∧ (∀ q, tp_b st' q = true ↔ tp_b st q = true ∧ (tp_hv cN P E N ax t q ↔ w = 1)) ∧ r = nI (tp_c (tp_b st') 48) ∧ u = tp_wX dA dJ h (nI cN) on st' nm vl pa en kp)) (tp_B D (tp_ty dA dJ dZ) (A)) (A)) ([.ref (h 0), .int ia, .int it, .int (nI w)] : List Value).toArray s 0 0 (A)) (F0 m 32 ls []) := by
            intro n
            induction n with
            | zero => intro i x H locs hi hf hx0 hP hD hS ls hl; exact absurd hf (by omega)
            | succ n ih =>
              intro i x H locs hi hf hx0 hP hD hS ls hl
              refine lv_iload hx hb dX0_having_32 (lv_at hl 5 rfl) ?_
              refine lv_aload_n hx hb dX0_having_34 rfl (lv_at hl 0 rfl) ?_
              refine va_get (D := D) (ci := 0) (v := .int (nI cN)) (C := RX0) (T := TX0) (N := 8) hx hb hts in_X0 hown hK hP 0 rfl rfl 0 (by decide) (hts _ q30) (fun _ h9 => h9) rfl dX0_having_35 ?_
              refine lv_icmp_ge (tgt := 112) hx hb dX0_having_38 (by decide) (fun d1 => ?_) (fun d1 => ?_)
              · have d1 : cN ≤ i := (nI_leI (a := cN) (b := i) (by omega) (by omega)).mp d1
                refine lv_aload_n hx hb dX0_having_112 rfl (lv_at hl 0 rfl) ?_
                refine va_get (D := D) (ci := 0) (v := .long x) (C := RX0) (T := TX0) (N := 8) hx hb hts in_X0 hown hK hP 0 rfl rfl 6 (by decide) (hts _ q36) (fun _ h9 => h9) rfl dX0_having_113 ?_
                refine vp_callSi (W.runS (As := [.long x]) (rest := []) ⟨hx, hb, hml, hown, hts⟩ (met_size l x) (va_cwS 1 hts (lw_S q113 q114 q20 q115) rfl rfl rfl (by decide +kernel) ⟨Nat.le_of_ble_eq_true rfl, Nat.le_of_ble_eq_true rfl⟩) tp_ps rfl rfl hl.1 rfl (lv_room (Nat.le_of_ble_eq_true rfl)) dX0_having_116 ⟨Nat.le_of_ble_eq_true rfl, Nat.le_of_ble_eq_true rfl⟩) (fun r9 h9 => ?_)
                rw [show i = cN by omega] at hx0
                exact W.iret hx hb hr (fun t ht hW9 => ⟨⟨_, (tp_wX dA dJ h (nI cN) on x nm vl pa en kp), rfl, Or.inr ⟨hok, ax, t0, _, hax, ht0, ea, et, ty_end hs hx0, h9, rfl⟩, by rw [ht]; exact hP, va_K.moved hW9.alike hK, hD⟩, hS.F ht⟩) hS.2.2 dX0_having_119
              · have d1 : ¬ (cN ≤ i) := fun z => d1 ((nI_leI (a := cN) (b := i) (by omega) (by omega)).mpr z)
                refine lv_aload_n hx hb dX0_having_41 rfl (lv_at hl 0 rfl) ?_
                refine va_get (D := D) (ci := 0) (v := .long x) (C := RX0) (T := TX0) (N := 8) hx hb hts in_X0 hown hK hP 0 rfl rfl 6 (by decide) (hts _ q36) (fun _ h9 => h9) rfl dX0_having_42 ?_
                refine lv_iload hx hb dX0_having_45 (lv_at hl 5 rfl) ?_
                refine lv_lushr hx hb dX0_having_47 rfl ?_
                refine lv_lconst (v := 1) hx hb dX0_having_48 (by decide) ?_
                refine lv_land hx hb dX0_having_49 ?_
                refine tp_tl (y := tp_l (tp_b x i)) (tp_ubit (by omega)) ?_
                refine lv_lconst (v := 0) hx hb dX0_having_50 (by decide) ?_
                refine W.lcmp hx hb dX0_having_51 ?_
                refine lv_if_eq (tgt := 106) hx hb dX0_having_52 (by decide) (fun d2 => ?_) (fun d2 => ?_)
                · have d2 : tp_b x i = false := (tp_lcmp0 _).mp d2
                  refine lv_iinc (v := nI (i + 1)) (lv' := [(6, .int (nI (i + 1))), (0, .ref (h 0)), (1, .int (nI ax)), (2, .int (nI t0)), (3, .int (nI w)), (4, .long thr)]) hx hb dX0_having_106 hl (k := 5) rfl (nI_1 i) (by decide) rfl (fun ls hl => ?_)
                  refine lv_goto (tgt := 32) hx hb dX0_having_109 (by decide) ?_
                  exact ih (i + 1) x _ _ (by omega) (by omega) (ty_ok hx0 (fun z => by rw [← ty_at hx0, d2] at z; cases z)) hP hD hS ls (lv_sub hl [1, 2, 3, 4, 5, 0] rfl)
                · have d2 : tp_b x i = true := by
                    cases hbb : tp_b x i
                    · exact absurd ((tp_lcmp0 _).mpr hbb) d2
                    · rfl
                  refine lv_aload_n hx hb dX0_having_55 rfl (lv_at hl 0 rfl) ?_
                  refine lv_iload_n hx hb dX0_having_56 rfl (lv_at hl 1 rfl) ?_
                  refine lv_iload hx hb dX0_having_57 (lv_at hl 5 rfl) ?_
                  refine vp_callSl (W.runV (As := [.int (nI ax), .int (nI i)]) (rest := []) ⟨hx, hb, hml, hown, hts⟩ (met_along l D dA dJ dZ h on x nm vl pa en kp (ax := ax) (n0 := i) hW hX hax (by omega)) (cwV 2 hts (lw_V q131 q133 qs10 q20 q134) rfl rfl rfl (by decide +kernel) ⟨Nat.le_of_ble_eq_true rfl, Nat.le_of_ble_eq_true rfl⟩) (tp_pv hK hP (ci := 0) (q0 := 0) rfl rfl) rfl rfl hl.1 rfl (lv_room (Nat.le_of_ble_eq_true rfl)) dX0_having_59 ⟨Nat.le_of_ble_eq_true rfl, Nat.le_of_ble_eq_true rfl⟩) (fun r1 h1 => ?_)
                  have hfd := ty_hv h1 hth
                  refine lv_lload hx hb dX0_having_62 (lv_at hl 4 rfl) ?_
                  refine lv_land hx hb dX0_having_64 ?_
                  refine lv_lstore (lv' := [(7, .long (r1 &&& thr)), (0, .ref (h 0)), (1, .int (nI ax)), (2, .int (nI t0)), (3, .int (nI w)), (4, .long thr), (6, .int (nI i))]) hx hb dX0_having_65 hl (by decide) rfl (fun ls hl => ?_)
                  have J : ∀ (v : Nat), v ≤ 1 → (v = 1 ↔ tp_hv cN P E N ax t0 i) → W p l e (headSpec (ws_ yX0_having cX0_having 9 (some .int)) ({ frames := 3, cells := 0, slots := 0, locals := 74 })).room s m ([.ref (h 0), .int ia, .int it, .int (nI w)] : List Value).toArray below meth c H locs 0 0 (MQ below (va_Qi (fun (r : Int32) (u : va_W) => ((ia < 0 ∨ nI 10 < ia ∨ it < 0 ∨ nI 10 < it) ∧ r = -1 ∧ u = tp_wX dA dJ h (nI cN) on st nm vl pa en kp) ∨ (¬ (ia < 0 ∨ nI 10 < ia ∨ it < 0 ∨ nI 10 < it) ∧ ∃ ax t st', ax ≤ 10 ∧ t ≤ 10 ∧ ia = nI ax ∧ it = nI t ∧ (∀ q, tp_b st' q = true ↔ tp_b st q = true ∧ (tp_hv cN P E N ax t q ↔ w = 1)) ∧ r = nI (tp_c (tp_b st') 48) ∧ u = tp_wX dA dJ h (nI cN) on st' nm vl pa en kp)) (tp_B D (tp_ty dA dJ dZ) (A)) (A)) ([.ref (h 0), .int ia, .int it, .int (nI w)] : List Value).toArray s 0 0 (A)) (F0 m 84 ls [.int (nI v), .long x, .ref (h 0)]) := by
                    intro v hv1 hv
                    refine lv_iload_n hx hb dX0_having_84 rfl (lv_at hl 4 rfl) ?_
                    refine lv_icmp_ne (tgt := 94) hx hb dX0_having_85 (by decide) (fun d3 => ?_) (fun d3 => ?_)
                    · have d3 : ¬ (v = w) := fun z => d3 ((nI_eq (a := v) (b := w) (by omega) (by omega)).mpr z)
                      refine lv_lconst (v := 1) hx hb dX0_having_94 (by decide) ?_
                      refine lv_iload hx hb dX0_having_95 (lv_at hl 6 rfl) ?_
                      refine lv_lshl (v := tp_1 i) hx hb dX0_having_97 rfl ?_
                      refine lv_ldc2 hx hb hown (hts _ q104) dX0_having_98 ?_
                      refine lv_lxor hx hb dX0_having_101 ?_
                      refine lv_land hx hb dX0_having_102 ?_
                      refine va_put (D := D) (ci := 0) (v := .long (x &&& ((tp_1 i) ^^^ (-1)))) (ty := .long) (C := RX0) (T := TX0) (N := 8) hx hb hts in_X0 tyX0 tyX0_ok nmX0 hown hK hP hD hS 0 rfl rfl 6 (by decide) (hts _ q36) (fun _ h9 => h9) rfl (by decide +kernel) rfl rfl (Nat.le_of_ble_eq_true rfl) dX0_having_103 (fun H locs hP hD hS => ?_)
                      have hP : va_P D tp_cl (tp_wX dA dJ h (nI cN) on (x &&& ((tp_1 i) ^^^ (-1))) nm vl pa en kp) H := hP
                      have hD : va_D A (tp_wX dA dJ h (nI cN) on (x &&& ((tp_1 i) ^^^ (-1))) nm vl pa en kp) := hD
                      refine lv_iinc (v := nI (i + 1)) (lv' := [(6, .int (nI (i + 1))), (7, .long (r1 &&& thr)), (0, .ref (h 0)), (1, .int (nI ax)), (2, .int (nI t0)), (3, .int (nI w)), (4, .long thr)]) hx hb dX0_having_106 hl (k := 6) rfl (nI_1 i) (by decide) rfl (fun ls hl => ?_)
                      refine lv_goto (tgt := 32) hx hb dX0_having_109 (by decide) ?_
                      exact ih (i + 1) _ _ _ (by omega) (by omega) (ty_out (by omega) hx0 (fun z => d3 (by have y : v = 1 ↔ w = 1 := hv.trans z; omega))) hP hD hS ls (lv_sub hl [2, 3, 4, 5, 6, 0] rfl)
                    · have d3 : v = w := (nI_eq (a := v) (b := w) (by omega) (by omega)).mp d3
                      refine lv_ldc2 hx hb hown (hts _ q104) dX0_having_88 ?_
                      refine lv_goto (tgt := 102) hx hb dX0_having_91 (by decide) ?_
                      refine lv_land hx hb dX0_having_102 ?_
                      refine va_put (D := D) (ci := 0) (v := .long (x &&& (-1))) (ty := .long) (C := RX0) (T := TX0) (N := 8) hx hb hts in_X0 tyX0 tyX0_ok nmX0 hown hK hP hD hS 0 rfl rfl 6 (by decide) (hts _ q36) (fun _ h9 => h9) rfl (by decide +kernel) rfl rfl (Nat.le_of_ble_eq_true rfl) dX0_having_103 (fun H locs hP hD hS => ?_)
                      have hP : va_P D tp_cl (tp_wX dA dJ h (nI cN) on (x &&& (-1)) nm vl pa en kp) H := hP
                      have hD : va_D A (tp_wX dA dJ h (nI cN) on (x &&& (-1)) nm vl pa en kp) := hD
                      refine lv_iinc (v := nI (i + 1)) (lv' := [(6, .int (nI (i + 1))), (7, .long (r1 &&& thr)), (0, .ref (h 0)), (1, .int (nI ax)), (2, .int (nI t0)), (3, .int (nI w)), (4, .long thr)]) hx hb dX0_having_106 hl (k := 6) rfl (nI_1 i) (by decide) rfl (fun ls hl => ?_)
                      refine lv_goto (tgt := 32) hx hb dX0_having_109 (by decide) ?_
                      exact ih (i + 1) _ _ _ (by omega) (by omega) (ty_ok1 hx0 (fun _ => by rw [← hv]; omega)) hP hD hS ls (lv_sub hl [2, 3, 4, 5, 6, 0] rfl)
                  refine lv_aload_n hx hb dX0_having_67 rfl (lv_at hl 1 rfl) ?_
                  refine lv_dup hx hb dX0_having_68 rfl ?_
                  refine va_get (D := D) (ci := 0) (v := .long x) (C := RX0) (T := TX0) (N := 8) hx hb hts in_X0 hown hK hP 0 rfl rfl 6 (by decide) (hts _ q36) (fun _ h9 => h9) rfl dX0_having_69 ?_
                  refine lv_lload hx hb dX0_having_72 (lv_at hl 0 rfl) ?_
                  refine lv_lconst (v := 0) hx hb dX0_having_74 (by decide) ?_
                  refine W.lcmp hx hb dX0_having_75 ?_
                  refine lv_if_eq (tgt := 83) hx hb dX0_having_76 (by decide) (fun d4 => ?_) (fun d4 => ?_)
                  · refine lv_iconst (v := nI 0) hx hb dX0_having_83 (by decide) ?_
                    exact J 0 (by omega) ⟨fun z => by omega, fun z => absurd z (hfd.mp ((lg_cmp_eq _ _).mp d4))⟩
                  · refine lv_iconst (v := nI 1) hx hb dX0_having_79 (by decide) ?_
                    refine lv_goto (tgt := 84) hx hb dX0_having_80 (by decide) ?_
                    exact J 1 (by omega) ⟨fun _ => Classical.byContradiction (fun z => d4 ((lg_cmp_eq _ _).mpr (hfd.mpr z))), fun _ => rfl⟩
          exact LP (cN + 1) 0 st _ _ (by omega) (by omega) ty_f0 hP hD hS ls (lv_sub hl [2, 3, 4, 5, 1, 0] rfl)
        · exact JB (Or.inr (Or.inr (Or.inr (Int32.not_le.mp c4))))

set_option maxHeartbeats 4000000 in
set_option maxRecDepth 100000 in
theorem met_valued (l : Launch) (D : va_G) (dA dJ dZ : ClassId) (h : Nat → Nat) (on : Int32) (st : Int64) (nm vl pa en : Nat → Int32) (kp : Nat → Int64) {cN : Nat} {P E N : Nat → Nat} (lo hi0 : Int32) (sz : Nat) (hW : tp_wf cN P E) (hX : tp_X cN P E N nm pa en) (hs : ∀ i, tp_b st i = true → i < cN) : Met l yX0_valued (ws_ yX0_valued cX0_valued 10 (some .int)) ({ frames := 1, cells := 0, slots := 0, locals := 23 }) (tp_Pm D (tp_ty dA dJ dZ) (tp_wX dA dJ h (nI cN) on st nm vl pa en kp) sz [.ref (h 0), .int lo, .int hi0]) (va_Qi (fun (r : Int32) (u : va_W) => ∃ st', (∀ q, tp_b st' q = true ↔ tp_b st q = true ∧ tp_gv cN E N vl lo hi0 q) ∧ r = nI (tp_c (tp_b st') 48) ∧ u = tp_wX dA dJ h (nI cN) on st' nm vl pa en kp) (tp_B D (tp_ty dA dJ dZ) (va_A (tp_wX dA dJ h (nI cN) on st nm vl pa en kp) sz)) (va_A (tp_wX dA dJ h (nI cN) on st nm vl pa en kp) sz)) 0 0 (va_A (tp_wX dA dJ h (nI cN) on st nm vl pa en kp) sz) := by
  refine Met.ofW (cc := cX0_valued) (maxL := 10) (ret := (some .int)) (by decide) rfl ?_
  intro p e s m args below meth c s₁ B hml hv
  obtain ⟨rfl, hsz, hP, hK, hD0⟩ := hv
  subst hsz
  have hD := hD0.self (sz := s.heap.size)
  generalize hAe : va_A (tp_wX dA dJ h (nI cN) on st nm vl pa en kp) s.heap.size = A at hD ⊢
  have hA : ∀ q : Nat, s.heap.size ≤ q → A q := fun q h => by rw [← hAe]; exact Or.inr h
  have hS : va_S A s.heap s.heap [] := va_S.rf
  have hP : va_P D tp_cl (tp_wX dA dJ h (nI cN) on st nm vl pa en kp) s.heap := hP
  have hx := B.exec
  have hb := B.bytes
  have hr := B.returns
  have hts := atoms_spec (ws := ws_ yX0_valued cX0_valued 10 (some .int)) B.pre
  have hts : ∀ w ∈ lw_all, w.before _ s = true := fun w h => hts w (List.mem_cons_of_mem _ h)
  have hown : s.vm.findClass RX0 = some m.cls := findClass_of_methodNamed B.named
  have hlocks := B.notSynchronized
  have hl := lv_entry ([.ref (h 0), .int lo, .int hi0]) (n := 10) (Nat.le_of_ble_eq_true rfl)
  rw [lg_entry_eq]
  generalize (lg_sl ([.ref (h 0), .int lo, .int hi0]) ++ List.replicate (10 - (lg_sl ([.ref (h 0), .int lo, .int hi0])).length) Slot.unset).toArray = ls at hl ⊢
  have hl : lv_has ls 10 [(0, .ref (h 0)), (1, .int lo), (2, .int hi0)] := hl
  have hc := tw_c hW
  refine lv_lconst (v := 0) hx hb dX0_valued_0 (by decide) ?_
  refine lv_lstore_n (lv' := [(3, .long 0), (0, .ref (h 0)), (1, .int lo), (2, .int hi0)]) hx hb dX0_valued_1 rfl hl (by decide) rfl (fun ls hl => ?_)
  refine lv_iconst (v := nI 0) hx hb dX0_valued_2 (by decide) ?_
  refine lv_istore (lv' := [(5, .int (nI 0)), (3, .long 0), (0, .ref (h 0)), (1, .int lo), (2, .int hi0)]) hx hb dX0_valued_3 hl (by decide) rfl (fun ls hl => ?_)
  have LP : ∀ (n : Nat) (i : Nat) (x : Int64), i ≤ cN → cN < i + n → (∀ k, tp_b x k = true ↔ k < i ∧ tp_tv N vl lo hi0 k) →  ∀ (ls : Array Slot), lv_has ls 10 [(0, .ref (h 0)), (1, .int lo), (2, .int hi0), (3, .long x), (5, .int (nI i))] → W p l e (headSpec (ws_ yX0_valued cX0_valued 10 (some .int)) ({ frames := 1, cells := 0, slots := 0, locals := 23 })).room s m ([.ref (h 0), .int lo, .int hi0] : List Value).toArray below meth c s.heap [] 0 0 (MQ below (va_Qi (fun (r : Int32) (u : va_W) => ∃ st', (∀ q, tp_b st' q = true ↔ tp_b st q = true ∧ tp_gv cN E N vl lo hi0 q) ∧ r = nI (tp_c (tp_b st') 48) ∧ u = tp_wX dA dJ h (nI cN) on st' nm vl pa en kp) (tp_B D (tp_ty dA dJ dZ) (A)) (A)) ([.ref (h 0), .int lo, .int hi0] : List Value).toArray s 0 0 (A)) (F0 m 5 ls []) := by
    intro n
    induction n with
    | zero => intro i x hi hf hx0 ls hl; exact absurd hf (by omega)
    | succ n ih =>
      intro i x hi hf hx0 ls hl
      refine lv_iload hx hb dX0_valued_5 (lv_at hl 4 rfl) ?_
      refine lv_aload_n hx hb dX0_valued_7 rfl (lv_at hl 0 rfl) ?_
      refine va_get (D := D) (ci := 0) (v := .int (nI cN)) (C := RX0) (T := TX0) (N := 8) hx hb hts in_X0 hown hK hP 0 rfl rfl 0 (by decide) (hts _ q30) (fun _ h9 => h9) rfl dX0_valued_8 ?_
      refine lv_icmp_ge (tgt := 77) hx hb dX0_valued_11 (by decide) (fun c1 => ?_) (fun c1 => ?_)
      · have c1 : cN ≤ i := (nI_leI (a := cN) (b := i) (by omega) (by omega)).mp c1
        rw [show i = cN by omega] at hx0
        refine lv_lconst (v := 0) hx hb dX0_valued_77 (by decide) ?_
        refine lv_lstore (lv' := [(5, .long 0), (0, .ref (h 0)), (1, .int lo), (2, .int hi0), (3, .long x)]) hx hb dX0_valued_78 hl (by decide) rfl (fun ls hl => ?_)
        refine lv_iconst (v := nI 0) hx hb dX0_valued_80 (by decide) ?_
        refine lv_istore (lv' := [(7, .int (nI 0)), (5, .long 0), (0, .ref (h 0)), (1, .int lo), (2, .int hi0), (3, .long x)]) hx hb dX0_valued_81 hl (by decide) rfl (fun ls hl => ?_)
        have LQ : ∀ (n2 : Nat) (j : Nat) (gd : Int64), j ≤ cN → cN < j + n2 → (∀ k, tp_b gd k = true ↔ k < j ∧ tp_gv cN E N vl lo hi0 k) →  ∀ (ls : Array Slot), lv_has ls 10 [(0, .ref (h 0)), (3, .long x), (5, .long gd), (7, .int (nI j))] → W p l e (headSpec (ws_ yX0_valued cX0_valued 10 (some .int)) ({ frames := 1, cells := 0, slots := 0, locals := 23 })).room s m ([.ref (h 0), .int lo, .int hi0] : List Value).toArray below meth c s.heap [] 0 0 (MQ below (va_Qi (fun (r : Int32) (u : va_W) => ∃ st', (∀ q, tp_b st' q = true ↔ tp_b st q = true ∧ tp_gv cN E N vl lo hi0 q) ∧ r = nI (tp_c (tp_b st') 48) ∧ u = tp_wX dA dJ h (nI cN) on st' nm vl pa en kp) (tp_B D (tp_ty dA dJ dZ) (A)) (A)) ([.ref (h 0), .int lo, .int hi0] : List Value).toArray s 0 0 (A)) (F0 m 83 ls []) := by
          intro n2
          induction n2 with
          | zero => intro j gd hj hf2 hy0 ls hl; exact absurd hf2 (by omega)
          | succ n2 ih2 =>
            intro j gd hj hf2 hy0 ls hl
            refine lv_iload hx hb dX0_valued_83 (lv_at hl 3 rfl) ?_
            refine lv_aload_n hx hb dX0_valued_85 rfl (lv_at hl 0 rfl) ?_
            refine va_get (D := D) (ci := 0) (v := .int (nI cN)) (C := RX0) (T := TX0) (N := 8) hx hb hts in_X0 hown hK hP 0 rfl rfl 0 (by decide) (hts _ q30) (fun _ h9 => h9) rfl dX0_valued_86 ?_
            refine lv_icmp_ge (tgt := 134) hx hb dX0_valued_89 (by decide) (fun d1 => ?_) (fun d1 => ?_)
            · have d1 : cN ≤ j := (nI_leI (a := cN) (b := j) (by omega) (by omega)).mp d1
              rw [show j = cN by omega] at hy0
              refine lv_aload_n hx hb dX0_valued_134 rfl (lv_at hl 0 rfl) ?_
              refine lv_dup hx hb dX0_valued_135 rfl ?_
              refine va_get (D := D) (ci := 0) (v := .long st) (C := RX0) (T := TX0) (N := 8) hx hb hts in_X0 hown hK hP 0 rfl rfl 6 (by decide) (hts _ q36) (fun _ h9 => h9) rfl dX0_valued_136 ?_
              refine lv_lload hx hb dX0_valued_139 (lv_at hl 2 rfl) ?_
              refine lv_land hx hb dX0_valued_141 ?_
              refine va_put (D := D) (ci := 0) (v := .long (st &&& gd)) (ty := .long) (C := RX0) (T := TX0) (N := 8) hx hb hts in_X0 tyX0 tyX0_ok nmX0 hown hK hP hD hS 0 rfl rfl 6 (by decide) (hts _ q36) (fun _ h9 => h9) rfl (by decide +kernel) rfl rfl (Nat.le_of_ble_eq_true rfl) dX0_valued_142 (fun H locs hP hD hS => ?_)
              have hP : va_P D tp_cl (tp_wX dA dJ h (nI cN) on (st &&& gd) nm vl pa en kp) H := hP
              have hD : va_D A (tp_wX dA dJ h (nI cN) on (st &&& gd) nm vl pa en kp) := hD
              refine lv_aload_n hx hb dX0_valued_145 rfl (lv_at hl 0 rfl) ?_
              refine va_get (D := D) (ci := 0) (v := .long (st &&& gd)) (C := RX0) (T := TX0) (N := 8) hx hb hts in_X0 hown hK hP 0 rfl rfl 6 (by decide) (hts _ q36) (fun _ h9 => h9) rfl dX0_valued_146 ?_
              refine vp_callSi (W.runS (As := [.long (st &&& gd)]) (rest := []) ⟨hx, hb, hml, hown, hts⟩ (met_size l (st &&& gd)) (va_cwS 1 hts (lw_S q113 q114 q20 q115) rfl rfl rfl (by decide +kernel) ⟨Nat.le_of_ble_eq_true rfl, Nat.le_of_ble_eq_true rfl⟩) tp_ps rfl rfl hl.1 rfl (lv_room (Nat.le_of_ble_eq_true rfl)) dX0_valued_149 ⟨Nat.le_of_ble_eq_true rfl, Nat.le_of_ble_eq_true rfl⟩) (fun r9 h9 => ?_)
              exact W.iret hx hb hr (fun t ht hW9 => ⟨⟨_, (tp_wX dA dJ h (nI cN) on (st &&& gd) nm vl pa en kp), rfl, ⟨_, ty_mand hs hy0, h9, rfl⟩, by rw [ht]; exact hP, va_K.moved hW9.alike hK, hD⟩, hS.F ht⟩) hS.2.2 dX0_valued_152
            · have d1 : ¬ (cN ≤ j) := fun z => d1 ((nI_leI (a := cN) (b := j) (by omega) (by omega)).mpr z)
              have hE0 := tw_E hW (show j < cN by omega)
              refine lv_lload_n hx hb dX0_valued_92 rfl (lv_at hl 1 rfl) ?_
              refine lv_iload hx hb dX0_valued_93 (lv_at hl 3 rfl) ?_
              refine lv_aload_n hx hb dX0_valued_95 rfl (lv_at hl 0 rfl) ?_
              refine va_get (D := D) (ci := 0) (v := .ref (h 4)) (C := RX0) (T := TX0) (N := 8) hx hb hts in_X0 hown hK hP 0 rfl rfl 5 (by decide) (hts _ q35) (fun _ h9 => h9) rfl dX0_valued_96 ?_
              refine lv_iload hx hb dX0_valued_99 (lv_at hl 3 rfl) ?_
              refine tp_iald (v := nI (E j)) hx hb hK hP 4 0 rfl rfl j rfl (by omega) ((hX j (by omega)).2.2.2) dX0_valued_101 ?_
              refine vp_callSl (W.runS (As := [.int (nI j), .int (nI (E j))]) (rest := [.long x]) ⟨hx, hb, hml, hown, hts⟩ (met_stretch l (a := j) (b := E j) (by omega) (by omega)) (va_cwS 2 hts (lw_S q101 q102 q20 q103) rfl rfl rfl (by decide +kernel) ⟨Nat.le_of_ble_eq_true rfl, Nat.le_of_ble_eq_true rfl⟩) tp_ps rfl rfl hl.1 rfl (lv_room (Nat.le_of_ble_eq_true rfl)) dX0_valued_102 ⟨Nat.le_of_ble_eq_true rfl, Nat.le_of_ble_eq_true rfl⟩) (fun r1 h1 => ?_)
              have hfd := ty_gv hW (show j < cN by omega) hx0 h1
              refine lv_land hx hb dX0_valued_105 ?_
              refine lv_lstore (lv' := [(8, .long (x &&& r1)), (0, .ref (h 0)), (3, .long x), (5, .long gd), (7, .int (nI j))]) hx hb dX0_valued_106 hl (by decide) rfl (fun ls hl => ?_)
              refine lv_lload hx hb dX0_valued_108 (lv_at hl 3 rfl) ?_
              refine lv_lload hx hb dX0_valued_110 (lv_at hl 0 rfl) ?_
              refine lv_lconst (v := 0) hx hb dX0_valued_112 (by decide) ?_
              refine W.lcmp hx hb dX0_valued_113 ?_
              refine lv_if_eq (tgt := 124) hx hb dX0_valued_114 (by decide) (fun d2 => ?_) (fun d2 => ?_)
              · refine lv_lconst (v := 0) hx hb dX0_valued_124 (by decide) ?_
                refine lv_lor hx hb dX0_valued_125 ?_
                refine lv_lstore (lv' := [(5, .long (gd ||| 0)), (8, .long (x &&& r1)), (0, .ref (h 0)), (3, .long x), (7, .int (nI j))]) hx hb dX0_valued_126 hl (by decide) rfl (fun ls hl => ?_)
                refine lv_iinc (v := nI (j + 1)) (lv' := [(7, .int (nI (j + 1))), (5, .long (gd ||| 0)), (8, .long (x &&& r1)), (0, .ref (h 0)), (3, .long x)]) hx hb dX0_valued_128 hl (k := 4) rfl (nI_1 j) (by decide) rfl (fun ls hl => ?_)
                refine lv_goto (tgt := 83) hx hb dX0_valued_131 (by decide) ?_
                exact ih2 (j + 1) _ (by omega) (by omega) (tp_nadd hy0 (hfd.mp ((lg_cmp_eq _ _).mp d2))) ls (lv_sub hl [3, 4, 1, 0] rfl)
              · refine lv_lconst (v := 1) hx hb dX0_valued_117 (by decide) ?_
                refine lv_iload hx hb dX0_valued_118 (lv_at hl 4 rfl) ?_
                refine lv_lshl (v := tp_1 j) hx hb dX0_valued_120 rfl ?_
                refine lv_goto (tgt := 125) hx hb dX0_valued_121 (by decide) ?_
                refine lv_lor hx hb dX0_valued_125 ?_
                refine lv_lstore (lv' := [(5, .long (gd ||| (tp_1 j))), (8, .long (x &&& r1)), (0, .ref (h 0)), (3, .long x), (7, .int (nI j))]) hx hb dX0_valued_126 hl (by decide) rfl (fun ls hl => ?_)
                refine lv_iinc (v := nI (j + 1)) (lv' := [(7, .int (nI (j + 1))), (5, .long (gd ||| (tp_1 j))), (8, .long (x &&& r1)), (0, .ref (h 0)), (3, .long x)]) hx hb dX0_valued_128 hl (k := 4) rfl (nI_1 j) (by decide) rfl (fun ls hl => ?_)
                refine lv_goto (tgt := 83) hx hb dX0_valued_131 (by decide) ?_
                exact ih2 (j + 1) _ (by omega) (by omega) (tp_add (by omega) hy0 (Classical.byContradiction (fun z => d2 ((lg_cmp_eq _ _).mpr (hfd.mpr z))))) ls (lv_sub hl [3, 4, 1, 0] rfl)
        exact LQ (cN + 1) 0 0 (by omega) (by omega) (tp_add0 _) ls (lv_sub hl [2, 5, 1, 0] rfl)
      · have c1 : ¬ (cN ≤ i) := fun z => c1 ((nI_leI (a := cN) (b := i) (by omega) (by omega)).mpr z)
        have hN8 := (hX i (by omega)).2.1
        have JY : tp_tv N vl lo hi0 i → W p l e (headSpec (ws_ yX0_valued cX0_valued 10 (some .int)) ({ frames := 1, cells := 0, slots := 0, locals := 23 })).room s m ([.ref (h 0), .int lo, .int hi0] : List Value).toArray below meth c s.heap [] 0 0 (MQ below (va_Qi (fun (r : Int32) (u : va_W) => ∃ st', (∀ q, tp_b st' q = true ↔ tp_b st q = true ∧ tp_gv cN E N vl lo hi0 q) ∧ r = nI (tp_c (tp_b st') 48) ∧ u = tp_wX dA dJ h (nI cN) on st' nm vl pa en kp) (tp_B D (tp_ty dA dJ dZ) (A)) (A)) ([.ref (h 0), .int lo, .int hi0] : List Value).toArray s 0 0 (A)) (F0 m 48 ls []) := by
          intro hq
          refine lv_iconst (v := nI 1) hx hb dX0_valued_48 (by decide) ?_
          refine lv_goto (tgt := 53) hx hb dX0_valued_49 (by decide) ?_
          refine lv_istore (lv' := [(6, .int (nI 1)), (0, .ref (h 0)), (1, .int lo), (2, .int hi0), (3, .long x), (5, .int (nI i))]) hx hb dX0_valued_53 hl (by decide) rfl (fun ls hl => ?_)
          refine lv_lload_n hx hb dX0_valued_55 rfl (lv_at hl 4 rfl) ?_
          refine lv_iload hx hb dX0_valued_56 (lv_at hl 0 rfl) ?_
          refine lv_if_eq (tgt := 68) hx hb dX0_valued_58 (by decide) (fun z => absurd ((nI_eq (a := 1) (b := 0) (by omega) (by omega)).mp z) (by omega)) (fun _ => ?_)
          refine lv_lconst (v := 1) hx hb dX0_valued_61 (by decide) ?_
          refine lv_iload hx hb dX0_valued_62 (lv_at hl 5 rfl) ?_
          refine lv_lshl (v := tp_1 i) hx hb dX0_valued_64 rfl ?_
          refine lv_goto (tgt := 69) hx hb dX0_valued_65 (by decide) ?_
          refine lv_lor hx hb dX0_valued_69 ?_
          refine lv_lstore_n (lv' := [(3, .long (x ||| (tp_1 i))), (6, .int (nI 1)), (0, .ref (h 0)), (1, .int lo), (2, .int hi0), (5, .int (nI i))]) hx hb dX0_valued_70 rfl hl (by decide) rfl (fun ls hl => ?_)
          refine lv_iinc (v := nI (i + 1)) (lv' := [(5, .int (nI (i + 1))), (3, .long (x ||| (tp_1 i))), (6, .int (nI 1)), (0, .ref (h 0)), (1, .int lo), (2, .int hi0)]) hx hb dX0_valued_71 hl (k := 5) rfl (nI_1 i) (by decide) rfl (fun ls hl => ?_)
          refine lv_goto (tgt := 5) hx hb dX0_valued_74 (by decide) ?_
          exact ih (i + 1) _ (by omega) (by omega) (tp_add (by omega) hx0 hq) ls (lv_sub hl [3, 4, 5, 1, 0] rfl)
        have JN : ¬ tp_tv N vl lo hi0 i → W p l e (headSpec (ws_ yX0_valued cX0_valued 10 (some .int)) ({ frames := 1, cells := 0, slots := 0, locals := 23 })).room s m ([.ref (h 0), .int lo, .int hi0] : List Value).toArray below meth c s.heap [] 0 0 (MQ below (va_Qi (fun (r : Int32) (u : va_W) => ∃ st', (∀ q, tp_b st' q = true ↔ tp_b st q = true ∧ tp_gv cN E N vl lo hi0 q) ∧ r = nI (tp_c (tp_b st') 48) ∧ u = tp_wX dA dJ h (nI cN) on st' nm vl pa en kp) (tp_B D (tp_ty dA dJ dZ) (A)) (A)) ([.ref (h 0), .int lo, .int hi0] : List Value).toArray s 0 0 (A)) (F0 m 52 ls []) := by
          intro hq
          refine lv_iconst (v := nI 0) hx hb dX0_valued_52 (by decide) ?_
          refine lv_istore (lv' := [(6, .int (nI 0)), (0, .ref (h 0)), (1, .int lo), (2, .int hi0), (3, .long x), (5, .int (nI i))]) hx hb dX0_valued_53 hl (by decide) rfl (fun ls hl => ?_)
          refine lv_lload_n hx hb dX0_valued_55 rfl (lv_at hl 4 rfl) ?_
          refine lv_iload hx hb dX0_valued_56 (lv_at hl 0 rfl) ?_
          refine lv_if_eq (tgt := 68) hx hb dX0_valued_58 (by decide) (fun _ => ?_) (fun z => absurd ((nI_eq (a := 0) (b := 0) (by omega) (by omega)).mpr (by omega)) z)
          refine lv_lconst (v := 0) hx hb dX0_valued_68 (by decide) ?_
          refine lv_lor hx hb dX0_valued_69 ?_
          refine lv_lstore_n (lv' := [(3, .long (x ||| 0)), (6, .int (nI 0)), (0, .ref (h 0)), (1, .int lo), (2, .int hi0), (5, .int (nI i))]) hx hb dX0_valued_70 rfl hl (by decide) rfl (fun ls hl => ?_)
          refine lv_iinc (v := nI (i + 1)) (lv' := [(5, .int (nI (i + 1))), (3, .long (x ||| 0)), (6, .int (nI 0)), (0, .ref (h 0)), (1, .int lo), (2, .int hi0)]) hx hb dX0_valued_71 hl (k := 5) rfl (nI_1 i) (by decide) rfl (fun ls hl => ?_)
          refine lv_goto (tgt := 5) hx hb dX0_valued_74 (by decide) ?_
          exact ih (i + 1) _ (by omega) (by omega) (tp_nadd hx0 hq) ls (lv_sub hl [3, 4, 5, 1, 0] rfl)
        refine lv_aload_n hx hb dX0_valued_14 rfl (lv_at hl 0 rfl) ?_
        refine va_get (D := D) (ci := 0) (v := .ref (h 1)) (C := RX0) (T := TX0) (N := 8) hx hb hts in_X0 hown hK hP 0 rfl rfl 2 (by decide) (hts _ q32) (fun _ h9 => h9) rfl dX0_valued_15 ?_
        refine lv_iload hx hb dX0_valued_18 (lv_at hl 4 rfl) ?_
        refine tp_iald (v := nI (N i)) hx hb hK hP 1 0 rfl rfl i rfl (by omega) ((hX i (by omega)).1) dX0_valued_20 ?_
        refine lv_bipush (v := nI 8) hx hb dX0_valued_21 (by decide) ?_
        refine lv_icmp_ne (tgt := 52) hx hb dX0_valued_23 (by decide) (fun c2 => ?_) (fun c2 => ?_)
        · have c2 : ¬ ((N i) = 8) := fun z => c2 ((nI_eq (a := (N i)) (b := 8) (by omega) (by omega)).mpr z)
          exact JN (fun z => c2 z.1)
        · have c2 : (N i) = 8 := (nI_eq (a := (N i)) (b := 8) (by omega) (by omega)).mp c2
          refine lv_iload_n hx hb dX0_valued_26 rfl (lv_at hl 1 rfl) ?_
          refine lv_aload_n hx hb dX0_valued_27 rfl (lv_at hl 0 rfl) ?_
          refine va_get (D := D) (ci := 0) (v := .ref (h 2)) (C := RX0) (T := TX0) (N := 8) hx hb hts in_X0 hown hK hP 0 rfl rfl 3 (by decide) (hts _ q33) (fun _ h9 => h9) rfl dX0_valued_28 ?_
          refine lv_iload hx hb dX0_valued_31 (lv_at hl 4 rfl) ?_
          refine tp_iald (v := vl i) hx hb hK hP 2 0 rfl rfl i rfl (by omega) rfl dX0_valued_33 ?_
          refine lv_icmp_gt (tgt := 52) hx hb dX0_valued_34 (by decide) (fun c3 => ?_) (fun c3 => ?_)
          · exact JN (fun z => absurd (Int32.lt_of_lt_of_le c3 z.2.1) Int32.lt_irrefl)
          · refine lv_aload_n hx hb dX0_valued_37 rfl (lv_at hl 0 rfl) ?_
            refine va_get (D := D) (ci := 0) (v := .ref (h 2)) (C := RX0) (T := TX0) (N := 8) hx hb hts in_X0 hown hK hP 0 rfl rfl 3 (by decide) (hts _ q33) (fun _ h9 => h9) rfl dX0_valued_38 ?_
            refine lv_iload hx hb dX0_valued_41 (lv_at hl 4 rfl) ?_
            refine tp_iald (v := vl i) hx hb hK hP 2 0 rfl rfl i rfl (by omega) rfl dX0_valued_43 ?_
            refine lv_iload_n hx hb dX0_valued_44 rfl (lv_at hl 2 rfl) ?_
            refine lv_icmp_gt (tgt := 52) hx hb dX0_valued_45 (by decide) (fun c4 => ?_) (fun c4 => ?_)
            · exact JN (fun z => absurd (Int32.lt_of_lt_of_le c4 z.2.2) Int32.lt_irrefl)
            · exact JY ⟨c2, Int32.not_lt.mp c3, Int32.not_lt.mp c4⟩
  exact LP (cN + 1) 0 0 (by omega) (by omega) (tp_add0 _) ls (lv_sub hl [2, 3, 4, 1, 0] rfl)
end
section
/-! removing: the arrays; plain -/
def tp_rb (c o : Nat) (E : Nat → Nat) (x : Int32) : Prop := x < nI 1 ∨ nI c ≤ x ∨ ∃ d, d < c ∧ x = nI d ∧ d ≤ o ∧ o < E d
def tp_rg (c o : Nat) (E : Nat → Nat) (x : Int32) (d : Nat) : Prop := 1 ≤ d ∧ d < c ∧ x = nI d ∧ ¬ (d ≤ o ∧ o < E d)
def tp_o2 (d e o : Nat) : Nat := if e ≤ o then o - (e - d) else o
section TPW
variable {c o d : Nat} {P E : Nat → Nat} {x : Int32}
theorem tr_ix (hc : c ≤ 48) (h1 : ¬ x < nI 1) (h2 : ¬ nI c ≤ x) : ∃ d, 1 ≤ d ∧ d < c ∧ x = nI d := by
  have h3 : ¬ x < 0 := fun z => h1 (Int32.lt_trans z (by decide))
  obtain ⟨d, hd, ed⟩ := nI_of h3
  refine ⟨d, ?_, ?_, ed⟩
  · rw [ed, nI_ltI hd (by omega)] at h1; omega
  · rw [ed, nI_leI (by omega) hd] at h2; omega
theorem tr_no (hc : c ≤ 48) (hg : tp_rg c o E x d) (hb : tp_rb c o E x) : False := by
  obtain ⟨g1, g2, g3, g4⟩ := hg
  rcases hb with z | z | ⟨d', z1, z2, z3⟩
  · rw [g3, nI_ltI (by omega) (by omega)] at z; omega
  · rw [g3, nI_leI (by omega) (by omega)] at z; omega
  · have : d = d' := (nI_eq (by omega) (by omega)).mp (g3.symm.trans z2)
    subst this
    exact g4 z3
theorem tr_uq {d' : Nat} (hc : c ≤ 48) (h : tp_rg c o E x d) (h' : tp_rg c o E x d') : d = d' := (nI_eq (by have := h.2.1; omega) (by have := h'.2.1; omega)).mp (h.2.2.1.symm.trans h'.2.2.1)
theorem tr_nm {g i : Nat} {f : Nat → Int32} (hi : g ≤ i) : f i = (fun a => f (a + g)) (i - g) := by
  show f i = f (i - g + g)
  rw [Nat.sub_add_cancel hi]
theorem tr_pf1 {i : Nat} (hd1 : 1 ≤ d) (hlt : d < E d) (hi : E d ≤ i) (h : ¬ E d ≤ P i) : nI (P i) = tp_pa (tp_P2 P d (E d)) (i - (E d - d)) := by
  rw [tp_pas (by omega)]
  unfold tp_P2
  rw [if_neg (by omega), show i - (E d - d) + (E d - d) = i by omega, if_neg h]
theorem tr_pf2 {i : Nat} (hd1 : 1 ≤ d) (hlt : d < E d) (hi : E d ≤ i) (h : E d ≤ P i) : nI (P i - (E d - d)) = tp_pa (tp_P2 P d (E d)) (i - (E d - d)) := by
  rw [tp_pas (by omega)]
  unfold tp_P2
  rw [if_neg (by omega), show i - (E d - d) + (E d - d) = i by omega, if_pos h]
theorem tr_ef {i : Nat} (hlt : d < E d) (hi : E d ≤ i) : nI (E i - (E d - d)) = nI (tp_E2 E d (E d) (i - (E d - d))) := by
  unfold tp_E2
  rw [if_neg (by omega), show i - (E d - d) + (E d - d) = i by omega]
theorem tr_fin {g k : Nat} {f f' F : Nat → Int32} (h : tp_mv d g c f f' F) (hk : k < c - g) (h48 : k < 48) : f' k = if k < d then f k else F k := by
  rw [h k h48]
  by_cases z : k < d
  · rw [if_neg (by omega), if_pos z]
  · rw [if_pos (by omega), if_neg z]
theorem tr_f1 {g k : Nat} {f f' : Nat → Int32} (h : tp_mv d g c f f' (fun a => f (a + g))) (hk : k < c - g) (h48 : k < 48) : f' k = f (tp_ph d g k) := by
  rw [tr_fin h hk h48]
  unfold tp_ph
  split <;> rfl
theorem tr_f3 {g k : Nat} {f f' : Nat → Int32} (hg : g = E d - d) (h : tp_mv d g c f f' (tp_pa (tp_P2 P d (E d)))) (hp : ∀ a, a < c → f a = tp_pa P a) (hk : k < c - g) (h48 : k < 48) : f' k = tp_pa (tp_P2 P d (E d)) k := by
  rw [tr_fin h hk h48]
  by_cases z : k < d
  · rw [if_pos z, hp k (by omega)]
    unfold tp_pa tp_P2
    by_cases w : k = 0
    · rw [if_pos w, if_pos w]
    · rw [if_neg w, if_neg w, if_pos z]
  · rw [if_neg z]
theorem tr_f4 {g k : Nat} {f f' : Nat → Int32} (hg : g = E d - d) (h : tp_mv d g c f f' (fun a => nI (tp_E2 E d (E d) a))) (hp : tp_r1 E c d (E d) d f) (hk : k < c - g) (h48 : k < 48) : f' k = nI (tp_E2 E d (E d) k) := by
  rw [tr_fin h hk h48]
  by_cases z : k < d
  · rw [if_pos z, hp k (by omega)]
    unfold tp_E2
    rw [if_pos z]
    congr 1
    by_cases w : E d ≤ E k
    · rw [if_pos ⟨z, w⟩, if_pos w]
    · rw [if_neg (fun y => w y.2), if_neg w]
  · rw [if_neg z]
/-- the open node after a removal -/
theorem tr_o2 (hW : tp_wf c P E) (hd : d < c) (ho : o < c) (hE : E o = c) (hn : ¬ (d ≤ o ∧ o < E d)) : tp_o2 d (E d) o < c - (E d - d) ∧ tp_E2 E d (E d) (tp_o2 d (E d) o) = c - (E d - d) := by
  have he := tw_E hW hd
  unfold tp_o2
  by_cases z : E d ≤ o
  · rw [if_pos z]
    unfold tp_E2
    rw [if_neg (by omega), show o - (E d - d) + (E d - d) = o by omega, hE]
    omega
  · rw [if_neg z]
    unfold tp_E2
    rw [if_pos (by omega), hE, if_pos he.2]
    omega
end TPW
end
section
set_option maxHeartbeats 4000000 in
set_option maxRecDepth 100000 in
theorem met_remove (l : Launch) (D : va_G) (dA dJ dZ : ClassId) (h : Nat → Nat) (st : Int64) (nm vl pa en : Nat → Int32) (kp : Nat → Int64) {cN : Nat} {P E N : Nat → Nat} {oN : Nat} (x : Int32) (sz : Nat) (hW : tp_wf cN P E) (hX : tp_X cN P E N nm pa en) (ho : oN < cN) : Met l yX0_remove (ws_ yX0_remove cX0_remove 5 (some .int)) ({ frames := 1, cells := 0, slots := 0, locals := 20 }) (tp_Pm D (tp_ty dA dJ dZ) (tp_wX dA dJ h (nI cN) (nI oN) st nm vl pa en kp) sz [.ref (h 0), .int x]) (va_Qi (fun (r : Int32) (u : va_W) => (tp_rb cN oN E x ∧ r = -1 ∧ u = tp_wX dA dJ h (nI cN) (nI oN) st nm vl pa en kp) ∨ (∃ d, tp_rg cN oN E x d ∧ r = nI (cN - (E d - d)) ∧ ∃ nm' vl' pa' en' kp', u = tp_wX dA dJ h (nI (cN - (E d - d))) (nI (tp_o2 d (E d) oN)) 1 nm' vl' pa' en' kp' ∧ (∀ k, k < cN - (E d - d) → nm' k = nm (tp_ph d (E d - d) k) ∧ vl' k = vl (tp_ph d (E d - d) k) ∧ pa' k = tp_pa (tp_P2 P d (E d)) k ∧ en' k = nI (tp_E2 E d (E d) k)) ∧ kp' 0 = 0 ∧ kp' 1 = 0)) (tp_B D (tp_ty dA dJ dZ) (va_A (tp_wX dA dJ h (nI cN) (nI oN) st nm vl pa en kp) sz)) (va_A (tp_wX dA dJ h (nI cN) (nI oN) st nm vl pa en kp) sz)) 0 0 (va_A (tp_wX dA dJ h (nI cN) (nI oN) st nm vl pa en kp) sz) := by
  refine Met.ofW (cc := cX0_remove) (maxL := 5) (ret := (some .int)) (by decide) rfl ?_
  intro p e s m args below meth c s₁ B hml hv
  obtain ⟨rfl, hsz, hP, hK, hD0⟩ := hv
  subst hsz
  have hD := hD0.self (sz := s.heap.size)
  generalize hAe : va_A (tp_wX dA dJ h (nI cN) (nI oN) st nm vl pa en kp) s.heap.size = A at hD ⊢
  have hA : ∀ q : Nat, s.heap.size ≤ q → A q := fun q h => by rw [← hAe]; exact Or.inr h
  have hS : va_S A s.heap s.heap [] := va_S.rf
  have hP : va_P D tp_cl (tp_wX dA dJ h (nI cN) (nI oN) st nm vl pa en kp) s.heap := hP
  have hx := B.exec
  have hb := B.bytes
  have hr := B.returns
  have hts := atoms_spec (ws := ws_ yX0_remove cX0_remove 5 (some .int)) B.pre
  have hts : ∀ w ∈ lw_all, w.before _ s = true := fun w h => hts w (List.mem_cons_of_mem _ h)
  have hown : s.vm.findClass RX0 = some m.cls := findClass_of_methodNamed B.named
  have hlocks := B.notSynchronized
  have hl := lv_entry ([.ref (h 0), .int x]) (n := 5) (Nat.le_of_ble_eq_true rfl)
  rw [lg_entry_eq]
  generalize (lg_sl ([.ref (h 0), .int x]) ++ List.replicate (5 - (lg_sl ([.ref (h 0), .int x])).length) Slot.unset).toArray = ls at hl ⊢
  have hl : lv_has ls 5 [(0, .ref (h 0)), (1, .int x)] := hl
  have hc := tw_c hW
  have JB : tp_rb cN oN E x → W p l e (headSpec (ws_ yX0_remove cX0_remove 5 (some .int)) ({ frames := 1, cells := 0, slots := 0, locals := 20 })).room s m ([.ref (h 0), .int x] : List Value).toArray below meth c s.heap [] 0 0 (MQ below (va_Qi (fun (r : Int32) (u : va_W) => (tp_rb cN oN E x ∧ r = -1 ∧ u = tp_wX dA dJ h (nI cN) (nI oN) st nm vl pa en kp) ∨ (∃ d, tp_rg cN oN E x d ∧ r = nI (cN - (E d - d)) ∧ ∃ nm' vl' pa' en' kp', u = tp_wX dA dJ h (nI (cN - (E d - d))) (nI (tp_o2 d (E d) oN)) 1 nm' vl' pa' en' kp' ∧ (∀ k, k < cN - (E d - d) → nm' k = nm (tp_ph d (E d - d) k) ∧ vl' k = vl (tp_ph d (E d - d) k) ∧ pa' k = tp_pa (tp_P2 P d (E d)) k ∧ en' k = nI (tp_E2 E d (E d) k)) ∧ kp' 0 = 0 ∧ kp' 1 = 0)) (tp_B D (tp_ty dA dJ dZ) (A)) (A)) ([.ref (h 0), .int x] : List Value).toArray s 0 0 (A)) (F0 m 34 ls []) := by
    intro hq
    refine lv_iconst (v := -1) hx hb dX0_remove_34 (by decide) ?_
    exact W.iret hx hb hr (fun t ht hW9 => ⟨⟨_, (tp_wX dA dJ h (nI cN) (nI oN) st nm vl pa en kp), rfl, Or.inl ⟨hq, rfl, rfl⟩, by rw [ht]; exact hP, va_K.moved hW9.alike hK, hD⟩, hS.F ht⟩) hS.2.2 dX0_remove_35
  refine lv_iload_n hx hb dX0_remove_0 rfl (lv_at hl 1 rfl) ?_
  refine lv_iconst (v := nI 1) hx hb dX0_remove_1 (by decide) ?_
  refine lv_icmp_lt (tgt := 34) hx hb dX0_remove_2 (by decide) (fun c1 => ?_) (fun c1 => ?_)
  · exact JB (Or.inl c1)
  · refine lv_iload_n hx hb dX0_remove_5 rfl (lv_at hl 1 rfl) ?_
    refine lv_aload_n hx hb dX0_remove_6 rfl (lv_at hl 0 rfl) ?_
    refine va_get (D := D) (ci := 0) (v := .int (nI cN)) (C := RX0) (T := TX0) (N := 8) hx hb hts in_X0 hown hK hP 0 rfl rfl 0 (by decide) (hts _ q30) (fun _ h9 => h9) rfl dX0_remove_7 ?_
    refine lv_icmp_ge (tgt := 34) hx hb dX0_remove_10 (by decide) (fun c2 => ?_) (fun c2 => ?_)
    · exact JB (Or.inr (Or.inl c2))
    · obtain ⟨d, hd1, hd, ed⟩ := tr_ix hc.2 c1 c2
      have hE0 := tw_E hW hd
      rw [ed] at hl
      have JM : ¬ (d ≤ oN ∧ oN < E d) → W p l e (headSpec (ws_ yX0_remove cX0_remove 5 (some .int)) ({ frames := 1, cells := 0, slots := 0, locals := 20 })).room s m ([.ref (h 0), .int x] : List Value).toArray below meth c s.heap [] 0 0 (MQ below (va_Qi (fun (r : Int32) (u : va_W) => (tp_rb cN oN E x ∧ r = -1 ∧ u = tp_wX dA dJ h (nI cN) (nI oN) st nm vl pa en kp) ∨ (∃ d, tp_rg cN oN E x d ∧ r = nI (cN - (E d - d)) ∧ ∃ nm' vl' pa' en' kp', u = tp_wX dA dJ h (nI (cN - (E d - d))) (nI (tp_o2 d (E d) oN)) 1 nm' vl' pa' en' kp' ∧ (∀ k, k < cN - (E d - d) → nm' k = nm (tp_ph d (E d - d) k) ∧ vl' k = vl (tp_ph d (E d - d) k) ∧ pa' k = tp_pa (tp_P2 P d (E d)) k ∧ en' k = nI (tp_E2 E d (E d) k)) ∧ kp' 0 = 0 ∧ kp' 1 = 0)) (tp_B D (tp_ty dA dJ dZ) (A)) (A)) ([.ref (h 0), .int x] : List Value).toArray s 0 0 (A)) (F0 m 36 ls []) := by
        intro hnr
        have hrg : tp_rg cN oN E x d := ⟨hd1, hd, ed, hnr⟩
        refine lv_aload_n hx hb dX0_remove_36 rfl (lv_at hl 0 rfl) ?_
        refine va_get (D := D) (ci := 0) (v := .ref (h 4)) (C := RX0) (T := TX0) (N := 8) hx hb hts in_X0 hown hK hP 0 rfl rfl 5 (by decide) (hts _ q35) (fun _ h9 => h9) rfl dX0_remove_37 ?_
        refine lv_iload_n hx hb dX0_remove_40 rfl (lv_at hl 1 rfl) ?_
        refine tp_iald (v := nI (E d)) hx hb hK hP 4 0 rfl rfl d rfl (by omega) ((hX d (by omega)).2.2.2) dX0_remove_41 ?_
        refine lv_istore_n (lv' := [(2, .int (nI (E d))), (0, .ref (h 0)), (1, .int (nI d))]) hx hb dX0_remove_42 rfl hl (by decide) rfl (fun ls hl => ?_)
        refine lv_iload_n hx hb dX0_remove_43 rfl (lv_at hl 0 rfl) ?_
        refine lv_iload_n hx hb dX0_remove_44 rfl (lv_at hl 2 rfl) ?_
        refine lv_isub hx hb dX0_remove_45 ?_
        refine tp_ti (y := nI (E d - d)) (pk_sub (by omega)) ?_
        refine lv_istore_n (lv' := [(3, .int (nI (E d - d))), (2, .int (nI (E d))), (0, .ref (h 0)), (1, .int (nI d))]) hx hb dX0_remove_46 rfl hl (by decide) rfl (fun ls hl => ?_)
        refine lv_iconst (v := nI 0) hx hb dX0_remove_47 (by decide) ?_
        refine lv_istore (lv' := [(4, .int (nI 0)), (3, .int (nI (E d - d))), (2, .int (nI (E d))), (0, .ref (h 0)), (1, .int (nI d))]) hx hb dX0_remove_48 hl (by decide) rfl (fun ls hl => ?_)
        have LP : ∀ (n : Nat) (i : Nat) (ee : Nat → Int32) (H : Heap) (locs : List Loc), i ≤ d → d < i + n → tp_r1 E cN d (E d) i ee → va_P D tp_cl (tp_wX dA dJ h (nI cN) (nI oN) st nm vl pa ee kp) H → va_D A (tp_wX dA dJ h (nI cN) (nI oN) st nm vl pa ee kp) → va_S A s.heap H locs →  ∀ (ls : Array Slot), lv_has ls 5 [(0, .ref (h 0)), (1, .int (nI d)), (2, .int (nI (E d))), (3, .int (nI (E d - d))), (4, .int (nI i))] → W p l e (headSpec (ws_ yX0_remove cX0_remove 5 (some .int)) ({ frames := 1, cells := 0, slots := 0, locals := 20 })).room s m ([.ref (h 0), .int x] : List Value).toArray below meth c H locs 0 0 (MQ below (va_Qi (fun (r : Int32) (u : va_W) => (tp_rb cN oN E x ∧ r = -1 ∧ u = tp_wX dA dJ h (nI cN) (nI oN) st nm vl pa en kp) ∨ (∃ d, tp_rg cN oN E x d ∧ r = nI (cN - (E d - d)) ∧ ∃ nm' vl' pa' en' kp', u = tp_wX dA dJ h (nI (cN - (E d - d))) (nI (tp_o2 d (E d) oN)) 1 nm' vl' pa' en' kp' ∧ (∀ k, k < cN - (E d - d) → nm' k = nm (tp_ph d (E d - d) k) ∧ vl' k = vl (tp_ph d (E d - d) k) ∧ pa' k = tp_pa (tp_P2 P d (E d)) k ∧ en' k = nI (tp_E2 E d (E d) k)) ∧ kp' 0 = 0 ∧ kp' 1 = 0)) (tp_B D (tp_ty dA dJ dZ) (A)) (A)) ([.ref (h 0), .int x] : List Value).toArray s 0 0 (A)) (F0 m 50 ls []) := by
          intro n
          induction n with
          | zero => intro i ee H locs hi hf hx0 hP hD hS ls hl; exact absurd hf (by omega)
          | succ n ih =>
            intro i ee H locs hi hf hx0 hP hD hS ls hl
            refine lv_iload hx hb dX0_remove_50 (lv_at hl 4 rfl) ?_
            refine lv_iload_n hx hb dX0_remove_52 rfl (lv_at hl 1 rfl) ?_
            refine lv_icmp_ge (tgt := 88) hx hb dX0_remove_53 (by decide) (fun d1 => ?_) (fun d1 => ?_)
            · have d1 : d ≤ i := (nI_leI (a := d) (b := i) (by omega) (by omega)).mp d1
              rw [show i = d by omega] at hx0
              refine lv_iload_n hx hb dX0_remove_88 rfl (lv_at hl 2 rfl) ?_
              refine lv_istore (lv' := [(4, .int (nI (E d))), (0, .ref (h 0)), (1, .int (nI d)), (2, .int (nI (E d))), (3, .int (nI (E d - d)))]) hx hb dX0_remove_89 hl (by decide) rfl (fun ls hl => ?_)
              have LQ : ∀ (n2 : Nat) (j : Nat) (n1 v1 p1 e1 : Nat → Int32) (H : Heap) (locs : List Loc), E d ≤ j → j ≤ cN → cN < j + n2 → tp_mv d (E d - d) j nm n1 (fun a => nm (a + (E d - d))) → tp_mv d (E d - d) j vl v1 (fun a => vl (a + (E d - d))) → tp_mv d (E d - d) j pa p1 (tp_pa (tp_P2 P d (E d))) → tp_mv d (E d - d) j ee e1 (fun a => nI (tp_E2 E d (E d) a)) → va_P D tp_cl (tp_wX dA dJ h (nI cN) (nI oN) st n1 v1 p1 e1 kp) H → va_D A (tp_wX dA dJ h (nI cN) (nI oN) st n1 v1 p1 e1 kp) → va_S A s.heap H locs →  ∀ (ls : Array Slot), lv_has ls 5 [(0, .ref (h 0)), (1, .int (nI d)), (2, .int (nI (E d))), (3, .int (nI (E d - d))), (4, .int (nI j))] → W p l e (headSpec (ws_ yX0_remove cX0_remove 5 (some .int)) ({ frames := 1, cells := 0, slots := 0, locals := 20 })).room s m ([.ref (h 0), .int x] : List Value).toArray below meth c H locs 0 0 (MQ below (va_Qi (fun (r : Int32) (u : va_W) => (tp_rb cN oN E x ∧ r = -1 ∧ u = tp_wX dA dJ h (nI cN) (nI oN) st nm vl pa en kp) ∨ (∃ d, tp_rg cN oN E x d ∧ r = nI (cN - (E d - d)) ∧ ∃ nm' vl' pa' en' kp', u = tp_wX dA dJ h (nI (cN - (E d - d))) (nI (tp_o2 d (E d) oN)) 1 nm' vl' pa' en' kp' ∧ (∀ k, k < cN - (E d - d) → nm' k = nm (tp_ph d (E d - d) k) ∧ vl' k = vl (tp_ph d (E d - d) k) ∧ pa' k = tp_pa (tp_P2 P d (E d)) k ∧ en' k = nI (tp_E2 E d (E d) k)) ∧ kp' 0 = 0 ∧ kp' 1 = 0)) (tp_B D (tp_ty dA dJ dZ) (A)) (A)) ([.ref (h 0), .int x] : List Value).toArray s 0 0 (A)) (F0 m 91 ls []) := by
                intro n2
                induction n2 with
                | zero => intro j n1 v1 p1 e1 H locs hj1 hj2 hf2 h1 h2 h3 h4 hP hD hS ls hl; exact absurd hf2 (by omega)
                | succ n2 ih2 =>
                  intro j n1 v1 p1 e1 H locs hj1 hj2 hf2 h1 h2 h3 h4 hP hD hS ls hl
                  refine lv_iload hx hb dX0_remove_91 (lv_at hl 4 rfl) ?_
                  refine lv_aload_n hx hb dX0_remove_93 rfl (lv_at hl 0 rfl) ?_
                  refine va_get (D := D) (ci := 0) (v := .int (nI cN)) (C := RX0) (T := TX0) (N := 8) hx hb hts in_X0 hown hK hP 0 rfl rfl 0 (by decide) (hts _ q30) (fun _ h9 => h9) rfl dX0_remove_94 ?_
                  refine lv_icmp_ge (tgt := 195) hx hb dX0_remove_97 (by decide) (fun d3 => ?_) (fun d3 => ?_)
                  · have d3 : cN ≤ j := (nI_leI (a := cN) (b := j) (by omega) (by omega)).mp d3
                    rw [show j = cN by omega] at h1 h2 h3 h4
                    refine lv_aload_n hx hb dX0_remove_195 rfl (lv_at hl 0 rfl) ?_
                    refine lv_dup hx hb dX0_remove_196 rfl ?_
                    refine va_get (D := D) (ci := 0) (v := .int (nI cN)) (C := RX0) (T := TX0) (N := 8) hx hb hts in_X0 hown hK hP 0 rfl rfl 0 (by decide) (hts _ q30) (fun _ h9 => h9) rfl dX0_remove_197 ?_
                    refine lv_iload_n hx hb dX0_remove_200 rfl (lv_at hl 3 rfl) ?_
                    refine lv_isub hx hb dX0_remove_201 ?_
                    refine tp_ti (y := nI (cN - (E d - d))) (pk_sub (by omega)) ?_
                    refine va_put (D := D) (ci := 0) (v := .int (nI (cN - (E d - d)))) (ty := .int) (C := RX0) (T := TX0) (N := 8) hx hb hts in_X0 tyX0 tyX0_ok nmX0 hown hK hP hD hS 0 rfl rfl 0 (by decide) (hts _ q30) (fun _ h9 => h9) rfl (by decide +kernel) rfl rfl (Nat.le_of_ble_eq_true rfl) dX0_remove_202 (fun H locs hP hD hS => ?_)
                    have hP : va_P D tp_cl (tp_wX dA dJ h (nI (cN - (E d - d))) (nI oN) st n1 v1 p1 e1 kp) H := hP
                    have hD : va_D A (tp_wX dA dJ h (nI (cN - (E d - d))) (nI oN) st n1 v1 p1 e1 kp) := hD
                    have J :  W p l e (headSpec (ws_ yX0_remove cX0_remove 5 (some .int)) ({ frames := 1, cells := 0, slots := 0, locals := 20 })).room s m ([.ref (h 0), .int x] : List Value).toArray below meth c H locs 0 0 (MQ below (va_Qi (fun (r : Int32) (u : va_W) => (tp_rb cN oN E x ∧ r = -1 ∧ u = tp_wX dA dJ h (nI cN) (nI oN) st nm vl pa en kp) ∨ (∃ d, tp_rg cN oN E x d ∧ r = nI (cN - (E d - d)) ∧ ∃ nm' vl' pa' en' kp', u = tp_wX dA dJ h (nI (cN - (E d - d))) (nI (tp_o2 d (E d) oN)) 1 nm' vl' pa' en' kp' ∧ (∀ k, k < cN - (E d - d) → nm' k = nm (tp_ph d (E d - d) k) ∧ vl' k = vl (tp_ph d (E d - d) k) ∧ pa' k = tp_pa (tp_P2 P d (E d)) k ∧ en' k = nI (tp_E2 E d (E d) k)) ∧ kp' 0 = 0 ∧ kp' 1 = 0)) (tp_B D (tp_ty dA dJ dZ) (A)) (A)) ([.ref (h 0), .int x] : List Value).toArray s 0 0 (A)) (F0 m 224 ls [.int (nI (tp_o2 d (E d) oN)), .ref (h 0)]) := by
                      refine va_put (D := D) (ci := 0) (v := .int (nI (tp_o2 d (E d) oN))) (ty := .int) (C := RX0) (T := TX0) (N := 8) hx hb hts in_X0 tyX0 tyX0_ok nmX0 hown hK hP hD hS 0 rfl rfl 1 (by decide) (hts _ q31) (fun _ h9 => h9) rfl (by decide +kernel) rfl rfl (Nat.le_of_ble_eq_true rfl) dX0_remove_224 (fun H locs hP hD hS => ?_)
                      have hP : va_P D tp_cl (tp_wX dA dJ h (nI (cN - (E d - d))) (nI (tp_o2 d (E d) oN)) st n1 v1 p1 e1 kp) H := hP
                      have hD : va_D A (tp_wX dA dJ h (nI (cN - (E d - d))) (nI (tp_o2 d (E d) oN)) st n1 v1 p1 e1 kp) := hD
                      refine lv_aload_n hx hb dX0_remove_227 rfl (lv_at hl 0 rfl) ?_
                      have hFc := va_free (wc := tp_wX dA dJ h (nI (cN - (E d - d))) (nI (tp_o2 d (E d) oN)) st n1 v1 p1 e1 kp) hD hS hA [0, 1, 2, 3, 4, 5] rfl
                      refine va_callv (va_runV (As := []) (rest := []) ⟨hx, hb, hml, hown, hts⟩ (met_forget l D dA dJ dZ h (nI (cN - (E d - d))) (nI (tp_o2 d (E d) oN)) st n1 v1 p1 e1 kp H.size) (cwV 0 hts (lw_V q65 q67 qs1 q20 q68) rfl rfl rfl (by decide +kernel) ⟨Nat.le_of_ble_eq_true rfl, Nat.le_of_ble_eq_true rfl⟩) (tp_pvm hK hP hD (ci := 0) (q0 := 0) rfl rfl) rfl rfl hl.1 rfl (lv_room (Nat.le_of_ble_eq_true rfl)) dX0_remove_228 ⟨Nat.le_of_ble_eq_true rfl, Nat.le_of_ble_eq_true rfl⟩) hS (fun q _ z => hFc q z) hFc (fun u t H1 locs ht hvm hw hB hz1 hk1 hS => ?_)
                      obtain ⟨hP, hK1, hD1⟩ := hB
                      rw [ht] at hP
                      have hD := hD1.weaken (fun _ q _ z => hFc q.1 z)
                      generalize H1 = H at hP hS ⊢
                      obtain ⟨kp1, rfl, hk0, hk1'⟩ := hw
                      refine lv_aload_n hx hb dX0_remove_231 rfl (lv_at hl 0 rfl) ?_
                      refine va_get (D := D) (ci := 0) (v := .int (nI (cN - (E d - d)))) (C := RX0) (T := TX0) (N := 8) hx hb hts in_X0 hown hK hP 0 rfl rfl 0 (by decide) (hts _ q30) (fun _ h9 => h9) rfl dX0_remove_232 ?_
                      exact W.iret hx hb hr (fun t ht hW9 => ⟨⟨_, (tp_wX dA dJ h (nI (cN - (E d - d))) (nI (tp_o2 d (E d) oN)) 1 n1 v1 p1 e1 kp1), rfl, Or.inr ⟨d, hrg, rfl, _, _, _, _, _, rfl, fun k hk => ⟨tr_f1 h1 hk (by omega), tr_f1 h2 hk (by omega), tr_f3 rfl h3 (fun a ha => (hX a ha).2.2.1) hk (by omega), tr_f4 rfl h4 hx0 hk (by omega)⟩, hk0, hk1'⟩, by rw [ht]; exact hP, va_K.moved hW9.alike hK, hD⟩, hS.F ht⟩) hS.2.2 dX0_remove_235
                    refine lv_aload_n hx hb dX0_remove_205 rfl (lv_at hl 0 rfl) ?_
                    refine lv_dup hx hb dX0_remove_206 rfl ?_
                    refine va_get (D := D) (ci := 0) (v := .int (nI oN)) (C := RX0) (T := TX0) (N := 8) hx hb hts in_X0 hown hK hP 0 rfl rfl 1 (by decide) (hts _ q31) (fun _ h9 => h9) rfl dX0_remove_207 ?_
                    refine lv_aload_n hx hb dX0_remove_210 rfl (lv_at hl 0 rfl) ?_
                    refine va_get (D := D) (ci := 0) (v := .int (nI oN)) (C := RX0) (T := TX0) (N := 8) hx hb hts in_X0 hown hK hP 0 rfl rfl 1 (by decide) (hts _ q31) (fun _ h9 => h9) rfl dX0_remove_211 ?_
                    refine lv_iload_n hx hb dX0_remove_214 rfl (lv_at hl 2 rfl) ?_
                    refine lv_icmp_lt (tgt := 222) hx hb dX0_remove_215 (by decide) (fun e1 => ?_) (fun e1 => ?_)
                    · have e1 : oN < (E d) := (nI_ltI (a := oN) (b := (E d)) (by omega) (by omega)).mp e1
                      refine lv_iconst (v := nI 0) hx hb dX0_remove_222 (by decide) ?_
                      refine lv_isub hx hb dX0_remove_223 ?_
                      refine tp_ti (y := nI (tp_o2 d (E d) oN)) (by unfold tp_o2; rw [if_neg (by omega)]; exact pk_sub (Nat.zero_le _)) ?_
                      exact J
                    · have e1 : ¬ (oN < (E d)) := fun z => e1 ((nI_ltI (a := oN) (b := (E d)) (by omega) (by omega)).mpr z)
                      refine lv_iload_n hx hb dX0_remove_218 rfl (lv_at hl 3 rfl) ?_
                      refine lv_goto (tgt := 223) hx hb dX0_remove_219 (by decide) ?_
                      refine lv_isub hx hb dX0_remove_223 ?_
                      refine tp_ti (y := nI (tp_o2 d (E d) oN)) (by unfold tp_o2; rw [if_pos (by omega)]; exact pk_sub (by omega)) ?_
                      exact J
                  · have d3 : ¬ (cN ≤ j) := fun z => d3 ((nI_leI (a := cN) (b := j) (by omega) (by omega)).mpr z)
                    have hpj := tw_P hW (show 0 < j by omega) (by omega)
                    have hEj := tw_E hW (show j < cN by omega)
                    refine lv_aload_n hx hb dX0_remove_100 rfl (lv_at hl 0 rfl) ?_
                    refine va_get (D := D) (ci := 0) (v := .ref (h 1)) (C := RX0) (T := TX0) (N := 8) hx hb hts in_X0 hown hK hP 0 rfl rfl 2 (by decide) (hts _ q32) (fun _ h9 => h9) rfl dX0_remove_101 ?_
                    refine lv_iload hx hb dX0_remove_104 (lv_at hl 4 rfl) ?_
                    refine lv_iload_n hx hb dX0_remove_106 rfl (lv_at hl 3 rfl) ?_
                    refine lv_isub hx hb dX0_remove_107 ?_
                    refine tp_ti (y := nI (j - (E d - d))) (pk_sub (by omega)) ?_
                    refine lv_aload_n hx hb dX0_remove_108 rfl (lv_at hl 0 rfl) ?_
                    refine va_get (D := D) (ci := 0) (v := .ref (h 1)) (C := RX0) (T := TX0) (N := 8) hx hb hts in_X0 hown hK hP 0 rfl rfl 2 (by decide) (hts _ q32) (fun _ h9 => h9) rfl dX0_remove_109 ?_
                    refine lv_iload hx hb dX0_remove_112 (lv_at hl 4 rfl) ?_
                    refine tp_iald (v := nm j) hx hb hK hP 1 0 rfl rfl j rfl (by omega) (tu_mvr (by omega) h1) dX0_remove_114 ?_
                    refine tp_iast hx hb hK hP hD hS 1 0 rfl rfl (j - (E d - d)) rfl (by omega) dX0_remove_115 (fun H locs hP hD hS => ?_)
                    have hP : va_P D tp_cl (tp_wX dA dJ h (nI cN) (nI oN) st (upd n1 (j - (E d - d)) (nm j)) v1 p1 e1 kp) H := hP
                    have hD : va_D A (tp_wX dA dJ h (nI cN) (nI oN) st (upd n1 (j - (E d - d)) (nm j)) v1 p1 e1 kp) := hD
                    refine lv_aload_n hx hb dX0_remove_116 rfl (lv_at hl 0 rfl) ?_
                    refine va_get (D := D) (ci := 0) (v := .ref (h 2)) (C := RX0) (T := TX0) (N := 8) hx hb hts in_X0 hown hK hP 0 rfl rfl 3 (by decide) (hts _ q33) (fun _ h9 => h9) rfl dX0_remove_117 ?_
                    refine lv_iload hx hb dX0_remove_120 (lv_at hl 4 rfl) ?_
                    refine lv_iload_n hx hb dX0_remove_122 rfl (lv_at hl 3 rfl) ?_
                    refine lv_isub hx hb dX0_remove_123 ?_
                    refine tp_ti (y := nI (j - (E d - d))) (pk_sub (by omega)) ?_
                    refine lv_aload_n hx hb dX0_remove_124 rfl (lv_at hl 0 rfl) ?_
                    refine va_get (D := D) (ci := 0) (v := .ref (h 2)) (C := RX0) (T := TX0) (N := 8) hx hb hts in_X0 hown hK hP 0 rfl rfl 3 (by decide) (hts _ q33) (fun _ h9 => h9) rfl dX0_remove_125 ?_
                    refine lv_iload hx hb dX0_remove_128 (lv_at hl 4 rfl) ?_
                    refine tp_iald (v := vl j) hx hb hK hP 2 0 rfl rfl j rfl (by omega) (tu_mvr (by omega) h2) dX0_remove_130 ?_
                    refine tp_iast hx hb hK hP hD hS 2 0 rfl rfl (j - (E d - d)) rfl (by omega) dX0_remove_131 (fun H locs hP hD hS => ?_)
                    have hP : va_P D tp_cl (tp_wX dA dJ h (nI cN) (nI oN) st (upd n1 (j - (E d - d)) (nm j)) (upd v1 (j - (E d - d)) (vl j)) p1 e1 kp) H := hP
                    have hD : va_D A (tp_wX dA dJ h (nI cN) (nI oN) st (upd n1 (j - (E d - d)) (nm j)) (upd v1 (j - (E d - d)) (vl j)) p1 e1 kp) := hD
                    refine lv_aload_n hx hb dX0_remove_132 rfl (lv_at hl 0 rfl) ?_
                    refine va_get (D := D) (ci := 0) (v := .ref (h 3)) (C := RX0) (T := TX0) (N := 8) hx hb hts in_X0 hown hK hP 0 rfl rfl 4 (by decide) (hts _ q34) (fun _ h9 => h9) rfl dX0_remove_133 ?_
                    refine lv_iload hx hb dX0_remove_136 (lv_at hl 4 rfl) ?_
                    refine lv_iload_n hx hb dX0_remove_138 rfl (lv_at hl 3 rfl) ?_
                    refine lv_isub hx hb dX0_remove_139 ?_
                    refine tp_ti (y := nI (j - (E d - d))) (pk_sub (by omega)) ?_
                    refine lv_aload_n hx hb dX0_remove_140 rfl (lv_at hl 0 rfl) ?_
                    refine va_get (D := D) (ci := 0) (v := .ref (h 3)) (C := RX0) (T := TX0) (N := 8) hx hb hts in_X0 hown hK hP 0 rfl rfl 4 (by decide) (hts _ q34) (fun _ h9 => h9) rfl dX0_remove_141 ?_
                    refine lv_iload hx hb dX0_remove_144 (lv_at hl 4 rfl) ?_
                    refine tp_iald (v := nI (P j)) hx hb hK hP 3 0 rfl rfl j rfl (by omega) ((tu_mvr (by omega) h3).trans ((hX j (by omega)).2.2.1.trans (tp_pas (by omega)))) dX0_remove_146 ?_
                    refine lv_iload_n hx hb dX0_remove_147 rfl (lv_at hl 2 rfl) ?_
                    refine lv_icmp_lt (tgt := 163) hx hb dX0_remove_148 (by decide) (fun e2 => ?_) (fun e2 => ?_)
                    · have e2 : (P j) < (E d) := (nI_ltI (a := (P j)) (b := (E d)) (by omega) (by omega)).mp e2
                      refine lv_aload_n hx hb dX0_remove_163 rfl (lv_at hl 0 rfl) ?_
                      refine va_get (D := D) (ci := 0) (v := .ref (h 3)) (C := RX0) (T := TX0) (N := 8) hx hb hts in_X0 hown hK hP 0 rfl rfl 4 (by decide) (hts _ q34) (fun _ h9 => h9) rfl dX0_remove_164 ?_
                      refine lv_iload hx hb dX0_remove_167 (lv_at hl 4 rfl) ?_
                      refine tp_iald (v := nI (P j)) hx hb hK hP 3 0 rfl rfl j rfl (by omega) ((tu_mvr (by omega) h3).trans ((hX j (by omega)).2.2.1.trans (tp_pas (by omega)))) dX0_remove_169 ?_
                      refine tp_iast hx hb hK hP hD hS 3 0 rfl rfl (j - (E d - d)) rfl (by omega) dX0_remove_170 (fun H locs hP hD hS => ?_)
                      have hP : va_P D tp_cl (tp_wX dA dJ h (nI cN) (nI oN) st (upd n1 (j - (E d - d)) (nm j)) (upd v1 (j - (E d - d)) (vl j)) (upd p1 (j - (E d - d)) (nI (P j))) e1 kp) H := hP
                      have hD : va_D A (tp_wX dA dJ h (nI cN) (nI oN) st (upd n1 (j - (E d - d)) (nm j)) (upd v1 (j - (E d - d)) (vl j)) (upd p1 (j - (E d - d)) (nI (P j))) e1 kp) := hD
                      refine lv_aload_n hx hb dX0_remove_171 rfl (lv_at hl 0 rfl) ?_
                      refine va_get (D := D) (ci := 0) (v := .ref (h 4)) (C := RX0) (T := TX0) (N := 8) hx hb hts in_X0 hown hK hP 0 rfl rfl 5 (by decide) (hts _ q35) (fun _ h9 => h9) rfl dX0_remove_172 ?_
                      refine lv_iload hx hb dX0_remove_175 (lv_at hl 4 rfl) ?_
                      refine lv_iload_n hx hb dX0_remove_177 rfl (lv_at hl 3 rfl) ?_
                      refine lv_isub hx hb dX0_remove_178 ?_
                      refine tp_ti (y := nI (j - (E d - d))) (pk_sub (by omega)) ?_
                      refine lv_aload_n hx hb dX0_remove_179 rfl (lv_at hl 0 rfl) ?_
                      refine va_get (D := D) (ci := 0) (v := .ref (h 4)) (C := RX0) (T := TX0) (N := 8) hx hb hts in_X0 hown hK hP 0 rfl rfl 5 (by decide) (hts _ q35) (fun _ h9 => h9) rfl dX0_remove_180 ?_
                      refine lv_iload hx hb dX0_remove_183 (lv_at hl 4 rfl) ?_
                      refine tp_iald (v := nI (E j)) hx hb hK hP 4 0 rfl rfl j rfl (by omega) ((tu_mvr (by omega) h4).trans (tu_rd hx0 (by omega) (by omega))) dX0_remove_185 ?_
                      refine lv_iload_n hx hb dX0_remove_186 rfl (lv_at hl 3 rfl) ?_
                      refine lv_isub hx hb dX0_remove_187 ?_
                      refine tp_ti (y := nI (E j - (E d - d))) (pk_sub (by omega)) ?_
                      refine tp_iast hx hb hK hP hD hS 4 0 rfl rfl (j - (E d - d)) rfl (by omega) dX0_remove_188 (fun H locs hP hD hS => ?_)
                      have hP : va_P D tp_cl (tp_wX dA dJ h (nI cN) (nI oN) st (upd n1 (j - (E d - d)) (nm j)) (upd v1 (j - (E d - d)) (vl j)) (upd p1 (j - (E d - d)) (nI (P j))) (upd e1 (j - (E d - d)) (nI (E j - (E d - d)))) kp) H := hP
                      have hD : va_D A (tp_wX dA dJ h (nI cN) (nI oN) st (upd n1 (j - (E d - d)) (nm j)) (upd v1 (j - (E d - d)) (vl j)) (upd p1 (j - (E d - d)) (nI (P j))) (upd e1 (j - (E d - d)) (nI (E j - (E d - d)))) kp) := hD
                      refine lv_iinc (v := nI (j + 1)) (lv' := [(4, .int (nI (j + 1))), (0, .ref (h 0)), (1, .int (nI d)), (2, .int (nI (E d))), (3, .int (nI (E d - d)))]) hx hb dX0_remove_189 hl (k := 4) rfl (nI_1 j) (by decide) rfl (fun ls hl => ?_)
                      refine lv_goto (tgt := 91) hx hb dX0_remove_192 (by decide) ?_
                      exact ih2 (j + 1) _ _ _ _ _ _ (by omega) (by omega) (by omega) (tu_mvs (by omega) h1 (tr_nm (by omega))) (tu_mvs (by omega) h2 (tr_nm (by omega))) (tu_mvs (by omega) h3 (tr_pf1 hd1 (by omega) (by omega) (by omega))) (tu_mvs (by omega) h4 (tr_ef (by omega) (by omega))) hP hD hS ls (lv_sub hl [1, 2, 3, 4, 0] rfl)
                    · have e2 : ¬ ((P j) < (E d)) := fun z => e2 ((nI_ltI (a := (P j)) (b := (E d)) (by omega) (by omega)).mpr z)
                      refine lv_aload_n hx hb dX0_remove_151 rfl (lv_at hl 0 rfl) ?_
                      refine va_get (D := D) (ci := 0) (v := .ref (h 3)) (C := RX0) (T := TX0) (N := 8) hx hb hts in_X0 hown hK hP 0 rfl rfl 4 (by decide) (hts _ q34) (fun _ h9 => h9) rfl dX0_remove_152 ?_
                      refine lv_iload hx hb dX0_remove_155 (lv_at hl 4 rfl) ?_
                      refine tp_iald (v := nI (P j)) hx hb hK hP 3 0 rfl rfl j rfl (by omega) ((tu_mvr (by omega) h3).trans ((hX j (by omega)).2.2.1.trans (tp_pas (by omega)))) dX0_remove_157 ?_
                      refine lv_iload_n hx hb dX0_remove_158 rfl (lv_at hl 3 rfl) ?_
                      refine lv_isub hx hb dX0_remove_159 ?_
                      refine tp_ti (y := nI (P j - (E d - d))) (pk_sub (by omega)) ?_
                      refine lv_goto (tgt := 170) hx hb dX0_remove_160 (by decide) ?_
                      refine tp_iast hx hb hK hP hD hS 3 0 rfl rfl (j - (E d - d)) rfl (by omega) dX0_remove_170 (fun H locs hP hD hS => ?_)
                      have hP : va_P D tp_cl (tp_wX dA dJ h (nI cN) (nI oN) st (upd n1 (j - (E d - d)) (nm j)) (upd v1 (j - (E d - d)) (vl j)) (upd p1 (j - (E d - d)) (nI (P j - (E d - d)))) e1 kp) H := hP
                      have hD : va_D A (tp_wX dA dJ h (nI cN) (nI oN) st (upd n1 (j - (E d - d)) (nm j)) (upd v1 (j - (E d - d)) (vl j)) (upd p1 (j - (E d - d)) (nI (P j - (E d - d)))) e1 kp) := hD
                      refine lv_aload_n hx hb dX0_remove_171 rfl (lv_at hl 0 rfl) ?_
                      refine va_get (D := D) (ci := 0) (v := .ref (h 4)) (C := RX0) (T := TX0) (N := 8) hx hb hts in_X0 hown hK hP 0 rfl rfl 5 (by decide) (hts _ q35) (fun _ h9 => h9) rfl dX0_remove_172 ?_
                      refine lv_iload hx hb dX0_remove_175 (lv_at hl 4 rfl) ?_
                      refine lv_iload_n hx hb dX0_remove_177 rfl (lv_at hl 3 rfl) ?_
                      refine lv_isub hx hb dX0_remove_178 ?_
                      refine tp_ti (y := nI (j - (E d - d))) (pk_sub (by omega)) ?_
                      refine lv_aload_n hx hb dX0_remove_179 rfl (lv_at hl 0 rfl) ?_
                      refine va_get (D := D) (ci := 0) (v := .ref (h 4)) (C := RX0) (T := TX0) (N := 8) hx hb hts in_X0 hown hK hP 0 rfl rfl 5 (by decide) (hts _ q35) (fun _ h9 => h9) rfl dX0_remove_180 ?_
                      refine lv_iload hx hb dX0_remove_183 (lv_at hl 4 rfl) ?_
                      refine tp_iald (v := nI (E j)) hx hb hK hP 4 0 rfl rfl j rfl (by omega) ((tu_mvr (by omega) h4).trans (tu_rd hx0 (by omega) (by omega))) dX0_remove_185 ?_
                      refine lv_iload_n hx hb dX0_remove_186 rfl (lv_at hl 3 rfl) ?_
                      refine lv_isub hx hb dX0_remove_187 ?_
                      refine tp_ti (y := nI (E j - (E d - d))) (pk_sub (by omega)) ?_
                      refine tp_iast hx hb hK hP hD hS 4 0 rfl rfl (j - (E d - d)) rfl (by omega) dX0_remove_188 (fun H locs hP hD hS => ?_)
                      have hP : va_P D tp_cl (tp_wX dA dJ h (nI cN) (nI oN) st (upd n1 (j - (E d - d)) (nm j)) (upd v1 (j - (E d - d)) (vl j)) (upd p1 (j - (E d - d)) (nI (P j - (E d - d)))) (upd e1 (j - (E d - d)) (nI (E j - (E d - d)))) kp) H := hP
                      have hD : va_D A (tp_wX dA dJ h (nI cN) (nI oN) st (upd n1 (j - (E d - d)) (nm j)) (upd v1 (j - (E d - d)) (vl j)) (upd p1 (j - (E d - d)) (nI (P j - (E d - d)))) (upd e1 (j - (E d - d)) (nI (E j - (E d - d)))) kp) := hD
                      refine lv_iinc (v := nI (j + 1)) (lv' := [(4, .int (nI (j + 1))), (0, .ref (h 0)), (1, .int (nI d)), (2, .int (nI (E d))), (3, .int (nI (E d - d)))]) hx hb dX0_remove_189 hl (k := 4) rfl (nI_1 j) (by decide) rfl (fun ls hl => ?_)
                      refine lv_goto (tgt := 91) hx hb dX0_remove_192 (by decide) ?_
                      exact ih2 (j + 1) _ _ _ _ _ _ (by omega) (by omega) (by omega) (tu_mvs (by omega) h1 (tr_nm (by omega))) (tu_mvs (by omega) h2 (tr_nm (by omega))) (tu_mvs (by omega) h3 (tr_pf2 hd1 (by omega) (by omega) (by omega))) (tu_mvs (by omega) h4 (tr_ef (by omega) (by omega))) hP hD hS ls (lv_sub hl [1, 2, 3, 4, 0] rfl)
              exact LQ (cN + 1) (E d) nm vl pa ee _ _ (by omega) (by omega) (by omega) (tu_mv0 (by omega)) (tu_mv0 (by omega)) (tu_mv0 (by omega)) (tu_mv0 (by omega)) hP hD hS ls (lv_sub hl [1, 2, 3, 4, 0] rfl)
            · have d1 : ¬ (d ≤ i) := fun z => d1 ((nI_leI (a := d) (b := i) (by omega) (by omega)).mpr z)
              have hEi := tw_E hW (show i < cN by omega)
              refine lv_aload_n hx hb dX0_remove_56 rfl (lv_at hl 0 rfl) ?_
              refine va_get (D := D) (ci := 0) (v := .ref (h 4)) (C := RX0) (T := TX0) (N := 8) hx hb hts in_X0 hown hK hP 0 rfl rfl 5 (by decide) (hts _ q35) (fun _ h9 => h9) rfl dX0_remove_57 ?_
              refine lv_iload hx hb dX0_remove_60 (lv_at hl 4 rfl) ?_
              refine lv_dup2_11 hx hb dX0_remove_62 rfl rfl ?_
              refine tp_iald (v := nI (E i)) hx hb hK hP 4 0 rfl rfl i rfl (by omega) (tu_rr hx0 (by omega)) dX0_remove_63 ?_
              refine lv_aload_n hx hb dX0_remove_64 rfl (lv_at hl 0 rfl) ?_
              refine va_get (D := D) (ci := 0) (v := .ref (h 4)) (C := RX0) (T := TX0) (N := 8) hx hb hts in_X0 hown hK hP 0 rfl rfl 5 (by decide) (hts _ q35) (fun _ h9 => h9) rfl dX0_remove_65 ?_
              refine lv_iload hx hb dX0_remove_68 (lv_at hl 4 rfl) ?_
              refine tp_iald (v := nI (E i)) hx hb hK hP 4 0 rfl rfl i rfl (by omega) (tu_rr hx0 (by omega)) dX0_remove_70 ?_
              refine lv_iload_n hx hb dX0_remove_71 rfl (lv_at hl 2 rfl) ?_
              refine lv_icmp_lt (tgt := 79) hx hb dX0_remove_72 (by decide) (fun d2 => ?_) (fun d2 => ?_)
              · have d2 : (E i) < (E d) := (nI_ltI (a := (E i)) (b := (E d)) (by omega) (by omega)).mp d2
                refine lv_iconst (v := nI 0) hx hb dX0_remove_79 (by decide) ?_
                refine lv_isub hx hb dX0_remove_80 ?_
                refine tp_ti (y := nI (E i)) (pk_sub (Nat.zero_le _)) ?_
                refine tp_iast hx hb hK hP hD hS 4 0 rfl rfl i rfl (by omega) dX0_remove_81 (fun H locs hP hD hS => ?_)
                have hP : va_P D tp_cl (tp_wX dA dJ h (nI cN) (nI oN) st nm vl pa (upd ee i (nI (E i))) kp) H := hP
                have hD : va_D A (tp_wX dA dJ h (nI cN) (nI oN) st nm vl pa (upd ee i (nI (E i))) kp) := hD
                refine lv_iinc (v := nI (i + 1)) (lv' := [(4, .int (nI (i + 1))), (0, .ref (h 0)), (1, .int (nI d)), (2, .int (nI (E d))), (3, .int (nI (E d - d)))]) hx hb dX0_remove_82 hl (k := 4) rfl (nI_1 i) (by decide) rfl (fun ls hl => ?_)
                refine lv_goto (tgt := 50) hx hb dX0_remove_85 (by decide) ?_
                exact ih (i + 1) _ _ _ (by omega) (by omega) (tu_rn hx0 (by omega)) hP hD hS ls (lv_sub hl [1, 2, 3, 4, 0] rfl)
              · have d2 : ¬ ((E i) < (E d)) := fun z => d2 ((nI_ltI (a := (E i)) (b := (E d)) (by omega) (by omega)).mpr z)
                refine lv_iload_n hx hb dX0_remove_75 rfl (lv_at hl 3 rfl) ?_
                refine lv_goto (tgt := 80) hx hb dX0_remove_76 (by decide) ?_
                refine lv_isub hx hb dX0_remove_80 ?_
                refine tp_ti (y := nI (E i - (E d - d))) (pk_sub (by omega)) ?_
                refine tp_iast hx hb hK hP hD hS 4 0 rfl rfl i rfl (by omega) dX0_remove_81 (fun H locs hP hD hS => ?_)
                have hP : va_P D tp_cl (tp_wX dA dJ h (nI cN) (nI oN) st nm vl pa (upd ee i (nI (E i - (E d - d)))) kp) H := hP
                have hD : va_D A (tp_wX dA dJ h (nI cN) (nI oN) st nm vl pa (upd ee i (nI (E i - (E d - d)))) kp) := hD
                refine lv_iinc (v := nI (i + 1)) (lv' := [(4, .int (nI (i + 1))), (0, .ref (h 0)), (1, .int (nI d)), (2, .int (nI (E d))), (3, .int (nI (E d - d)))]) hx hb dX0_remove_82 hl (k := 4) rfl (nI_1 i) (by decide) rfl (fun ls hl => ?_)
                refine lv_goto (tgt := 50) hx hb dX0_remove_85 (by decide) ?_
                exact ih (i + 1) _ _ _ (by omega) (by omega) (tu_rs hx0 (by omega)) hP hD hS ls (lv_sub hl [1, 2, 3, 4, 0] rfl)
        exact LP (d + 1) 0 en _ _ (by omega) (by omega) (tu_r0 (fun a ha => (hX a ha).2.2.2)) hP hD hS ls (lv_sub hl [3, 4, 2, 1, 0] rfl)
      refine lv_aload_n hx hb dX0_remove_13 rfl (lv_at hl 0 rfl) ?_
      refine va_get (D := D) (ci := 0) (v := .int (nI oN)) (C := RX0) (T := TX0) (N := 8) hx hb hts in_X0 hown hK hP 0 rfl rfl 1 (by decide) (hts _ q31) (fun _ h9 => h9) rfl dX0_remove_14 ?_
      refine lv_iload_n hx hb dX0_remove_17 rfl (lv_at hl 1 rfl) ?_
      refine lv_icmp_lt (tgt := 36) hx hb dX0_remove_18 (by decide) (fun c3 => ?_) (fun c3 => ?_)
      · have c3 : oN < d := (nI_ltI (a := oN) (b := d) (by omega) (by omega)).mp c3
        exact JM (fun z => by omega)
      · have c3 : ¬ (oN < d) := fun z => c3 ((nI_ltI (a := oN) (b := d) (by omega) (by omega)).mpr z)
        refine lv_aload_n hx hb dX0_remove_21 rfl (lv_at hl 0 rfl) ?_
        refine va_get (D := D) (ci := 0) (v := .int (nI oN)) (C := RX0) (T := TX0) (N := 8) hx hb hts in_X0 hown hK hP 0 rfl rfl 1 (by decide) (hts _ q31) (fun _ h9 => h9) rfl dX0_remove_22 ?_
        refine lv_aload_n hx hb dX0_remove_25 rfl (lv_at hl 0 rfl) ?_
        refine va_get (D := D) (ci := 0) (v := .ref (h 4)) (C := RX0) (T := TX0) (N := 8) hx hb hts in_X0 hown hK hP 0 rfl rfl 5 (by decide) (hts _ q35) (fun _ h9 => h9) rfl dX0_remove_26 ?_
        refine lv_iload_n hx hb dX0_remove_29 rfl (lv_at hl 1 rfl) ?_
        refine tp_iald (v := nI (E d)) hx hb hK hP 4 0 rfl rfl d rfl (by omega) ((hX d (by omega)).2.2.2) dX0_remove_30 ?_
        refine lv_icmp_ge (tgt := 36) hx hb dX0_remove_31 (by decide) (fun c4 => ?_) (fun c4 => ?_)
        · have c4 : (E d) ≤ oN := (nI_leI (a := (E d)) (b := oN) (by omega) (by omega)).mp c4
          exact JM (fun z => by omega)
        · have c4 : ¬ ((E d) ≤ oN) := fun z => c4 ((nI_leI (a := (E d)) (b := oN) (by omega) (by omega)).mpr z)
          exact JB (Or.inr (Or.inr ⟨d, hd, ed, by omega, by omega⟩))
end
section
/-! the model's sets are TreePaths' sets; plain -/
section TPQ
variable {c : Nat} {P E N : Nat → Nat} {ax t n : Nat}
/-- along the parent's axis lies one node at most: the order doesn't matter -/
theorem tq_one {f : Nat → Bool} {p : Nat} (hf : ∀ q, f q = true → q = p) : ∀ m, tp_c f m ≤ 1 ∧ (m ≤ p → tp_c f m = 0) := by
  intro m
  induction m with
  | zero => exact ⟨Nat.zero_le _, fun _ => rfl⟩
  | succ m ih =>
    cases hb : f m
    · rw [tp_c_f hb]
      exact ⟨ih.1, fun z => ih.2 (by omega)⟩
    · have := hf m hb
      rw [tp_c_t hb]
      have h0 := ih.2 (by omega)
      exact ⟨by omega, fun z => by omega⟩
theorem ty_b2 (hc : c ≤ 48) {pl : Int} (q : Nat) : tp_num (tp_D (tp_F c P E N ax t n)) (ax = 2 ∨ tp_bw ax) pl q ↔ tp_num (tp_D (tp_F c P E N ax t n)) (tp_bw ax) pl q := by
  by_cases h2 : ax = 2
  · have hnb : ¬ tp_bw ax := by unfold tp_bw; omega
    by_cases hf : tp_D (tp_F c P E N ax t n) q = true
    · rw [tk_bk (bw := (ax = 2 ∨ tp_bw ax)) (Or.inl h2) hf, tk_fw hnb hf]
      have hone : ∀ k, tp_D (tp_F c P E N ax t n) k = true → k = P n := by
        intro k hk
        have := (tp_D_iff.mp hk).2.1
        rw [h2] at this
        exact (tl_2.mp this).2.symm
      have h1 := tq_one hone
      have hq := hone q hf
      have hlt := tn_Flt hc hf
      have a1 := (h1 q).2 (by omega)
      have a2 := tp_c_lt hlt hf
      have a3 := (h1 48).1
      rw [a1]
      omega
    · constructor
      · intro z; exact absurd z.1 hf
      · intro z; exact absurd z.1 hf
  · have : (ax = 2 ∨ tp_bw ax) ↔ tp_bw ax := ⟨fun z => z.elim (fun y => absurd y h2) id, Or.inr⟩
    unfold tp_num
    rw [this]
theorem ty_hv0 {r : Int64} {bw : Prop} (h : ∀ q, tp_b r q = true ↔ tp_num (tp_D (tp_F c P E N ax t n)) bw (nI 0).toInt q) : r = 0 ↔ ¬ tp_hv c P E N ax t n := by
  have h0 : (nI 0).toInt = 0 := by decide
  constructor
  · intro hr ⟨m, hm⟩
    have : tp_b r m = true := (h m).mpr ⟨tp_D_iff.mpr hm, Or.inl h0⟩
    rw [hr, tp_0] at this
    cases this
  · intro hn
    apply Classical.byContradiction
    intro z
    obtain ⟨m, hm⟩ := tp_some z
    exact hn ⟨m, tp_D_iff.mp ((h m).mp hm).1⟩
/-- the model's valued: whether something was found among the first j -/
def tp_any (E N : Nat → Nat) (vl : Nat → Int32) (lo hi : Int32) (i j : Nat) : Prop := ∃ m, m < j ∧ (m = i ∨ tp_In E i m) ∧ tp_tv N vl lo hi m
theorem tq_any0 {vl : Nat → Int32} {lo hi : Int32} {i : Nat} : ¬ tp_any E N vl lo hi i 0 := fun ⟨_, z, _⟩ => absurd z (Nat.not_lt_zero _)
theorem tq_anyy {vl : Nat → Int32} {lo hi : Int32} {i j : Nat} (h : (j = i ∨ tp_In E i j) ∧ tp_tv N vl lo hi j) : tp_any E N vl lo hi i (j + 1) := ⟨j, by omega, h⟩
theorem tq_anyn {vl : Nat → Int32} {lo hi : Int32} {i j : Nat} (h : ¬ ((j = i ∨ tp_In E i j) ∧ tp_tv N vl lo hi j)) : tp_any E N vl lo hi i (j + 1) ↔ tp_any E N vl lo hi i j := by
  unfold tp_any
  rw [tz_ex1 (q := fun m => (m = i ∨ tp_In E i m) ∧ tp_tv N vl lo hi m) h]
theorem tq_bool : ∀ b : Nat, b ≤ 1 → vp_nar .boolean (nI b) = nI b := by
  intro b hb
  rcases (show b = 0 ∨ b = 1 by omega) with z | z
  · subst z; decide
  · subst z; decide
end TPQ
end
section
set_option maxHeartbeats 4000000 in
set_option maxRecDepth 100000 in
theorem mem_reset (l : Launch) (D : va_G) (dA dJ dZ : ClassId) (h : Nat → Nat) (cn on : Int32) (st : Int64) (pa tx wd : Nat → Int32) (kp : Nat → Int64) (sz : Nat)  : Met l yX1_reset (ws_ yX1_reset cX1_reset 1 none) ({ frames := 0, cells := 0, slots := 0, locals := 0 }) (tp_Pm D (tp_ty dA dJ dZ) (tp_wM dA dJ dZ h cn on st pa tx wd kp) sz [.ref (h 6)]) (va_Qv (fun (u : va_W) => ∃ kp', u = tp_wM dA dJ dZ h cn on 1 pa tx wd kp' ∧ kp' 0 = 0 ∧ kp' 1 = 0) (tp_B D (tp_ty dA dJ dZ) (va_A (tp_wM dA dJ dZ h cn on st pa tx wd kp) sz)) (va_A (tp_wM dA dJ dZ h cn on st pa tx wd kp) sz)) 0 0 (va_A (tp_wM dA dJ dZ h cn on st pa tx wd kp) sz) := by
  refine Met.ofW (cc := cX1_reset) (maxL := 1) (ret := none) (by decide) rfl ?_
  intro p e s m args below meth c s₁ B hml hv
  obtain ⟨rfl, hsz, hP, hK, hD0⟩ := hv
  subst hsz
  have hD := hD0.self (sz := s.heap.size)
  generalize hAe : va_A (tp_wM dA dJ dZ h cn on st pa tx wd kp) s.heap.size = A at hD ⊢
  have hA : ∀ q : Nat, s.heap.size ≤ q → A q := fun q h => by rw [← hAe]; exact Or.inr h
  have hS : va_S A s.heap s.heap [] := va_S.rf
  have hP : va_P D tp_cl (tp_wM dA dJ dZ h cn on st pa tx wd kp) s.heap := hP
  have hx := B.exec
  have hb := B.bytes
  have hr := B.returns
  have hts := atoms_spec (ws := ws_ yX1_reset cX1_reset 1 none) B.pre
  have hts : ∀ w ∈ lw_all, w.before _ s = true := fun w h => hts w (List.mem_cons_of_mem _ h)
  have hown : s.vm.findClass RX1 = some m.cls := findClass_of_methodNamed B.named
  have hlocks := B.notSynchronized
  have hl := lv_entry ([.ref (h 6)]) (n := 1) (Nat.le_of_ble_eq_true rfl)
  rw [lg_entry_eq]
  generalize (lg_sl ([.ref (h 6)]) ++ List.replicate (1 - (lg_sl ([.ref (h 6)])).length) Slot.unset).toArray = ls at hl ⊢
  have hl : lv_has ls 1 [(0, .ref (h 6))] := hl
  refine lv_aload_n hx hb dX1_reset_0 rfl (lv_at hl 0 rfl) ?_
  refine lv_lconst (v := 1) hx hb dX1_reset_1 (by decide) ?_
  refine va_put (D := D) (ci := 1) (v := .long 1) (ty := .long) (C := RX1) (T := TX1) (N := 7) hx hb hts in_X1 tyX1 tyX1_ok nmX1 hown hK hP hD hS 0 rfl rfl 5 (by decide) (hts _ q174) (fun _ h9 => h9) rfl (by decide +kernel) rfl rfl (Nat.le_of_ble_eq_true rfl) dX1_reset_2 (fun H locs hP hD hS => ?_)
  have hP : va_P D tp_cl (tp_wM dA dJ dZ h cn on 1 pa tx wd kp) H := hP
  have hD : va_D A (tp_wM dA dJ dZ h cn on 1 pa tx wd kp) := hD
  refine lv_aload_n hx hb dX1_reset_5 rfl (lv_at hl 0 rfl) ?_
  refine va_get (D := D) (ci := 1) (v := .ref (h 10)) (C := RX1) (T := TX1) (N := 7) hx hb hts in_X1 hown hK hP 0 rfl rfl 6 (by decide) (hts _ q175) (fun _ h9 => h9) rfl dX1_reset_6 ?_
  refine lv_iconst (v := nI 0) hx hb dX1_reset_9 (by decide) ?_
  refine lv_lconst (v := 0) hx hb dX1_reset_10 (by decide) ?_
  refine tp_last hx hb hK hP hD hS 4 1 rfl rfl 0 rfl (by decide) dX1_reset_11 (fun H locs hP hD hS => ?_)
  have hP : va_P D tp_cl (tp_wM dA dJ dZ h cn on 1 pa tx wd (vp_updL kp 0 0)) H := hP
  have hD : va_D A (tp_wM dA dJ dZ h cn on 1 pa tx wd (vp_updL kp 0 0)) := hD
  refine lv_aload_n hx hb dX1_reset_12 rfl (lv_at hl 0 rfl) ?_
  refine va_get (D := D) (ci := 1) (v := .ref (h 10)) (C := RX1) (T := TX1) (N := 7) hx hb hts in_X1 hown hK hP 0 rfl rfl 6 (by decide) (hts _ q175) (fun _ h9 => h9) rfl dX1_reset_13 ?_
  refine lv_iconst (v := nI 1) hx hb dX1_reset_16 (by decide) ?_
  refine lv_lconst (v := 0) hx hb dX1_reset_17 (by decide) ?_
  refine tp_last hx hb hK hP hD hS 4 1 rfl rfl 1 rfl (by decide) dX1_reset_18 (fun H locs hP hD hS => ?_)
  have hP : va_P D tp_cl (tp_wM dA dJ dZ h cn on 1 pa tx wd (vp_updL (vp_updL kp 0 0) 1 0)) H := hP
  have hD : va_D A (tp_wM dA dJ dZ h cn on 1 pa tx wd (vp_updL (vp_updL kp 0 0) 1 0)) := hD
  exact W.vret hx hb hr (fun t ht hW9 => ⟨⟨(tp_wM dA dJ dZ h cn on 1 pa tx wd (vp_updL (vp_updL kp 0 0) 1 0)), rfl, ⟨_, rfl, rfl, rfl⟩, by rw [ht]; exact hP, va_K.moved hW9.alike hK, hD⟩, hS.F ht⟩) hS.2.2 dX1_reset_19

set_option maxHeartbeats 4000000 in
set_option maxRecDepth 100000 in
theorem mem_start (l : Launch) (D : va_G) (dA dJ dZ : ClassId) (h : Nat → Nat) (cn on : Int32) (st : Int64) (pa tx wd : Nat → Int32) (kp : Nat → Int64) (sz : Nat)  : Met l yX1_start (ws_ yX1_start cX1_start 1 none) ({ frames := 0, cells := 0, slots := 0, locals := 0 }) (tp_Pm D (tp_ty dA dJ dZ) (tp_wM dA dJ dZ h cn on st pa tx wd kp) sz [.ref (h 6)]) (va_Qv (fun (u : va_W) => u = tp_wM dA dJ dZ h cn on 1 pa tx wd kp) (tp_B D (tp_ty dA dJ dZ) (va_A (tp_wM dA dJ dZ h cn on st pa tx wd kp) sz)) (va_A (tp_wM dA dJ dZ h cn on st pa tx wd kp) sz)) 0 0 (va_A (tp_wM dA dJ dZ h cn on st pa tx wd kp) sz) := by
  refine Met.ofW (cc := cX1_start) (maxL := 1) (ret := none) (by decide) rfl ?_
  intro p e s m args below meth c s₁ B hml hv
  obtain ⟨rfl, hsz, hP, hK, hD0⟩ := hv
  subst hsz
  have hD := hD0.self (sz := s.heap.size)
  generalize hAe : va_A (tp_wM dA dJ dZ h cn on st pa tx wd kp) s.heap.size = A at hD ⊢
  have hA : ∀ q : Nat, s.heap.size ≤ q → A q := fun q h => by rw [← hAe]; exact Or.inr h
  have hS : va_S A s.heap s.heap [] := va_S.rf
  have hP : va_P D tp_cl (tp_wM dA dJ dZ h cn on st pa tx wd kp) s.heap := hP
  have hx := B.exec
  have hb := B.bytes
  have hr := B.returns
  have hts := atoms_spec (ws := ws_ yX1_start cX1_start 1 none) B.pre
  have hts : ∀ w ∈ lw_all, w.before _ s = true := fun w h => hts w (List.mem_cons_of_mem _ h)
  have hown : s.vm.findClass RX1 = some m.cls := findClass_of_methodNamed B.named
  have hlocks := B.notSynchronized
  have hl := lv_entry ([.ref (h 6)]) (n := 1) (Nat.le_of_ble_eq_true rfl)
  rw [lg_entry_eq]
  generalize (lg_sl ([.ref (h 6)]) ++ List.replicate (1 - (lg_sl ([.ref (h 6)])).length) Slot.unset).toArray = ls at hl ⊢
  have hl : lv_has ls 1 [(0, .ref (h 6))] := hl
  refine lv_aload_n hx hb dX1_start_0 rfl (lv_at hl 0 rfl) ?_
  refine lv_lconst (v := 1) hx hb dX1_start_1 (by decide) ?_
  refine va_put (D := D) (ci := 1) (v := .long 1) (ty := .long) (C := RX1) (T := TX1) (N := 7) hx hb hts in_X1 tyX1 tyX1_ok nmX1 hown hK hP hD hS 0 rfl rfl 5 (by decide) (hts _ q174) (fun _ h9 => h9) rfl (by decide +kernel) rfl rfl (Nat.le_of_ble_eq_true rfl) dX1_start_2 (fun H locs hP hD hS => ?_)
  have hP : va_P D tp_cl (tp_wM dA dJ dZ h cn on 1 pa tx wd kp) H := hP
  have hD : va_D A (tp_wM dA dJ dZ h cn on 1 pa tx wd kp) := hD
  exact W.vret hx hb hr (fun t ht hW9 => ⟨⟨(tp_wM dA dJ dZ h cn on 1 pa tx wd kp), rfl, rfl, by rw [ht]; exact hP, va_K.moved hW9.alike hK, hD⟩, hS.F ht⟩) hS.2.2 dX1_start_5

set_option maxHeartbeats 4000000 in
set_option maxRecDepth 100000 in
theorem mem_keep (l : Launch) (D : va_G) (dA dJ dZ : ClassId) (h : Nat → Nat) (cn on : Int32) (st : Int64) (pa tx wd : Nat → Int32) (kp : Nat → Int64) (sl : Int32) (sz : Nat)  : Met l yX1_keep (ws_ yX1_keep cX1_keep 2 none) ({ frames := 0, cells := 0, slots := 0, locals := 0 }) (tp_Pm D (tp_ty dA dJ dZ) (tp_wM dA dJ dZ h cn on st pa tx wd kp) sz [.ref (h 6), .int sl]) (va_Qv (fun (u : va_W) => ∃ j, j < 2 ∧ sl &&& nI 1 = nI j ∧ u = tp_wM dA dJ dZ h cn on st pa tx wd (vp_updL kp j st)) (tp_B D (tp_ty dA dJ dZ) (va_A (tp_wM dA dJ dZ h cn on st pa tx wd kp) sz)) (va_A (tp_wM dA dJ dZ h cn on st pa tx wd kp) sz)) 0 0 (va_A (tp_wM dA dJ dZ h cn on st pa tx wd kp) sz) := by
  refine Met.ofW (cc := cX1_keep) (maxL := 2) (ret := none) (by decide) rfl ?_
  intro p e s m args below meth c s₁ B hml hv
  obtain ⟨rfl, hsz, hP, hK, hD0⟩ := hv
  subst hsz
  have hD := hD0.self (sz := s.heap.size)
  generalize hAe : va_A (tp_wM dA dJ dZ h cn on st pa tx wd kp) s.heap.size = A at hD ⊢
  have hA : ∀ q : Nat, s.heap.size ≤ q → A q := fun q h => by rw [← hAe]; exact Or.inr h
  have hS : va_S A s.heap s.heap [] := va_S.rf
  have hP : va_P D tp_cl (tp_wM dA dJ dZ h cn on st pa tx wd kp) s.heap := hP
  have hx := B.exec
  have hb := B.bytes
  have hr := B.returns
  have hts := atoms_spec (ws := ws_ yX1_keep cX1_keep 2 none) B.pre
  have hts : ∀ w ∈ lw_all, w.before _ s = true := fun w h => hts w (List.mem_cons_of_mem _ h)
  have hown : s.vm.findClass RX1 = some m.cls := findClass_of_methodNamed B.named
  have hlocks := B.notSynchronized
  have hl := lv_entry ([.ref (h 6), .int sl]) (n := 2) (Nat.le_of_ble_eq_true rfl)
  rw [lg_entry_eq]
  generalize (lg_sl ([.ref (h 6), .int sl]) ++ List.replicate (2 - (lg_sl ([.ref (h 6), .int sl])).length) Slot.unset).toArray = ls at hl ⊢
  have hl : lv_has ls 2 [(0, .ref (h 6)), (1, .int sl)] := hl
  obtain ⟨j, hj, ej⟩ := tp_and1 sl
  refine lv_aload_n hx hb dX1_keep_0 rfl (lv_at hl 0 rfl) ?_
  refine va_get (D := D) (ci := 1) (v := .ref (h 10)) (C := RX1) (T := TX1) (N := 7) hx hb hts in_X1 hown hK hP 0 rfl rfl 6 (by decide) (hts _ q175) (fun _ h9 => h9) rfl dX1_keep_1 ?_
  refine lv_iload_n hx hb dX1_keep_4 rfl (lv_at hl 1 rfl) ?_
  refine lv_iconst (v := nI 1) hx hb dX1_keep_5 (by decide) ?_
  refine lv_iand hx hb dX1_keep_6 ?_
  refine tp_ti (y := nI j) (ej) ?_
  refine lv_aload_n hx hb dX1_keep_7 rfl (lv_at hl 0 rfl) ?_
  refine va_get (D := D) (ci := 1) (v := .long st) (C := RX1) (T := TX1) (N := 7) hx hb hts in_X1 hown hK hP 0 rfl rfl 5 (by decide) (hts _ q174) (fun _ h9 => h9) rfl dX1_keep_8 ?_
  refine tp_last hx hb hK hP hD hS 4 1 rfl rfl j rfl hj dX1_keep_11 (fun H locs hP hD hS => ?_)
  have hP : va_P D tp_cl (tp_wM dA dJ dZ h cn on st pa tx wd (vp_updL kp j st)) H := hP
  have hD : va_D A (tp_wM dA dJ dZ h cn on st pa tx wd (vp_updL kp j st)) := hD
  exact W.vret hx hb hr (fun t ht hW9 => ⟨⟨(tp_wM dA dJ dZ h cn on st pa tx wd (vp_updL kp j st)), rfl, ⟨j, hj, ej, rfl⟩, by rw [ht]; exact hP, va_K.moved hW9.alike hK, hD⟩, hS.F ht⟩) hS.2.2 dX1_keep_12

set_option maxHeartbeats 4000000 in
set_option maxRecDepth 100000 in
theorem mem_mix (l : Launch) (D : va_G) (dA dJ dZ : ClassId) (h : Nat → Nat) (on : Int32) (st : Int64) (pa tx wd : Nat → Int32) (kp : Nat → Int64) (cN : Nat) (sl kd : Int32) (sz : Nat)  : Met l yX1_mix (ws_ yX1_mix cX1_mix 5 (some .int)) ({ frames := 1, cells := 0, slots := 0, locals := 22 }) (tp_Pm D (tp_ty dA dJ dZ) (tp_wM dA dJ dZ h (nI cN) on st pa tx wd kp) sz [.ref (h 6), .int sl, .int kd]) (va_Qi (fun (r : Int32) (u : va_W) => ((kd < 0 ∨ nI 2 < kd) ∧ r = -1 ∧ u = tp_wM dA dJ dZ h (nI cN) on st pa tx wd kp) ∨ (¬ (kd < 0 ∨ nI 2 < kd) ∧ ∃ j, j < 2 ∧ sl &&& nI 1 = nI j ∧ r = nI (tp_c (tp_b (tp_mx kd st (kp j))) 48) ∧ u = tp_wM dA dJ dZ h (nI cN) on (tp_mx kd st (kp j)) pa tx wd kp)) (tp_B D (tp_ty dA dJ dZ) (va_A (tp_wM dA dJ dZ h (nI cN) on st pa tx wd kp) sz)) (va_A (tp_wM dA dJ dZ h (nI cN) on st pa tx wd kp) sz)) 0 0 (va_A (tp_wM dA dJ dZ h (nI cN) on st pa tx wd kp) sz) := by
  refine Met.ofW (cc := cX1_mix) (maxL := 5) (ret := (some .int)) (by decide) rfl ?_
  intro p e s m args below meth c s₁ B hml hv
  obtain ⟨rfl, hsz, hP, hK, hD0⟩ := hv
  subst hsz
  have hD := hD0.self (sz := s.heap.size)
  generalize hAe : va_A (tp_wM dA dJ dZ h (nI cN) on st pa tx wd kp) s.heap.size = A at hD ⊢
  have hA : ∀ q : Nat, s.heap.size ≤ q → A q := fun q h => by rw [← hAe]; exact Or.inr h
  have hS : va_S A s.heap s.heap [] := va_S.rf
  have hP : va_P D tp_cl (tp_wM dA dJ dZ h (nI cN) on st pa tx wd kp) s.heap := hP
  have hx := B.exec
  have hb := B.bytes
  have hr := B.returns
  have hts := atoms_spec (ws := ws_ yX1_mix cX1_mix 5 (some .int)) B.pre
  have hts : ∀ w ∈ lw_all, w.before _ s = true := fun w h => hts w (List.mem_cons_of_mem _ h)
  have hown : s.vm.findClass RX1 = some m.cls := findClass_of_methodNamed B.named
  have hlocks := B.notSynchronized
  have hl := lv_entry ([.ref (h 6), .int sl, .int kd]) (n := 5) (Nat.le_of_ble_eq_true rfl)
  rw [lg_entry_eq]
  generalize (lg_sl ([.ref (h 6), .int sl, .int kd]) ++ List.replicate (5 - (lg_sl ([.ref (h 6), .int sl, .int kd])).length) Slot.unset).toArray = ls at hl ⊢
  have hl : lv_has ls 5 [(0, .ref (h 6)), (1, .int sl), (2, .int kd)] := hl
  have JB : (kd < 0 ∨ nI 2 < kd) → W p l e (headSpec (ws_ yX1_mix cX1_mix 5 (some .int)) ({ frames := 1, cells := 0, slots := 0, locals := 22 })).room s m ([.ref (h 6), .int sl, .int kd] : List Value).toArray below meth c s.heap [] 0 0 (MQ below (va_Qi (fun (r : Int32) (u : va_W) => ((kd < 0 ∨ nI 2 < kd) ∧ r = -1 ∧ u = tp_wM dA dJ dZ h (nI cN) on st pa tx wd kp) ∨ (¬ (kd < 0 ∨ nI 2 < kd) ∧ ∃ j, j < 2 ∧ sl &&& nI 1 = nI j ∧ r = nI (tp_c (tp_b (tp_mx kd st (kp j))) 48) ∧ u = tp_wM dA dJ dZ h (nI cN) on (tp_mx kd st (kp j)) pa tx wd kp)) (tp_B D (tp_ty dA dJ dZ) (A)) (A)) ([.ref (h 6), .int sl, .int kd] : List Value).toArray s 0 0 (A)) (F0 m 9 ls []) := by
    intro hq
    refine lv_iconst (v := -1) hx hb dX1_mix_9 (by decide) ?_
    exact W.iret hx hb hr (fun t ht hW9 => ⟨⟨_, (tp_wM dA dJ dZ h (nI cN) on st pa tx wd kp), rfl, Or.inl ⟨hq, rfl, rfl⟩, by rw [ht]; exact hP, va_K.moved hW9.alike hK, hD⟩, hS.F ht⟩) hS.2.2 dX1_mix_10
  refine lv_iload_n hx hb dX1_mix_0 rfl (lv_at hl 2 rfl) ?_
  refine lv_if_lt (tgt := 9) hx hb dX1_mix_1 (by decide) (fun c1 => ?_) (fun c1 => ?_)
  · exact JB (Or.inl c1)
  · refine lv_iload_n hx hb dX1_mix_4 rfl (lv_at hl 2 rfl) ?_
    refine lv_iconst (v := nI 2) hx hb dX1_mix_5 (by decide) ?_
    refine lv_icmp_le (tgt := 11) hx hb dX1_mix_6 (by decide) (fun c2 => ?_) (fun c2 => ?_)
    · have hok : ¬ (kd < 0 ∨ nI 2 < kd) := fun z => z.elim c1 (fun z => absurd (Int32.lt_of_lt_of_le z c2) Int32.lt_irrefl)
      obtain ⟨j, hj, ej⟩ := tp_and1 sl
      refine lv_aload_n hx hb dX1_mix_11 rfl (lv_at hl 0 rfl) ?_
      refine va_get (D := D) (ci := 1) (v := .ref (h 10)) (C := RX1) (T := TX1) (N := 7) hx hb hts in_X1 hown hK hP 0 rfl rfl 6 (by decide) (hts _ q175) (fun _ h9 => h9) rfl dX1_mix_12 ?_
      refine lv_iload_n hx hb dX1_mix_15 rfl (lv_at hl 1 rfl) ?_
      refine lv_iconst (v := nI 1) hx hb dX1_mix_16 (by decide) ?_
      refine lv_iand hx hb dX1_mix_17 ?_
      refine tp_ti (y := nI j) (ej) ?_
      refine tp_lald hx hb hK hP 4 1 rfl rfl j rfl hj rfl dX1_mix_18 ?_
      refine lv_lstore_n (lv' := [(3, .long (kp j)), (0, .ref (h 6)), (1, .int sl), (2, .int kd)]) hx hb dX1_mix_19 rfl hl (by decide) rfl (fun ls hl => ?_)
      refine lv_aload_n hx hb dX1_mix_20 rfl (lv_at hl 1 rfl) ?_
      refine lv_iload_n hx hb dX1_mix_21 rfl (lv_at hl 3 rfl) ?_
      refine lv_if_ne (tgt := 34) hx hb dX1_mix_22 (by decide) (fun c3 => ?_) (fun c3 => ?_)
      · refine lv_iload_n hx hb dX1_mix_34 rfl (lv_at hl 3 rfl) ?_
        refine lv_iconst (v := nI 1) hx hb dX1_mix_35 (by decide) ?_
        refine lv_icmp_ne (tgt := 48) hx hb dX1_mix_36 (by decide) (fun c4 => ?_) (fun c4 => ?_)
        · refine lv_aload_n hx hb dX1_mix_48 rfl (lv_at hl 1 rfl) ?_
          refine va_get (D := D) (ci := 1) (v := .long st) (C := RX1) (T := TX1) (N := 7) hx hb hts in_X1 hown hK hP 0 rfl rfl 5 (by decide) (hts _ q174) (fun _ h9 => h9) rfl dX1_mix_49 ?_
          refine lv_lload_n hx hb dX1_mix_52 rfl (lv_at hl 0 rfl) ?_
          refine lv_ldc2 hx hb hown (hts _ q254) dX1_mix_53 ?_
          refine lv_lxor hx hb dX1_mix_56 ?_
          refine lv_land hx hb dX1_mix_57 ?_
          refine tp_tl (y := tp_mx kd st (kp j)) (by unfold tp_mx; rw [if_neg c3, if_neg c4]) ?_
          refine va_put (D := D) (ci := 1) (v := .long (tp_mx kd st (kp j))) (ty := .long) (C := RX1) (T := TX1) (N := 7) hx hb hts in_X1 tyX1 tyX1_ok nmX1 hown hK hP hD hS 0 rfl rfl 5 (by decide) (hts _ q174) (fun _ h9 => h9) rfl (by decide +kernel) rfl rfl (Nat.le_of_ble_eq_true rfl) dX1_mix_58 (fun H locs hP hD hS => ?_)
          have hP : va_P D tp_cl (tp_wM dA dJ dZ h (nI cN) on (tp_mx kd st (kp j)) pa tx wd kp) H := hP
          have hD : va_D A (tp_wM dA dJ dZ h (nI cN) on (tp_mx kd st (kp j)) pa tx wd kp) := hD
          refine lv_aload_n hx hb dX1_mix_61 rfl (lv_at hl 1 rfl) ?_
          refine vp_callSi (W.runV (As := []) (rest := []) ⟨hx, hb, hml, hown, hts⟩ (mem_size l D dA dJ dZ h on (tp_mx kd st (kp j)) pa tx wd kp cN) (cwV 0 hts (lw_V q246 q248 qs18 q21 q249) rfl rfl rfl (by decide +kernel) ⟨Nat.le_of_ble_eq_true rfl, Nat.le_of_ble_eq_true rfl⟩) (tp_pv hK hP (ci := 1) (q0 := 0) rfl rfl) rfl rfl hl.1 rfl (lv_room (Nat.le_of_ble_eq_true rfl)) dX1_mix_62 ⟨Nat.le_of_ble_eq_true rfl, Nat.le_of_ble_eq_true rfl⟩) (fun r1 h1 => ?_)
          exact W.iret hx hb hr (fun t ht hW9 => ⟨⟨_, (tp_wM dA dJ dZ h (nI cN) on (tp_mx kd st (kp j)) pa tx wd kp), rfl, Or.inr ⟨hok, j, hj, ej, h1, rfl⟩, by rw [ht]; exact hP, va_K.moved hW9.alike hK, hD⟩, hS.F ht⟩) hS.2.2 dX1_mix_65
        · refine lv_aload_n hx hb dX1_mix_39 rfl (lv_at hl 1 rfl) ?_
          refine va_get (D := D) (ci := 1) (v := .long st) (C := RX1) (T := TX1) (N := 7) hx hb hts in_X1 hown hK hP 0 rfl rfl 5 (by decide) (hts _ q174) (fun _ h9 => h9) rfl dX1_mix_40 ?_
          refine lv_lload_n hx hb dX1_mix_43 rfl (lv_at hl 0 rfl) ?_
          refine lv_lor hx hb dX1_mix_44 ?_
          refine lv_goto (tgt := 58) hx hb dX1_mix_45 (by decide) ?_
          refine tp_tl (y := tp_mx kd st (kp j)) (by unfold tp_mx; rw [if_neg c3, if_pos c4]) ?_
          refine va_put (D := D) (ci := 1) (v := .long (tp_mx kd st (kp j))) (ty := .long) (C := RX1) (T := TX1) (N := 7) hx hb hts in_X1 tyX1 tyX1_ok nmX1 hown hK hP hD hS 0 rfl rfl 5 (by decide) (hts _ q174) (fun _ h9 => h9) rfl (by decide +kernel) rfl rfl (Nat.le_of_ble_eq_true rfl) dX1_mix_58 (fun H locs hP hD hS => ?_)
          have hP : va_P D tp_cl (tp_wM dA dJ dZ h (nI cN) on (tp_mx kd st (kp j)) pa tx wd kp) H := hP
          have hD : va_D A (tp_wM dA dJ dZ h (nI cN) on (tp_mx kd st (kp j)) pa tx wd kp) := hD
          refine lv_aload_n hx hb dX1_mix_61 rfl (lv_at hl 1 rfl) ?_
          refine vp_callSi (W.runV (As := []) (rest := []) ⟨hx, hb, hml, hown, hts⟩ (mem_size l D dA dJ dZ h on (tp_mx kd st (kp j)) pa tx wd kp cN) (cwV 0 hts (lw_V q246 q248 qs18 q21 q249) rfl rfl rfl (by decide +kernel) ⟨Nat.le_of_ble_eq_true rfl, Nat.le_of_ble_eq_true rfl⟩) (tp_pv hK hP (ci := 1) (q0 := 0) rfl rfl) rfl rfl hl.1 rfl (lv_room (Nat.le_of_ble_eq_true rfl)) dX1_mix_62 ⟨Nat.le_of_ble_eq_true rfl, Nat.le_of_ble_eq_true rfl⟩) (fun r1 h1 => ?_)
          exact W.iret hx hb hr (fun t ht hW9 => ⟨⟨_, (tp_wM dA dJ dZ h (nI cN) on (tp_mx kd st (kp j)) pa tx wd kp), rfl, Or.inr ⟨hok, j, hj, ej, h1, rfl⟩, by rw [ht]; exact hP, va_K.moved hW9.alike hK, hD⟩, hS.F ht⟩) hS.2.2 dX1_mix_65
      · refine lv_aload_n hx hb dX1_mix_25 rfl (lv_at hl 1 rfl) ?_
        refine va_get (D := D) (ci := 1) (v := .long st) (C := RX1) (T := TX1) (N := 7) hx hb hts in_X1 hown hK hP 0 rfl rfl 5 (by decide) (hts _ q174) (fun _ h9 => h9) rfl dX1_mix_26 ?_
        refine lv_lload_n hx hb dX1_mix_29 rfl (lv_at hl 0 rfl) ?_
        refine lv_land hx hb dX1_mix_30 ?_
        refine lv_goto (tgt := 58) hx hb dX1_mix_31 (by decide) ?_
        refine tp_tl (y := tp_mx kd st (kp j)) (by unfold tp_mx; rw [if_pos c3]) ?_
        refine va_put (D := D) (ci := 1) (v := .long (tp_mx kd st (kp j))) (ty := .long) (C := RX1) (T := TX1) (N := 7) hx hb hts in_X1 tyX1 tyX1_ok nmX1 hown hK hP hD hS 0 rfl rfl 5 (by decide) (hts _ q174) (fun _ h9 => h9) rfl (by decide +kernel) rfl rfl (Nat.le_of_ble_eq_true rfl) dX1_mix_58 (fun H locs hP hD hS => ?_)
        have hP : va_P D tp_cl (tp_wM dA dJ dZ h (nI cN) on (tp_mx kd st (kp j)) pa tx wd kp) H := hP
        have hD : va_D A (tp_wM dA dJ dZ h (nI cN) on (tp_mx kd st (kp j)) pa tx wd kp) := hD
        refine lv_aload_n hx hb dX1_mix_61 rfl (lv_at hl 1 rfl) ?_
        refine vp_callSi (W.runV (As := []) (rest := []) ⟨hx, hb, hml, hown, hts⟩ (mem_size l D dA dJ dZ h on (tp_mx kd st (kp j)) pa tx wd kp cN) (cwV 0 hts (lw_V q246 q248 qs18 q21 q249) rfl rfl rfl (by decide +kernel) ⟨Nat.le_of_ble_eq_true rfl, Nat.le_of_ble_eq_true rfl⟩) (tp_pv hK hP (ci := 1) (q0 := 0) rfl rfl) rfl rfl hl.1 rfl (lv_room (Nat.le_of_ble_eq_true rfl)) dX1_mix_62 ⟨Nat.le_of_ble_eq_true rfl, Nat.le_of_ble_eq_true rfl⟩) (fun r1 h1 => ?_)
        exact W.iret hx hb hr (fun t ht hW9 => ⟨⟨_, (tp_wM dA dJ dZ h (nI cN) on (tp_mx kd st (kp j)) pa tx wd kp), rfl, Or.inr ⟨hok, j, hj, ej, h1, rfl⟩, by rw [ht]; exact hP, va_K.moved hW9.alike hK, hD⟩, hS.F ht⟩) hS.2.2 dX1_mix_65
    · exact JB (Or.inr (Int32.not_le.mp c2))

set_option maxHeartbeats 4000000 in
set_option maxRecDepth 100000 in
theorem mem_close (l : Launch) (D : va_G) (dA dJ dZ : ClassId) (h : Nat → Nat) (st : Int64) (vl pa tx wd : Nat → Int32) (kp : Nat → Int64) {cN : Nat} {P E N : Nat → Nat} {oN : Nat} (sz : Nat) (hW : tp_wf cN P E) (hM : tp_M cN P N vl pa tx wd) (ho : oN < cN) : Met l yX1_close (ws_ yX1_close cX1_close 1 (some .int)) ({ frames := 0, cells := 0, slots := 0, locals := 0 }) (tp_Pm D (tp_ty dA dJ dZ) (tp_wM dA dJ dZ h (nI cN) (nI oN) st pa tx wd kp) sz [.ref (h 6)]) (va_Qi (fun (r : Int32) (u : va_W) => (oN = 0 ∧ r = -1 ∧ u = tp_wM dA dJ dZ h (nI cN) (nI oN) st pa tx wd kp) ∨ (0 < oN ∧ r = nI 0 ∧ u = tp_wM dA dJ dZ h (nI cN) (nI (P oN)) st pa tx wd kp)) (tp_B D (tp_ty dA dJ dZ) (va_A (tp_wM dA dJ dZ h (nI cN) (nI oN) st pa tx wd kp) sz)) (va_A (tp_wM dA dJ dZ h (nI cN) (nI oN) st pa tx wd kp) sz)) 0 0 (va_A (tp_wM dA dJ dZ h (nI cN) (nI oN) st pa tx wd kp) sz) := by
  refine Met.ofW (cc := cX1_close) (maxL := 1) (ret := (some .int)) (by decide) rfl ?_
  intro p e s m args below meth c s₁ B hml hv
  obtain ⟨rfl, hsz, hP, hK, hD0⟩ := hv
  subst hsz
  have hD := hD0.self (sz := s.heap.size)
  generalize hAe : va_A (tp_wM dA dJ dZ h (nI cN) (nI oN) st pa tx wd kp) s.heap.size = A at hD ⊢
  have hA : ∀ q : Nat, s.heap.size ≤ q → A q := fun q h => by rw [← hAe]; exact Or.inr h
  have hS : va_S A s.heap s.heap [] := va_S.rf
  have hP : va_P D tp_cl (tp_wM dA dJ dZ h (nI cN) (nI oN) st pa tx wd kp) s.heap := hP
  have hx := B.exec
  have hb := B.bytes
  have hr := B.returns
  have hts := atoms_spec (ws := ws_ yX1_close cX1_close 1 (some .int)) B.pre
  have hts : ∀ w ∈ lw_all, w.before _ s = true := fun w h => hts w (List.mem_cons_of_mem _ h)
  have hown : s.vm.findClass RX1 = some m.cls := findClass_of_methodNamed B.named
  have hlocks := B.notSynchronized
  have hl := lv_entry ([.ref (h 6)]) (n := 1) (Nat.le_of_ble_eq_true rfl)
  rw [lg_entry_eq]
  generalize (lg_sl ([.ref (h 6)]) ++ List.replicate (1 - (lg_sl ([.ref (h 6)])).length) Slot.unset).toArray = ls at hl ⊢
  have hl : lv_has ls 1 [(0, .ref (h 6))] := hl
  have hc := tw_c hW
  refine lv_aload_n hx hb dX1_close_0 rfl (lv_at hl 0 rfl) ?_
  refine va_get (D := D) (ci := 1) (v := .int (nI oN)) (C := RX1) (T := TX1) (N := 7) hx hb hts in_X1 hown hK hP 0 rfl rfl 4 (by decide) (hts _ q173) (fun _ h9 => h9) rfl dX1_close_1 ?_
  refine lv_if_ne (tgt := 9) hx hb dX1_close_4 (by decide) (fun c1 => ?_) (fun c1 => ?_)
  · have c1 : ¬ (oN = 0) := fun z => c1 ((nI_eq (a := oN) (b := 0) (by omega) (by omega)).mpr z)
    refine lv_aload_n hx hb dX1_close_9 rfl (lv_at hl 0 rfl) ?_
    refine lv_aload_n hx hb dX1_close_10 rfl (lv_at hl 0 rfl) ?_
    refine va_get (D := D) (ci := 1) (v := .ref (h 7)) (C := RX1) (T := TX1) (N := 7) hx hb hts in_X1 hown hK hP 0 rfl rfl 1 (by decide) (hts _ q170) (fun _ h9 => h9) rfl dX1_close_11 ?_
    refine lv_aload_n hx hb dX1_close_14 rfl (lv_at hl 0 rfl) ?_
    refine va_get (D := D) (ci := 1) (v := .int (nI oN)) (C := RX1) (T := TX1) (N := 7) hx hb hts in_X1 hown hK hP 0 rfl rfl 4 (by decide) (hts _ q173) (fun _ h9 => h9) rfl dX1_close_15 ?_
    refine tp_iald (v := nI (P oN)) hx hb hK hP 1 0 rfl rfl oN rfl (by omega) ((hM oN ho).1.trans (tp_pas (by omega))) dX1_close_18 ?_
    refine va_put (D := D) (ci := 1) (v := .int (nI (P oN))) (ty := .int) (C := RX1) (T := TX1) (N := 7) hx hb hts in_X1 tyX1 tyX1_ok nmX1 hown hK hP hD hS 0 rfl rfl 4 (by decide) (hts _ q173) (fun _ h9 => h9) rfl (by decide +kernel) rfl rfl (Nat.le_of_ble_eq_true rfl) dX1_close_19 (fun H locs hP hD hS => ?_)
    have hP : va_P D tp_cl (tp_wM dA dJ dZ h (nI cN) (nI (P oN)) st pa tx wd kp) H := hP
    have hD : va_D A (tp_wM dA dJ dZ h (nI cN) (nI (P oN)) st pa tx wd kp) := hD
    refine lv_iconst (v := nI 0) hx hb dX1_close_22 (by decide) ?_
    exact W.iret hx hb hr (fun t ht hW9 => ⟨⟨_, (tp_wM dA dJ dZ h (nI cN) (nI (P oN)) st pa tx wd kp), rfl, Or.inr ⟨by omega, rfl, rfl⟩, by rw [ht]; exact hP, va_K.moved hW9.alike hK, hD⟩, hS.F ht⟩) hS.2.2 dX1_close_23
  · have c1 : oN = 0 := (nI_eq (a := oN) (b := 0) (by omega) (by omega)).mp c1
    refine lv_iconst (v := -1) hx hb dX1_close_7 (by decide) ?_
    exact W.iret hx hb hr (fun t ht hW9 => ⟨⟨_, (tp_wM dA dJ dZ h (nI cN) (nI oN) st pa tx wd kp), rfl, Or.inl ⟨c1, rfl, rfl⟩, by rw [ht]; exact hP, va_K.moved hW9.alike hK, hD⟩, hS.F ht⟩) hS.2.2 dX1_close_8

set_option maxHeartbeats 4000000 in
set_option maxRecDepth 100000 in
theorem mem_add (l : Launch) (D : va_G) (dA dJ dZ : ClassId) (h : Nat → Nat) (st : Int64) (pa tx wd : Nat → Int32) (kp : Nat → Int64) {cN oN : Nat} {b : Nat} (x : Int32) (sz : Nat) (hb1 : b ≤ 1) (hc : cN ≤ 48) : Met l yX1_add (ws_ yX1_add cX1_add 3 (some .int)) ({ frames := 1, cells := 0, slots := 0, locals := 20 }) (tp_Pm D (tp_ty dA dJ dZ) (tp_wM dA dJ dZ h (nI cN) (nI oN) st pa tx wd kp) sz [.ref (h 6), .int (nI b), .int x]) (va_Qi (fun (r : Int32) (u : va_W) => (cN = 48 ∧ r = -1 ∧ u = tp_wM dA dJ dZ h (nI cN) (nI oN) st pa tx wd kp) ∨ (cN < 48 ∧ r = nI (cN + 1) ∧ ∃ kp', u = tp_wM dA dJ dZ h (nI (cN + 1)) (nI (if b = 1 then oN else cN)) 1 (upd pa cN (nI oN)) (upd tx cN (nI b)) (upd wd cN x) kp' ∧ kp' 0 = 0 ∧ kp' 1 = 0)) (tp_B D (tp_ty dA dJ dZ) (va_A (tp_wM dA dJ dZ h (nI cN) (nI oN) st pa tx wd kp) sz)) (va_A (tp_wM dA dJ dZ h (nI cN) (nI oN) st pa tx wd kp) sz)) 0 0 (va_A (tp_wM dA dJ dZ h (nI cN) (nI oN) st pa tx wd kp) sz) := by
  refine Met.ofW (cc := cX1_add) (maxL := 3) (ret := (some .int)) (by decide) rfl ?_
  intro p e s m args below meth c s₁ B hml hv
  obtain ⟨rfl, hsz, hP, hK, hD0⟩ := hv
  subst hsz
  have hD := hD0.self (sz := s.heap.size)
  generalize hAe : va_A (tp_wM dA dJ dZ h (nI cN) (nI oN) st pa tx wd kp) s.heap.size = A at hD ⊢
  have hA : ∀ q : Nat, s.heap.size ≤ q → A q := fun q h => by rw [← hAe]; exact Or.inr h
  have hS : va_S A s.heap s.heap [] := va_S.rf
  have hP : va_P D tp_cl (tp_wM dA dJ dZ h (nI cN) (nI oN) st pa tx wd kp) s.heap := hP
  have hx := B.exec
  have hb := B.bytes
  have hr := B.returns
  have hts := atoms_spec (ws := ws_ yX1_add cX1_add 3 (some .int)) B.pre
  have hts : ∀ w ∈ lw_all, w.before _ s = true := fun w h => hts w (List.mem_cons_of_mem _ h)
  have hown : s.vm.findClass RX1 = some m.cls := findClass_of_methodNamed B.named
  have hlocks := B.notSynchronized
  have hl := lv_entry ([.ref (h 6), .int (nI b), .int x]) (n := 3) (Nat.le_of_ble_eq_true rfl)
  rw [lg_entry_eq]
  generalize (lg_sl ([.ref (h 6), .int (nI b), .int x]) ++ List.replicate (3 - (lg_sl ([.ref (h 6), .int (nI b), .int x])).length) Slot.unset).toArray = ls at hl ⊢
  have hl : lv_has ls 3 [(0, .ref (h 6)), (1, .int (nI b)), (2, .int x)] := hl
  refine lv_aload_n hx hb dX1_add_0 rfl (lv_at hl 0 rfl) ?_
  refine va_get (D := D) (ci := 1) (v := .int (nI cN)) (C := RX1) (T := TX1) (N := 7) hx hb hts in_X1 hown hK hP 0 rfl rfl 0 (by decide) (hts _ q169) (fun _ h9 => h9) rfl dX1_add_1 ?_
  refine lv_bipush (v := nI 48) hx hb dX1_add_4 (by decide) ?_
  refine lv_icmp_ne (tgt := 11) hx hb dX1_add_6 (by decide) (fun c1 => ?_) (fun c1 => ?_)
  · have c1 : ¬ (cN = 48) := fun z => c1 ((nI_eq (a := cN) (b := 48) (by omega) (by omega)).mpr z)
    refine lv_aload_n hx hb dX1_add_11 rfl (lv_at hl 0 rfl) ?_
    refine va_get (D := D) (ci := 1) (v := .ref (h 7)) (C := RX1) (T := TX1) (N := 7) hx hb hts in_X1 hown hK hP 0 rfl rfl 1 (by decide) (hts _ q170) (fun _ h9 => h9) rfl dX1_add_12 ?_
    refine lv_aload_n hx hb dX1_add_15 rfl (lv_at hl 0 rfl) ?_
    refine va_get (D := D) (ci := 1) (v := .int (nI cN)) (C := RX1) (T := TX1) (N := 7) hx hb hts in_X1 hown hK hP 0 rfl rfl 0 (by decide) (hts _ q169) (fun _ h9 => h9) rfl dX1_add_16 ?_
    refine lv_aload_n hx hb dX1_add_19 rfl (lv_at hl 0 rfl) ?_
    refine va_get (D := D) (ci := 1) (v := .int (nI oN)) (C := RX1) (T := TX1) (N := 7) hx hb hts in_X1 hown hK hP 0 rfl rfl 4 (by decide) (hts _ q173) (fun _ h9 => h9) rfl dX1_add_20 ?_
    refine tp_iast hx hb hK hP hD hS 1 0 rfl rfl cN rfl (by omega) dX1_add_23 (fun H locs hP hD hS => ?_)
    have hP : va_P D tp_cl (tp_wM dA dJ dZ h (nI cN) (nI oN) st (upd pa cN (nI oN)) tx wd kp) H := hP
    have hD : va_D A (tp_wM dA dJ dZ h (nI cN) (nI oN) st (upd pa cN (nI oN)) tx wd kp) := hD
    refine lv_aload_n hx hb dX1_add_24 rfl (lv_at hl 0 rfl) ?_
    refine va_get (D := D) (ci := 1) (v := .ref (h 8)) (C := RX1) (T := TX1) (N := 7) hx hb hts in_X1 hown hK hP 0 rfl rfl 2 (by decide) (hts _ q171) (fun _ h9 => h9) rfl dX1_add_25 ?_
    refine lv_aload_n hx hb dX1_add_28 rfl (lv_at hl 0 rfl) ?_
    refine va_get (D := D) (ci := 1) (v := .int (nI cN)) (C := RX1) (T := TX1) (N := 7) hx hb hts in_X1 hown hK hP 0 rfl rfl 0 (by decide) (hts _ q169) (fun _ h9 => h9) rfl dX1_add_29 ?_
    refine lv_iload_n hx hb dX1_add_32 rfl (lv_at hl 1 rfl) ?_
    refine tp_zast hx hb hK hP hD hS 2 2 rfl rfl cN rfl (by omega) (tq_bool b hb1) dX1_add_33 (fun H locs hP hD hS => ?_)
    have hP : va_P D tp_cl (tp_wM dA dJ dZ h (nI cN) (nI oN) st (upd pa cN (nI oN)) (upd tx cN (nI b)) wd kp) H := hP
    have hD : va_D A (tp_wM dA dJ dZ h (nI cN) (nI oN) st (upd pa cN (nI oN)) (upd tx cN (nI b)) wd kp) := hD
    refine lv_aload_n hx hb dX1_add_34 rfl (lv_at hl 0 rfl) ?_
    refine va_get (D := D) (ci := 1) (v := .ref (h 9)) (C := RX1) (T := TX1) (N := 7) hx hb hts in_X1 hown hK hP 0 rfl rfl 3 (by decide) (hts _ q172) (fun _ h9 => h9) rfl dX1_add_35 ?_
    refine lv_aload_n hx hb dX1_add_38 rfl (lv_at hl 0 rfl) ?_
    refine va_get (D := D) (ci := 1) (v := .int (nI cN)) (C := RX1) (T := TX1) (N := 7) hx hb hts in_X1 hown hK hP 0 rfl rfl 0 (by decide) (hts _ q169) (fun _ h9 => h9) rfl dX1_add_39 ?_
    refine lv_iload_n hx hb dX1_add_42 rfl (lv_at hl 2 rfl) ?_
    refine tp_iast hx hb hK hP hD hS 3 0 rfl rfl cN rfl (by omega) dX1_add_43 (fun H locs hP hD hS => ?_)
    have hP : va_P D tp_cl (tp_wM dA dJ dZ h (nI cN) (nI oN) st (upd pa cN (nI oN)) (upd tx cN (nI b)) (upd wd cN x) kp) H := hP
    have hD : va_D A (tp_wM dA dJ dZ h (nI cN) (nI oN) st (upd pa cN (nI oN)) (upd tx cN (nI b)) (upd wd cN x) kp) := hD
    refine lv_iload_n hx hb dX1_add_44 rfl (lv_at hl 1 rfl) ?_
    refine lv_if_ne (tgt := 56) hx hb dX1_add_45 (by decide) (fun c2 => ?_) (fun c2 => ?_)
    · have c2 : ¬ (b = 0) := fun z => c2 ((nI_eq (a := b) (b := 0) (by omega) (by omega)).mpr z)
      have eo : nI oN = nI (if b = 1 then oN else cN) := by rw [if_pos (by omega)]
      have hP : va_P D tp_cl (tp_wM dA dJ dZ h (nI cN) (nI (if b = 1 then oN else cN)) st (upd pa cN (nI oN)) (upd tx cN (nI b)) (upd wd cN x) kp) H := by rw [← eo]; exact hP
      have hD : va_D A (tp_wM dA dJ dZ h (nI cN) (nI (if b = 1 then oN else cN)) st (upd pa cN (nI oN)) (upd tx cN (nI b)) (upd wd cN x) kp) := by rw [← eo]; exact hD
      refine lv_aload_n hx hb dX1_add_56 rfl (lv_at hl 0 rfl) ?_
      refine lv_dup hx hb dX1_add_57 rfl ?_
      refine va_get (D := D) (ci := 1) (v := .int (nI cN)) (C := RX1) (T := TX1) (N := 7) hx hb hts in_X1 hown hK hP 0 rfl rfl 0 (by decide) (hts _ q169) (fun _ h9 => h9) rfl dX1_add_58 ?_
      refine lv_iconst (v := nI 1) hx hb dX1_add_61 (by decide) ?_
      refine lv_iadd hx hb dX1_add_62 ?_
      refine tp_ti (nI_add cN 1) ?_
      refine va_put (D := D) (ci := 1) (v := .int (nI (cN + 1))) (ty := .int) (C := RX1) (T := TX1) (N := 7) hx hb hts in_X1 tyX1 tyX1_ok nmX1 hown hK hP hD hS 0 rfl rfl 0 (by decide) (hts _ q169) (fun _ h9 => h9) rfl (by decide +kernel) rfl rfl (Nat.le_of_ble_eq_true rfl) dX1_add_63 (fun H locs hP hD hS => ?_)
      have hP : va_P D tp_cl (tp_wM dA dJ dZ h (nI (cN + 1)) (nI (if b = 1 then oN else cN)) st (upd pa cN (nI oN)) (upd tx cN (nI b)) (upd wd cN x) kp) H := hP
      have hD : va_D A (tp_wM dA dJ dZ h (nI (cN + 1)) (nI (if b = 1 then oN else cN)) st (upd pa cN (nI oN)) (upd tx cN (nI b)) (upd wd cN x) kp) := hD
      refine lv_aload_n hx hb dX1_add_66 rfl (lv_at hl 0 rfl) ?_
      have hFc := va_free (wc := tp_wM dA dJ dZ h (nI (cN + 1)) (nI (if b = 1 then oN else cN)) st (upd pa cN (nI oN)) (upd tx cN (nI b)) (upd wd cN x) kp) hD hS hA [0, 1, 2, 3, 4] rfl
      refine va_callv (va_runV (As := []) (rest := []) ⟨hx, hb, hml, hown, hts⟩ (mem_reset l D dA dJ dZ h (nI (cN + 1)) (nI (if b = 1 then oN else cN)) st (upd pa cN (nI oN)) (upd tx cN (nI b)) (upd wd cN x) kp H.size) (cwV 0 hts (lw_V q200 q202 qs13 q21 q203) rfl rfl rfl (by decide +kernel) ⟨Nat.le_of_ble_eq_true rfl, Nat.le_of_ble_eq_true rfl⟩) (tp_pvm hK hP hD (ci := 1) (q0 := 0) rfl rfl) rfl rfl hl.1 rfl (lv_room (Nat.le_of_ble_eq_true rfl)) dX1_add_67 ⟨Nat.le_of_ble_eq_true rfl, Nat.le_of_ble_eq_true rfl⟩) hS (fun q _ z => hFc q z) hFc (fun u t H1 locs ht hvm hw hB hz1 hk1 hS => ?_)
      obtain ⟨hP, hK1, hD1⟩ := hB
      rw [ht] at hP
      have hD := hD1.weaken (fun _ q _ z => hFc q.1 z)
      generalize H1 = H at hP hS ⊢
      obtain ⟨kp1, rfl, hk0, hk1'⟩ := hw
      refine lv_aload_n hx hb dX1_add_70 rfl (lv_at hl 0 rfl) ?_
      refine va_get (D := D) (ci := 1) (v := .int (nI (cN + 1))) (C := RX1) (T := TX1) (N := 7) hx hb hts in_X1 hown hK hP 0 rfl rfl 0 (by decide) (hts _ q169) (fun _ h9 => h9) rfl dX1_add_71 ?_
      exact W.iret hx hb hr (fun t ht hW9 => ⟨⟨_, (tp_wM dA dJ dZ h (nI (cN + 1)) (nI (if b = 1 then oN else cN)) 1 (upd pa cN (nI oN)) (upd tx cN (nI b)) (upd wd cN x) kp1), rfl, Or.inr ⟨by omega, rfl, _, rfl, hk0, hk1'⟩, by rw [ht]; exact hP, va_K.moved hW9.alike hK, hD⟩, hS.F ht⟩) hS.2.2 dX1_add_74
    · have c2 : b = 0 := (nI_eq (a := b) (b := 0) (by omega) (by omega)).mp c2
      refine lv_aload_n hx hb dX1_add_48 rfl (lv_at hl 0 rfl) ?_
      refine lv_aload_n hx hb dX1_add_49 rfl (lv_at hl 0 rfl) ?_
      refine va_get (D := D) (ci := 1) (v := .int (nI cN)) (C := RX1) (T := TX1) (N := 7) hx hb hts in_X1 hown hK hP 0 rfl rfl 0 (by decide) (hts _ q169) (fun _ h9 => h9) rfl dX1_add_50 ?_
      refine tp_ti (y := nI (if b = 1 then oN else cN)) (by rw [if_neg (by omega)]) ?_
      refine va_put (D := D) (ci := 1) (v := .int (nI (if b = 1 then oN else cN))) (ty := .int) (C := RX1) (T := TX1) (N := 7) hx hb hts in_X1 tyX1 tyX1_ok nmX1 hown hK hP hD hS 0 rfl rfl 4 (by decide) (hts _ q173) (fun _ h9 => h9) rfl (by decide +kernel) rfl rfl (Nat.le_of_ble_eq_true rfl) dX1_add_53 (fun H locs hP hD hS => ?_)
      have hP : va_P D tp_cl (tp_wM dA dJ dZ h (nI cN) (nI (if b = 1 then oN else cN)) st (upd pa cN (nI oN)) (upd tx cN (nI b)) (upd wd cN x) kp) H := hP
      have hD : va_D A (tp_wM dA dJ dZ h (nI cN) (nI (if b = 1 then oN else cN)) st (upd pa cN (nI oN)) (upd tx cN (nI b)) (upd wd cN x) kp) := hD
      refine lv_aload_n hx hb dX1_add_56 rfl (lv_at hl 0 rfl) ?_
      refine lv_dup hx hb dX1_add_57 rfl ?_
      refine va_get (D := D) (ci := 1) (v := .int (nI cN)) (C := RX1) (T := TX1) (N := 7) hx hb hts in_X1 hown hK hP 0 rfl rfl 0 (by decide) (hts _ q169) (fun _ h9 => h9) rfl dX1_add_58 ?_
      refine lv_iconst (v := nI 1) hx hb dX1_add_61 (by decide) ?_
      refine lv_iadd hx hb dX1_add_62 ?_
      refine tp_ti (nI_add cN 1) ?_
      refine va_put (D := D) (ci := 1) (v := .int (nI (cN + 1))) (ty := .int) (C := RX1) (T := TX1) (N := 7) hx hb hts in_X1 tyX1 tyX1_ok nmX1 hown hK hP hD hS 0 rfl rfl 0 (by decide) (hts _ q169) (fun _ h9 => h9) rfl (by decide +kernel) rfl rfl (Nat.le_of_ble_eq_true rfl) dX1_add_63 (fun H locs hP hD hS => ?_)
      have hP : va_P D tp_cl (tp_wM dA dJ dZ h (nI (cN + 1)) (nI (if b = 1 then oN else cN)) st (upd pa cN (nI oN)) (upd tx cN (nI b)) (upd wd cN x) kp) H := hP
      have hD : va_D A (tp_wM dA dJ dZ h (nI (cN + 1)) (nI (if b = 1 then oN else cN)) st (upd pa cN (nI oN)) (upd tx cN (nI b)) (upd wd cN x) kp) := hD
      refine lv_aload_n hx hb dX1_add_66 rfl (lv_at hl 0 rfl) ?_
      have hFc := va_free (wc := tp_wM dA dJ dZ h (nI (cN + 1)) (nI (if b = 1 then oN else cN)) st (upd pa cN (nI oN)) (upd tx cN (nI b)) (upd wd cN x) kp) hD hS hA [0, 1, 2, 3, 4] rfl
      refine va_callv (va_runV (As := []) (rest := []) ⟨hx, hb, hml, hown, hts⟩ (mem_reset l D dA dJ dZ h (nI (cN + 1)) (nI (if b = 1 then oN else cN)) st (upd pa cN (nI oN)) (upd tx cN (nI b)) (upd wd cN x) kp H.size) (cwV 0 hts (lw_V q200 q202 qs13 q21 q203) rfl rfl rfl (by decide +kernel) ⟨Nat.le_of_ble_eq_true rfl, Nat.le_of_ble_eq_true rfl⟩) (tp_pvm hK hP hD (ci := 1) (q0 := 0) rfl rfl) rfl rfl hl.1 rfl (lv_room (Nat.le_of_ble_eq_true rfl)) dX1_add_67 ⟨Nat.le_of_ble_eq_true rfl, Nat.le_of_ble_eq_true rfl⟩) hS (fun q _ z => hFc q z) hFc (fun u t H1 locs ht hvm hw hB hz1 hk1 hS => ?_)
      obtain ⟨hP, hK1, hD1⟩ := hB
      rw [ht] at hP
      have hD := hD1.weaken (fun _ q _ z => hFc q.1 z)
      generalize H1 = H at hP hS ⊢
      obtain ⟨kp1, rfl, hk0, hk1'⟩ := hw
      refine lv_aload_n hx hb dX1_add_70 rfl (lv_at hl 0 rfl) ?_
      refine va_get (D := D) (ci := 1) (v := .int (nI (cN + 1))) (C := RX1) (T := TX1) (N := 7) hx hb hts in_X1 hown hK hP 0 rfl rfl 0 (by decide) (hts _ q169) (fun _ h9 => h9) rfl dX1_add_71 ?_
      exact W.iret hx hb hr (fun t ht hW9 => ⟨⟨_, (tp_wM dA dJ dZ h (nI (cN + 1)) (nI (if b = 1 then oN else cN)) 1 (upd pa cN (nI oN)) (upd tx cN (nI b)) (upd wd cN x) kp1), rfl, Or.inr ⟨by omega, rfl, _, rfl, hk0, hk1'⟩, by rw [ht]; exact hP, va_K.moved hW9.alike hK, hD⟩, hS.F ht⟩) hS.2.2 dX1_add_74
  · have c1 : cN = 48 := (nI_eq (a := cN) (b := 48) (by omega) (by omega)).mp c1
    refine lv_iconst (v := -1) hx hb dX1_add_9 (by decide) ?_
    exact W.iret hx hb hr (fun t ht hW9 => ⟨⟨_, (tp_wM dA dJ dZ h (nI cN) (nI oN) st pa tx wd kp), rfl, Or.inl ⟨c1, rfl, rfl⟩, by rw [ht]; exact hP, va_K.moved hW9.alike hK, hD⟩, hS.F ht⟩) hS.2.2 dX1_add_10

set_option maxHeartbeats 4000000 in
set_option maxRecDepth 100000 in
theorem mem_open (l : Launch) (D : va_G) (dA dJ dZ : ClassId) (h : Nat → Nat) (st : Int64) (pa tx wd : Nat → Int32) (kp : Nat → Int64) {cN oN : Nat} (x : Int32) (sz : Nat) (hc : cN ≤ 48) : Met l yX1_open (ws_ yX1_open cX1_open 2 (some .int)) ({ frames := 2, cells := 0, slots := 0, locals := 42 }) (tp_Pm D (tp_ty dA dJ dZ) (tp_wM dA dJ dZ h (nI cN) (nI oN) st pa tx wd kp) sz [.ref (h 6), .int x]) (va_Qi (fun (r : Int32) (u : va_W) => (cN = 48 ∧ r = -1 ∧ u = tp_wM dA dJ dZ h (nI cN) (nI oN) st pa tx wd kp) ∨ (cN < 48 ∧ r = nI (cN + 1) ∧ ∃ kp', u = tp_wM dA dJ dZ h (nI (cN + 1)) (nI cN) 1 (upd pa cN (nI oN)) (upd tx cN (nI 0)) (upd wd cN (x &&& nI 7)) kp' ∧ kp' 0 = 0 ∧ kp' 1 = 0)) (tp_B D (tp_ty dA dJ dZ) (va_A (tp_wM dA dJ dZ h (nI cN) (nI oN) st pa tx wd kp) sz)) (va_A (tp_wM dA dJ dZ h (nI cN) (nI oN) st pa tx wd kp) sz)) 0 0 (va_A (tp_wM dA dJ dZ h (nI cN) (nI oN) st pa tx wd kp) sz) := by
  refine Met.ofW (cc := cX1_open) (maxL := 2) (ret := (some .int)) (by decide) rfl ?_
  intro p e s m args below meth c s₁ B hml hv
  obtain ⟨rfl, hsz, hP, hK, hD0⟩ := hv
  subst hsz
  have hD := hD0.self (sz := s.heap.size)
  generalize hAe : va_A (tp_wM dA dJ dZ h (nI cN) (nI oN) st pa tx wd kp) s.heap.size = A at hD ⊢
  have hA : ∀ q : Nat, s.heap.size ≤ q → A q := fun q h => by rw [← hAe]; exact Or.inr h
  have hS : va_S A s.heap s.heap [] := va_S.rf
  have hP : va_P D tp_cl (tp_wM dA dJ dZ h (nI cN) (nI oN) st pa tx wd kp) s.heap := hP
  have hx := B.exec
  have hb := B.bytes
  have hr := B.returns
  have hts := atoms_spec (ws := ws_ yX1_open cX1_open 2 (some .int)) B.pre
  have hts : ∀ w ∈ lw_all, w.before _ s = true := fun w h => hts w (List.mem_cons_of_mem _ h)
  have hown : s.vm.findClass RX1 = some m.cls := findClass_of_methodNamed B.named
  have hlocks := B.notSynchronized
  have hl := lv_entry ([.ref (h 6), .int x]) (n := 2) (Nat.le_of_ble_eq_true rfl)
  rw [lg_entry_eq]
  generalize (lg_sl ([.ref (h 6), .int x]) ++ List.replicate (2 - (lg_sl ([.ref (h 6), .int x])).length) Slot.unset).toArray = ls at hl ⊢
  have hl : lv_has ls 2 [(0, .ref (h 6)), (1, .int x)] := hl
  refine lv_aload_n hx hb dX1_open_0 rfl (lv_at hl 0 rfl) ?_
  refine lv_iconst (v := nI 0) hx hb dX1_open_1 (by decide) ?_
  refine lv_iload_n hx hb dX1_open_2 rfl (lv_at hl 1 rfl) ?_
  refine lv_bipush (v := nI 7) hx hb dX1_open_3 (by decide) ?_
  refine lv_iand hx hb dX1_open_5 ?_
  have hFc := va_free (wc := tp_wM dA dJ dZ h (nI cN) (nI oN) st pa tx wd kp) hD hS hA [0, 1, 2, 3, 4] rfl
  refine va_calli (va_runV (As := [.int (nI 0), .int (x &&& (nI 7))]) (rest := []) ⟨hx, hb, hml, hown, hts⟩ (mem_add l D dA dJ dZ h st pa tx wd kp (cN := cN) (oN := oN) (b := 0) (x &&& nI 7) s.heap.size (by decide) hc) (cwV 2 hts (lw_V q196 q198 qs12 q21 q199) rfl rfl rfl (by decide +kernel) ⟨Nat.le_of_ble_eq_true rfl, Nat.le_of_ble_eq_true rfl⟩) (tp_pvm hK hP hD (ci := 1) (q0 := 0) rfl rfl) rfl rfl hl.1 rfl (lv_room (Nat.le_of_ble_eq_true rfl)) dX1_open_6 ⟨Nat.le_of_ble_eq_true rfl, Nat.le_of_ble_eq_true rfl⟩) hS (fun q _ z => hFc q z) hFc (fun r1 u t H1 locs ht hvm hw hB hz1 hk1 hS => ?_)
  obtain ⟨hP, hK1, hD1⟩ := hB
  rw [ht] at hP
  have hD := hD1.weaken (fun _ q _ z => hFc q.1 z)
  generalize H1 = H at hP hS ⊢
  rcases hw with ⟨z1, z2, z3⟩ | ⟨z1, z2, kp1, z4, hk0, hk1'⟩
  · subst z2
    subst z3
    exact W.iret hx hb hr (fun t ht hW9 => ⟨⟨_, (tp_wM dA dJ dZ h (nI cN) (nI oN) st pa tx wd kp), rfl, Or.inl ⟨z1, rfl, rfl⟩, by rw [ht]; exact hP, va_K.moved hW9.alike hK, hD⟩, hS.F ht⟩) hS.2.2 dX1_open_9
  · subst z2
    subst z4
    exact W.iret hx hb hr (fun t ht hW9 => ⟨⟨_, (tp_wM dA dJ dZ h (nI (cN + 1)) (nI cN) 1 (upd pa cN (nI oN)) (upd tx cN (nI 0)) (upd wd cN (x &&& nI 7)) kp1), rfl, Or.inr ⟨z1, rfl, _, rfl, hk0, hk1'⟩, by rw [ht]; exact hP, va_K.moved hW9.alike hK, hD⟩, hS.F ht⟩) hS.2.2 dX1_open_9

set_option maxHeartbeats 4000000 in
set_option maxRecDepth 100000 in
theorem mem_text (l : Launch) (D : va_G) (dA dJ dZ : ClassId) (h : Nat → Nat) (st : Int64) (pa tx wd : Nat → Int32) (kp : Nat → Int64) {cN oN : Nat} (x : Int32) (sz : Nat) (hc : cN ≤ 48) : Met l yX1_text (ws_ yX1_text cX1_text 2 (some .int)) ({ frames := 2, cells := 0, slots := 0, locals := 42 }) (tp_Pm D (tp_ty dA dJ dZ) (tp_wM dA dJ dZ h (nI cN) (nI oN) st pa tx wd kp) sz [.ref (h 6), .int x]) (va_Qi (fun (r : Int32) (u : va_W) => (cN = 48 ∧ r = -1 ∧ u = tp_wM dA dJ dZ h (nI cN) (nI oN) st pa tx wd kp) ∨ (cN < 48 ∧ r = nI (cN + 1) ∧ ∃ kp', u = tp_wM dA dJ dZ h (nI (cN + 1)) (nI oN) 1 (upd pa cN (nI oN)) (upd tx cN (nI 1)) (upd wd cN (x)) kp' ∧ kp' 0 = 0 ∧ kp' 1 = 0)) (tp_B D (tp_ty dA dJ dZ) (va_A (tp_wM dA dJ dZ h (nI cN) (nI oN) st pa tx wd kp) sz)) (va_A (tp_wM dA dJ dZ h (nI cN) (nI oN) st pa tx wd kp) sz)) 0 0 (va_A (tp_wM dA dJ dZ h (nI cN) (nI oN) st pa tx wd kp) sz) := by
  refine Met.ofW (cc := cX1_text) (maxL := 2) (ret := (some .int)) (by decide) rfl ?_
  intro p e s m args below meth c s₁ B hml hv
  obtain ⟨rfl, hsz, hP, hK, hD0⟩ := hv
  subst hsz
  have hD := hD0.self (sz := s.heap.size)
  generalize hAe : va_A (tp_wM dA dJ dZ h (nI cN) (nI oN) st pa tx wd kp) s.heap.size = A at hD ⊢
  have hA : ∀ q : Nat, s.heap.size ≤ q → A q := fun q h => by rw [← hAe]; exact Or.inr h
  have hS : va_S A s.heap s.heap [] := va_S.rf
  have hP : va_P D tp_cl (tp_wM dA dJ dZ h (nI cN) (nI oN) st pa tx wd kp) s.heap := hP
  have hx := B.exec
  have hb := B.bytes
  have hr := B.returns
  have hts := atoms_spec (ws := ws_ yX1_text cX1_text 2 (some .int)) B.pre
  have hts : ∀ w ∈ lw_all, w.before _ s = true := fun w h => hts w (List.mem_cons_of_mem _ h)
  have hown : s.vm.findClass RX1 = some m.cls := findClass_of_methodNamed B.named
  have hlocks := B.notSynchronized
  have hl := lv_entry ([.ref (h 6), .int x]) (n := 2) (Nat.le_of_ble_eq_true rfl)
  rw [lg_entry_eq]
  generalize (lg_sl ([.ref (h 6), .int x]) ++ List.replicate (2 - (lg_sl ([.ref (h 6), .int x])).length) Slot.unset).toArray = ls at hl ⊢
  have hl : lv_has ls 2 [(0, .ref (h 6)), (1, .int x)] := hl
  refine lv_aload_n hx hb dX1_text_0 rfl (lv_at hl 0 rfl) ?_
  refine lv_iconst (v := nI 1) hx hb dX1_text_1 (by decide) ?_
  refine lv_iload_n hx hb dX1_text_2 rfl (lv_at hl 1 rfl) ?_
  have hFc := va_free (wc := tp_wM dA dJ dZ h (nI cN) (nI oN) st pa tx wd kp) hD hS hA [0, 1, 2, 3, 4] rfl
  refine va_calli (va_runV (As := [.int (nI 1), .int x]) (rest := []) ⟨hx, hb, hml, hown, hts⟩ (mem_add l D dA dJ dZ h st pa tx wd kp (cN := cN) (oN := oN) (b := 1) x s.heap.size (by decide) hc) (cwV 2 hts (lw_V q196 q198 qs12 q21 q199) rfl rfl rfl (by decide +kernel) ⟨Nat.le_of_ble_eq_true rfl, Nat.le_of_ble_eq_true rfl⟩) (tp_pvm hK hP hD (ci := 1) (q0 := 0) rfl rfl) rfl rfl hl.1 rfl (lv_room (Nat.le_of_ble_eq_true rfl)) dX1_text_3 ⟨Nat.le_of_ble_eq_true rfl, Nat.le_of_ble_eq_true rfl⟩) hS (fun q _ z => hFc q z) hFc (fun r1 u t H1 locs ht hvm hw hB hz1 hk1 hS => ?_)
  obtain ⟨hP, hK1, hD1⟩ := hB
  rw [ht] at hP
  have hD := hD1.weaken (fun _ q _ z => hFc q.1 z)
  generalize H1 = H at hP hS ⊢
  rcases hw with ⟨z1, z2, z3⟩ | ⟨z1, z2, kp1, z4, hk0, hk1'⟩
  · subst z2
    subst z3
    exact W.iret hx hb hr (fun t ht hW9 => ⟨⟨_, (tp_wM dA dJ dZ h (nI cN) (nI oN) st pa tx wd kp), rfl, Or.inl ⟨z1, rfl, rfl⟩, by rw [ht]; exact hP, va_K.moved hW9.alike hK, hD⟩, hS.F ht⟩) hS.2.2 dX1_text_6
  · subst z2
    subst z4
    exact W.iret hx hb hr (fun t ht hW9 => ⟨⟨_, (tp_wM dA dJ dZ h (nI (cN + 1)) (nI oN) 1 (upd pa cN (nI oN)) (upd tx cN (nI 1)) (upd wd cN (x)) kp1), rfl, Or.inr ⟨z1, rfl, _, rfl, hk0, hk1'⟩, by rw [ht]; exact hP, va_K.moved hW9.alike hK, hD⟩, hS.F ht⟩) hS.2.2 dX1_text_6
end
section
set_option maxHeartbeats 4000000 in
set_option maxRecDepth 100000 in
theorem mem_step (l : Launch) (D : va_G) (dA dJ dZ : ClassId) (h : Nat → Nat) (on : Int32) (st : Int64) (vl pa tx wd : Nat → Int32) (kp : Nat → Int64) {cN : Nat} {P E N : Nat → Nat} (ia it ip : Int32) (sz : Nat) (hW : tp_wf cN P E) (hM : tp_M cN P N vl pa tx wd) : Met l yX1_step (ws_ yX1_step cX1_step 7 (some .int)) ({ frames := 3, cells := 0, slots := 0, locals := 78 }) (tp_Pm D (tp_ty dA dJ dZ) (tp_wM dA dJ dZ h (nI cN) on st pa tx wd kp) sz [.ref (h 6), .int ia, .int it, .int ip]) (va_Qi (fun (r : Int32) (u : va_W) => ((ia < 0 ∨ nI 10 < ia ∨ it < 0 ∨ nI 10 < it ∨ ip < -48 ∨ nI 48 < ip) ∧ r = -1 ∧ u = tp_wM dA dJ dZ h (nI cN) on st pa tx wd kp) ∨ (¬ (ia < 0 ∨ nI 10 < ia ∨ it < 0 ∨ nI 10 < it ∨ ip < -48 ∨ nI 48 < ip) ∧ ∃ ax t st', ax ≤ 10 ∧ t ≤ 10 ∧ ia = nI ax ∧ it = nI t ∧ (∀ q, tp_b st' q = true ↔ tp_pl cN P E N st ax t ip.toInt cN q) ∧ r = nI (tp_c (tp_b st') 48) ∧ u = tp_wM dA dJ dZ h (nI cN) on st' pa tx wd kp)) (tp_B D (tp_ty dA dJ dZ) (va_A (tp_wM dA dJ dZ h (nI cN) on st pa tx wd kp) sz)) (va_A (tp_wM dA dJ dZ h (nI cN) on st pa tx wd kp) sz)) 0 0 (va_A (tp_wM dA dJ dZ h (nI cN) on st pa tx wd kp) sz) := by
  refine Met.ofW (cc := cX1_step) (maxL := 7) (ret := (some .int)) (by decide) rfl ?_
  intro p e s m args below meth c s₁ B hml hv
  obtain ⟨rfl, hsz, hP, hK, hD0⟩ := hv
  subst hsz
  have hD := hD0.self (sz := s.heap.size)
  generalize hAe : va_A (tp_wM dA dJ dZ h (nI cN) on st pa tx wd kp) s.heap.size = A at hD ⊢
  have hA : ∀ q : Nat, s.heap.size ≤ q → A q := fun q h => by rw [← hAe]; exact Or.inr h
  have hS : va_S A s.heap s.heap [] := va_S.rf
  have hP : va_P D tp_cl (tp_wM dA dJ dZ h (nI cN) on st pa tx wd kp) s.heap := hP
  have hx := B.exec
  have hb := B.bytes
  have hr := B.returns
  have hts := atoms_spec (ws := ws_ yX1_step cX1_step 7 (some .int)) B.pre
  have hts : ∀ w ∈ lw_all, w.before _ s = true := fun w h => hts w (List.mem_cons_of_mem _ h)
  have hown : s.vm.findClass RX1 = some m.cls := findClass_of_methodNamed B.named
  have hlocks := B.notSynchronized
  have hl := lv_entry ([.ref (h 6), .int ia, .int it, .int ip]) (n := 7) (Nat.le_of_ble_eq_true rfl)
  rw [lg_entry_eq]
  generalize (lg_sl ([.ref (h 6), .int ia, .int it, .int ip]) ++ List.replicate (7 - (lg_sl ([.ref (h 6), .int ia, .int it, .int ip])).length) Slot.unset).toArray = ls at hl ⊢
  have hl : lv_has ls 7 [(0, .ref (h 6)), (1, .int ia), (2, .int it), (3, .int ip)] := hl
  have hc := tw_c hW
  have JB : (ia < 0 ∨ nI 10 < ia ∨ it < 0 ∨ nI 10 < it ∨ ip < -48 ∨ nI 48 < ip) → W p l e (headSpec (ws_ yX1_step cX1_step 7 (some .int)) ({ frames := 3, cells := 0, slots := 0, locals := 78 })).room s m ([.ref (h 6), .int ia, .int it, .int ip] : List Value).toArray below meth c s.heap [] 0 0 (MQ below (va_Qi (fun (r : Int32) (u : va_W) => ((ia < 0 ∨ nI 10 < ia ∨ it < 0 ∨ nI 10 < it ∨ ip < -48 ∨ nI 48 < ip) ∧ r = -1 ∧ u = tp_wM dA dJ dZ h (nI cN) on st pa tx wd kp) ∨ (¬ (ia < 0 ∨ nI 10 < ia ∨ it < 0 ∨ nI 10 < it ∨ ip < -48 ∨ nI 48 < ip) ∧ ∃ ax t st', ax ≤ 10 ∧ t ≤ 10 ∧ ia = nI ax ∧ it = nI t ∧ (∀ q, tp_b st' q = true ↔ tp_pl cN P E N st ax t ip.toInt cN q) ∧ r = nI (tp_c (tp_b st') 48) ∧ u = tp_wM dA dJ dZ h (nI cN) on st' pa tx wd kp)) (tp_B D (tp_ty dA dJ dZ) (A)) (A)) ([.ref (h 6), .int ia, .int it, .int ip] : List Value).toArray s 0 0 (A)) (F0 m 20 ls []) := by
    intro hq
    refine lv_iconst (v := -1) hx hb dX1_step_20 (by decide) ?_
    exact W.iret hx hb hr (fun t ht hW9 => ⟨⟨_, (tp_wM dA dJ dZ h (nI cN) on st pa tx wd kp), rfl, Or.inl ⟨hq, rfl, rfl⟩, by rw [ht]; exact hP, va_K.moved hW9.alike hK, hD⟩, hS.F ht⟩) hS.2.2 dX1_step_21
  refine lv_iload_n hx hb dX1_step_0 rfl (lv_at hl 1 rfl) ?_
  refine lv_iload_n hx hb dX1_step_1 rfl (lv_at hl 2 rfl) ?_
  refine vp_callSi (W.runS (As := [.int ia, .int it]) (rest := []) ⟨hx, hb, hml, hown, hts⟩ (mem_refused l ia it) (va_cwS 2 hts (lw_S q228 q229 q21 q230) rfl rfl rfl (by decide +kernel) ⟨Nat.le_of_ble_eq_true rfl, Nat.le_of_ble_eq_true rfl⟩) tp_ps rfl rfl hl.1 rfl (lv_room (Nat.le_of_ble_eq_true rfl)) dX1_step_2 ⟨Nat.le_of_ble_eq_true rfl, Nat.le_of_ble_eq_true rfl⟩) (fun r0 h0b => ?_)
  rcases h0b with ⟨e1, q0⟩ | ⟨e1, q0⟩
  · subst e1
    refine lv_if_ne (tgt := 20) hx hb dX1_step_5 (by decide) (fun _ => ?_) (fun z => absurd ((nI_eq (a := 1) (b := 0) (by omega) (by omega)).mp z) (by omega))
    exact JB (by
      rcases q0 with z | z | z | z
      · exact Or.inl z
      · exact Or.inr (Or.inl z)
      · exact Or.inr (Or.inr (Or.inl z))
      · exact Or.inr (Or.inr (Or.inr (Or.inl z))))
  · subst e1
    refine lv_if_ne (tgt := 20) hx hb dX1_step_5 (by decide) (fun z => absurd ((nI_eq (a := 0) (b := 0) (by omega) (by omega)).mpr (by omega)) z) (fun _ => ?_)
    refine lv_iload_n hx hb dX1_step_8 rfl (lv_at hl 3 rfl) ?_
    refine lv_bipush (v := -48) hx hb dX1_step_9 (by decide) ?_
    refine lv_icmp_lt (tgt := 20) hx hb dX1_step_11 (by decide) (fun c5 => ?_) (fun c5 => ?_)
    · exact JB (Or.inr (Or.inr (Or.inr (Or.inr (Or.inl c5)))))
    · refine lv_iload_n hx hb dX1_step_14 rfl (lv_at hl 3 rfl) ?_
      refine lv_bipush (v := nI 48) hx hb dX1_step_15 (by decide) ?_
      refine lv_icmp_le (tgt := 22) hx hb dX1_step_17 (by decide) (fun c6 => ?_) (fun c6 => ?_)
      · have hok : ¬ (ia < 0 ∨ nI 10 < ia ∨ it < 0 ∨ nI 10 < it ∨ ip < -48 ∨ nI 48 < ip) := fun z => by
          rcases z with z | z | z | z | z | z
          · exact q0 (Or.inl z)
          · exact q0 (Or.inr (Or.inl z))
          · exact q0 (Or.inr (Or.inr (Or.inl z)))
          · exact q0 (Or.inr (Or.inr (Or.inr z)))
          · exact c5 z
          · exact absurd (Int32.lt_of_lt_of_le z c6) Int32.lt_irrefl
        obtain ⟨ax, hax, ea⟩ := nI_of2 (M := nI 10) (n := 10) (by decide) (fun z => q0 (Or.inl z)) (Int32.not_lt.mp (fun z => q0 (Or.inr (Or.inl z))))
        obtain ⟨t0, ht0, et⟩ := nI_of2 (M := nI 10) (n := 10) (by decide) (fun z => q0 (Or.inr (Or.inr (Or.inl z)))) (Int32.not_lt.mp (fun z => q0 (Or.inr (Or.inr (Or.inr z)))))
        have hp1 : -48 ≤ ip.toInt ∧ ip.toInt ≤ 48 := by
          have z1 := Int32.not_lt.mp c5
          rw [Int32.le_iff_toInt_le, show (-48 : Int32).toInt = -48 from by decide] at z1
          have z2 := c6
          rw [Int32.le_iff_toInt_le, show (nI 48).toInt = 48 from by decide] at z2
          exact ⟨z1, z2⟩
        rw [ea] at hl
        rw [et] at hl
        refine lv_lconst (v := 0) hx hb dX1_step_22 (by decide) ?_
        refine lv_lstore (lv' := [(4, .long 0), (0, .ref (h 6)), (1, .int (nI ax)), (2, .int (nI t0)), (3, .int ip)]) hx hb dX1_step_23 hl (by decide) rfl (fun ls hl => ?_)
        refine lv_iconst (v := nI 0) hx hb dX1_step_25 (by decide) ?_
        refine lv_istore (lv' := [(6, .int (nI 0)), (4, .long 0), (0, .ref (h 6)), (1, .int (nI ax)), (2, .int (nI t0)), (3, .int ip)]) hx hb dX1_step_26 hl (by decide) rfl (fun ls hl => ?_)
        have LP : ∀ (n : Nat) (i : Nat) (x : Int64), i ≤ cN → cN < i + n → (∀ q, tp_b x q = true ↔ tp_pl cN P E N st ax t0 ip.toInt i q) →  ∀ (ls : Array Slot), lv_has ls 7 [(0, .ref (h 6)), (1, .int (nI ax)), (2, .int (nI t0)), (3, .int ip), (4, .long x), (6, .int (nI i))] → W p l e (headSpec (ws_ yX1_step cX1_step 7 (some .int)) ({ frames := 3, cells := 0, slots := 0, locals := 78 })).room s m ([.ref (h 6), .int ia, .int it, .int ip] : List Value).toArray below meth c s.heap [] 0 0 (MQ below (va_Qi (fun (r : Int32) (u : va_W) => ((ia < 0 ∨ nI 10 < ia ∨ it < 0 ∨ nI 10 < it ∨ ip < -48 ∨ nI 48 < ip) ∧ r = -1 ∧ u = tp_wM dA dJ dZ h (nI cN) on st pa tx wd kp) ∨ (¬ (ia < 0 ∨ nI 10 < ia ∨ it < 0 ∨ nI 10 < it ∨ ip < -48 ∨ nI 48 < ip) ∧ ∃ ax t st', ax ≤ 10 ∧ t ≤ 10 ∧ ia = nI ax ∧ it = nI t ∧ (∀ q, tp_b st' q = true ↔ tp_pl cN P E N st ax t ip.toInt cN q) ∧ r = nI (tp_c (tp_b st') 48) ∧ u = tp_wM dA dJ dZ h (nI cN) on st' pa tx wd kp)) (tp_B D (tp_ty dA dJ dZ) (A)) (A)) ([.ref (h 6), .int ia, .int it, .int ip] : List Value).toArray s 0 0 (A)) (F0 m 28 ls []) := by
          intro n
          induction n with
          | zero => intro i x hi hf hx0 ls hl; exact absurd hf (by omega)
          | succ n ih =>
            intro i x hi hf hx0 ls hl
            refine lv_iload hx hb dX1_step_28 (lv_at hl 5 rfl) ?_
            refine lv_aload_n hx hb dX1_step_30 rfl (lv_at hl 0 rfl) ?_
            refine va_get (D := D) (ci := 1) (v := .int (nI cN)) (C := RX1) (T := TX1) (N := 7) hx hb hts in_X1 hown hK hP 0 rfl rfl 0 (by decide) (hts _ q169) (fun _ h9 => h9) rfl dX1_step_31 ?_
            refine lv_icmp_ge (tgt := 71) hx hb dX1_step_34 (by decide) (fun d1 => ?_) (fun d1 => ?_)
            · have d1 : cN ≤ i := (nI_leI (a := cN) (b := i) (by omega) (by omega)).mp d1
              rw [show i = cN by omega] at hx0
              refine lv_aload_n hx hb dX1_step_71 rfl (lv_at hl 0 rfl) ?_
              refine lv_lload hx hb dX1_step_72 (lv_at hl 4 rfl) ?_
              refine va_put (D := D) (ci := 1) (v := .long x) (ty := .long) (C := RX1) (T := TX1) (N := 7) hx hb hts in_X1 tyX1 tyX1_ok nmX1 hown hK hP hD hS 0 rfl rfl 5 (by decide) (hts _ q174) (fun _ h9 => h9) rfl (by decide +kernel) rfl rfl (Nat.le_of_ble_eq_true rfl) dX1_step_74 (fun H locs hP hD hS => ?_)
              have hP : va_P D tp_cl (tp_wM dA dJ dZ h (nI cN) on x pa tx wd kp) H := hP
              have hD : va_D A (tp_wM dA dJ dZ h (nI cN) on x pa tx wd kp) := hD
              refine lv_aload_n hx hb dX1_step_77 rfl (lv_at hl 0 rfl) ?_
              refine vp_callSi (W.runV (As := []) (rest := []) ⟨hx, hb, hml, hown, hts⟩ (mem_size l D dA dJ dZ h on x pa tx wd kp cN) (cwV 0 hts (lw_V q246 q248 qs18 q21 q249) rfl rfl rfl (by decide +kernel) ⟨Nat.le_of_ble_eq_true rfl, Nat.le_of_ble_eq_true rfl⟩) (tp_pv hK hP (ci := 1) (q0 := 0) rfl rfl) rfl rfl hl.1 rfl (lv_room (Nat.le_of_ble_eq_true rfl)) dX1_step_78 ⟨Nat.le_of_ble_eq_true rfl, Nat.le_of_ble_eq_true rfl⟩) (fun r9 h9 => ?_)
              exact W.iret hx hb hr (fun t ht hW9 => ⟨⟨_, (tp_wM dA dJ dZ h (nI cN) on x pa tx wd kp), rfl, Or.inr ⟨hok, ax, t0, _, hax, ht0, ea, et, hx0, h9, rfl⟩, by rw [ht]; exact hP, va_K.moved hW9.alike hK, hD⟩, hS.F ht⟩) hS.2.2 dX1_step_81
            · have d1 : ¬ (cN ≤ i) := fun z => d1 ((nI_leI (a := cN) (b := i) (by omega) (by omega)).mpr z)
              refine lv_aload_n hx hb dX1_step_37 rfl (lv_at hl 0 rfl) ?_
              refine va_get (D := D) (ci := 1) (v := .long st) (C := RX1) (T := TX1) (N := 7) hx hb hts in_X1 hown hK hP 0 rfl rfl 5 (by decide) (hts _ q174) (fun _ h9 => h9) rfl dX1_step_38 ?_
              refine lv_iload hx hb dX1_step_41 (lv_at hl 5 rfl) ?_
              refine lv_lshr hx hb dX1_step_43 rfl ?_
              refine lv_lconst (v := 1) hx hb dX1_step_44 (by decide) ?_
              refine lv_land hx hb dX1_step_45 ?_
              refine tp_tl (y := tp_l (tp_b st i)) (tp_sbit (by omega)) ?_
              refine lv_lconst (v := 1) hx hb dX1_step_46 (by decide) ?_
              refine W.lcmp hx hb dX1_step_47 ?_
              refine lv_if_ne (tgt := 65) hx hb dX1_step_48 (by decide) (fun d2 => ?_) (fun d2 => ?_)
              · have d2 : tp_b st i = false := by
                  cases hbb : tp_b st i
                  · rfl
                  · exact absurd ((tp_lcmp1 _).mpr hbb) d2
                refine lv_iinc (v := nI (i + 1)) (lv' := [(6, .int (nI (i + 1))), (0, .ref (h 6)), (1, .int (nI ax)), (2, .int (nI t0)), (3, .int ip), (4, .long x)]) hx hb dX1_step_65 hl (k := 5) rfl (nI_1 i) (by decide) rfl (fun ls hl => ?_)
                refine lv_goto (tgt := 28) hx hb dX1_step_68 (by decide) ?_
                exact ih (i + 1) x (by omega) (by omega) (tn_pln hx0 d2) ls (lv_sub hl [1, 2, 3, 4, 5, 0] rfl)
              · have d2 : tp_b st i = true := (tp_lcmp1 _).mp d2
                refine lv_lload hx hb dX1_step_51 (lv_at hl 4 rfl) ?_
                refine lv_aload_n hx hb dX1_step_53 rfl (lv_at hl 0 rfl) ?_
                refine lv_iload hx hb dX1_step_54 (lv_at hl 5 rfl) ?_
                refine lv_iload_n hx hb dX1_step_56 rfl (lv_at hl 1 rfl) ?_
                refine lv_iload_n hx hb dX1_step_57 rfl (lv_at hl 2 rfl) ?_
                refine lv_iload_n hx hb dX1_step_58 rfl (lv_at hl 3 rfl) ?_
                refine vp_callSl (W.runV (As := [.int (nI i), .int (nI ax), .int (nI t0), .int ip]) (rest := [.long x]) ⟨hx, hb, hml, hown, hts⟩ (mem_found l D dA dJ dZ h on st vl pa tx wd kp (n0 := i) (ax := ax) (t := t0) (pl := ip) hW hM (by omega) hax ht0 hp1) (cwV 4 hts (lw_V q231 q233 qs15 q21 q234) rfl rfl rfl (by decide +kernel) ⟨Nat.le_of_ble_eq_true rfl, Nat.le_of_ble_eq_true rfl⟩) (tp_pv hK hP (ci := 1) (q0 := 0) rfl rfl) rfl rfl hl.1 rfl (lv_room (Nat.le_of_ble_eq_true rfl)) dX1_step_59 ⟨Nat.le_of_ble_eq_true rfl, Nat.le_of_ble_eq_true rfl⟩) (fun r1 h1 => ?_)
                refine lv_lor hx hb dX1_step_62 ?_
                refine lv_lstore (lv' := [(4, .long (x ||| r1)), (0, .ref (h 6)), (1, .int (nI ax)), (2, .int (nI t0)), (3, .int ip), (6, .int (nI i))]) hx hb dX1_step_63 hl (by decide) rfl (fun ls hl => ?_)
                refine lv_iinc (v := nI (i + 1)) (lv' := [(6, .int (nI (i + 1))), (4, .long (x ||| r1)), (0, .ref (h 6)), (1, .int (nI ax)), (2, .int (nI t0)), (3, .int ip)]) hx hb dX1_step_65 hl (k := 5) rfl (nI_1 i) (by decide) rfl (fun ls hl => ?_)
                refine lv_goto (tgt := 28) hx hb dX1_step_68 (by decide) ?_
                exact ih (i + 1) _ (by omega) (by omega) (tn_ply hx0 d2 (fun q => (h1 q).trans (ty_b2 hc.2 q))) ls (lv_sub hl [2, 3, 4, 5, 1, 0] rfl)
        exact LP (cN + 1) 0 0 (by omega) (by omega) tn_pl0 ls (lv_sub hl [2, 3, 4, 5, 1, 0] rfl)
      · exact JB (Or.inr (Or.inr (Or.inr (Or.inr (Or.inr (Int32.not_le.mp c6))))))

set_option maxHeartbeats 4000000 in
set_option maxRecDepth 100000 in
theorem mem_having (l : Launch) (D : va_G) (dA dJ dZ : ClassId) (h : Nat → Nat) (on : Int32) (st : Int64) (vl pa tx wd : Nat → Int32) (kp : Nat → Int64) {cN : Nat} {P E N : Nat → Nat} (ia it : Int32) {w : Nat} (sz : Nat) (hW : tp_wf cN P E) (hM : tp_M cN P N vl pa tx wd) (hs : ∀ i, tp_b st i = true → i < cN) (hw : w ≤ 1) : Met l yX1_having (ws_ yX1_having cX1_having 6 (some .int)) ({ frames := 3, cells := 0, slots := 0, locals := 78 }) (tp_Pm D (tp_ty dA dJ dZ) (tp_wM dA dJ dZ h (nI cN) on st pa tx wd kp) sz [.ref (h 6), .int ia, .int it, .int (nI w)]) (va_Qi (fun (r : Int32) (u : va_W) => ((ia < 0 ∨ nI 10 < ia ∨ it < 0 ∨ nI 10 < it) ∧ r = -1 ∧ u = tp_wM dA dJ dZ h (nI cN) on st pa tx wd kp) ∨ (¬ (ia < 0 ∨ nI 10 < ia ∨ it < 0 ∨ nI 10 < it) ∧ ∃ ax t st', ax ≤ 10 ∧ t ≤ 10 ∧ ia = nI ax ∧ it = nI t ∧ (∀ q, tp_b st' q = true ↔ tp_b st q = true ∧ (tp_hv cN P E N ax t q ↔ w = 1)) ∧ r = nI (tp_c (tp_b st') 48) ∧ u = tp_wM dA dJ dZ h (nI cN) on st' pa tx wd kp)) (tp_B D (tp_ty dA dJ dZ) (va_A (tp_wM dA dJ dZ h (nI cN) on st pa tx wd kp) sz)) (va_A (tp_wM dA dJ dZ h (nI cN) on st pa tx wd kp) sz)) 0 0 (va_A (tp_wM dA dJ dZ h (nI cN) on st pa tx wd kp) sz) := by
  refine Met.ofW (cc := cX1_having) (maxL := 6) (ret := (some .int)) (by decide) rfl ?_
  intro p e s m args below meth c s₁ B hml hv
  obtain ⟨rfl, hsz, hP, hK, hD0⟩ := hv
  subst hsz
  have hD := hD0.self (sz := s.heap.size)
  generalize hAe : va_A (tp_wM dA dJ dZ h (nI cN) on st pa tx wd kp) s.heap.size = A at hD ⊢
  have hA : ∀ q : Nat, s.heap.size ≤ q → A q := fun q h => by rw [← hAe]; exact Or.inr h
  have hS : va_S A s.heap s.heap [] := va_S.rf
  have hP : va_P D tp_cl (tp_wM dA dJ dZ h (nI cN) on st pa tx wd kp) s.heap := hP
  have hx := B.exec
  have hb := B.bytes
  have hr := B.returns
  have hts := atoms_spec (ws := ws_ yX1_having cX1_having 6 (some .int)) B.pre
  have hts : ∀ w ∈ lw_all, w.before _ s = true := fun w h => hts w (List.mem_cons_of_mem _ h)
  have hown : s.vm.findClass RX1 = some m.cls := findClass_of_methodNamed B.named
  have hlocks := B.notSynchronized
  have hl := lv_entry ([.ref (h 6), .int ia, .int it, .int (nI w)]) (n := 6) (Nat.le_of_ble_eq_true rfl)
  rw [lg_entry_eq]
  generalize (lg_sl ([.ref (h 6), .int ia, .int it, .int (nI w)]) ++ List.replicate (6 - (lg_sl ([.ref (h 6), .int ia, .int it, .int (nI w)])).length) Slot.unset).toArray = ls at hl ⊢
  have hl : lv_has ls 6 [(0, .ref (h 6)), (1, .int ia), (2, .int it), (3, .int (nI w))] := hl
  have hc := tw_c hW
  refine lv_iload_n hx hb dX1_having_0 rfl (lv_at hl 1 rfl) ?_
  refine lv_iload_n hx hb dX1_having_1 rfl (lv_at hl 2 rfl) ?_
  refine vp_callSi (W.runS (As := [.int ia, .int it]) (rest := []) ⟨hx, hb, hml, hown, hts⟩ (mem_refused l ia it) (va_cwS 2 hts (lw_S q228 q229 q21 q230) rfl rfl rfl (by decide +kernel) ⟨Nat.le_of_ble_eq_true rfl, Nat.le_of_ble_eq_true rfl⟩) tp_ps rfl rfl hl.1 rfl (lv_room (Nat.le_of_ble_eq_true rfl)) dX1_having_2 ⟨Nat.le_of_ble_eq_true rfl, Nat.le_of_ble_eq_true rfl⟩) (fun r0 h0b => ?_)
  rcases h0b with ⟨e1, q0⟩ | ⟨e1, q0⟩
  · subst e1
    refine lv_if_eq (tgt := 10) hx hb dX1_having_5 (by decide) (fun z => absurd ((nI_eq (a := 1) (b := 0) (by omega) (by omega)).mp z) (by omega)) (fun _ => ?_)
    refine lv_iconst (v := -1) hx hb dX1_having_8 (by decide) ?_
    exact W.iret hx hb hr (fun t ht hW9 => ⟨⟨_, (tp_wM dA dJ dZ h (nI cN) on st pa tx wd kp), rfl, Or.inl ⟨q0, rfl, rfl⟩, by rw [ht]; exact hP, va_K.moved hW9.alike hK, hD⟩, hS.F ht⟩) hS.2.2 dX1_having_9
  · subst e1
    refine lv_if_eq (tgt := 10) hx hb dX1_having_5 (by decide) (fun _ => ?_) (fun z => absurd ((nI_eq (a := 0) (b := 0) (by omega) (by omega)).mpr (by omega)) z)
    obtain ⟨ax, hax, ea⟩ := nI_of2 (M := nI 10) (n := 10) (by decide) (fun z => q0 (Or.inl z)) (Int32.not_lt.mp (fun z => q0 (Or.inr (Or.inl z))))
    obtain ⟨t0, ht0, et⟩ := nI_of2 (M := nI 10) (n := 10) (by decide) (fun z => q0 (Or.inr (Or.inr (Or.inl z)))) (Int32.not_lt.mp (fun z => q0 (Or.inr (Or.inr (Or.inr z)))))
    rw [ea] at hl
    rw [et] at hl
    refine lv_iconst (v := nI 0) hx hb dX1_having_10 (by decide) ?_
    refine lv_istore (lv' := [(4, .int (nI 0)), (0, .ref (h 6)), (1, .int (nI ax)), (2, .int (nI t0)), (3, .int (nI w))]) hx hb dX1_having_11 hl (by decide) rfl (fun ls hl => ?_)
    have LP : ∀ (n : Nat) (i : Nat) (x : Int64) (H : Heap) (locs : List Loc), i ≤ cN → cN < i + n → tp_fl st (fun q => tp_hv cN P E N ax t0 q ↔ w = 1) i x → va_P D tp_cl (tp_wM dA dJ dZ h (nI cN) on x pa tx wd kp) H → va_D A (tp_wM dA dJ dZ h (nI cN) on x pa tx wd kp) → va_S A s.heap H locs →  ∀ (ls : Array Slot), lv_has ls 6 [(0, .ref (h 6)), (1, .int (nI ax)), (2, .int (nI t0)), (3, .int (nI w)), (4, .int (nI i))] → W p l e (headSpec (ws_ yX1_having cX1_having 6 (some .int)) ({ frames := 3, cells := 0, slots := 0, locals := 78 })).room s m ([.ref (h 6), .int ia, .int it, .int (nI w)] : List Value).toArray below meth c H locs 0 0 (MQ below (va_Qi (fun (r : Int32) (u : va_W) => ((ia < 0 ∨ nI 10 < ia ∨ it < 0 ∨ nI 10 < it) ∧ r = -1 ∧ u = tp_wM dA dJ dZ h (nI cN) on st pa tx wd kp) ∨ (¬ (ia < 0 ∨ nI 10 < ia ∨ it < 0 ∨ nI 10 < it) ∧ ∃ ax t st', ax ≤ 10 ∧ t ≤ 10 ∧ ia = nI ax ∧ it = nI t ∧ (∀ q, tp_b st' q = true ↔ tp_b st q = true ∧ (tp_hv cN P E N ax t q ↔ w = 1)) ∧ r = nI (tp_c (tp_b st') 48) ∧ u = tp_wM dA dJ dZ h (nI cN) on st' pa tx wd kp)) (tp_B D (tp_ty dA dJ dZ) (A)) (A)) ([.ref (h 6), .int ia, .int it, .int (nI w)] : List Value).toArray s 0 0 (A)) (F0 m 13 ls []) := by
      intro n
      induction n with
      | zero => intro i x H locs hi hf hx0 hP hD hS ls hl; exact absurd hf (by omega)
      | succ n ih =>
        intro i x H locs hi hf hx0 hP hD hS ls hl
        refine lv_iload hx hb dX1_having_13 (lv_at hl 4 rfl) ?_
        refine lv_aload_n hx hb dX1_having_15 rfl (lv_at hl 0 rfl) ?_
        refine va_get (D := D) (ci := 1) (v := .int (nI cN)) (C := RX1) (T := TX1) (N := 7) hx hb hts in_X1 hown hK hP 0 rfl rfl 0 (by decide) (hts _ q169) (fun _ h9 => h9) rfl dX1_having_16 ?_
        refine lv_icmp_ge (tgt := 72) hx hb dX1_having_19 (by decide) (fun d1 => ?_) (fun d1 => ?_)
        · have d1 : cN ≤ i := (nI_leI (a := cN) (b := i) (by omega) (by omega)).mp d1
          refine lv_aload_n hx hb dX1_having_72 rfl (lv_at hl 0 rfl) ?_
          refine vp_callSi (W.runV (As := []) (rest := []) ⟨hx, hb, hml, hown, hts⟩ (mem_size l D dA dJ dZ h on x pa tx wd kp cN) (cwV 0 hts (lw_V q246 q248 qs18 q21 q249) rfl rfl rfl (by decide +kernel) ⟨Nat.le_of_ble_eq_true rfl, Nat.le_of_ble_eq_true rfl⟩) (tp_pv hK hP (ci := 1) (q0 := 0) rfl rfl) rfl rfl hl.1 rfl (lv_room (Nat.le_of_ble_eq_true rfl)) dX1_having_73 ⟨Nat.le_of_ble_eq_true rfl, Nat.le_of_ble_eq_true rfl⟩) (fun r9 h9 => ?_)
          rw [show i = cN by omega] at hx0
          exact W.iret hx hb hr (fun t ht hW9 => ⟨⟨_, (tp_wM dA dJ dZ h (nI cN) on x pa tx wd kp), rfl, Or.inr ⟨q0, ax, t0, _, hax, ht0, ea, et, ty_end hs hx0, h9, rfl⟩, by rw [ht]; exact hP, va_K.moved hW9.alike hK, hD⟩, hS.F ht⟩) hS.2.2 dX1_having_76
        · have d1 : ¬ (cN ≤ i) := fun z => d1 ((nI_leI (a := cN) (b := i) (by omega) (by omega)).mpr z)
          refine lv_aload_n hx hb dX1_having_22 rfl (lv_at hl 0 rfl) ?_
          refine lv_iload hx hb dX1_having_23 (lv_at hl 4 rfl) ?_
          refine lv_iload_n hx hb dX1_having_25 rfl (lv_at hl 1 rfl) ?_
          refine lv_iload_n hx hb dX1_having_26 rfl (lv_at hl 2 rfl) ?_
          refine lv_iconst (v := nI 0) hx hb dX1_having_27 (by decide) ?_
          refine vp_callSl (W.runV (As := [.int (nI i), .int (nI ax), .int (nI t0), .int (nI 0)]) (rest := []) ⟨hx, hb, hml, hown, hts⟩ (mem_found l D dA dJ dZ h on x vl pa tx wd kp (n0 := i) (ax := ax) (t := t0) (pl := nI 0) hW hM (by omega) hax ht0 (by decide)) (cwV 4 hts (lw_V q231 q233 qs15 q21 q234) rfl rfl rfl (by decide +kernel) ⟨Nat.le_of_ble_eq_true rfl, Nat.le_of_ble_eq_true rfl⟩) (tp_pv hK hP (ci := 1) (q0 := 0) rfl rfl) rfl rfl hl.1 rfl (lv_room (Nat.le_of_ble_eq_true rfl)) dX1_having_28 ⟨Nat.le_of_ble_eq_true rfl, Nat.le_of_ble_eq_true rfl⟩) (fun r1 h1 => ?_)
          have hfd := ty_hv0 h1
          have J : ∀ (v : Nat), v ≤ 1 → (v = 1 ↔ tp_hv cN P E N ax t0 i) → W p l e (headSpec (ws_ yX1_having cX1_having 6 (some .int)) ({ frames := 3, cells := 0, slots := 0, locals := 78 })).room s m ([.ref (h 6), .int ia, .int it, .int (nI w)] : List Value).toArray below meth c H locs 0 0 (MQ below (va_Qi (fun (r : Int32) (u : va_W) => ((ia < 0 ∨ nI 10 < ia ∨ it < 0 ∨ nI 10 < it) ∧ r = -1 ∧ u = tp_wM dA dJ dZ h (nI cN) on st pa tx wd kp) ∨ (¬ (ia < 0 ∨ nI 10 < ia ∨ it < 0 ∨ nI 10 < it) ∧ ∃ ax t st', ax ≤ 10 ∧ t ≤ 10 ∧ ia = nI ax ∧ it = nI t ∧ (∀ q, tp_b st' q = true ↔ tp_b st q = true ∧ (tp_hv cN P E N ax t q ↔ w = 1)) ∧ r = nI (tp_c (tp_b st') 48) ∧ u = tp_wM dA dJ dZ h (nI cN) on st' pa tx wd kp)) (tp_B D (tp_ty dA dJ dZ) (A)) (A)) ([.ref (h 6), .int ia, .int it, .int (nI w)] : List Value).toArray s 0 0 (A)) (F0 m 41 ls [.int (nI v)]) := by
            intro v hv1 hv
            refine lv_istore (lv' := [(5, .int (nI v)), (0, .ref (h 6)), (1, .int (nI ax)), (2, .int (nI t0)), (3, .int (nI w)), (4, .int (nI i))]) hx hb dX1_having_41 hl (by decide) rfl (fun ls hl => ?_)
            refine lv_iload hx hb dX1_having_43 (lv_at hl 0 rfl) ?_
            refine lv_iload_n hx hb dX1_having_45 rfl (lv_at hl 4 rfl) ?_
            refine lv_icmp_eq (tgt := 66) hx hb dX1_having_46 (by decide) (fun d3 => ?_) (fun d3 => ?_)
            · have d3 : v = w := (nI_eq (a := v) (b := w) (by omega) (by omega)).mp d3
              refine lv_iinc (v := nI (i + 1)) (lv' := [(4, .int (nI (i + 1))), (5, .int (nI v)), (0, .ref (h 6)), (1, .int (nI ax)), (2, .int (nI t0)), (3, .int (nI w))]) hx hb dX1_having_66 hl (k := 5) rfl (nI_1 i) (by decide) rfl (fun ls hl => ?_)
              refine lv_goto (tgt := 13) hx hb dX1_having_69 (by decide) ?_
              exact ih (i + 1) x _ _ (by omega) (by omega) (ty_ok hx0 (fun _ => by rw [← hv]; omega)) hP hD hS ls (lv_sub hl [2, 3, 4, 5, 0] rfl)
            · have d3 : ¬ (v = w) := fun z => d3 ((nI_eq (a := v) (b := w) (by omega) (by omega)).mpr z)
              refine lv_aload_n hx hb dX1_having_49 rfl (lv_at hl 1 rfl) ?_
              refine lv_dup hx hb dX1_having_50 rfl ?_
              refine va_get (D := D) (ci := 1) (v := .long x) (C := RX1) (T := TX1) (N := 7) hx hb hts in_X1 hown hK hP 0 rfl rfl 5 (by decide) (hts _ q174) (fun _ h9 => h9) rfl dX1_having_51 ?_
              refine lv_lconst (v := 1) hx hb dX1_having_54 (by decide) ?_
              refine lv_iload hx hb dX1_having_55 (lv_at hl 5 rfl) ?_
              refine lv_lshl (v := tp_1 i) hx hb dX1_having_57 rfl ?_
              refine lv_ldc2 hx hb hown (hts _ q254) dX1_having_58 ?_
              refine lv_lxor hx hb dX1_having_61 ?_
              refine lv_land hx hb dX1_having_62 ?_
              refine va_put (D := D) (ci := 1) (v := .long (x &&& ((tp_1 i) ^^^ (-1)))) (ty := .long) (C := RX1) (T := TX1) (N := 7) hx hb hts in_X1 tyX1 tyX1_ok nmX1 hown hK hP hD hS 0 rfl rfl 5 (by decide) (hts _ q174) (fun _ h9 => h9) rfl (by decide +kernel) rfl rfl (Nat.le_of_ble_eq_true rfl) dX1_having_63 (fun H locs hP hD hS => ?_)
              have hP : va_P D tp_cl (tp_wM dA dJ dZ h (nI cN) on (x &&& ((tp_1 i) ^^^ (-1))) pa tx wd kp) H := hP
              have hD : va_D A (tp_wM dA dJ dZ h (nI cN) on (x &&& ((tp_1 i) ^^^ (-1))) pa tx wd kp) := hD
              refine lv_iinc (v := nI (i + 1)) (lv' := [(4, .int (nI (i + 1))), (5, .int (nI v)), (0, .ref (h 6)), (1, .int (nI ax)), (2, .int (nI t0)), (3, .int (nI w))]) hx hb dX1_having_66 hl (k := 5) rfl (nI_1 i) (by decide) rfl (fun ls hl => ?_)
              refine lv_goto (tgt := 13) hx hb dX1_having_69 (by decide) ?_
              exact ih (i + 1) _ _ _ (by omega) (by omega) (ty_out (by omega) hx0 (fun z => d3 (by have y : v = 1 ↔ w = 1 := hv.trans z; omega))) hP hD hS ls (lv_sub hl [2, 3, 4, 5, 0] rfl)
          refine lv_lconst (v := 0) hx hb dX1_having_31 (by decide) ?_
          refine W.lcmp hx hb dX1_having_32 ?_
          refine lv_if_eq (tgt := 40) hx hb dX1_having_33 (by decide) (fun d4 => ?_) (fun d4 => ?_)
          · refine lv_iconst (v := nI 0) hx hb dX1_having_40 (by decide) ?_
            exact J 0 (by omega) ⟨fun z => by omega, fun z => absurd z (hfd.mp ((lg_cmp_eq _ _).mp d4))⟩
          · refine lv_iconst (v := nI 1) hx hb dX1_having_36 (by decide) ?_
            refine lv_goto (tgt := 41) hx hb dX1_having_37 (by decide) ?_
            exact J 1 (by omega) ⟨fun _ => Classical.byContradiction (fun z => d4 ((lg_cmp_eq _ _).mpr (hfd.mpr z))), fun _ => rfl⟩
    exact LP (cN + 1) 0 st _ _ (by omega) (by omega) ty_f0 hP hD hS ls (lv_sub hl [1, 2, 3, 4, 0] rfl)

set_option maxHeartbeats 4000000 in
set_option maxRecDepth 100000 in
theorem mem_valued (l : Launch) (D : va_G) (dA dJ dZ : ClassId) (h : Nat → Nat) (on : Int32) (st : Int64) (vl pa tx wd : Nat → Int32) (kp : Nat → Int64) {cN : Nat} {P E N : Nat → Nat} (lo hi0 : Int32) (sz : Nat) (hW : tp_wf cN P E) (hM : tp_M cN P N vl pa tx wd) (hs : ∀ i, tp_b st i = true → i < cN) : Met l yX1_valued (ws_ yX1_valued cX1_valued 7 (some .int)) ({ frames := 1, cells := 0, slots := 0, locals := 23 }) (tp_Pm D (tp_ty dA dJ dZ) (tp_wM dA dJ dZ h (nI cN) on st pa tx wd kp) sz [.ref (h 6), .int lo, .int hi0]) (va_Qi (fun (r : Int32) (u : va_W) => ∃ st', (∀ q, tp_b st' q = true ↔ tp_b st q = true ∧ tp_gv cN E N vl lo hi0 q) ∧ r = nI (tp_c (tp_b st') 48) ∧ u = tp_wM dA dJ dZ h (nI cN) on st' pa tx wd kp) (tp_B D (tp_ty dA dJ dZ) (va_A (tp_wM dA dJ dZ h (nI cN) on st pa tx wd kp) sz)) (va_A (tp_wM dA dJ dZ h (nI cN) on st pa tx wd kp) sz)) 0 0 (va_A (tp_wM dA dJ dZ h (nI cN) on st pa tx wd kp) sz) := by
  refine Met.ofW (cc := cX1_valued) (maxL := 7) (ret := (some .int)) (by decide) rfl ?_
  intro p e s m args below meth c s₁ B hml hv
  obtain ⟨rfl, hsz, hP, hK, hD0⟩ := hv
  subst hsz
  have hD := hD0.self (sz := s.heap.size)
  generalize hAe : va_A (tp_wM dA dJ dZ h (nI cN) on st pa tx wd kp) s.heap.size = A at hD ⊢
  have hA : ∀ q : Nat, s.heap.size ≤ q → A q := fun q h => by rw [← hAe]; exact Or.inr h
  have hS : va_S A s.heap s.heap [] := va_S.rf
  have hP : va_P D tp_cl (tp_wM dA dJ dZ h (nI cN) on st pa tx wd kp) s.heap := hP
  have hx := B.exec
  have hb := B.bytes
  have hr := B.returns
  have hts := atoms_spec (ws := ws_ yX1_valued cX1_valued 7 (some .int)) B.pre
  have hts : ∀ w ∈ lw_all, w.before _ s = true := fun w h => hts w (List.mem_cons_of_mem _ h)
  have hown : s.vm.findClass RX1 = some m.cls := findClass_of_methodNamed B.named
  have hlocks := B.notSynchronized
  have hl := lv_entry ([.ref (h 6), .int lo, .int hi0]) (n := 7) (Nat.le_of_ble_eq_true rfl)
  rw [lg_entry_eq]
  generalize (lg_sl ([.ref (h 6), .int lo, .int hi0]) ++ List.replicate (7 - (lg_sl ([.ref (h 6), .int lo, .int hi0])).length) Slot.unset).toArray = ls at hl ⊢
  have hl : lv_has ls 7 [(0, .ref (h 6)), (1, .int lo), (2, .int hi0)] := hl
  have hc := tw_c hW
  refine lv_iconst (v := nI 0) hx hb dX1_valued_0 (by decide) ?_
  refine lv_istore_n (lv' := [(3, .int (nI 0)), (0, .ref (h 6)), (1, .int lo), (2, .int hi0)]) hx hb dX1_valued_1 rfl hl (by decide) rfl (fun ls hl => ?_)
  have LP : ∀ (n : Nat) (i : Nat) (x : Int64) (H : Heap) (locs : List Loc), i ≤ cN → cN < i + n → tp_fl st (tp_gv cN E N vl lo hi0) i x → va_P D tp_cl (tp_wM dA dJ dZ h (nI cN) on x pa tx wd kp) H → va_D A (tp_wM dA dJ dZ h (nI cN) on x pa tx wd kp) → va_S A s.heap H locs →  ∀ (ls : Array Slot), lv_has ls 7 [(0, .ref (h 6)), (1, .int lo), (2, .int hi0), (3, .int (nI i))] → W p l e (headSpec (ws_ yX1_valued cX1_valued 7 (some .int)) ({ frames := 1, cells := 0, slots := 0, locals := 23 })).room s m ([.ref (h 6), .int lo, .int hi0] : List Value).toArray below meth c H locs 0 0 (MQ below (va_Qi (fun (r : Int32) (u : va_W) => ∃ st', (∀ q, tp_b st' q = true ↔ tp_b st q = true ∧ tp_gv cN E N vl lo hi0 q) ∧ r = nI (tp_c (tp_b st') 48) ∧ u = tp_wM dA dJ dZ h (nI cN) on st' pa tx wd kp) (tp_B D (tp_ty dA dJ dZ) (A)) (A)) ([.ref (h 6), .int lo, .int hi0] : List Value).toArray s 0 0 (A)) (F0 m 2 ls []) := by
    intro n
    induction n with
    | zero => intro i x H locs hi hf hx0 hP hD hS ls hl; exact absurd hf (by omega)
    | succ n ih =>
      intro i x H locs hi hf hx0 hP hD hS ls hl
      refine lv_iload_n hx hb dX1_valued_2 rfl (lv_at hl 3 rfl) ?_
      refine lv_aload_n hx hb dX1_valued_3 rfl (lv_at hl 0 rfl) ?_
      refine va_get (D := D) (ci := 1) (v := .int (nI cN)) (C := RX1) (T := TX1) (N := 7) hx hb hts in_X1 hown hK hP 0 rfl rfl 0 (by decide) (hts _ q169) (fun _ h9 => h9) rfl dX1_valued_4 ?_
      refine lv_icmp_ge (tgt := 121) hx hb dX1_valued_7 (by decide) (fun c1 => ?_) (fun c1 => ?_)
      · have c1 : cN ≤ i := (nI_leI (a := cN) (b := i) (by omega) (by omega)).mp c1
        refine lv_aload_n hx hb dX1_valued_121 rfl (lv_at hl 0 rfl) ?_
        refine vp_callSi (W.runV (As := []) (rest := []) ⟨hx, hb, hml, hown, hts⟩ (mem_size l D dA dJ dZ h on x pa tx wd kp cN) (cwV 0 hts (lw_V q246 q248 qs18 q21 q249) rfl rfl rfl (by decide +kernel) ⟨Nat.le_of_ble_eq_true rfl, Nat.le_of_ble_eq_true rfl⟩) (tp_pv hK hP (ci := 1) (q0 := 0) rfl rfl) rfl rfl hl.1 rfl (lv_room (Nat.le_of_ble_eq_true rfl)) dX1_valued_122 ⟨Nat.le_of_ble_eq_true rfl, Nat.le_of_ble_eq_true rfl⟩) (fun r9 h9 => ?_)
        rw [show i = cN by omega] at hx0
        exact W.iret hx hb hr (fun t ht hW9 => ⟨⟨_, (tp_wM dA dJ dZ h (nI cN) on x pa tx wd kp), rfl, ⟨_, ty_end hs hx0, h9, rfl⟩, by rw [ht]; exact hP, va_K.moved hW9.alike hK, hD⟩, hS.F ht⟩) hS.2.2 dX1_valued_125
      · have c1 : ¬ (cN ≤ i) := fun z => c1 ((nI_leI (a := cN) (b := i) (by omega) (by omega)).mpr z)
        refine lv_iconst (v := nI 0) hx hb dX1_valued_10 (by decide) ?_
        refine lv_istore (lv' := [(4, .int (nI 0)), (0, .ref (h 6)), (1, .int lo), (2, .int hi0), (3, .int (nI i))]) hx hb dX1_valued_11 hl (by decide) rfl (fun ls hl => ?_)
        refine lv_iconst (v := nI 0) hx hb dX1_valued_13 (by decide) ?_
        refine lv_istore (lv' := [(5, .int (nI 0)), (4, .int (nI 0)), (0, .ref (h 6)), (1, .int lo), (2, .int hi0), (3, .int (nI i))]) hx hb dX1_valued_14 hl (by decide) rfl (fun ls hl => ?_)
        have LQ : ∀ (n2 : Nat) (j v : Nat), j ≤ cN → cN < j + n2 → v ≤ 1 → (v = 1 ↔ tp_any E N vl lo hi0 i j) →  ∀ (ls : Array Slot), lv_has ls 7 [(0, .ref (h 6)), (1, .int lo), (2, .int hi0), (3, .int (nI i)), (4, .int (nI v)), (5, .int (nI j))] → W p l e (headSpec (ws_ yX1_valued cX1_valued 7 (some .int)) ({ frames := 1, cells := 0, slots := 0, locals := 23 })).room s m ([.ref (h 6), .int lo, .int hi0] : List Value).toArray below meth c H locs 0 0 (MQ below (va_Qi (fun (r : Int32) (u : va_W) => ∃ st', (∀ q, tp_b st' q = true ↔ tp_b st q = true ∧ tp_gv cN E N vl lo hi0 q) ∧ r = nI (tp_c (tp_b st') 48) ∧ u = tp_wM dA dJ dZ h (nI cN) on st' pa tx wd kp) (tp_B D (tp_ty dA dJ dZ) (A)) (A)) ([.ref (h 6), .int lo, .int hi0] : List Value).toArray s 0 0 (A)) (F0 m 16 ls []) := by
          intro n2
          induction n2 with
          | zero => intro j v hj hf2 hv1 hva ls hl; exact absurd hf2 (by omega)
          | succ n2 ih2 =>
            intro j v hj hf2 hv1 hva ls hl
            refine lv_iload hx hb dX1_valued_16 (lv_at hl 5 rfl) ?_
            refine lv_aload_n hx hb dX1_valued_18 rfl (lv_at hl 0 rfl) ?_
            refine va_get (D := D) (ci := 1) (v := .int (nI cN)) (C := RX1) (T := TX1) (N := 7) hx hb hts in_X1 hown hK hP 0 rfl rfl 0 (by decide) (hts _ q169) (fun _ h9 => h9) rfl dX1_valued_19 ?_
            refine lv_icmp_ge (tgt := 94) hx hb dX1_valued_22 (by decide) (fun d1 => ?_) (fun d1 => ?_)
            · have d1 : cN ≤ j := (nI_leI (a := cN) (b := j) (by omega) (by omega)).mp d1
              have hgv : v = 1 ↔ tp_gv cN E N vl lo hi0 i := by rw [hva, show j = cN by omega]; exact Iff.rfl
              refine lv_iload hx hb dX1_valued_94 (lv_at hl 4 rfl) ?_
              refine lv_if_ne (tgt := 115) hx hb dX1_valued_96 (by decide) (fun d2 => ?_) (fun d2 => ?_)
              · have d2 : ¬ (v = 0) := fun z => d2 ((nI_eq (a := v) (b := 0) (by omega) (by omega)).mpr z)
                refine lv_iinc (v := nI (i + 1)) (lv' := [(3, .int (nI (i + 1))), (0, .ref (h 6)), (1, .int lo), (2, .int hi0), (4, .int (nI v)), (5, .int (nI j))]) hx hb dX1_valued_115 hl (k := 3) rfl (nI_1 i) (by decide) rfl (fun ls hl => ?_)
                refine lv_goto (tgt := 2) hx hb dX1_valued_118 (by decide) ?_
                exact ih (i + 1) x _ _ (by omega) (by omega) (ty_ok hx0 (fun _ => hgv.mp (by omega))) hP hD hS ls (lv_sub hl [1, 2, 3, 0] rfl)
              · have d2 : v = 0 := (nI_eq (a := v) (b := 0) (by omega) (by omega)).mp d2
                refine lv_aload_n hx hb dX1_valued_99 rfl (lv_at hl 0 rfl) ?_
                refine lv_dup hx hb dX1_valued_100 rfl ?_
                refine va_get (D := D) (ci := 1) (v := .long x) (C := RX1) (T := TX1) (N := 7) hx hb hts in_X1 hown hK hP 0 rfl rfl 5 (by decide) (hts _ q174) (fun _ h9 => h9) rfl dX1_valued_101 ?_
                refine lv_lconst (v := 1) hx hb dX1_valued_104 (by decide) ?_
                refine lv_iload_n hx hb dX1_valued_105 rfl (lv_at hl 3 rfl) ?_
                refine lv_lshl (v := tp_1 i) hx hb dX1_valued_106 rfl ?_
                refine lv_ldc2 hx hb hown (hts _ q254) dX1_valued_107 ?_
                refine lv_lxor hx hb dX1_valued_110 ?_
                refine lv_land hx hb dX1_valued_111 ?_
                refine va_put (D := D) (ci := 1) (v := .long (x &&& ((tp_1 i) ^^^ (-1)))) (ty := .long) (C := RX1) (T := TX1) (N := 7) hx hb hts in_X1 tyX1 tyX1_ok nmX1 hown hK hP hD hS 0 rfl rfl 5 (by decide) (hts _ q174) (fun _ h9 => h9) rfl (by decide +kernel) rfl rfl (Nat.le_of_ble_eq_true rfl) dX1_valued_112 (fun H locs hP hD hS => ?_)
                have hP : va_P D tp_cl (tp_wM dA dJ dZ h (nI cN) on (x &&& ((tp_1 i) ^^^ (-1))) pa tx wd kp) H := hP
                have hD : va_D A (tp_wM dA dJ dZ h (nI cN) on (x &&& ((tp_1 i) ^^^ (-1))) pa tx wd kp) := hD
                refine lv_iinc (v := nI (i + 1)) (lv' := [(3, .int (nI (i + 1))), (0, .ref (h 6)), (1, .int lo), (2, .int hi0), (4, .int (nI v)), (5, .int (nI j))]) hx hb dX1_valued_115 hl (k := 3) rfl (nI_1 i) (by decide) rfl (fun ls hl => ?_)
                refine lv_goto (tgt := 2) hx hb dX1_valued_118 (by decide) ?_
                exact ih (i + 1) _ _ _ (by omega) (by omega) (ty_out (by omega) hx0 (fun z => by have := hgv.mpr z; omega)) hP hD hS ls (lv_sub hl [1, 2, 3, 0] rfl)
            · have d1 : ¬ (cN ≤ j) := fun z => d1 ((nI_leI (a := cN) (b := j) (by omega) (by omega)).mpr z)
              have JN : ¬ ((j = i ∨ tp_In E i j) ∧ tp_tv N vl lo hi0 j) → ∀ (ls : Array Slot), lv_has ls 7 [(0, .ref (h 6)), (1, .int lo), (2, .int hi0), (3, .int (nI i)), (4, .int (nI v)), (5, .int (nI j))] → W p l e (headSpec (ws_ yX1_valued cX1_valued 7 (some .int)) ({ frames := 1, cells := 0, slots := 0, locals := 23 })).room s m ([.ref (h 6), .int lo, .int hi0] : List Value).toArray below meth c H locs 0 0 (MQ below (va_Qi (fun (r : Int32) (u : va_W) => ∃ st', (∀ q, tp_b st' q = true ↔ tp_b st q = true ∧ tp_gv cN E N vl lo hi0 q) ∧ r = nI (tp_c (tp_b st') 48) ∧ u = tp_wM dA dJ dZ h (nI cN) on st' pa tx wd kp) (tp_B D (tp_ty dA dJ dZ) (A)) (A)) ([.ref (h 6), .int lo, .int hi0] : List Value).toArray s 0 0 (A)) (F0 m 88 ls []) := by
                intro hq ls hl
                refine lv_iinc (v := nI (j + 1)) (lv' := [(5, .int (nI (j + 1))), (0, .ref (h 6)), (1, .int lo), (2, .int hi0), (3, .int (nI i)), (4, .int (nI v))]) hx hb dX1_valued_88 hl (k := 5) rfl (nI_1 j) (by decide) rfl (fun ls hl => ?_)
                refine lv_goto (tgt := 16) hx hb dX1_valued_91 (by decide) ?_
                exact ih2 (j + 1) v (by omega) (by omega) (by omega) (by rw [tq_anyn hq]; exact hva) ls (lv_sub hl [1, 2, 3, 4, 5, 0] rfl)
              have JH : (j = i ∨ tp_In E i j) → W p l e (headSpec (ws_ yX1_valued cX1_valued 7 (some .int)) ({ frames := 1, cells := 0, slots := 0, locals := 23 })).room s m ([.ref (h 6), .int lo, .int hi0] : List Value).toArray below meth c H locs 0 0 (MQ below (va_Qi (fun (r : Int32) (u : va_W) => ∃ st', (∀ q, tp_b st' q = true ↔ tp_b st q = true ∧ tp_gv cN E N vl lo hi0 q) ∧ r = nI (tp_c (tp_b st') 48) ∧ u = tp_wM dA dJ dZ h (nI cN) on st' pa tx wd kp) (tp_B D (tp_ty dA dJ dZ) (A)) (A)) ([.ref (h 6), .int lo, .int hi0] : List Value).toArray s 0 0 (A)) (F0 m 41 ls []) := by
                intro hh
                refine lv_iconst (v := nI 1) hx hb dX1_valued_41 (by decide) ?_
                refine lv_goto (tgt := 46) hx hb dX1_valued_42 (by decide) ?_
                refine lv_istore (lv' := [(6, .int (nI 1)), (0, .ref (h 6)), (1, .int lo), (2, .int hi0), (3, .int (nI i)), (4, .int (nI v)), (5, .int (nI j))]) hx hb dX1_valued_46 hl (by decide) rfl (fun ls hl => ?_)
                refine lv_iload hx hb dX1_valued_48 (lv_at hl 0 rfl) ?_
                refine lv_if_eq (tgt := 88) hx hb dX1_valued_50 (by decide) (fun z => absurd ((nI_eq (a := 1) (b := 0) (by omega) (by omega)).mp z) (by omega)) (fun _ => ?_)
                refine lv_aload_n hx hb dX1_valued_53 rfl (lv_at hl 1 rfl) ?_
                refine va_get (D := D) (ci := 1) (v := .ref (h 8)) (C := RX1) (T := TX1) (N := 7) hx hb hts in_X1 hown hK hP 0 rfl rfl 2 (by decide) (hts _ q171) (fun _ h9 => h9) rfl dX1_valued_54 ?_
                refine lv_iload hx hb dX1_valued_57 (lv_at hl 6 rfl) ?_
                by_cases e8 : N j = 8
                · refine tp_zald (v := nI 1) hx hb hK hP 2 2 rfl rfl j rfl (by omega) ((hM j (by omega)).2.1.trans (if_pos e8)) dX1_valued_59 ?_
                  refine lv_if_eq (tgt := 88) hx hb dX1_valued_60 (by decide) (fun z => absurd ((nI_eq (a := 1) (b := 0) (by omega) (by omega)).mp z) (by omega)) (fun _ => ?_)
                  refine lv_aload_n hx hb dX1_valued_63 rfl (lv_at hl 1 rfl) ?_
                  refine va_get (D := D) (ci := 1) (v := .ref (h 9)) (C := RX1) (T := TX1) (N := 7) hx hb hts in_X1 hown hK hP 0 rfl rfl 3 (by decide) (hts _ q172) (fun _ h9 => h9) rfl dX1_valued_64 ?_
                  refine lv_iload hx hb dX1_valued_67 (lv_at hl 6 rfl) ?_
                  refine tp_iald (v := vl j) hx hb hK hP 3 0 rfl rfl j rfl (by omega) ((hM j (by omega)).2.2.1.trans (if_pos e8)) dX1_valued_69 ?_
                  refine lv_iload_n hx hb dX1_valued_70 rfl (lv_at hl 2 rfl) ?_
                  refine lv_icmp_lt (tgt := 88) hx hb dX1_valued_71 (by decide) (fun d5 => ?_) (fun d5 => ?_)
                  · exact JN (fun z => absurd (Int32.lt_of_lt_of_le d5 z.2.2.1) Int32.lt_irrefl) ls (lv_sub hl [1, 2, 3, 4, 5, 6] rfl)
                  · refine lv_aload_n hx hb dX1_valued_74 rfl (lv_at hl 1 rfl) ?_
                    refine va_get (D := D) (ci := 1) (v := .ref (h 9)) (C := RX1) (T := TX1) (N := 7) hx hb hts in_X1 hown hK hP 0 rfl rfl 3 (by decide) (hts _ q172) (fun _ h9 => h9) rfl dX1_valued_75 ?_
                    refine lv_iload hx hb dX1_valued_78 (lv_at hl 6 rfl) ?_
                    refine tp_iald (v := vl j) hx hb hK hP 3 0 rfl rfl j rfl (by omega) ((hM j (by omega)).2.2.1.trans (if_pos e8)) dX1_valued_80 ?_
                    refine lv_iload_n hx hb dX1_valued_81 rfl (lv_at hl 3 rfl) ?_
                    refine lv_icmp_gt (tgt := 88) hx hb dX1_valued_82 (by decide) (fun d6 => ?_) (fun d6 => ?_)
                    · exact JN (fun z => absurd (Int32.lt_of_lt_of_le d6 z.2.2.2) Int32.lt_irrefl) ls (lv_sub hl [1, 2, 3, 4, 5, 6] rfl)
                    · refine lv_iconst (v := nI 1) hx hb dX1_valued_85 (by decide) ?_
                      refine lv_istore (lv' := [(4, .int (nI 1)), (6, .int (nI 1)), (0, .ref (h 6)), (1, .int lo), (2, .int hi0), (3, .int (nI i)), (5, .int (nI j))]) hx hb dX1_valued_86 hl (by decide) rfl (fun ls hl => ?_)
                      refine lv_iinc (v := nI (j + 1)) (lv' := [(5, .int (nI (j + 1))), (4, .int (nI 1)), (6, .int (nI 1)), (0, .ref (h 6)), (1, .int lo), (2, .int hi0), (3, .int (nI i))]) hx hb dX1_valued_88 hl (k := 6) rfl (nI_1 j) (by decide) rfl (fun ls hl => ?_)
                      refine lv_goto (tgt := 16) hx hb dX1_valued_91 (by decide) ?_
                      exact ih2 (j + 1) 1 (by omega) (by omega) (by omega) ⟨fun _ => tq_anyy ⟨hh, e8, Int32.not_lt.mp d5, Int32.not_lt.mp d6⟩, fun _ => rfl⟩ ls (lv_sub hl [3, 4, 5, 6, 1, 0] rfl)
                · refine tp_zald (v := nI 0) hx hb hK hP 2 2 rfl rfl j rfl (by omega) ((hM j (by omega)).2.1.trans (if_neg e8)) dX1_valued_59 ?_
                  refine lv_if_eq (tgt := 88) hx hb dX1_valued_60 (by decide) (fun _ => ?_) (fun z => absurd ((nI_eq (a := 0) (b := 0) (by omega) (by omega)).mpr (by omega)) z)
                  exact JN (fun z => e8 z.2.1) ls (lv_sub hl [1, 2, 3, 4, 5, 6] rfl)
              refine lv_iload hx hb dX1_valued_25 (lv_at hl 5 rfl) ?_
              refine lv_iload_n hx hb dX1_valued_27 rfl (lv_at hl 3 rfl) ?_
              refine lv_icmp_eq (tgt := 41) hx hb dX1_valued_28 (by decide) (fun d3 => ?_) (fun d3 => ?_)
              · have d3 : j = i := (nI_eq (a := j) (b := i) (by omega) (by omega)).mp d3
                exact JH (Or.inl d3)
              · have d3 : ¬ (j = i) := fun z => d3 ((nI_eq (a := j) (b := i) (by omega) (by omega)).mpr z)
                refine lv_aload_n hx hb dX1_valued_31 rfl (lv_at hl 0 rfl) ?_
                refine lv_iload_n hx hb dX1_valued_32 rfl (lv_at hl 3 rfl) ?_
                refine lv_iload hx hb dX1_valued_33 (lv_at hl 5 rfl) ?_
                refine vp_callSi (W.runV (As := [.int (nI i), .int (nI j)]) (rest := []) ⟨hx, hb, hml, hown, hts⟩ (mem_above l D dA dJ dZ h on x vl pa tx wd kp (a0 := i) (n0 := j) hW hM (by omega) (by omega)) (cwV 2 hts (lw_V q216 q218 qs14 q21 q219) rfl rfl rfl (by decide +kernel) ⟨Nat.le_of_ble_eq_true rfl, Nat.le_of_ble_eq_true rfl⟩) (tp_pv hK hP (ci := 1) (q0 := 0) rfl rfl) rfl rfl hl.1 rfl (lv_room (Nat.le_of_ble_eq_true rfl)) dX1_valued_35 ⟨Nat.le_of_ble_eq_true rfl, Nat.le_of_ble_eq_true rfl⟩) (fun r1 h1 => ?_)
                rcases h1 with ⟨e1, q1⟩ | ⟨e1, q1⟩
                · subst e1
                  refine lv_if_eq (tgt := 45) hx hb dX1_valued_38 (by decide) (fun z => absurd ((nI_eq (a := 1) (b := 0) (by omega) (by omega)).mp z) (by omega)) (fun _ => ?_)
                  exact JH (Or.inr q1)
                · subst e1
                  refine lv_if_eq (tgt := 45) hx hb dX1_valued_38 (by decide) (fun _ => ?_) (fun z => absurd ((nI_eq (a := 0) (b := 0) (by omega) (by omega)).mpr (by omega)) z)
                  refine lv_iconst (v := nI 0) hx hb dX1_valued_45 (by decide) ?_
                  refine lv_istore (lv' := [(6, .int (nI 0)), (0, .ref (h 6)), (1, .int lo), (2, .int hi0), (3, .int (nI i)), (4, .int (nI v)), (5, .int (nI j))]) hx hb dX1_valued_46 hl (by decide) rfl (fun ls hl => ?_)
                  refine lv_iload hx hb dX1_valued_48 (lv_at hl 0 rfl) ?_
                  refine lv_if_eq (tgt := 88) hx hb dX1_valued_50 (by decide) (fun _ => ?_) (fun z => absurd ((nI_eq (a := 0) (b := 0) (by omega) (by omega)).mpr (by omega)) z)
                  exact JN (fun z => z.1.elim d3 q1) ls (lv_sub hl [1, 2, 3, 4, 5, 6] rfl)
        exact LQ (cN + 1) 0 0 (by omega) (by omega) (by omega) ⟨fun z => by omega, fun z => absurd z tq_any0⟩ ls (lv_sub hl [2, 3, 4, 5, 1, 0] rfl)
  exact LP (cN + 1) 0 st _ _ (by omega) (by omega) ty_f0 hP hD hS ls (lv_sub hl [1, 2, 3, 0] rfl)

set_option maxHeartbeats 4000000 in
set_option maxRecDepth 100000 in
theorem mem_remove (l : Launch) (D : va_G) (dA dJ dZ : ClassId) (h : Nat → Nat) (st : Int64) (vl pa tx wd : Nat → Int32) (kp : Nat → Int64) {cN : Nat} {P E N : Nat → Nat} {oN : Nat} (x : Int32) (sz : Nat) (hW : tp_wf cN P E) (hM : tp_M cN P N vl pa tx wd) (ho : oN < cN) : Met l yX1_remove (ws_ yX1_remove cX1_remove 5 (some .int)) ({ frames := 1, cells := 0, slots := 0, locals := 23 }) (tp_Pm D (tp_ty dA dJ dZ) (tp_wM dA dJ dZ h (nI cN) (nI oN) st pa tx wd kp) sz [.ref (h 6), .int x]) (va_Qi (fun (r : Int32) (u : va_W) => (tp_rb cN oN E x ∧ r = -1 ∧ u = tp_wM dA dJ dZ h (nI cN) (nI oN) st pa tx wd kp) ∨ (∃ d, tp_rg cN oN E x d ∧ r = nI (cN - (E d - d)) ∧ ∃ pa' tx' wd' kp', u = tp_wM dA dJ dZ h (nI (cN - (E d - d))) (nI (tp_o2 d (E d) oN)) 1 pa' tx' wd' kp' ∧ (∀ k, k < cN - (E d - d) → pa' k = tp_pa (tp_P2 P d (E d)) k ∧ tx' k = tx (tp_ph d (E d - d) k) ∧ wd' k = wd (tp_ph d (E d - d) k)) ∧ kp' 0 = 0 ∧ kp' 1 = 0)) (tp_B D (tp_ty dA dJ dZ) (va_A (tp_wM dA dJ dZ h (nI cN) (nI oN) st pa tx wd kp) sz)) (va_A (tp_wM dA dJ dZ h (nI cN) (nI oN) st pa tx wd kp) sz)) 0 0 (va_A (tp_wM dA dJ dZ h (nI cN) (nI oN) st pa tx wd kp) sz) := by
  refine Met.ofW (cc := cX1_remove) (maxL := 5) (ret := (some .int)) (by decide) rfl ?_
  intro p e s m args below meth c s₁ B hml hv
  obtain ⟨rfl, hsz, hP, hK, hD0⟩ := hv
  subst hsz
  have hD := hD0.self (sz := s.heap.size)
  generalize hAe : va_A (tp_wM dA dJ dZ h (nI cN) (nI oN) st pa tx wd kp) s.heap.size = A at hD ⊢
  have hA : ∀ q : Nat, s.heap.size ≤ q → A q := fun q h => by rw [← hAe]; exact Or.inr h
  have hS : va_S A s.heap s.heap [] := va_S.rf
  have hP : va_P D tp_cl (tp_wM dA dJ dZ h (nI cN) (nI oN) st pa tx wd kp) s.heap := hP
  have hx := B.exec
  have hb := B.bytes
  have hr := B.returns
  have hts := atoms_spec (ws := ws_ yX1_remove cX1_remove 5 (some .int)) B.pre
  have hts : ∀ w ∈ lw_all, w.before _ s = true := fun w h => hts w (List.mem_cons_of_mem _ h)
  have hown : s.vm.findClass RX1 = some m.cls := findClass_of_methodNamed B.named
  have hlocks := B.notSynchronized
  have hl := lv_entry ([.ref (h 6), .int x]) (n := 5) (Nat.le_of_ble_eq_true rfl)
  rw [lg_entry_eq]
  generalize (lg_sl ([.ref (h 6), .int x]) ++ List.replicate (5 - (lg_sl ([.ref (h 6), .int x])).length) Slot.unset).toArray = ls at hl ⊢
  have hl : lv_has ls 5 [(0, .ref (h 6)), (1, .int x)] := hl
  have hc := tw_c hW
  have JB : tp_rb cN oN E x → W p l e (headSpec (ws_ yX1_remove cX1_remove 5 (some .int)) ({ frames := 1, cells := 0, slots := 0, locals := 23 })).room s m ([.ref (h 6), .int x] : List Value).toArray below meth c s.heap [] 0 0 (MQ below (va_Qi (fun (r : Int32) (u : va_W) => (tp_rb cN oN E x ∧ r = -1 ∧ u = tp_wM dA dJ dZ h (nI cN) (nI oN) st pa tx wd kp) ∨ (∃ d, tp_rg cN oN E x d ∧ r = nI (cN - (E d - d)) ∧ ∃ pa' tx' wd' kp', u = tp_wM dA dJ dZ h (nI (cN - (E d - d))) (nI (tp_o2 d (E d) oN)) 1 pa' tx' wd' kp' ∧ (∀ k, k < cN - (E d - d) → pa' k = tp_pa (tp_P2 P d (E d)) k ∧ tx' k = tx (tp_ph d (E d - d) k) ∧ wd' k = wd (tp_ph d (E d - d) k)) ∧ kp' 0 = 0 ∧ kp' 1 = 0)) (tp_B D (tp_ty dA dJ dZ) (A)) (A)) ([.ref (h 6), .int x] : List Value).toArray s 0 0 (A)) (F0 m 33 ls []) := by
    intro hq
    refine lv_iconst (v := -1) hx hb dX1_remove_33 (by decide) ?_
    exact W.iret hx hb hr (fun t ht hW9 => ⟨⟨_, (tp_wM dA dJ dZ h (nI cN) (nI oN) st pa tx wd kp), rfl, Or.inl ⟨hq, rfl, rfl⟩, by rw [ht]; exact hP, va_K.moved hW9.alike hK, hD⟩, hS.F ht⟩) hS.2.2 dX1_remove_34
  refine lv_iload_n hx hb dX1_remove_0 rfl (lv_at hl 1 rfl) ?_
  refine lv_iconst (v := nI 1) hx hb dX1_remove_1 (by decide) ?_
  refine lv_icmp_lt (tgt := 33) hx hb dX1_remove_2 (by decide) (fun c1 => ?_) (fun c1 => ?_)
  · exact JB (Or.inl c1)
  · refine lv_iload_n hx hb dX1_remove_5 rfl (lv_at hl 1 rfl) ?_
    refine lv_aload_n hx hb dX1_remove_6 rfl (lv_at hl 0 rfl) ?_
    refine va_get (D := D) (ci := 1) (v := .int (nI cN)) (C := RX1) (T := TX1) (N := 7) hx hb hts in_X1 hown hK hP 0 rfl rfl 0 (by decide) (hts _ q169) (fun _ h9 => h9) rfl dX1_remove_7 ?_
    refine lv_icmp_ge (tgt := 33) hx hb dX1_remove_10 (by decide) (fun c2 => ?_) (fun c2 => ?_)
    · exact JB (Or.inr (Or.inl c2))
    · obtain ⟨d, hd1, hd, ed⟩ := tr_ix hc.2 c1 c2
      have hE0 := tw_E hW hd
      rw [ed] at hl
      refine lv_iload_n hx hb dX1_remove_13 rfl (lv_at hl 1 rfl) ?_
      refine lv_aload_n hx hb dX1_remove_14 rfl (lv_at hl 0 rfl) ?_
      refine va_get (D := D) (ci := 1) (v := .int (nI oN)) (C := RX1) (T := TX1) (N := 7) hx hb hts in_X1 hown hK hP 0 rfl rfl 4 (by decide) (hts _ q173) (fun _ h9 => h9) rfl dX1_remove_15 ?_
      refine lv_icmp_eq (tgt := 33) hx hb dX1_remove_18 (by decide) (fun c3 => ?_) (fun c3 => ?_)
      · have c3 : d = oN := (nI_eq (a := d) (b := oN) (by omega) (by omega)).mp c3
        exact JB (Or.inr (Or.inr ⟨d, hd, ed, by omega, by omega⟩))
      · have c3 : ¬ (d = oN) := fun z => c3 ((nI_eq (a := d) (b := oN) (by omega) (by omega)).mpr z)
        refine lv_aload_n hx hb dX1_remove_21 rfl (lv_at hl 0 rfl) ?_
        refine lv_iload_n hx hb dX1_remove_22 rfl (lv_at hl 1 rfl) ?_
        refine lv_aload_n hx hb dX1_remove_23 rfl (lv_at hl 0 rfl) ?_
        refine va_get (D := D) (ci := 1) (v := .int (nI oN)) (C := RX1) (T := TX1) (N := 7) hx hb hts in_X1 hown hK hP 0 rfl rfl 4 (by decide) (hts _ q173) (fun _ h9 => h9) rfl dX1_remove_24 ?_
        refine vp_callSi (W.runV (As := [.int (nI d), .int (nI oN)]) (rest := []) ⟨hx, hb, hml, hown, hts⟩ (mem_above l D dA dJ dZ h (nI oN) st vl pa tx wd kp (a0 := d) (n0 := oN) hW hM (by omega) ho) (cwV 2 hts (lw_V q216 q218 qs14 q21 q219) rfl rfl rfl (by decide +kernel) ⟨Nat.le_of_ble_eq_true rfl, Nat.le_of_ble_eq_true rfl⟩) (tp_pv hK hP (ci := 1) (q0 := 0) rfl rfl) rfl rfl hl.1 rfl (lv_room (Nat.le_of_ble_eq_true rfl)) dX1_remove_27 ⟨Nat.le_of_ble_eq_true rfl, Nat.le_of_ble_eq_true rfl⟩) (fun r1 h1 => ?_)
        rcases h1 with ⟨e1, q1⟩ | ⟨e1, q1⟩
        · subst e1
          refine lv_if_eq (tgt := 35) hx hb dX1_remove_30 (by decide) (fun z => absurd ((nI_eq (a := 1) (b := 0) (by omega) (by omega)).mp z) (by omega)) (fun _ => ?_)
          exact JB (Or.inr (Or.inr ⟨d, hd, ed, by have := q1.1; omega, q1.2⟩))
        · subst e1
          have hnr : ¬ (d ≤ oN ∧ oN < E d) := fun z => q1 ⟨by omega, z.2⟩
          have hrg : tp_rg cN oN E x d := ⟨hd1, hd, ed, hnr⟩
          refine lv_if_eq (tgt := 35) hx hb dX1_remove_30 (by decide) (fun _ => ?_) (fun z => absurd ((nI_eq (a := 0) (b := 0) (by omega) (by omega)).mpr (by omega)) z)
          refine lv_iload_n hx hb dX1_remove_35 rfl (lv_at hl 1 rfl) ?_
          refine lv_iconst (v := nI 1) hx hb dX1_remove_36 (by decide) ?_
          refine lv_iadd hx hb dX1_remove_37 ?_
          refine tp_ti (nI_add d 1) ?_
          refine lv_istore_n (lv' := [(2, .int (nI (d + 1))), (0, .ref (h 6)), (1, .int (nI d))]) hx hb dX1_remove_38 rfl hl (by decide) rfl (fun ls hl => ?_)
          have JX :  ∀ (ls : Array Slot), lv_has ls 5 [(0, .ref (h 6)), (1, .int (nI d)), (2, .int (nI (E d)))] → W p l e (headSpec (ws_ yX1_remove cX1_remove 5 (some .int)) ({ frames := 1, cells := 0, slots := 0, locals := 23 })).room s m ([.ref (h 6), .int x] : List Value).toArray below meth c s.heap [] 0 0 (MQ below (va_Qi (fun (r : Int32) (u : va_W) => (tp_rb cN oN E x ∧ r = -1 ∧ u = tp_wM dA dJ dZ h (nI cN) (nI oN) st pa tx wd kp) ∨ (∃ d, tp_rg cN oN E x d ∧ r = nI (cN - (E d - d)) ∧ ∃ pa' tx' wd' kp', u = tp_wM dA dJ dZ h (nI (cN - (E d - d))) (nI (tp_o2 d (E d) oN)) 1 pa' tx' wd' kp' ∧ (∀ k, k < cN - (E d - d) → pa' k = tp_pa (tp_P2 P d (E d)) k ∧ tx' k = tx (tp_ph d (E d - d) k) ∧ wd' k = wd (tp_ph d (E d - d) k)) ∧ kp' 0 = 0 ∧ kp' 1 = 0)) (tp_B D (tp_ty dA dJ dZ) (A)) (A)) ([.ref (h 6), .int x] : List Value).toArray s 0 0 (A)) (F0 m 62 ls []) := by
            intro ls hl
            refine lv_iload_n hx hb dX1_remove_62 rfl (lv_at hl 2 rfl) ?_
            refine lv_iload_n hx hb dX1_remove_63 rfl (lv_at hl 1 rfl) ?_
            refine lv_isub hx hb dX1_remove_64 ?_
            refine tp_ti (y := nI (E d - d)) (pk_sub (by omega)) ?_
            refine lv_istore_n (lv' := [(3, .int (nI (E d - d))), (0, .ref (h 6)), (1, .int (nI d)), (2, .int (nI (E d)))]) hx hb dX1_remove_65 rfl hl (by decide) rfl (fun ls hl => ?_)
            refine lv_iload_n hx hb dX1_remove_66 rfl (lv_at hl 3 rfl) ?_
            refine lv_istore (lv' := [(4, .int (nI (E d))), (3, .int (nI (E d - d))), (0, .ref (h 6)), (1, .int (nI d)), (2, .int (nI (E d)))]) hx hb dX1_remove_67 hl (by decide) rfl (fun ls hl => ?_)
            have LQ : ∀ (n2 : Nat) (j : Nat) (p1 t1 w1 : Nat → Int32) (H : Heap) (locs : List Loc), E d ≤ j → j ≤ cN → cN < j + n2 → tp_mv d (E d - d) j pa p1 (tp_pa (tp_P2 P d (E d))) → tp_mv d (E d - d) j tx t1 (fun a => tx (a + (E d - d))) → tp_mv d (E d - d) j wd w1 (fun a => wd (a + (E d - d))) → va_P D tp_cl (tp_wM dA dJ dZ h (nI cN) (nI oN) st p1 t1 w1 kp) H → va_D A (tp_wM dA dJ dZ h (nI cN) (nI oN) st p1 t1 w1 kp) → va_S A s.heap H locs →  ∀ (ls : Array Slot), lv_has ls 5 [(0, .ref (h 6)), (1, .int (nI d)), (2, .int (nI (E d))), (3, .int (nI (E d - d))), (4, .int (nI j))] → W p l e (headSpec (ws_ yX1_remove cX1_remove 5 (some .int)) ({ frames := 1, cells := 0, slots := 0, locals := 23 })).room s m ([.ref (h 6), .int x] : List Value).toArray below meth c H locs 0 0 (MQ below (va_Qi (fun (r : Int32) (u : va_W) => (tp_rb cN oN E x ∧ r = -1 ∧ u = tp_wM dA dJ dZ h (nI cN) (nI oN) st pa tx wd kp) ∨ (∃ d, tp_rg cN oN E x d ∧ r = nI (cN - (E d - d)) ∧ ∃ pa' tx' wd' kp', u = tp_wM dA dJ dZ h (nI (cN - (E d - d))) (nI (tp_o2 d (E d) oN)) 1 pa' tx' wd' kp' ∧ (∀ k, k < cN - (E d - d) → pa' k = tp_pa (tp_P2 P d (E d)) k ∧ tx' k = tx (tp_ph d (E d - d) k) ∧ wd' k = wd (tp_ph d (E d - d) k)) ∧ kp' 0 = 0 ∧ kp' 1 = 0)) (tp_B D (tp_ty dA dJ dZ) (A)) (A)) ([.ref (h 6), .int x] : List Value).toArray s 0 0 (A)) (F0 m 69 ls []) := by
              intro n2
              induction n2 with
              | zero => intro j p1 t1 w1 H locs hj1 hj2 hf2 h1 h2 h3 hP hD hS ls hl; exact absurd hf2 (by omega)
              | succ n2 ih2 =>
                intro j p1 t1 w1 H locs hj1 hj2 hf2 h1 h2 h3 hP hD hS ls hl
                refine lv_iload hx hb dX1_remove_69 (lv_at hl 4 rfl) ?_
                refine lv_aload_n hx hb dX1_remove_71 rfl (lv_at hl 0 rfl) ?_
                refine va_get (D := D) (ci := 1) (v := .int (nI cN)) (C := RX1) (T := TX1) (N := 7) hx hb hts in_X1 hown hK hP 0 rfl rfl 0 (by decide) (hts _ q169) (fun _ h9 => h9) rfl dX1_remove_72 ?_
                refine lv_icmp_ge (tgt := 155) hx hb dX1_remove_75 (by decide) (fun d3 => ?_) (fun d3 => ?_)
                · have d3 : cN ≤ j := (nI_leI (a := cN) (b := j) (by omega) (by omega)).mp d3
                  rw [show j = cN by omega] at h1 h2 h3
                  refine lv_aload_n hx hb dX1_remove_155 rfl (lv_at hl 0 rfl) ?_
                  refine lv_dup hx hb dX1_remove_156 rfl ?_
                  refine va_get (D := D) (ci := 1) (v := .int (nI cN)) (C := RX1) (T := TX1) (N := 7) hx hb hts in_X1 hown hK hP 0 rfl rfl 0 (by decide) (hts _ q169) (fun _ h9 => h9) rfl dX1_remove_157 ?_
                  refine lv_iload_n hx hb dX1_remove_160 rfl (lv_at hl 3 rfl) ?_
                  refine lv_isub hx hb dX1_remove_161 ?_
                  refine tp_ti (y := nI (cN - (E d - d))) (pk_sub (by omega)) ?_
                  refine va_put (D := D) (ci := 1) (v := .int (nI (cN - (E d - d)))) (ty := .int) (C := RX1) (T := TX1) (N := 7) hx hb hts in_X1 tyX1 tyX1_ok nmX1 hown hK hP hD hS 0 rfl rfl 0 (by decide) (hts _ q169) (fun _ h9 => h9) rfl (by decide +kernel) rfl rfl (Nat.le_of_ble_eq_true rfl) dX1_remove_162 (fun H locs hP hD hS => ?_)
                  have hP : va_P D tp_cl (tp_wM dA dJ dZ h (nI (cN - (E d - d))) (nI oN) st p1 t1 w1 kp) H := hP
                  have hD : va_D A (tp_wM dA dJ dZ h (nI (cN - (E d - d))) (nI oN) st p1 t1 w1 kp) := hD
                  refine lv_aload_n hx hb dX1_remove_165 rfl (lv_at hl 0 rfl) ?_
                  refine va_get (D := D) (ci := 1) (v := .int (nI oN)) (C := RX1) (T := TX1) (N := 7) hx hb hts in_X1 hown hK hP 0 rfl rfl 4 (by decide) (hts _ q173) (fun _ h9 => h9) rfl dX1_remove_166 ?_
                  refine lv_iload_n hx hb dX1_remove_169 rfl (lv_at hl 2 rfl) ?_
                  refine lv_icmp_lt (tgt := 183) hx hb dX1_remove_170 (by decide) (fun e1 => ?_) (fun e1 => ?_)
                  · have e1 : oN < (E d) := (nI_ltI (a := oN) (b := (E d)) (by omega) (by omega)).mp e1
                    have eo : nI oN = nI (tp_o2 d (E d) oN) := by unfold tp_o2; rw [if_neg (by omega)]
                    have hP : va_P D tp_cl (tp_wM dA dJ dZ h (nI (cN - (E d - d))) (nI (tp_o2 d (E d) oN)) st p1 t1 w1 kp) H := by rw [← eo]; exact hP
                    have hD : va_D A (tp_wM dA dJ dZ h (nI (cN - (E d - d))) (nI (tp_o2 d (E d) oN)) st p1 t1 w1 kp) := by rw [← eo]; exact hD
                    refine lv_aload_n hx hb dX1_remove_183 rfl (lv_at hl 0 rfl) ?_
                    have hFc := va_free (wc := tp_wM dA dJ dZ h (nI (cN - (E d - d))) (nI (tp_o2 d (E d) oN)) st p1 t1 w1 kp) hD hS hA [0, 1, 2, 3, 4] rfl
                    refine va_callv (va_runV (As := []) (rest := []) ⟨hx, hb, hml, hown, hts⟩ (mem_reset l D dA dJ dZ h (nI (cN - (E d - d))) (nI (tp_o2 d (E d) oN)) st p1 t1 w1 kp H.size) (cwV 0 hts (lw_V q200 q202 qs13 q21 q203) rfl rfl rfl (by decide +kernel) ⟨Nat.le_of_ble_eq_true rfl, Nat.le_of_ble_eq_true rfl⟩) (tp_pvm hK hP hD (ci := 1) (q0 := 0) rfl rfl) rfl rfl hl.1 rfl (lv_room (Nat.le_of_ble_eq_true rfl)) dX1_remove_184 ⟨Nat.le_of_ble_eq_true rfl, Nat.le_of_ble_eq_true rfl⟩) hS (fun q _ z => hFc q z) hFc (fun u t H1 locs ht hvm hw hB hz1 hk1 hS => ?_)
                    obtain ⟨hP, hK1, hD1⟩ := hB
                    rw [ht] at hP
                    have hD := hD1.weaken (fun _ q _ z => hFc q.1 z)
                    generalize H1 = H at hP hS ⊢
                    obtain ⟨kp1, rfl, hk0, hk1'⟩ := hw
                    refine lv_aload_n hx hb dX1_remove_187 rfl (lv_at hl 0 rfl) ?_
                    refine va_get (D := D) (ci := 1) (v := .int (nI (cN - (E d - d)))) (C := RX1) (T := TX1) (N := 7) hx hb hts in_X1 hown hK hP 0 rfl rfl 0 (by decide) (hts _ q169) (fun _ h9 => h9) rfl dX1_remove_188 ?_
                    exact W.iret hx hb hr (fun t ht hW9 => ⟨⟨_, (tp_wM dA dJ dZ h (nI (cN - (E d - d))) (nI (tp_o2 d (E d) oN)) 1 p1 t1 w1 kp1), rfl, Or.inr ⟨d, hrg, rfl, _, _, _, _, rfl, fun k hk => ⟨tr_f3 rfl h1 (fun a ha => (hM a ha).1) hk (by omega), tr_f1 h2 hk (by omega), tr_f1 h3 hk (by omega)⟩, hk0, hk1'⟩, by rw [ht]; exact hP, va_K.moved hW9.alike hK, hD⟩, hS.F ht⟩) hS.2.2 dX1_remove_191
                  · have e1 : ¬ (oN < (E d)) := fun z => e1 ((nI_ltI (a := oN) (b := (E d)) (by omega) (by omega)).mpr z)
                    refine lv_aload_n hx hb dX1_remove_173 rfl (lv_at hl 0 rfl) ?_
                    refine lv_dup hx hb dX1_remove_174 rfl ?_
                    refine va_get (D := D) (ci := 1) (v := .int (nI oN)) (C := RX1) (T := TX1) (N := 7) hx hb hts in_X1 hown hK hP 0 rfl rfl 4 (by decide) (hts _ q173) (fun _ h9 => h9) rfl dX1_remove_175 ?_
                    refine lv_iload_n hx hb dX1_remove_178 rfl (lv_at hl 3 rfl) ?_
                    refine lv_isub hx hb dX1_remove_179 ?_
                    refine tp_ti (y := nI (tp_o2 d (E d) oN)) (by unfold tp_o2; rw [if_pos (by omega)]; exact pk_sub (by omega)) ?_
                    refine va_put (D := D) (ci := 1) (v := .int (nI (tp_o2 d (E d) oN))) (ty := .int) (C := RX1) (T := TX1) (N := 7) hx hb hts in_X1 tyX1 tyX1_ok nmX1 hown hK hP hD hS 0 rfl rfl 4 (by decide) (hts _ q173) (fun _ h9 => h9) rfl (by decide +kernel) rfl rfl (Nat.le_of_ble_eq_true rfl) dX1_remove_180 (fun H locs hP hD hS => ?_)
                    have hP : va_P D tp_cl (tp_wM dA dJ dZ h (nI (cN - (E d - d))) (nI (tp_o2 d (E d) oN)) st p1 t1 w1 kp) H := hP
                    have hD : va_D A (tp_wM dA dJ dZ h (nI (cN - (E d - d))) (nI (tp_o2 d (E d) oN)) st p1 t1 w1 kp) := hD
                    refine lv_aload_n hx hb dX1_remove_183 rfl (lv_at hl 0 rfl) ?_
                    have hFc := va_free (wc := tp_wM dA dJ dZ h (nI (cN - (E d - d))) (nI (tp_o2 d (E d) oN)) st p1 t1 w1 kp) hD hS hA [0, 1, 2, 3, 4] rfl
                    refine va_callv (va_runV (As := []) (rest := []) ⟨hx, hb, hml, hown, hts⟩ (mem_reset l D dA dJ dZ h (nI (cN - (E d - d))) (nI (tp_o2 d (E d) oN)) st p1 t1 w1 kp H.size) (cwV 0 hts (lw_V q200 q202 qs13 q21 q203) rfl rfl rfl (by decide +kernel) ⟨Nat.le_of_ble_eq_true rfl, Nat.le_of_ble_eq_true rfl⟩) (tp_pvm hK hP hD (ci := 1) (q0 := 0) rfl rfl) rfl rfl hl.1 rfl (lv_room (Nat.le_of_ble_eq_true rfl)) dX1_remove_184 ⟨Nat.le_of_ble_eq_true rfl, Nat.le_of_ble_eq_true rfl⟩) hS (fun q _ z => hFc q z) hFc (fun u t H1 locs ht hvm hw hB hz1 hk1 hS => ?_)
                    obtain ⟨hP, hK1, hD1⟩ := hB
                    rw [ht] at hP
                    have hD := hD1.weaken (fun _ q _ z => hFc q.1 z)
                    generalize H1 = H at hP hS ⊢
                    obtain ⟨kp1, rfl, hk0, hk1'⟩ := hw
                    refine lv_aload_n hx hb dX1_remove_187 rfl (lv_at hl 0 rfl) ?_
                    refine va_get (D := D) (ci := 1) (v := .int (nI (cN - (E d - d)))) (C := RX1) (T := TX1) (N := 7) hx hb hts in_X1 hown hK hP 0 rfl rfl 0 (by decide) (hts _ q169) (fun _ h9 => h9) rfl dX1_remove_188 ?_
                    exact W.iret hx hb hr (fun t ht hW9 => ⟨⟨_, (tp_wM dA dJ dZ h (nI (cN - (E d - d))) (nI (tp_o2 d (E d) oN)) 1 p1 t1 w1 kp1), rfl, Or.inr ⟨d, hrg, rfl, _, _, _, _, rfl, fun k hk => ⟨tr_f3 rfl h1 (fun a ha => (hM a ha).1) hk (by omega), tr_f1 h2 hk (by omega), tr_f1 h3 hk (by omega)⟩, hk0, hk1'⟩, by rw [ht]; exact hP, va_K.moved hW9.alike hK, hD⟩, hS.F ht⟩) hS.2.2 dX1_remove_191
                · have d3 : ¬ (cN ≤ j) := fun z => d3 ((nI_leI (a := cN) (b := j) (by omega) (by omega)).mpr z)
                  have hpj := tw_P hW (show 0 < j by omega) (by omega)
                  refine lv_aload_n hx hb dX1_remove_78 rfl (lv_at hl 0 rfl) ?_
                  refine va_get (D := D) (ci := 1) (v := .ref (h 7)) (C := RX1) (T := TX1) (N := 7) hx hb hts in_X1 hown hK hP 0 rfl rfl 1 (by decide) (hts _ q170) (fun _ h9 => h9) rfl dX1_remove_79 ?_
                  refine lv_iload hx hb dX1_remove_82 (lv_at hl 4 rfl) ?_
                  refine lv_iload_n hx hb dX1_remove_84 rfl (lv_at hl 3 rfl) ?_
                  refine lv_isub hx hb dX1_remove_85 ?_
                  refine tp_ti (y := nI (j - (E d - d))) (pk_sub (by omega)) ?_
                  refine lv_aload_n hx hb dX1_remove_86 rfl (lv_at hl 0 rfl) ?_
                  refine va_get (D := D) (ci := 1) (v := .ref (h 7)) (C := RX1) (T := TX1) (N := 7) hx hb hts in_X1 hown hK hP 0 rfl rfl 1 (by decide) (hts _ q170) (fun _ h9 => h9) rfl dX1_remove_87 ?_
                  refine lv_iload hx hb dX1_remove_90 (lv_at hl 4 rfl) ?_
                  refine tp_iald (v := nI (P j)) hx hb hK hP 1 0 rfl rfl j rfl (by omega) ((tu_mvr (by omega) h1).trans ((hM j (by omega)).1.trans (tp_pas (by omega)))) dX1_remove_92 ?_
                  refine lv_iload_n hx hb dX1_remove_93 rfl (lv_at hl 2 rfl) ?_
                  refine lv_icmp_lt (tgt := 109) hx hb dX1_remove_94 (by decide) (fun e2 => ?_) (fun e2 => ?_)
                  · have e2 : (P j) < (E d) := (nI_ltI (a := (P j)) (b := (E d)) (by omega) (by omega)).mp e2
                    refine lv_aload_n hx hb dX1_remove_109 rfl (lv_at hl 0 rfl) ?_
                    refine va_get (D := D) (ci := 1) (v := .ref (h 7)) (C := RX1) (T := TX1) (N := 7) hx hb hts in_X1 hown hK hP 0 rfl rfl 1 (by decide) (hts _ q170) (fun _ h9 => h9) rfl dX1_remove_110 ?_
                    refine lv_iload hx hb dX1_remove_113 (lv_at hl 4 rfl) ?_
                    refine tp_iald (v := nI (P j)) hx hb hK hP 1 0 rfl rfl j rfl (by omega) ((tu_mvr (by omega) h1).trans ((hM j (by omega)).1.trans (tp_pas (by omega)))) dX1_remove_115 ?_
                    refine tp_iast hx hb hK hP hD hS 1 0 rfl rfl (j - (E d - d)) rfl (by omega) dX1_remove_116 (fun H locs hP hD hS => ?_)
                    have hP : va_P D tp_cl (tp_wM dA dJ dZ h (nI cN) (nI oN) st (upd p1 (j - (E d - d)) (nI (P j))) t1 w1 kp) H := hP
                    have hD : va_D A (tp_wM dA dJ dZ h (nI cN) (nI oN) st (upd p1 (j - (E d - d)) (nI (P j))) t1 w1 kp) := hD
                    have htx : vp_nar .boolean (tx j) = tx j := by rw [(hM j (by omega)).2.1]; split <;> decide
                    refine lv_aload_n hx hb dX1_remove_117 rfl (lv_at hl 0 rfl) ?_
                    refine va_get (D := D) (ci := 1) (v := .ref (h 8)) (C := RX1) (T := TX1) (N := 7) hx hb hts in_X1 hown hK hP 0 rfl rfl 2 (by decide) (hts _ q171) (fun _ h9 => h9) rfl dX1_remove_118 ?_
                    refine lv_iload hx hb dX1_remove_121 (lv_at hl 4 rfl) ?_
                    refine lv_iload_n hx hb dX1_remove_123 rfl (lv_at hl 3 rfl) ?_
                    refine lv_isub hx hb dX1_remove_124 ?_
                    refine tp_ti (y := nI (j - (E d - d))) (pk_sub (by omega)) ?_
                    refine lv_aload_n hx hb dX1_remove_125 rfl (lv_at hl 0 rfl) ?_
                    refine va_get (D := D) (ci := 1) (v := .ref (h 8)) (C := RX1) (T := TX1) (N := 7) hx hb hts in_X1 hown hK hP 0 rfl rfl 2 (by decide) (hts _ q171) (fun _ h9 => h9) rfl dX1_remove_126 ?_
                    refine lv_iload hx hb dX1_remove_129 (lv_at hl 4 rfl) ?_
                    refine tp_zald (v := tx j) hx hb hK hP 2 2 rfl rfl j rfl (by omega) (tu_mvr (by omega) h2) dX1_remove_131 ?_
                    refine tp_zast hx hb hK hP hD hS 2 2 rfl rfl (j - (E d - d)) rfl (by omega) htx dX1_remove_132 (fun H locs hP hD hS => ?_)
                    have hP : va_P D tp_cl (tp_wM dA dJ dZ h (nI cN) (nI oN) st (upd p1 (j - (E d - d)) (nI (P j))) (upd t1 (j - (E d - d)) (tx j)) w1 kp) H := hP
                    have hD : va_D A (tp_wM dA dJ dZ h (nI cN) (nI oN) st (upd p1 (j - (E d - d)) (nI (P j))) (upd t1 (j - (E d - d)) (tx j)) w1 kp) := hD
                    refine lv_aload_n hx hb dX1_remove_133 rfl (lv_at hl 0 rfl) ?_
                    refine va_get (D := D) (ci := 1) (v := .ref (h 9)) (C := RX1) (T := TX1) (N := 7) hx hb hts in_X1 hown hK hP 0 rfl rfl 3 (by decide) (hts _ q172) (fun _ h9 => h9) rfl dX1_remove_134 ?_
                    refine lv_iload hx hb dX1_remove_137 (lv_at hl 4 rfl) ?_
                    refine lv_iload_n hx hb dX1_remove_139 rfl (lv_at hl 3 rfl) ?_
                    refine lv_isub hx hb dX1_remove_140 ?_
                    refine tp_ti (y := nI (j - (E d - d))) (pk_sub (by omega)) ?_
                    refine lv_aload_n hx hb dX1_remove_141 rfl (lv_at hl 0 rfl) ?_
                    refine va_get (D := D) (ci := 1) (v := .ref (h 9)) (C := RX1) (T := TX1) (N := 7) hx hb hts in_X1 hown hK hP 0 rfl rfl 3 (by decide) (hts _ q172) (fun _ h9 => h9) rfl dX1_remove_142 ?_
                    refine lv_iload hx hb dX1_remove_145 (lv_at hl 4 rfl) ?_
                    refine tp_iald (v := wd j) hx hb hK hP 3 0 rfl rfl j rfl (by omega) (tu_mvr (by omega) h3) dX1_remove_147 ?_
                    refine tp_iast hx hb hK hP hD hS 3 0 rfl rfl (j - (E d - d)) rfl (by omega) dX1_remove_148 (fun H locs hP hD hS => ?_)
                    have hP : va_P D tp_cl (tp_wM dA dJ dZ h (nI cN) (nI oN) st (upd p1 (j - (E d - d)) (nI (P j))) (upd t1 (j - (E d - d)) (tx j)) (upd w1 (j - (E d - d)) (wd j)) kp) H := hP
                    have hD : va_D A (tp_wM dA dJ dZ h (nI cN) (nI oN) st (upd p1 (j - (E d - d)) (nI (P j))) (upd t1 (j - (E d - d)) (tx j)) (upd w1 (j - (E d - d)) (wd j)) kp) := hD
                    refine lv_iinc (v := nI (j + 1)) (lv' := [(4, .int (nI (j + 1))), (0, .ref (h 6)), (1, .int (nI d)), (2, .int (nI (E d))), (3, .int (nI (E d - d)))]) hx hb dX1_remove_149 hl (k := 4) rfl (nI_1 j) (by decide) rfl (fun ls hl => ?_)
                    refine lv_goto (tgt := 69) hx hb dX1_remove_152 (by decide) ?_
                    exact ih2 (j + 1) _ _ _ _ _ (by omega) (by omega) (by omega) (tu_mvs (by omega) h1 (tr_pf1 hd1 (by omega) (by omega) (by omega))) (tu_mvs (by omega) h2 (tr_nm (by omega))) (tu_mvs (by omega) h3 (tr_nm (by omega))) hP hD hS ls (lv_sub hl [1, 2, 3, 4, 0] rfl)
                  · have e2 : ¬ ((P j) < (E d)) := fun z => e2 ((nI_ltI (a := (P j)) (b := (E d)) (by omega) (by omega)).mpr z)
                    refine lv_aload_n hx hb dX1_remove_97 rfl (lv_at hl 0 rfl) ?_
                    refine va_get (D := D) (ci := 1) (v := .ref (h 7)) (C := RX1) (T := TX1) (N := 7) hx hb hts in_X1 hown hK hP 0 rfl rfl 1 (by decide) (hts _ q170) (fun _ h9 => h9) rfl dX1_remove_98 ?_
                    refine lv_iload hx hb dX1_remove_101 (lv_at hl 4 rfl) ?_
                    refine tp_iald (v := nI (P j)) hx hb hK hP 1 0 rfl rfl j rfl (by omega) ((tu_mvr (by omega) h1).trans ((hM j (by omega)).1.trans (tp_pas (by omega)))) dX1_remove_103 ?_
                    refine lv_iload_n hx hb dX1_remove_104 rfl (lv_at hl 3 rfl) ?_
                    refine lv_isub hx hb dX1_remove_105 ?_
                    refine tp_ti (y := nI (P j - (E d - d))) (pk_sub (by omega)) ?_
                    refine lv_goto (tgt := 116) hx hb dX1_remove_106 (by decide) ?_
                    refine tp_iast hx hb hK hP hD hS 1 0 rfl rfl (j - (E d - d)) rfl (by omega) dX1_remove_116 (fun H locs hP hD hS => ?_)
                    have hP : va_P D tp_cl (tp_wM dA dJ dZ h (nI cN) (nI oN) st (upd p1 (j - (E d - d)) (nI (P j - (E d - d)))) t1 w1 kp) H := hP
                    have hD : va_D A (tp_wM dA dJ dZ h (nI cN) (nI oN) st (upd p1 (j - (E d - d)) (nI (P j - (E d - d)))) t1 w1 kp) := hD
                    have htx : vp_nar .boolean (tx j) = tx j := by rw [(hM j (by omega)).2.1]; split <;> decide
                    refine lv_aload_n hx hb dX1_remove_117 rfl (lv_at hl 0 rfl) ?_
                    refine va_get (D := D) (ci := 1) (v := .ref (h 8)) (C := RX1) (T := TX1) (N := 7) hx hb hts in_X1 hown hK hP 0 rfl rfl 2 (by decide) (hts _ q171) (fun _ h9 => h9) rfl dX1_remove_118 ?_
                    refine lv_iload hx hb dX1_remove_121 (lv_at hl 4 rfl) ?_
                    refine lv_iload_n hx hb dX1_remove_123 rfl (lv_at hl 3 rfl) ?_
                    refine lv_isub hx hb dX1_remove_124 ?_
                    refine tp_ti (y := nI (j - (E d - d))) (pk_sub (by omega)) ?_
                    refine lv_aload_n hx hb dX1_remove_125 rfl (lv_at hl 0 rfl) ?_
                    refine va_get (D := D) (ci := 1) (v := .ref (h 8)) (C := RX1) (T := TX1) (N := 7) hx hb hts in_X1 hown hK hP 0 rfl rfl 2 (by decide) (hts _ q171) (fun _ h9 => h9) rfl dX1_remove_126 ?_
                    refine lv_iload hx hb dX1_remove_129 (lv_at hl 4 rfl) ?_
                    refine tp_zald (v := tx j) hx hb hK hP 2 2 rfl rfl j rfl (by omega) (tu_mvr (by omega) h2) dX1_remove_131 ?_
                    refine tp_zast hx hb hK hP hD hS 2 2 rfl rfl (j - (E d - d)) rfl (by omega) htx dX1_remove_132 (fun H locs hP hD hS => ?_)
                    have hP : va_P D tp_cl (tp_wM dA dJ dZ h (nI cN) (nI oN) st (upd p1 (j - (E d - d)) (nI (P j - (E d - d)))) (upd t1 (j - (E d - d)) (tx j)) w1 kp) H := hP
                    have hD : va_D A (tp_wM dA dJ dZ h (nI cN) (nI oN) st (upd p1 (j - (E d - d)) (nI (P j - (E d - d)))) (upd t1 (j - (E d - d)) (tx j)) w1 kp) := hD
                    refine lv_aload_n hx hb dX1_remove_133 rfl (lv_at hl 0 rfl) ?_
                    refine va_get (D := D) (ci := 1) (v := .ref (h 9)) (C := RX1) (T := TX1) (N := 7) hx hb hts in_X1 hown hK hP 0 rfl rfl 3 (by decide) (hts _ q172) (fun _ h9 => h9) rfl dX1_remove_134 ?_
                    refine lv_iload hx hb dX1_remove_137 (lv_at hl 4 rfl) ?_
                    refine lv_iload_n hx hb dX1_remove_139 rfl (lv_at hl 3 rfl) ?_
                    refine lv_isub hx hb dX1_remove_140 ?_
                    refine tp_ti (y := nI (j - (E d - d))) (pk_sub (by omega)) ?_
                    refine lv_aload_n hx hb dX1_remove_141 rfl (lv_at hl 0 rfl) ?_
                    refine va_get (D := D) (ci := 1) (v := .ref (h 9)) (C := RX1) (T := TX1) (N := 7) hx hb hts in_X1 hown hK hP 0 rfl rfl 3 (by decide) (hts _ q172) (fun _ h9 => h9) rfl dX1_remove_142 ?_
                    refine lv_iload hx hb dX1_remove_145 (lv_at hl 4 rfl) ?_
                    refine tp_iald (v := wd j) hx hb hK hP 3 0 rfl rfl j rfl (by omega) (tu_mvr (by omega) h3) dX1_remove_147 ?_
                    refine tp_iast hx hb hK hP hD hS 3 0 rfl rfl (j - (E d - d)) rfl (by omega) dX1_remove_148 (fun H locs hP hD hS => ?_)
                    have hP : va_P D tp_cl (tp_wM dA dJ dZ h (nI cN) (nI oN) st (upd p1 (j - (E d - d)) (nI (P j - (E d - d)))) (upd t1 (j - (E d - d)) (tx j)) (upd w1 (j - (E d - d)) (wd j)) kp) H := hP
                    have hD : va_D A (tp_wM dA dJ dZ h (nI cN) (nI oN) st (upd p1 (j - (E d - d)) (nI (P j - (E d - d)))) (upd t1 (j - (E d - d)) (tx j)) (upd w1 (j - (E d - d)) (wd j)) kp) := hD
                    refine lv_iinc (v := nI (j + 1)) (lv' := [(4, .int (nI (j + 1))), (0, .ref (h 6)), (1, .int (nI d)), (2, .int (nI (E d))), (3, .int (nI (E d - d)))]) hx hb dX1_remove_149 hl (k := 4) rfl (nI_1 j) (by decide) rfl (fun ls hl => ?_)
                    refine lv_goto (tgt := 69) hx hb dX1_remove_152 (by decide) ?_
                    exact ih2 (j + 1) _ _ _ _ _ (by omega) (by omega) (by omega) (tu_mvs (by omega) h1 (tr_pf2 hd1 (by omega) (by omega) (by omega))) (tu_mvs (by omega) h2 (tr_nm (by omega))) (tu_mvs (by omega) h3 (tr_nm (by omega))) hP hD hS ls (lv_sub hl [1, 2, 3, 4, 0] rfl)
            exact LQ (cN + 1) (E d) pa tx wd _ _ (by omega) (by omega) (by omega) (tu_mv0 (by omega)) (tu_mv0 (by omega)) (tu_mv0 (by omega)) hP hD hS ls (lv_sub hl [2, 3, 4, 1, 0] rfl)
          have LP : ∀ (n : Nat) (j : Nat), d < j → j ≤ E d → cN < j + n →  ∀ (ls : Array Slot), lv_has ls 5 [(0, .ref (h 6)), (1, .int (nI d)), (2, .int (nI j))] → W p l e (headSpec (ws_ yX1_remove cX1_remove 5 (some .int)) ({ frames := 1, cells := 0, slots := 0, locals := 23 })).room s m ([.ref (h 6), .int x] : List Value).toArray below meth c s.heap [] 0 0 (MQ below (va_Qi (fun (r : Int32) (u : va_W) => (tp_rb cN oN E x ∧ r = -1 ∧ u = tp_wM dA dJ dZ h (nI cN) (nI oN) st pa tx wd kp) ∨ (∃ d, tp_rg cN oN E x d ∧ r = nI (cN - (E d - d)) ∧ ∃ pa' tx' wd' kp', u = tp_wM dA dJ dZ h (nI (cN - (E d - d))) (nI (tp_o2 d (E d) oN)) 1 pa' tx' wd' kp' ∧ (∀ k, k < cN - (E d - d) → pa' k = tp_pa (tp_P2 P d (E d)) k ∧ tx' k = tx (tp_ph d (E d - d) k) ∧ wd' k = wd (tp_ph d (E d - d) k)) ∧ kp' 0 = 0 ∧ kp' 1 = 0)) (tp_B D (tp_ty dA dJ dZ) (A)) (A)) ([.ref (h 6), .int x] : List Value).toArray s 0 0 (A)) (F0 m 39 ls []) := by
            intro n
            induction n with
            | zero => intro j hj1 hj2 hf ls hl; exact absurd hf (by omega)
            | succ n ih =>
              intro j hj1 hj2 hf ls hl
              refine lv_iload_n hx hb dX1_remove_39 rfl (lv_at hl 2 rfl) ?_
              refine lv_aload_n hx hb dX1_remove_40 rfl (lv_at hl 0 rfl) ?_
              refine va_get (D := D) (ci := 1) (v := .int (nI cN)) (C := RX1) (T := TX1) (N := 7) hx hb hts in_X1 hown hK hP 0 rfl rfl 0 (by decide) (hts _ q169) (fun _ h9 => h9) rfl dX1_remove_41 ?_
              refine lv_icmp_ge (tgt := 62) hx hb dX1_remove_44 (by decide) (fun d1 => ?_) (fun d1 => ?_)
              · have d1 : cN ≤ j := (nI_leI (a := cN) (b := j) (by omega) (by omega)).mp d1
                have ej : j = E d := by omega
                rw [ej] at hl
                exact JX ls (lv_sub hl [0, 1, 2] rfl)
              · have d1 : ¬ (cN ≤ j) := fun z => d1 ((nI_leI (a := cN) (b := j) (by omega) (by omega)).mpr z)
                refine lv_aload_n hx hb dX1_remove_47 rfl (lv_at hl 0 rfl) ?_
                refine lv_iload_n hx hb dX1_remove_48 rfl (lv_at hl 1 rfl) ?_
                refine lv_iload_n hx hb dX1_remove_49 rfl (lv_at hl 2 rfl) ?_
                refine vp_callSi (W.runV (As := [.int (nI d), .int (nI j)]) (rest := []) ⟨hx, hb, hml, hown, hts⟩ (mem_above l D dA dJ dZ h (nI oN) st vl pa tx wd kp (a0 := d) (n0 := j) hW hM (by omega) (by omega)) (cwV 2 hts (lw_V q216 q218 qs14 q21 q219) rfl rfl rfl (by decide +kernel) ⟨Nat.le_of_ble_eq_true rfl, Nat.le_of_ble_eq_true rfl⟩) (tp_pv hK hP (ci := 1) (q0 := 0) rfl rfl) rfl rfl hl.1 rfl (lv_room (Nat.le_of_ble_eq_true rfl)) dX1_remove_50 ⟨Nat.le_of_ble_eq_true rfl, Nat.le_of_ble_eq_true rfl⟩) (fun r2 h2b => ?_)
                rcases h2b with ⟨e1, q2⟩ | ⟨e1, q2⟩
                · subst e1
                  refine lv_if_eq (tgt := 62) hx hb dX1_remove_53 (by decide) (fun z => absurd ((nI_eq (a := 1) (b := 0) (by omega) (by omega)).mp z) (by omega)) (fun _ => ?_)
                  have hj3 := q2.2
                  refine lv_iinc (v := nI (j + 1)) (lv' := [(2, .int (nI (j + 1))), (0, .ref (h 6)), (1, .int (nI d))]) hx hb dX1_remove_56 hl (k := 2) rfl (nI_1 j) (by decide) rfl (fun ls hl => ?_)
                  refine lv_goto (tgt := 39) hx hb dX1_remove_59 (by decide) ?_
                  exact ih (j + 1) (by omega) (by omega) (by omega) ls (lv_sub hl [1, 2, 0] rfl)
                · subst e1
                  refine lv_if_eq (tgt := 62) hx hb dX1_remove_53 (by decide) (fun _ => ?_) (fun z => absurd ((nI_eq (a := 0) (b := 0) (by omega) (by omega)).mpr (by omega)) z)
                  have ej : j = E d := by
                    rcases Nat.lt_or_ge j (E d) with z | z
                    · exact absurd ⟨by omega, z⟩ q2
                    · omega
                  rw [ej] at hl
                  exact JX ls (lv_sub hl [0, 1, 2] rfl)
          exact LP (cN + 1) (d + 1) (by omega) (by omega) (by omega) ls (lv_sub hl [1, 2, 0] rfl)
end
section
/-! the array classes, the two constructors -/
theorem tp_arr {s : State} {args : Array Value} {ty : FieldType} (h : (Cond.arrayClass ty).before args s = true) : ∃ cA : ClassId, ArrOfT s cA ty ∧ s.vm.findClass ("[" ++ ty.toString) = some cA := by
  obtain ⟨cA, kA, comp, h1, h2, h3⟩ := Cond.arrayClass_spec h
  exact ⟨cA, fun n z => ⟨fun k h => (by cases h), kA, h2, comp, h3⟩, h1⟩
section TPC
variable {D : va_G} {cl : List vw_C} {tys : List (ClassId × FieldType)} {s : State} {i j : Nat} {cA cB : ClassId}
theorem tp_eqI (hK : va_K D cl tys s) (hi : tys[i]? = some (cA, .int)) (hj : tys[j]? = some (cB, .int)) : cA = cB := Option.some.inj ((show s.vm.findClass ("[" ++ FieldType.int.toString) = some cA from (hK.2 i _ hi).2).symm.trans (hK.2 j _ hj).2)
theorem tp_eqJ (hK : va_K D cl tys s) (hi : tys[i]? = some (cA, .long)) (hj : tys[j]? = some (cB, .long)) : cA = cB := Option.some.inj ((show s.vm.findClass ("[" ++ FieldType.long.toString) = some cA from (hK.2 i _ hi).2).symm.trans (hK.2 j _ hj).2)
theorem tp_eqZ (hK : va_K D cl tys s) (hi : tys[i]? = some (cA, .boolean)) (hj : tys[j]? = some (cB, .boolean)) : cA = cB := Option.some.inj ((show s.vm.findClass ("[" ++ FieldType.boolean.toString) = some cA from (hK.2 i _ hi).2).symm.trans (hK.2 j _ hj).2)
end TPC

set_option maxHeartbeats 4000000 in
set_option maxRecDepth 100000 in
theorem met_init (l : Launch) (D : va_G) (dA dJ dZ : ClassId) (a0 sz : Nat) : Met l yX0_init (ws_ yX0_init cX0_init 1 none) ({ frames := 1, cells := 5, slots := 194, locals := 12 }) (tp_Pm D (tp_ty dA dJ dZ) [(a0, .inr (0, [.int 0, .int 0, .null, .null, .null, .null, .long 0, .null]))] sz [.ref a0]) (va_Qv (fun (u : va_W) => ∃ h : Nat → Nat, h 0 = a0 ∧ u = tp_wX dA dJ h (nI 1) 0 1 (fun _ => 0) (fun _ => 0) (upd (fun _ => 0) 0 (-1)) (upd (fun _ => 0) 0 (nI 1)) (fun _ => 0)) (tp_B D (tp_ty dA dJ dZ) (va_A [(a0, .inr (0, [.int 0, .int 0, .null, .null, .null, .null, .long 0, .null]))] sz)) (va_A [(a0, .inr (0, [.int 0, .int 0, .null, .null, .null, .null, .long 0, .null]))] sz)) 5 194 (va_A [(a0, .inr (0, [.int 0, .int 0, .null, .null, .null, .null, .long 0, .null]))] sz) := by
  refine Met.ofW (cc := cX0_init) (maxL := 1) (ret := none) (by decide) rfl ?_
  intro p e s m args below meth c s₁ B hml hv
  obtain ⟨rfl, hsz, hP, hK, hD0⟩ := hv
  subst hsz
  have hD := hD0.self (sz := s.heap.size)
  generalize hAe : va_A [(a0, .inr (0, [.int 0, .int 0, .null, .null, .null, .null, .long 0, .null]))] s.heap.size = A at hD ⊢
  have hA : ∀ q : Nat, s.heap.size ≤ q → A q := fun q h => by rw [← hAe]; exact Or.inr h
  have hS : va_S A s.heap s.heap [] := va_S.rf
  have hP : va_P D tp_cl [(a0, .inr (0, [.int 0, .int 0, .null, .null, .null, .null, .long 0, .null]))] s.heap := hP
  have hx := B.exec
  have hb := B.bytes
  have hr := B.returns
  have hts := atoms_spec (ws := ws_ yX0_init cX0_init 1 none) B.pre
  have hts : ∀ w ∈ lw_all, w.before _ s = true := fun w h => hts w (List.mem_cons_of_mem _ h)
  have hown : s.vm.findClass RX0 = some m.cls := findClass_of_methodNamed B.named
  have hlocks := B.notSynchronized
  have hl := lv_entry ([.ref a0]) (n := 1) (Nat.le_of_ble_eq_true rfl)
  rw [lg_entry_eq]
  generalize (lg_sl ([.ref a0]) ++ List.replicate (1 - (lg_sl ([.ref a0])).length) Slot.unset).toArray = ls at hl ⊢
  have hl : lv_has ls 1 [(0, .ref a0)] := hl
  have hin : meth.name = "<init>" := (name_of_methodNamed B.named B.method).1
  refine lv_aload_n hx hb dX0_init_0 rfl (lv_at hl 0 rfl) ?_
  refine W.objInit hx hb hown (hts _ q27) (hts _ q28) (hts _ q29) rfl (by rw [hml]; exact hl.1) rfl dX0_init_1 (Nat.le_of_ble_eq_true rfl) (Nat.le_of_ble_eq_true rfl) ?_
  refine W.eq (g2 := F0 m 4 ls []) rfl ?_
  refine lv_aload_n hx hb dX0_init_4 rfl (lv_at hl 0 rfl) ?_
  refine lv_bipush (v := nI 48) hx hb dX0_init_5 (by decide) ?_
  refine va_newa (atype := .int) (ty := .int) (a0 := (48, .inl (fun _ => 0))) (N' := 48) hx hb (hts _ q55) rfl hK hP hD hS hA (fun cA => rfl) (nI_pos (by decide)) (nI_clamp (by decide)) (by decide) (Nat.le_of_ble_eq_true rfl) (Nat.le_of_ble_eq_true rfl) dX0_init_7 (fun q1 cA H hK2 hP hD hS => ?_)
  obtain rfl := tp_eqI hK2 (i := 0) (j := 3) rfl rfl
  have hP : va_P D tp_cl ([(a0, .inr (0, [.int 0, .int 0, .null, .null, .null, .null, .long 0, .null])), (q1, .inl (dA, 48, .inl (fun _ => 0)))]) H := hP
  have hD : va_D A ([(a0, .inr (0, [.int 0, .int 0, .null, .null, .null, .null, .long 0, .null])), (q1, .inl (dA, 48, .inl (fun _ => 0)))]) := hD
  refine va_putF (D := D) (ci := 0) (v := .ref q1) (ty := .array .int) (C := RX0) (T := TX0) (N := 8) hx hb hts in_X0 tyX0 tyX0_ok nmX0 hown hK hP hD hS 0 rfl rfl 2 (by decide) (hts _ q32) (fun _ h9 => h9) rfl hin rfl (by decide +kernel) rfl rfl (Nat.le_of_ble_eq_true rfl) dX0_init_9 (fun H locs hP hD hS => ?_)
  have hP : va_P D tp_cl ([(a0, .inr (0, [.int 0, .int 0, .ref q1, .null, .null, .null, .long 0, .null])), (q1, .inl (dA, 48, .inl (fun _ => 0)))]) H := hP
  have hD : va_D A ([(a0, .inr (0, [.int 0, .int 0, .ref q1, .null, .null, .null, .long 0, .null])), (q1, .inl (dA, 48, .inl (fun _ => 0)))]) := hD
  refine lv_aload_n hx hb dX0_init_12 rfl (lv_at hl 0 rfl) ?_
  refine lv_bipush (v := nI 48) hx hb dX0_init_13 (by decide) ?_
  refine va_newa (atype := .int) (ty := .int) (a0 := (48, .inl (fun _ => 0))) (N' := 48) hx hb (hts _ q55) rfl hK hP hD hS hA (fun cA => rfl) (nI_pos (by decide)) (nI_clamp (by decide)) (by decide) (Nat.le_of_ble_eq_true rfl) (Nat.le_of_ble_eq_true rfl) dX0_init_15 (fun q2 cA H hK2 hP hD hS => ?_)
  obtain rfl := tp_eqI hK2 (i := 0) (j := 3) rfl rfl
  have hP : va_P D tp_cl ([(a0, .inr (0, [.int 0, .int 0, .ref q1, .null, .null, .null, .long 0, .null])), (q1, .inl (dA, 48, .inl (fun _ => 0))), (q2, .inl (dA, 48, .inl (fun _ => 0)))]) H := hP
  have hD : va_D A ([(a0, .inr (0, [.int 0, .int 0, .ref q1, .null, .null, .null, .long 0, .null])), (q1, .inl (dA, 48, .inl (fun _ => 0))), (q2, .inl (dA, 48, .inl (fun _ => 0)))]) := hD
  refine va_putF (D := D) (ci := 0) (v := .ref q2) (ty := .array .int) (C := RX0) (T := TX0) (N := 8) hx hb hts in_X0 tyX0 tyX0_ok nmX0 hown hK hP hD hS 0 rfl rfl 3 (by decide) (hts _ q33) (fun _ h9 => h9) rfl hin rfl (by decide +kernel) rfl rfl (Nat.le_of_ble_eq_true rfl) dX0_init_17 (fun H locs hP hD hS => ?_)
  have hP : va_P D tp_cl ([(a0, .inr (0, [.int 0, .int 0, .ref q1, .ref q2, .null, .null, .long 0, .null])), (q1, .inl (dA, 48, .inl (fun _ => 0))), (q2, .inl (dA, 48, .inl (fun _ => 0)))]) H := hP
  have hD : va_D A ([(a0, .inr (0, [.int 0, .int 0, .ref q1, .ref q2, .null, .null, .long 0, .null])), (q1, .inl (dA, 48, .inl (fun _ => 0))), (q2, .inl (dA, 48, .inl (fun _ => 0)))]) := hD
  refine lv_aload_n hx hb dX0_init_20 rfl (lv_at hl 0 rfl) ?_
  refine lv_bipush (v := nI 48) hx hb dX0_init_21 (by decide) ?_
  refine va_newa (atype := .int) (ty := .int) (a0 := (48, .inl (fun _ => 0))) (N' := 48) hx hb (hts _ q55) rfl hK hP hD hS hA (fun cA => rfl) (nI_pos (by decide)) (nI_clamp (by decide)) (by decide) (Nat.le_of_ble_eq_true rfl) (Nat.le_of_ble_eq_true rfl) dX0_init_23 (fun q3 cA H hK2 hP hD hS => ?_)
  obtain rfl := tp_eqI hK2 (i := 0) (j := 3) rfl rfl
  have hP : va_P D tp_cl ([(a0, .inr (0, [.int 0, .int 0, .ref q1, .ref q2, .null, .null, .long 0, .null])), (q1, .inl (dA, 48, .inl (fun _ => 0))), (q2, .inl (dA, 48, .inl (fun _ => 0))), (q3, .inl (dA, 48, .inl (fun _ => 0)))]) H := hP
  have hD : va_D A ([(a0, .inr (0, [.int 0, .int 0, .ref q1, .ref q2, .null, .null, .long 0, .null])), (q1, .inl (dA, 48, .inl (fun _ => 0))), (q2, .inl (dA, 48, .inl (fun _ => 0))), (q3, .inl (dA, 48, .inl (fun _ => 0)))]) := hD
  refine va_putF (D := D) (ci := 0) (v := .ref q3) (ty := .array .int) (C := RX0) (T := TX0) (N := 8) hx hb hts in_X0 tyX0 tyX0_ok nmX0 hown hK hP hD hS 0 rfl rfl 4 (by decide) (hts _ q34) (fun _ h9 => h9) rfl hin rfl (by decide +kernel) rfl rfl (Nat.le_of_ble_eq_true rfl) dX0_init_25 (fun H locs hP hD hS => ?_)
  have hP : va_P D tp_cl ([(a0, .inr (0, [.int 0, .int 0, .ref q1, .ref q2, .ref q3, .null, .long 0, .null])), (q1, .inl (dA, 48, .inl (fun _ => 0))), (q2, .inl (dA, 48, .inl (fun _ => 0))), (q3, .inl (dA, 48, .inl (fun _ => 0)))]) H := hP
  have hD : va_D A ([(a0, .inr (0, [.int 0, .int 0, .ref q1, .ref q2, .ref q3, .null, .long 0, .null])), (q1, .inl (dA, 48, .inl (fun _ => 0))), (q2, .inl (dA, 48, .inl (fun _ => 0))), (q3, .inl (dA, 48, .inl (fun _ => 0)))]) := hD
  refine lv_aload_n hx hb dX0_init_28 rfl (lv_at hl 0 rfl) ?_
  refine lv_bipush (v := nI 48) hx hb dX0_init_29 (by decide) ?_
  refine va_newa (atype := .int) (ty := .int) (a0 := (48, .inl (fun _ => 0))) (N' := 48) hx hb (hts _ q55) rfl hK hP hD hS hA (fun cA => rfl) (nI_pos (by decide)) (nI_clamp (by decide)) (by decide) (Nat.le_of_ble_eq_true rfl) (Nat.le_of_ble_eq_true rfl) dX0_init_31 (fun q4 cA H hK2 hP hD hS => ?_)
  obtain rfl := tp_eqI hK2 (i := 0) (j := 3) rfl rfl
  have hP : va_P D tp_cl ([(a0, .inr (0, [.int 0, .int 0, .ref q1, .ref q2, .ref q3, .null, .long 0, .null])), (q1, .inl (dA, 48, .inl (fun _ => 0))), (q2, .inl (dA, 48, .inl (fun _ => 0))), (q3, .inl (dA, 48, .inl (fun _ => 0))), (q4, .inl (dA, 48, .inl (fun _ => 0)))]) H := hP
  have hD : va_D A ([(a0, .inr (0, [.int 0, .int 0, .ref q1, .ref q2, .ref q3, .null, .long 0, .null])), (q1, .inl (dA, 48, .inl (fun _ => 0))), (q2, .inl (dA, 48, .inl (fun _ => 0))), (q3, .inl (dA, 48, .inl (fun _ => 0))), (q4, .inl (dA, 48, .inl (fun _ => 0)))]) := hD
  refine va_putF (D := D) (ci := 0) (v := .ref q4) (ty := .array .int) (C := RX0) (T := TX0) (N := 8) hx hb hts in_X0 tyX0 tyX0_ok nmX0 hown hK hP hD hS 0 rfl rfl 5 (by decide) (hts _ q35) (fun _ h9 => h9) rfl hin rfl (by decide +kernel) rfl rfl (Nat.le_of_ble_eq_true rfl) dX0_init_33 (fun H locs hP hD hS => ?_)
  have hP : va_P D tp_cl ([(a0, .inr (0, [.int 0, .int 0, .ref q1, .ref q2, .ref q3, .ref q4, .long 0, .null])), (q1, .inl (dA, 48, .inl (fun _ => 0))), (q2, .inl (dA, 48, .inl (fun _ => 0))), (q3, .inl (dA, 48, .inl (fun _ => 0))), (q4, .inl (dA, 48, .inl (fun _ => 0)))]) H := hP
  have hD : va_D A ([(a0, .inr (0, [.int 0, .int 0, .ref q1, .ref q2, .ref q3, .ref q4, .long 0, .null])), (q1, .inl (dA, 48, .inl (fun _ => 0))), (q2, .inl (dA, 48, .inl (fun _ => 0))), (q3, .inl (dA, 48, .inl (fun _ => 0))), (q4, .inl (dA, 48, .inl (fun _ => 0)))]) := hD
  refine lv_aload_n hx hb dX0_init_36 rfl (lv_at hl 0 rfl) ?_
  refine lv_iconst (v := nI 2) hx hb dX0_init_37 (by decide) ?_
  refine va_newa (atype := .long) (ty := .long) (a0 := (2, .inr (.inl (fun _ => 0)))) (N' := 2) hx hb (hts _ q56) rfl hK hP hD hS hA (fun cA => rfl) (nI_pos (by decide)) (nI_clamp (by decide)) (by decide) (Nat.le_of_ble_eq_true rfl) (Nat.le_of_ble_eq_true rfl) dX0_init_38 (fun q5 cA H hK2 hP hD hS => ?_)
  obtain rfl := tp_eqJ hK2 (i := 1) (j := 3) rfl rfl
  have hP : va_P D tp_cl ([(a0, .inr (0, [.int 0, .int 0, .ref q1, .ref q2, .ref q3, .ref q4, .long 0, .null])), (q1, .inl (dA, 48, .inl (fun _ => 0))), (q2, .inl (dA, 48, .inl (fun _ => 0))), (q3, .inl (dA, 48, .inl (fun _ => 0))), (q4, .inl (dA, 48, .inl (fun _ => 0))), (q5, .inl (dJ, 2, .inr (.inl (fun _ => 0))))]) H := hP
  have hD : va_D A ([(a0, .inr (0, [.int 0, .int 0, .ref q1, .ref q2, .ref q3, .ref q4, .long 0, .null])), (q1, .inl (dA, 48, .inl (fun _ => 0))), (q2, .inl (dA, 48, .inl (fun _ => 0))), (q3, .inl (dA, 48, .inl (fun _ => 0))), (q4, .inl (dA, 48, .inl (fun _ => 0))), (q5, .inl (dJ, 2, .inr (.inl (fun _ => 0))))]) := hD
  refine va_putF (D := D) (ci := 0) (v := .ref q5) (ty := .array .long) (C := RX0) (T := TX0) (N := 8) hx hb hts in_X0 tyX0 tyX0_ok nmX0 hown hK hP hD hS 0 rfl rfl 7 (by decide) (hts _ q37) (fun _ h9 => h9) rfl hin rfl (by decide +kernel) rfl rfl (Nat.le_of_ble_eq_true rfl) dX0_init_40 (fun H locs hP hD hS => ?_)
  have hP : va_P D tp_cl ([(a0, .inr (0, [.int 0, .int 0, .ref q1, .ref q2, .ref q3, .ref q4, .long 0, .ref q5])), (q1, .inl (dA, 48, .inl (fun _ => 0))), (q2, .inl (dA, 48, .inl (fun _ => 0))), (q3, .inl (dA, 48, .inl (fun _ => 0))), (q4, .inl (dA, 48, .inl (fun _ => 0))), (q5, .inl (dJ, 2, .inr (.inl (fun _ => 0))))]) H := hP
  have hD : va_D A ([(a0, .inr (0, [.int 0, .int 0, .ref q1, .ref q2, .ref q3, .ref q4, .long 0, .ref q5])), (q1, .inl (dA, 48, .inl (fun _ => 0))), (q2, .inl (dA, 48, .inl (fun _ => 0))), (q3, .inl (dA, 48, .inl (fun _ => 0))), (q4, .inl (dA, 48, .inl (fun _ => 0))), (q5, .inl (dJ, 2, .inr (.inl (fun _ => 0))))]) := hD
  refine lv_aload_n hx hb dX0_init_43 rfl (lv_at hl 0 rfl) ?_
  refine lv_iconst (v := nI 1) hx hb dX0_init_44 (by decide) ?_
  refine va_put (D := D) (ci := 0) (v := .int (nI 1)) (ty := .int) (C := RX0) (T := TX0) (N := 8) hx hb hts in_X0 tyX0 tyX0_ok nmX0 hown hK hP hD hS 0 rfl rfl 0 (by decide) (hts _ q30) (fun _ h9 => h9) rfl (by decide +kernel) rfl rfl (Nat.le_of_ble_eq_true rfl) dX0_init_45 (fun H locs hP hD hS => ?_)
  have hP : va_P D tp_cl ([(a0, .inr (0, [.int (nI 1), .int 0, .ref q1, .ref q2, .ref q3, .ref q4, .long 0, .ref q5])), (q1, .inl (dA, 48, .inl (fun _ => 0))), (q2, .inl (dA, 48, .inl (fun _ => 0))), (q3, .inl (dA, 48, .inl (fun _ => 0))), (q4, .inl (dA, 48, .inl (fun _ => 0))), (q5, .inl (dJ, 2, .inr (.inl (fun _ => 0))))]) H := hP
  have hD : va_D A ([(a0, .inr (0, [.int (nI 1), .int 0, .ref q1, .ref q2, .ref q3, .ref q4, .long 0, .ref q5])), (q1, .inl (dA, 48, .inl (fun _ => 0))), (q2, .inl (dA, 48, .inl (fun _ => 0))), (q3, .inl (dA, 48, .inl (fun _ => 0))), (q4, .inl (dA, 48, .inl (fun _ => 0))), (q5, .inl (dJ, 2, .inr (.inl (fun _ => 0))))]) := hD
  refine lv_aload_n hx hb dX0_init_48 rfl (lv_at hl 0 rfl) ?_
  refine va_get (D := D) (ci := 0) (v := .ref q3) (C := RX0) (T := TX0) (N := 8) hx hb hts in_X0 hown hK hP 0 rfl rfl 4 (by decide) (hts _ q34) (fun _ h9 => h9) rfl dX0_init_49 ?_
  refine lv_iconst (v := nI 0) hx hb dX0_init_52 (by decide) ?_
  refine lv_iconst (v := -1) hx hb dX0_init_53 (by decide) ?_
  refine tp_iast hx hb hK hP hD hS 3 0 rfl rfl 0 rfl (by decide) dX0_init_54 (fun H locs hP hD hS => ?_)
  have hP : va_P D tp_cl ([(a0, .inr (0, [.int (nI 1), .int 0, .ref q1, .ref q2, .ref q3, .ref q4, .long 0, .ref q5])), (q1, .inl (dA, 48, .inl (fun _ => 0))), (q2, .inl (dA, 48, .inl (fun _ => 0))), (q3, .inl (dA, 48, .inl (upd (fun _ => 0) 0 (-1)))), (q4, .inl (dA, 48, .inl (fun _ => 0))), (q5, .inl (dJ, 2, .inr (.inl (fun _ => 0))))]) H := hP
  have hD : va_D A ([(a0, .inr (0, [.int (nI 1), .int 0, .ref q1, .ref q2, .ref q3, .ref q4, .long 0, .ref q5])), (q1, .inl (dA, 48, .inl (fun _ => 0))), (q2, .inl (dA, 48, .inl (fun _ => 0))), (q3, .inl (dA, 48, .inl (upd (fun _ => 0) 0 (-1)))), (q4, .inl (dA, 48, .inl (fun _ => 0))), (q5, .inl (dJ, 2, .inr (.inl (fun _ => 0))))]) := hD
  refine lv_aload_n hx hb dX0_init_55 rfl (lv_at hl 0 rfl) ?_
  refine va_get (D := D) (ci := 0) (v := .ref q4) (C := RX0) (T := TX0) (N := 8) hx hb hts in_X0 hown hK hP 0 rfl rfl 5 (by decide) (hts _ q35) (fun _ h9 => h9) rfl dX0_init_56 ?_
  refine lv_iconst (v := nI 0) hx hb dX0_init_59 (by decide) ?_
  refine lv_iconst (v := nI 1) hx hb dX0_init_60 (by decide) ?_
  refine tp_iast hx hb hK hP hD hS 4 0 rfl rfl 0 rfl (by decide) dX0_init_61 (fun H locs hP hD hS => ?_)
  have hP : va_P D tp_cl ([(a0, .inr (0, [.int (nI 1), .int 0, .ref q1, .ref q2, .ref q3, .ref q4, .long 0, .ref q5])), (q1, .inl (dA, 48, .inl (fun _ => 0))), (q2, .inl (dA, 48, .inl (fun _ => 0))), (q3, .inl (dA, 48, .inl (upd (fun _ => 0) 0 (-1)))), (q4, .inl (dA, 48, .inl (upd (fun _ => 0) 0 (nI 1)))), (q5, .inl (dJ, 2, .inr (.inl (fun _ => 0))))]) H := hP
  have hD : va_D A ([(a0, .inr (0, [.int (nI 1), .int 0, .ref q1, .ref q2, .ref q3, .ref q4, .long 0, .ref q5])), (q1, .inl (dA, 48, .inl (fun _ => 0))), (q2, .inl (dA, 48, .inl (fun _ => 0))), (q3, .inl (dA, 48, .inl (upd (fun _ => 0) 0 (-1)))), (q4, .inl (dA, 48, .inl (upd (fun _ => 0) 0 (nI 1)))), (q5, .inl (dJ, 2, .inr (.inl (fun _ => 0))))]) := hD
  refine lv_aload_n hx hb dX0_init_62 rfl (lv_at hl 0 rfl) ?_
  refine lv_lconst (v := 1) hx hb dX0_init_63 (by decide) ?_
  refine va_put (D := D) (ci := 0) (v := .long 1) (ty := .long) (C := RX0) (T := TX0) (N := 8) hx hb hts in_X0 tyX0 tyX0_ok nmX0 hown hK hP hD hS 0 rfl rfl 6 (by decide) (hts _ q36) (fun _ h9 => h9) rfl (by decide +kernel) rfl rfl (Nat.le_of_ble_eq_true rfl) dX0_init_64 (fun H locs hP hD hS => ?_)
  have hP : va_P D tp_cl ([(a0, .inr (0, [.int (nI 1), .int 0, .ref q1, .ref q2, .ref q3, .ref q4, .long 1, .ref q5])), (q1, .inl (dA, 48, .inl (fun _ => 0))), (q2, .inl (dA, 48, .inl (fun _ => 0))), (q3, .inl (dA, 48, .inl (upd (fun _ => 0) 0 (-1)))), (q4, .inl (dA, 48, .inl (upd (fun _ => 0) 0 (nI 1)))), (q5, .inl (dJ, 2, .inr (.inl (fun _ => 0))))]) H := hP
  have hD : va_D A ([(a0, .inr (0, [.int (nI 1), .int 0, .ref q1, .ref q2, .ref q3, .ref q4, .long 1, .ref q5])), (q1, .inl (dA, 48, .inl (fun _ => 0))), (q2, .inl (dA, 48, .inl (fun _ => 0))), (q3, .inl (dA, 48, .inl (upd (fun _ => 0) 0 (-1)))), (q4, .inl (dA, 48, .inl (upd (fun _ => 0) 0 (nI 1)))), (q5, .inl (dJ, 2, .inr (.inl (fun _ => 0))))]) := hD
  exact W.vret hx hb hr (fun t ht hW9 => ⟨⟨([(a0, .inr (0, [.int (nI 1), .int 0, .ref q1, .ref q2, .ref q3, .ref q4, .long 1, .ref q5])), (q1, .inl (dA, 48, .inl (fun _ => 0))), (q2, .inl (dA, 48, .inl (fun _ => 0))), (q3, .inl (dA, 48, .inl (upd (fun _ => 0) 0 (-1)))), (q4, .inl (dA, 48, .inl (upd (fun _ => 0) 0 (nI 1)))), (q5, .inl (dJ, 2, .inr (.inl (fun _ => 0))))]), rfl, ⟨fun k => match k with | 0 => a0 | 1 => q1 | 2 => q2 | 3 => q3 | 4 => q4 | 5 => q5 | _ => 0, rfl, rfl⟩, by rw [ht]; exact hP, va_K.moved hW9.alike hK, hD⟩, hS.F ht⟩) hS.2.2 dX0_init_67

set_option maxHeartbeats 4000000 in
set_option maxRecDepth 100000 in
theorem mem_init (l : Launch) (D : va_G) (dA dJ dZ : ClassId) (a0 sz : Nat) : Met l yX1_init (ws_ yX1_init cX1_init 1 none) ({ frames := 1, cells := 4, slots := 146, locals := 12 }) (tp_Pm D (tp_ty dA dJ dZ) [(a0, .inr (1, [.int 0, .null, .null, .null, .int 0, .long 0, .null]))] sz [.ref a0]) (va_Qv (fun (u : va_W) => ∃ h : Nat → Nat, h 6 = a0 ∧ u = tp_wM dA dJ dZ h (nI 1) 0 1 (upd (fun _ => 0) 0 (-1)) (fun _ => 0) (fun _ => 0) (fun _ => 0)) (tp_B D (tp_ty dA dJ dZ) (va_A [(a0, .inr (1, [.int 0, .null, .null, .null, .int 0, .long 0, .null]))] sz)) (va_A [(a0, .inr (1, [.int 0, .null, .null, .null, .int 0, .long 0, .null]))] sz)) 4 146 (va_A [(a0, .inr (1, [.int 0, .null, .null, .null, .int 0, .long 0, .null]))] sz) := by
  refine Met.ofW (cc := cX1_init) (maxL := 1) (ret := none) (by decide) rfl ?_
  intro p e s m args below meth c s₁ B hml hv
  obtain ⟨rfl, hsz, hP, hK, hD0⟩ := hv
  subst hsz
  have hD := hD0.self (sz := s.heap.size)
  generalize hAe : va_A [(a0, .inr (1, [.int 0, .null, .null, .null, .int 0, .long 0, .null]))] s.heap.size = A at hD ⊢
  have hA : ∀ q : Nat, s.heap.size ≤ q → A q := fun q h => by rw [← hAe]; exact Or.inr h
  have hS : va_S A s.heap s.heap [] := va_S.rf
  have hP : va_P D tp_cl [(a0, .inr (1, [.int 0, .null, .null, .null, .int 0, .long 0, .null]))] s.heap := hP
  have hx := B.exec
  have hb := B.bytes
  have hr := B.returns
  have hts := atoms_spec (ws := ws_ yX1_init cX1_init 1 none) B.pre
  have hts : ∀ w ∈ lw_all, w.before _ s = true := fun w h => hts w (List.mem_cons_of_mem _ h)
  have hown : s.vm.findClass RX1 = some m.cls := findClass_of_methodNamed B.named
  have hlocks := B.notSynchronized
  have hl := lv_entry ([.ref a0]) (n := 1) (Nat.le_of_ble_eq_true rfl)
  rw [lg_entry_eq]
  generalize (lg_sl ([.ref a0]) ++ List.replicate (1 - (lg_sl ([.ref a0])).length) Slot.unset).toArray = ls at hl ⊢
  have hl : lv_has ls 1 [(0, .ref a0)] := hl
  have hin : meth.name = "<init>" := (name_of_methodNamed B.named B.method).1
  refine lv_aload_n hx hb dX1_init_0 rfl (lv_at hl 0 rfl) ?_
  refine W.objInit hx hb hown (hts _ q168) (hts _ q28) (hts _ q29) rfl (by rw [hml]; exact hl.1) rfl dX1_init_1 (Nat.le_of_ble_eq_true rfl) (Nat.le_of_ble_eq_true rfl) ?_
  refine W.eq (g2 := F0 m 4 ls []) rfl ?_
  refine lv_aload_n hx hb dX1_init_4 rfl (lv_at hl 0 rfl) ?_
  refine lv_iconst (v := nI 1) hx hb dX1_init_5 (by decide) ?_
  refine va_put (D := D) (ci := 1) (v := .int (nI 1)) (ty := .int) (C := RX1) (T := TX1) (N := 7) hx hb hts in_X1 tyX1 tyX1_ok nmX1 hown hK hP hD hS 0 rfl rfl 0 (by decide) (hts _ q169) (fun _ h9 => h9) rfl (by decide +kernel) rfl rfl (Nat.le_of_ble_eq_true rfl) dX1_init_6 (fun H locs hP hD hS => ?_)
  have hP : va_P D tp_cl ([(a0, .inr (1, [.int (nI 1), .null, .null, .null, .int 0, .long 0, .null]))]) H := hP
  have hD : va_D A ([(a0, .inr (1, [.int (nI 1), .null, .null, .null, .int 0, .long 0, .null]))]) := hD
  refine lv_aload_n hx hb dX1_init_9 rfl (lv_at hl 0 rfl) ?_
  refine lv_bipush (v := nI 48) hx hb dX1_init_10 (by decide) ?_
  refine va_newa (atype := .int) (ty := .int) (a0 := (48, .inl (fun _ => 0))) (N' := 48) hx hb (hts _ q55) rfl hK hP hD hS hA (fun cA => rfl) (nI_pos (by decide)) (nI_clamp (by decide)) (by decide) (Nat.le_of_ble_eq_true rfl) (Nat.le_of_ble_eq_true rfl) dX1_init_12 (fun q1 cA H hK2 hP hD hS => ?_)
  obtain rfl := tp_eqI hK2 (i := 0) (j := 3) rfl rfl
  have hP : va_P D tp_cl ([(a0, .inr (1, [.int (nI 1), .null, .null, .null, .int 0, .long 0, .null])), (q1, .inl (dA, 48, .inl (fun _ => 0)))]) H := hP
  have hD : va_D A ([(a0, .inr (1, [.int (nI 1), .null, .null, .null, .int 0, .long 0, .null])), (q1, .inl (dA, 48, .inl (fun _ => 0)))]) := hD
  refine va_putF (D := D) (ci := 1) (v := .ref q1) (ty := .array .int) (C := RX1) (T := TX1) (N := 7) hx hb hts in_X1 tyX1 tyX1_ok nmX1 hown hK hP hD hS 0 rfl rfl 1 (by decide) (hts _ q170) (fun _ h9 => h9) rfl hin rfl (by decide +kernel) rfl rfl (Nat.le_of_ble_eq_true rfl) dX1_init_14 (fun H locs hP hD hS => ?_)
  have hP : va_P D tp_cl ([(a0, .inr (1, [.int (nI 1), .ref q1, .null, .null, .int 0, .long 0, .null])), (q1, .inl (dA, 48, .inl (fun _ => 0)))]) H := hP
  have hD : va_D A ([(a0, .inr (1, [.int (nI 1), .ref q1, .null, .null, .int 0, .long 0, .null])), (q1, .inl (dA, 48, .inl (fun _ => 0)))]) := hD
  refine lv_aload_n hx hb dX1_init_17 rfl (lv_at hl 0 rfl) ?_
  refine lv_bipush (v := nI 48) hx hb dX1_init_18 (by decide) ?_
  refine va_newa (atype := .boolean) (ty := .boolean) (a0 := (48, .inl (fun _ => 0))) (N' := 48) hx hb (hts _ q191) rfl hK hP hD hS hA (fun cA => rfl) (nI_pos (by decide)) (nI_clamp (by decide)) (by decide) (Nat.le_of_ble_eq_true rfl) (Nat.le_of_ble_eq_true rfl) dX1_init_20 (fun q2 cA H hK2 hP hD hS => ?_)
  obtain rfl := tp_eqZ hK2 (i := 2) (j := 3) rfl rfl
  have hP : va_P D tp_cl ([(a0, .inr (1, [.int (nI 1), .ref q1, .null, .null, .int 0, .long 0, .null])), (q1, .inl (dA, 48, .inl (fun _ => 0))), (q2, .inl (dZ, 48, .inl (fun _ => 0)))]) H := hP
  have hD : va_D A ([(a0, .inr (1, [.int (nI 1), .ref q1, .null, .null, .int 0, .long 0, .null])), (q1, .inl (dA, 48, .inl (fun _ => 0))), (q2, .inl (dZ, 48, .inl (fun _ => 0)))]) := hD
  refine va_putF (D := D) (ci := 1) (v := .ref q2) (ty := .array .boolean) (C := RX1) (T := TX1) (N := 7) hx hb hts in_X1 tyX1 tyX1_ok nmX1 hown hK hP hD hS 0 rfl rfl 2 (by decide) (hts _ q171) (fun _ h9 => h9) rfl hin rfl (by decide +kernel) rfl rfl (Nat.le_of_ble_eq_true rfl) dX1_init_22 (fun H locs hP hD hS => ?_)
  have hP : va_P D tp_cl ([(a0, .inr (1, [.int (nI 1), .ref q1, .ref q2, .null, .int 0, .long 0, .null])), (q1, .inl (dA, 48, .inl (fun _ => 0))), (q2, .inl (dZ, 48, .inl (fun _ => 0)))]) H := hP
  have hD : va_D A ([(a0, .inr (1, [.int (nI 1), .ref q1, .ref q2, .null, .int 0, .long 0, .null])), (q1, .inl (dA, 48, .inl (fun _ => 0))), (q2, .inl (dZ, 48, .inl (fun _ => 0)))]) := hD
  refine lv_aload_n hx hb dX1_init_25 rfl (lv_at hl 0 rfl) ?_
  refine lv_bipush (v := nI 48) hx hb dX1_init_26 (by decide) ?_
  refine va_newa (atype := .int) (ty := .int) (a0 := (48, .inl (fun _ => 0))) (N' := 48) hx hb (hts _ q55) rfl hK hP hD hS hA (fun cA => rfl) (nI_pos (by decide)) (nI_clamp (by decide)) (by decide) (Nat.le_of_ble_eq_true rfl) (Nat.le_of_ble_eq_true rfl) dX1_init_28 (fun q3 cA H hK2 hP hD hS => ?_)
  obtain rfl := tp_eqI hK2 (i := 0) (j := 3) rfl rfl
  have hP : va_P D tp_cl ([(a0, .inr (1, [.int (nI 1), .ref q1, .ref q2, .null, .int 0, .long 0, .null])), (q1, .inl (dA, 48, .inl (fun _ => 0))), (q2, .inl (dZ, 48, .inl (fun _ => 0))), (q3, .inl (dA, 48, .inl (fun _ => 0)))]) H := hP
  have hD : va_D A ([(a0, .inr (1, [.int (nI 1), .ref q1, .ref q2, .null, .int 0, .long 0, .null])), (q1, .inl (dA, 48, .inl (fun _ => 0))), (q2, .inl (dZ, 48, .inl (fun _ => 0))), (q3, .inl (dA, 48, .inl (fun _ => 0)))]) := hD
  refine va_putF (D := D) (ci := 1) (v := .ref q3) (ty := .array .int) (C := RX1) (T := TX1) (N := 7) hx hb hts in_X1 tyX1 tyX1_ok nmX1 hown hK hP hD hS 0 rfl rfl 3 (by decide) (hts _ q172) (fun _ h9 => h9) rfl hin rfl (by decide +kernel) rfl rfl (Nat.le_of_ble_eq_true rfl) dX1_init_30 (fun H locs hP hD hS => ?_)
  have hP : va_P D tp_cl ([(a0, .inr (1, [.int (nI 1), .ref q1, .ref q2, .ref q3, .int 0, .long 0, .null])), (q1, .inl (dA, 48, .inl (fun _ => 0))), (q2, .inl (dZ, 48, .inl (fun _ => 0))), (q3, .inl (dA, 48, .inl (fun _ => 0)))]) H := hP
  have hD : va_D A ([(a0, .inr (1, [.int (nI 1), .ref q1, .ref q2, .ref q3, .int 0, .long 0, .null])), (q1, .inl (dA, 48, .inl (fun _ => 0))), (q2, .inl (dZ, 48, .inl (fun _ => 0))), (q3, .inl (dA, 48, .inl (fun _ => 0)))]) := hD
  refine lv_aload_n hx hb dX1_init_33 rfl (lv_at hl 0 rfl) ?_
  refine lv_lconst (v := 1) hx hb dX1_init_34 (by decide) ?_
  refine va_put (D := D) (ci := 1) (v := .long 1) (ty := .long) (C := RX1) (T := TX1) (N := 7) hx hb hts in_X1 tyX1 tyX1_ok nmX1 hown hK hP hD hS 0 rfl rfl 5 (by decide) (hts _ q174) (fun _ h9 => h9) rfl (by decide +kernel) rfl rfl (Nat.le_of_ble_eq_true rfl) dX1_init_35 (fun H locs hP hD hS => ?_)
  have hP : va_P D tp_cl ([(a0, .inr (1, [.int (nI 1), .ref q1, .ref q2, .ref q3, .int 0, .long 1, .null])), (q1, .inl (dA, 48, .inl (fun _ => 0))), (q2, .inl (dZ, 48, .inl (fun _ => 0))), (q3, .inl (dA, 48, .inl (fun _ => 0)))]) H := hP
  have hD : va_D A ([(a0, .inr (1, [.int (nI 1), .ref q1, .ref q2, .ref q3, .int 0, .long 1, .null])), (q1, .inl (dA, 48, .inl (fun _ => 0))), (q2, .inl (dZ, 48, .inl (fun _ => 0))), (q3, .inl (dA, 48, .inl (fun _ => 0)))]) := hD
  refine lv_aload_n hx hb dX1_init_38 rfl (lv_at hl 0 rfl) ?_
  refine lv_iconst (v := nI 2) hx hb dX1_init_39 (by decide) ?_
  refine va_newa (atype := .long) (ty := .long) (a0 := (2, .inr (.inl (fun _ => 0)))) (N' := 2) hx hb (hts _ q56) rfl hK hP hD hS hA (fun cA => rfl) (nI_pos (by decide)) (nI_clamp (by decide)) (by decide) (Nat.le_of_ble_eq_true rfl) (Nat.le_of_ble_eq_true rfl) dX1_init_40 (fun q4 cA H hK2 hP hD hS => ?_)
  obtain rfl := tp_eqJ hK2 (i := 1) (j := 3) rfl rfl
  have hP : va_P D tp_cl ([(a0, .inr (1, [.int (nI 1), .ref q1, .ref q2, .ref q3, .int 0, .long 1, .null])), (q1, .inl (dA, 48, .inl (fun _ => 0))), (q2, .inl (dZ, 48, .inl (fun _ => 0))), (q3, .inl (dA, 48, .inl (fun _ => 0))), (q4, .inl (dJ, 2, .inr (.inl (fun _ => 0))))]) H := hP
  have hD : va_D A ([(a0, .inr (1, [.int (nI 1), .ref q1, .ref q2, .ref q3, .int 0, .long 1, .null])), (q1, .inl (dA, 48, .inl (fun _ => 0))), (q2, .inl (dZ, 48, .inl (fun _ => 0))), (q3, .inl (dA, 48, .inl (fun _ => 0))), (q4, .inl (dJ, 2, .inr (.inl (fun _ => 0))))]) := hD
  refine va_putF (D := D) (ci := 1) (v := .ref q4) (ty := .array .long) (C := RX1) (T := TX1) (N := 7) hx hb hts in_X1 tyX1 tyX1_ok nmX1 hown hK hP hD hS 0 rfl rfl 6 (by decide) (hts _ q175) (fun _ h9 => h9) rfl hin rfl (by decide +kernel) rfl rfl (Nat.le_of_ble_eq_true rfl) dX1_init_42 (fun H locs hP hD hS => ?_)
  have hP : va_P D tp_cl ([(a0, .inr (1, [.int (nI 1), .ref q1, .ref q2, .ref q3, .int 0, .long 1, .ref q4])), (q1, .inl (dA, 48, .inl (fun _ => 0))), (q2, .inl (dZ, 48, .inl (fun _ => 0))), (q3, .inl (dA, 48, .inl (fun _ => 0))), (q4, .inl (dJ, 2, .inr (.inl (fun _ => 0))))]) H := hP
  have hD : va_D A ([(a0, .inr (1, [.int (nI 1), .ref q1, .ref q2, .ref q3, .int 0, .long 1, .ref q4])), (q1, .inl (dA, 48, .inl (fun _ => 0))), (q2, .inl (dZ, 48, .inl (fun _ => 0))), (q3, .inl (dA, 48, .inl (fun _ => 0))), (q4, .inl (dJ, 2, .inr (.inl (fun _ => 0))))]) := hD
  refine lv_aload_n hx hb dX1_init_45 rfl (lv_at hl 0 rfl) ?_
  refine va_get (D := D) (ci := 1) (v := .ref q1) (C := RX1) (T := TX1) (N := 7) hx hb hts in_X1 hown hK hP 0 rfl rfl 1 (by decide) (hts _ q170) (fun _ h9 => h9) rfl dX1_init_46 ?_
  refine lv_iconst (v := nI 0) hx hb dX1_init_49 (by decide) ?_
  refine lv_iconst (v := -1) hx hb dX1_init_50 (by decide) ?_
  refine tp_iast hx hb hK hP hD hS 1 0 rfl rfl 0 rfl (by decide) dX1_init_51 (fun H locs hP hD hS => ?_)
  have hP : va_P D tp_cl ([(a0, .inr (1, [.int (nI 1), .ref q1, .ref q2, .ref q3, .int 0, .long 1, .ref q4])), (q1, .inl (dA, 48, .inl (upd (fun _ => 0) 0 (-1)))), (q2, .inl (dZ, 48, .inl (fun _ => 0))), (q3, .inl (dA, 48, .inl (fun _ => 0))), (q4, .inl (dJ, 2, .inr (.inl (fun _ => 0))))]) H := hP
  have hD : va_D A ([(a0, .inr (1, [.int (nI 1), .ref q1, .ref q2, .ref q3, .int 0, .long 1, .ref q4])), (q1, .inl (dA, 48, .inl (upd (fun _ => 0) 0 (-1)))), (q2, .inl (dZ, 48, .inl (fun _ => 0))), (q3, .inl (dA, 48, .inl (fun _ => 0))), (q4, .inl (dJ, 2, .inr (.inl (fun _ => 0))))]) := hD
  exact W.vret hx hb hr (fun t ht hW9 => ⟨⟨([(a0, .inr (1, [.int (nI 1), .ref q1, .ref q2, .ref q3, .int 0, .long 1, .ref q4])), (q1, .inl (dA, 48, .inl (upd (fun _ => 0) 0 (-1)))), (q2, .inl (dZ, 48, .inl (fun _ => 0))), (q3, .inl (dA, 48, .inl (fun _ => 0))), (q4, .inl (dJ, 2, .inr (.inl (fun _ => 0))))]), rfl, ⟨fun k => match k with | 6 => a0 | 7 => q1 | 8 => q2 | 9 => q3 | 10 => q4 | _ => 0, rfl, rfl⟩, by rw [ht]; exact hP, va_K.moved hW9.alike hK, hD⟩, hS.F ht⟩) hS.2.2 dX1_init_52
end
section
/-! the two objects side by side: what joins them, and what each call does to it; plain -/
def tp_I (c o : Nat) (P E N : Nat → Nat) (st : Int64) (nm vl pa en : Nat → Int32) (kp : Nat → Int64) (pa2 tx wd : Nat → Int32) (kp2 : Nat → Int64) : Prop := tp_wf c P E ∧ tp_X c P E N nm pa en ∧ tp_M c P N vl pa2 tx wd ∧ (o < c ∧ E o = c) ∧ (∀ i, tp_b st i = true → i < c) ∧ ∀ j, j < 2 → kp2 j = kp j ∧ ∀ i, tp_b (kp j) i = true → i < c
def tp_J (dA dJ dZ : ClassId) (h : Nat → Nat) (wx wm : va_W) : Prop := ∃ (c o : Nat) (P E N : Nat → Nat) (st : Int64) (nm vl pa en : Nat → Int32) (kp : Nat → Int64) (pa2 tx wd : Nat → Int32) (kp2 : Nat → Int64), tp_I c o P E N st nm vl pa en kp pa2 tx wd kp2 ∧ wx = tp_wX dA dJ h (nI c) (nI o) st nm vl pa en kp ∧ wm = tp_wM dA dJ dZ h (nI c) (nI o) st pa2 tx wd kp2
section TPJ
variable {c o : Nat} {P E N : Nat → Nat} {st : Int64} {nm vl pa en : Nat → Int32} {kp : Nat → Int64} {pa2 tx wd : Nat → Int32} {kp2 : Nat → Int64}
theorem tj_set {st' : Int64} (I : tp_I c o P E N st nm vl pa en kp pa2 tx wd kp2) (h : ∀ i, tp_b st' i = true → i < c) : tp_I c o P E N st' nm vl pa en kp pa2 tx wd kp2 := ⟨I.1, I.2.1, I.2.2.1, I.2.2.2.1, h, I.2.2.2.2.2⟩
theorem tj_one (hW : tp_wf c P E) : ∀ i, tp_b 1 i = true → i < c := by
  intro i hi
  rw [tp_one, decide_eq_true_eq] at hi
  have := (tw_c hW).1
  omega
theorem tj_kp (hk : kp 0 = 0 ∧ kp 1 = 0) (hk2 : kp2 0 = 0 ∧ kp2 1 = 0) : ∀ j, j < 2 → kp2 j = kp j ∧ ∀ i, tp_b (kp j) i = true → i < c := by
  intro j hj
  rcases (show j = 0 ∨ j = 1 by omega) with z | z
  · rw [z, hk.1, hk2.1]
    refine ⟨rfl, fun i hi => ?_⟩
    rw [tp_0] at hi
    cases hi
  · rw [z, hk.2, hk2.2]
    refine ⟨rfl, fun i hi => ?_⟩
    rw [tp_0] at hi
    cases hi
theorem tj_start (I : tp_I c o P E N st nm vl pa en kp pa2 tx wd kp2) : tp_I c o P E N 1 nm vl pa en kp pa2 tx wd kp2 := tj_set I (tj_one I.1)
theorem tj_close (I : tp_I c o P E N st nm vl pa en kp pa2 tx wd kp2) (ho : 0 < o) : tp_I c (P o) P E N st nm vl pa en kp pa2 tx wd kp2 := by
  obtain ⟨hW, hX, hM, ⟨h1, h2⟩, hs, hk⟩ := I
  have hp := tw_P hW ho h1
  have hn := tw_nest hW h1 (tw_par hW ho h1)
  have he := (tw_E hW (show P o < c by omega)).2
  exact ⟨hW, hX, hM, ⟨by omega, by omega⟩, hs, hk⟩
theorem tj_keep (I : tp_I c o P E N st nm vl pa en kp pa2 tx wd kp2) (j : Nat) : tp_I c o P E N st nm vl pa en (vp_updL kp j st) pa2 tx wd (vp_updL kp2 j st) := by
  obtain ⟨hW, hX, hM, ho, hs, hk⟩ := I
  refine ⟨hW, hX, hM, ho, hs, fun q hq => ?_⟩
  unfold vp_updL
  by_cases z : q = j
  · rw [if_pos z, if_pos z]; exact ⟨rfl, hs⟩
  · rw [if_neg z, if_neg z]; exact hk q hq
theorem tj_mx {a b : Int64} {kd : Int32} (ha : ∀ i, tp_b a i = true → i < c) (hb : ∀ i, tp_b b i = true → i < c) : ∀ i, tp_b (tp_mx kd a b) i = true → i < c := by
  intro i
  unfold tp_mx
  split
  · rw [tp_and, Bool.and_eq_true]; exact fun z => ha i z.1
  · split
    · rw [tp_or, Bool.or_eq_true]; exact fun z => z.elim (ha i) (hb i)
    · rw [tp_and, Bool.and_eq_true]; exact fun z => ha i z.1
theorem tj_app (I : tp_I c o P E N st nm vl pa en kp pa2 tx wd kp2) (hc : c < 48) {j o2 : Nat} (hj : j ≤ 8) (ho2 : o2 = c ∨ o2 = o) {nw v tv wv : Int32} (hnw : nw = nI j) (htv : tv = if j = 8 then nI 1 else nI 0) (hwv : wv = if j = 8 then v else nI j) {en' : Nat → Int32} (hen : ∀ k, k < c + 1 → en' k = nI (tp_E1 E c o k)) {kq kq2 : Nat → Int64} (hk : kq 0 = 0 ∧ kq 1 = 0) (hk2 : kq2 0 = 0 ∧ kq2 1 = 0) : tp_I (c + 1) o2 (va_up P c o) (tp_E1 E c o) (va_up N c j) 1 (upd nm c nw) (upd vl c v) (upd pa c (nI o)) en' kq (upd pa2 c (nI o)) (upd tx c tv) (upd wd c wv) kq2 := by
  obtain ⟨hW, hX, hM, ⟨ho, hE⟩, hs, -⟩ := I
  have h1 := (tw_c hW).1
  have hW' := tu_wf hW ho hE hc
  have pX := tu_pa (o := o) h1 (fun k hk => (hX k hk).2.2.1)
  have pM := tu_pa (o := o) h1 (fun k hk => (hM k hk).1)
  have ec : va_up N c j c = j := if_pos rfl
  have ek : ∀ k, k ≠ c → va_up N c j k = N k := fun k z => if_neg z
  refine ⟨hW', fun k hk => ?_, fun k hk => ?_, ?_, tj_one hW', tj_kp hk hk2⟩
  · by_cases z : k = c
    · rw [z]
      exact ⟨by rw [pk_us, ec]; exact hnw, by rw [ec]; exact hj, pX _ (by omega), hen _ (by omega)⟩
    · have q := hX k (by omega)
      exact ⟨by rw [pk_un z, ek k z]; exact q.1, by rw [ek k z]; exact q.2.1, pX _ hk, hen _ hk⟩
  · by_cases z : k = c
    · rw [z]
      refine ⟨pM _ (by omega), ?_, ?_, ?_⟩
      · rw [pk_us, ec]; exact htv
      · rw [pk_us, pk_us, ec]; exact hwv
      · rw [ec]; exact hj
    · have q := hM k (by omega)
      refine ⟨pM _ hk, ?_, ?_, ?_⟩
      · rw [pk_un z, ek k z]; exact q.2.1
      · rw [pk_un z, pk_un z, ek k z]; exact q.2.2.1
      · rw [ek k z]; exact q.2.2.2
  · rcases ho2 with z | z
    · rw [z]; exact ⟨by omega, tu_Ec⟩
    · rw [z]; exact ⟨by omega, tu_Eo ho⟩
theorem tj_rem (I : tp_I c o P E N st nm vl pa en kp pa2 tx wd kp2) {d : Nat} {x : Int32} (hg : tp_rg c o E x d) {nm' vl' pa' en' pa2' tx' wd' : Nat → Int32} {kq kq2 : Nat → Int64}
    (hx : ∀ k, k < c - (E d - d) → nm' k = nm (tp_ph d (E d - d) k) ∧ vl' k = vl (tp_ph d (E d - d) k) ∧ pa' k = tp_pa (tp_P2 P d (E d)) k ∧ en' k = nI (tp_E2 E d (E d) k))
    (hm : ∀ k, k < c - (E d - d) → pa2' k = tp_pa (tp_P2 P d (E d)) k ∧ tx' k = tx (tp_ph d (E d - d) k) ∧ wd' k = wd (tp_ph d (E d - d) k)) (hk : kq 0 = 0 ∧ kq 1 = 0) (hk2 : kq2 0 = 0 ∧ kq2 1 = 0) :
    tp_I (c - (E d - d)) (tp_o2 d (E d) o) (tp_P2 P d (E d)) (tp_E2 E d (E d)) (fun k => N (tp_ph d (E d - d) k)) 1 nm' vl' pa' en' kq pa2' tx' wd' kq2 := by
  obtain ⟨hW, hX, hM, ⟨ho, hE⟩, hs, -⟩ := I
  obtain ⟨g1, g2, g3, g4⟩ := hg
  have hW' := tu_wf2 hW g1 g2
  have he := tw_E hW g2
  have hph : ∀ k, k < c - (E d - d) → tp_ph d (E d - d) k < c := by
    intro k hk
    unfold tp_ph
    split <;> omega
  refine ⟨hW', fun k hk => ?_, fun k hk => ?_, tr_o2 hW g2 ho hE g4, tj_one hW', tj_kp hk hk2⟩
  · obtain ⟨a1, a2, a3, a4⟩ := hx k hk
    have q := hX _ (hph k hk)
    exact ⟨by rw [a1]; exact q.1, q.2.1, a3, a4⟩
  · obtain ⟨a1, a2, a3, a4⟩ := hx k hk
    obtain ⟨b1, b2, b3⟩ := hm k hk
    have q := hM _ (hph k hk)
    refine ⟨b1, by rw [b2]; exact q.2.1, ?_, q.2.2.2⟩
    rw [b3, a2]
    exact q.2.2.1
theorem tj_pl {ax t : Nat} {pl : Int} {st' : Int64} (h : ∀ q, tp_b st' q = true ↔ tp_pl c P E N st ax t pl c q) : ∀ i, tp_b st' i = true → i < c := by
  intro i hi
  obtain ⟨j, _, _, h1, _⟩ := (h i).mp hi
  exact (tp_D_iff.mp h1).1
theorem tj_fl {q : Nat → Prop} {st' : Int64} (hs : ∀ i, tp_b st i = true → i < c) (h : ∀ k, tp_b st' k = true ↔ tp_b st k = true ∧ q k) : ∀ i, tp_b st' i = true → i < c := fun i hi => hs i ((h i).mp hi).1
/-- at the start -/
theorem tj_ini : tp_I 1 0 (fun _ => 0) (fun _ => 1) (fun _ => 0) 1 (fun _ => 0) (fun _ => 0) (upd (fun _ => 0) 0 (-1)) (upd (fun _ => 0) 0 (nI 1)) (fun _ => 0) (upd (fun _ => 0) 0 (-1)) (fun _ => 0) (fun _ => 0) (fun _ => 0) := by
  have hW : tp_wf 1 (fun _ => 0) (fun _ => 1) := ⟨⟨by omega, by omega⟩, fun n h0 hn => by omega, fun n hn => (show n < 1 ∧ 1 ≤ 1 from ⟨hn, Nat.le_refl 1⟩), fun n a h0 hn ha => absurd hn (by omega)⟩
  refine ⟨hW, fun k hk => ?_, fun k hk => ?_, ⟨by omega, rfl⟩, tj_one hW, tj_kp ⟨rfl, rfl⟩ ⟨rfl, rfl⟩⟩
  · rw [show k = 0 by omega]
    exact ⟨rfl, Nat.zero_le 8, rfl, rfl⟩
  · rw [show k = 0 by omega]
    exact ⟨rfl, rfl, rfl, Nat.zero_le 8⟩
end TPJ
end
section
/-! rows for the law: the script, two worlds side by side; what the two answers say together -/
section TPL
variable {p : Program} {l : Launch} {e : Env} {R : Room} {s : State} {m : MethodId} {args : Array Value} {below : List Frame} {meth : Method} {c : Code} {H : Heap} {locs : List Loc} {cells slots : Nat} {Q : State → Prop}
variable {cc : ByteArray} {pc : Nat} {ls : Array Slot} {rest : List Value} {D : va_G} {cl : List vw_C} {A A0 : Nat → Prop} {H0 H1 : Heap} {w1 w2 u : va_W}
theorem tp_sld (hexec : p.tables.exec = Jvm.exec) (hb : c.code = cc) {b L : Nat} {xs : Nat → Int32} (hX : va_X b L xs s H0) (hbl : b < H0.size) (hbA : ¬ A b) (hS : va_S A H0 H locs) {j : Nat} (hj : j < L) (hL : L < 2 ^ 31) (hdg : decode cc pc = .ok (.iaload, 1))
    (kk : W p l e R s m args below meth c H locs cells slots Q (F0 m (pc + 1) ls (.int (xs j) :: rest))) : W p l e R s m args below meth c H locs cells slots Q (F0 m pc ls (.int (nI j) :: .ref b :: rest)) := by
  refine va_sld hexec hb hX hbl hbA hS (vp_in_nI hj hL) hdg ?_
  rw [nI_clamp (by omega)]
  exact kk
theorem tp_il {k : Nat} {q : Nat × va_E} (hk : w1[k]? = some q) : (w1 ++ w2)[k]? = some q := by
  rw [List.getElem?_append_left (List.getElem?_eq_some_iff.mp hk).1]; exact hk
theorem tp_ir {k : Nat} {q : Nat × va_E} (hk : w2[k]? = some q) : (w1 ++ w2)[w1.length + k]? = some q := by
  rw [List.getElem?_append_right (by omega), Nat.add_sub_cancel_left]; exact hk
theorem tp_left (hP : va_P D cl (w1 ++ w2) H) : va_P D cl w1 H := fun k q hk => hP k q (tp_il hk)
theorem tp_right (hP : va_P D cl (w1 ++ w2) H) : va_P D cl w2 H := fun k q hk => hP (w1.length + k) q (tp_ir hk)
theorem tp_dl (hD : va_D A (w1 ++ w2)) : va_D A w1 := ⟨fun i j x y hi hj hxy => hD.1 i j x y (tp_il hi) (tp_il hj) hxy, fun k q hk => hD.2 k q (tp_il hk)⟩
theorem tp_dr (hD : va_D A (w1 ++ w2)) : va_D A w2 := ⟨fun i j x y hi hj hxy => by
  have := hD.1 (w1.length + i) (w1.length + j) x y (tp_ir hi) (tp_ir hj) hxy
  omega, fun k q hk => hD.2 _ q (tp_ir hk)⟩
theorem tp_dx (hD : va_D A (w1 ++ w2)) : ∀ (i j : Nat) (x y : Nat × va_E), w1[i]? = some x → w2[j]? = some y → x.1 ≠ y.1 := fun i j x y hi hj hxy => by
  have h1 := hD.1 i (w1.length + j) x y (tp_il hi) (tp_ir hj) hxy
  have h2 := (List.getElem?_eq_some_iff.mp hi).1
  omega
theorem tp_sw (hP : va_P D cl (w1 ++ w2) H) (hD : va_D A (w1 ++ w2)) : va_P D cl (w2 ++ w1) H ∧ va_D A (w2 ++ w1) := ⟨va_P.app (tp_right hP) (tp_left hP), va_D.app (tp_dr hD) (tp_dl hD) (fun i j x y hi hj hxy => tp_dx hD j i y x hj hi hxy.symm)⟩
theorem tp_fr (hD : va_D A0 w1) (hS : va_S A0 H0 H locs) (hA : ∀ q, H0.size ≤ q → A0 q) : ∀ q, va_A w1 H.size q → A0 q := by
  intro q h
  rcases h with ⟨k, e, h⟩ | h
  · exact hD.2 k (q, e) h
  · exact hA q (Nat.le_trans hS.1 h)
/-- behind a call: the callee's cells were the first ones; they come last -/
theorem tp_jo (hP : va_P D cl (w1 ++ w2) H) (hD : va_D A0 (w1 ++ w2)) (hk : ∀ q : Nat, q < H.size → ¬ va_A w1 H.size q → H1[q]? = H[q]?) (hF : ∀ q, va_A w1 H.size q → A0 q) (hP1 : va_P D cl u H1) (hD1 : va_D (va_A w1 H.size) u) : va_P D cl (w2 ++ u) H1 ∧ va_D A0 (w2 ++ u) := by
  have apart : ∀ (k : Nat) (q : Nat × va_E), w2[k]? = some q → q.1 < H.size ∧ ¬ va_A w1 H.size q.1 := by
    intro k q hq
    have hl := (tp_right hP k q hq).lt
    refine ⟨hl, fun z => ?_⟩
    rcases z with ⟨k2, e, z⟩ | z
    · exact tp_dx hD k2 k (q.1, e) q z hq rfl
    · omega
  refine ⟨va_P.app (fun k q hq => (tp_right hP k q hq).kept (hk q.1 (apart k q hq).1 (apart k q hq).2)) hP1, va_D.app (tp_dr hD) (hD1.weaken (fun k q _ z => hF q.1 z)) (fun i j x y hx hy hxy => (apart i x hx).2 (by rw [hxy]; exact hD1.2 j y hy))⟩
theorem tp_psm {tys : List (ClassId × FieldType)} {As : List Value} (hK : va_K D cl tys s) (hP : va_P D cl w1 H) (hD : va_D A w1) : PreS s H (va_Pc As (fun U => U.heap.size = H.size ∧ va_P D cl w1 U.heap ∧ va_K D cl tys U ∧ va_D (fun _ => True) w1)) As :=
  ⟨fun a U g mk q => by
    obtain ⟨q0, q1, qP, qK, qD⟩ := q
    exact ⟨q0, q1, qP, va_K.moved (u := U) (U := U.calling g mk a) (Vm.Alike.refl U.vm) qK, qD⟩, fun U hU hW => ⟨rfl, by rw [hU], by rw [hU]; exact hP, va_K.moved hW.alike hK, hD.weaken (fun _ _ _ _ => trivial)⟩⟩
end TPL
section TPG
variable {c o : Nat} {P E N : Nat → Nat} {st : Int64} {nm vl pa en : Nat → Int32} {kp : Nat → Int64} {pa2 tx wd : Nat → Int32} {kp2 : Nat → Int64} {dA dJ dZ : ClassId} {h : Nat → Nat} {u1 u2 : va_W} {r1 r2 : Int32}
theorem tj_mk (I : tp_I c o P E N st nm vl pa en kp pa2 tx wd kp2) (h1 : u1 = tp_wX dA dJ h (nI c) (nI o) st nm vl pa en kp) (h2 : u2 = tp_wM dA dJ dZ h (nI c) (nI o) st pa2 tx wd kp2) : tp_J dA dJ dZ h u1 u2 := ⟨c, o, P, E, N, st, nm, vl, pa, en, kp, pa2, tx, wd, kp2, I, h1, h2⟩
theorem tj_n10 {a b : Nat} {x : Int32} (ha : a ≤ 10) (hb : b ≤ 10) (h1 : x = nI a) (h2 : x = nI b) : a = b := (nI_eq (by omega) (by omega)).mp (h1.symm.trans h2)

theorem tj_open (I : tp_I c o P E N st nm vl pa en kp pa2 tx wd kp2) {x : Int32} (h1 : (c = 48 ∧ r1 = -1 ∧ u1 = tp_wX dA dJ h (nI c) (nI o) st nm vl pa en kp) ∨ (c < 48 ∧ r1 = nI (c + 1) ∧ ∃ en' kp', u1 = tp_wX dA dJ h (nI (c + 1)) (nI c) 1 (upd nm c (x &&& nI 7)) (upd vl c (nI 0)) (upd pa c (nI o)) en' kp' ∧ (∀ k, k < c + 1 → en' k = nI (tp_E1 E c o k)) ∧ kp' 0 = 0 ∧ kp' 1 = 0)) (h2 : (c = 48 ∧ r2 = -1 ∧ u2 = tp_wM dA dJ dZ h (nI c) (nI o) st pa2 tx wd kp2) ∨ (c < 48 ∧ r2 = nI (c + 1) ∧ ∃ kp', u2 = tp_wM dA dJ dZ h (nI (c + 1)) (nI c) 1 (upd pa2 c (nI o)) (upd tx c (nI 0)) (upd wd c (x &&& nI 7)) kp' ∧ kp' 0 = 0 ∧ kp' 1 = 0)) : r1 = r2 ∧ tp_J dA dJ dZ h u1 u2 := by
  rcases h1 with ⟨a1, a2, a3⟩ | ⟨a1, a2, en', kq, a3, a4, a5, a6⟩ <;> rcases h2 with ⟨b1, b2, b3⟩ | ⟨b1, b2, kq2, b3, b5, b6⟩
  · exact ⟨a2.trans b2.symm, tj_mk I a3 b3⟩
  · omega
  · omega
  · obtain ⟨j, hj, ej⟩ := tp_and7 x
    exact ⟨a2.trans b2.symm, tj_mk (tj_app I a1 (j := j) (by omega) (Or.inl rfl) ej (by rw [if_neg (by omega)]) (by rw [if_neg (by omega)]; exact ej) a4 ⟨a5, a6⟩ ⟨b5, b6⟩) a3 b3⟩

theorem tj_text (I : tp_I c o P E N st nm vl pa en kp pa2 tx wd kp2) {x : Int32} (h1 : (c = 48 ∧ r1 = -1 ∧ u1 = tp_wX dA dJ h (nI c) (nI o) st nm vl pa en kp) ∨ (c < 48 ∧ r1 = nI (c + 1) ∧ ∃ en' kp', u1 = tp_wX dA dJ h (nI (c + 1)) (nI o) 1 (upd nm c (nI 8)) (upd vl c (x)) (upd pa c (nI o)) en' kp' ∧ (∀ k, k < c + 1 → en' k = nI (tp_E1 E c o k)) ∧ kp' 0 = 0 ∧ kp' 1 = 0)) (h2 : (c = 48 ∧ r2 = -1 ∧ u2 = tp_wM dA dJ dZ h (nI c) (nI o) st pa2 tx wd kp2) ∨ (c < 48 ∧ r2 = nI (c + 1) ∧ ∃ kp', u2 = tp_wM dA dJ dZ h (nI (c + 1)) (nI o) 1 (upd pa2 c (nI o)) (upd tx c (nI 1)) (upd wd c (x)) kp' ∧ kp' 0 = 0 ∧ kp' 1 = 0)) : r1 = r2 ∧ tp_J dA dJ dZ h u1 u2 := by
  rcases h1 with ⟨a1, a2, a3⟩ | ⟨a1, a2, en', kq, a3, a4, a5, a6⟩ <;> rcases h2 with ⟨b1, b2, b3⟩ | ⟨b1, b2, kq2, b3, b5, b6⟩
  · exact ⟨a2.trans b2.symm, tj_mk I a3 b3⟩
  · omega
  · omega
  · exact ⟨a2.trans b2.symm, tj_mk (tj_app I a1 (j := 8) (by omega) (Or.inr rfl) rfl (by rw [if_pos rfl]) (by rw [if_pos rfl]) a4 ⟨a5, a6⟩ ⟨b5, b6⟩) a3 b3⟩

theorem tj_close2 (I : tp_I c o P E N st nm vl pa en kp pa2 tx wd kp2)  (h1 : (o = 0 ∧ r1 = -1 ∧ u1 = tp_wX dA dJ h (nI c) (nI o) st nm vl pa en kp) ∨ (0 < o ∧ r1 = nI 0 ∧ u1 = tp_wX dA dJ h (nI c) (nI (P o)) st nm vl pa en kp)) (h2 : (o = 0 ∧ r2 = -1 ∧ u2 = tp_wM dA dJ dZ h (nI c) (nI o) st pa2 tx wd kp2) ∨ (0 < o ∧ r2 = nI 0 ∧ u2 = tp_wM dA dJ dZ h (nI c) (nI (P o)) st pa2 tx wd kp2)) : r1 = r2 ∧ tp_J dA dJ dZ h u1 u2 := by
  rcases h1 with ⟨a1, a2, a3⟩ | ⟨a1, a2, a3⟩ <;> rcases h2 with ⟨b1, b2, b3⟩ | ⟨b1, b2, b3⟩
  · exact ⟨a2.trans b2.symm, tj_mk I a3 b3⟩
  · omega
  · omega
  · exact ⟨a2.trans b2.symm, tj_mk (tj_close I a1) a3 b3⟩

theorem tj_remove (I : tp_I c o P E N st nm vl pa en kp pa2 tx wd kp2) {x : Int32} (h1 : (tp_rb c o E x ∧ r1 = -1 ∧ u1 = tp_wX dA dJ h (nI c) (nI o) st nm vl pa en kp) ∨ (∃ d, tp_rg c o E x d ∧ r1 = nI (c - (E d - d)) ∧ ∃ nm' vl' pa' en' kp', u1 = tp_wX dA dJ h (nI (c - (E d - d))) (nI (tp_o2 d (E d) o)) 1 nm' vl' pa' en' kp' ∧ (∀ k, k < c - (E d - d) → nm' k = nm (tp_ph d (E d - d) k) ∧ vl' k = vl (tp_ph d (E d - d) k) ∧ pa' k = tp_pa (tp_P2 P d (E d)) k ∧ en' k = nI (tp_E2 E d (E d) k)) ∧ kp' 0 = 0 ∧ kp' 1 = 0)) (h2 : (tp_rb c o E x ∧ r2 = -1 ∧ u2 = tp_wM dA dJ dZ h (nI c) (nI o) st pa2 tx wd kp2) ∨ (∃ d, tp_rg c o E x d ∧ r2 = nI (c - (E d - d)) ∧ ∃ pa' tx' wd' kp', u2 = tp_wM dA dJ dZ h (nI (c - (E d - d))) (nI (tp_o2 d (E d) o)) 1 pa' tx' wd' kp' ∧ (∀ k, k < c - (E d - d) → pa' k = tp_pa (tp_P2 P d (E d)) k ∧ tx' k = tx (tp_ph d (E d - d) k) ∧ wd' k = wd (tp_ph d (E d - d) k)) ∧ kp' 0 = 0 ∧ kp' 1 = 0)) : r1 = r2 ∧ tp_J dA dJ dZ h u1 u2 := by
  have hc := (tw_c I.1).2
  rcases h1 with ⟨a1, a2, a3⟩ | ⟨d, a1, a2, nm', vl', pa', en', kq, a3, a4, a5, a6⟩ <;> rcases h2 with ⟨b1, b2, b3⟩ | ⟨d2, b1, b2, pq, tq, wq, kq2, b3, b4, b5, b6⟩
  · exact ⟨a2.trans b2.symm, tj_mk I a3 b3⟩
  · exact (tr_no hc b1 a1).elim
  · exact (tr_no hc a1 b1).elim
  · have hd := tr_uq hc a1 b1
    subst hd
    exact ⟨a2.trans b2.symm, tj_mk (tj_rem I a1 a4 b4 ⟨a5, a6⟩ ⟨b5, b6⟩) a3 b3⟩

theorem tj_start2 (I : tp_I c o P E N st nm vl pa en kp pa2 tx wd kp2)  (h1 : u1 = tp_wX dA dJ h (nI c) (nI o) 1 nm vl pa en kp) (h2 : u2 = tp_wM dA dJ dZ h (nI c) (nI o) 1 pa2 tx wd kp2) : tp_J dA dJ dZ h u1 u2 := by
  exact tj_mk (tj_start I) h1 h2

theorem tj_step (I : tp_I c o P E N st nm vl pa en kp pa2 tx wd kp2) {ia it ip : Int32} (h1 : ((ia < 0 ∨ nI 10 < ia ∨ it < 0 ∨ nI 10 < it ∨ ip < -48 ∨ nI 48 < ip) ∧ r1 = -1 ∧ u1 = tp_wX dA dJ h (nI c) (nI o) st nm vl pa en kp) ∨ (¬ (ia < 0 ∨ nI 10 < ia ∨ it < 0 ∨ nI 10 < it ∨ ip < -48 ∨ nI 48 < ip) ∧ ∃ ax t st', ax ≤ 10 ∧ t ≤ 10 ∧ ia = nI ax ∧ it = nI t ∧ (∀ q, tp_b st' q = true ↔ tp_pl c P E N st ax t ip.toInt c q) ∧ r1 = nI (tp_c (tp_b st') 48) ∧ u1 = tp_wX dA dJ h (nI c) (nI o) st' nm vl pa en kp)) (h2 : ((ia < 0 ∨ nI 10 < ia ∨ it < 0 ∨ nI 10 < it ∨ ip < -48 ∨ nI 48 < ip) ∧ r2 = -1 ∧ u2 = tp_wM dA dJ dZ h (nI c) (nI o) st pa2 tx wd kp2) ∨ (¬ (ia < 0 ∨ nI 10 < ia ∨ it < 0 ∨ nI 10 < it ∨ ip < -48 ∨ nI 48 < ip) ∧ ∃ ax t st', ax ≤ 10 ∧ t ≤ 10 ∧ ia = nI ax ∧ it = nI t ∧ (∀ q, tp_b st' q = true ↔ tp_pl c P E N st ax t ip.toInt c q) ∧ r2 = nI (tp_c (tp_b st') 48) ∧ u2 = tp_wM dA dJ dZ h (nI c) (nI o) st' pa2 tx wd kp2)) : r1 = r2 ∧ tp_J dA dJ dZ h u1 u2 := by
  rcases h1 with ⟨a1, a2, a3⟩ | ⟨a1, ax, t, st1, a2, a3, a4, a5, a6, a7, a8⟩ <;> rcases h2 with ⟨b1, b2, b3⟩ | ⟨b1, ax2, t2, st2, b2, b3, b4, b5, b6, b7, b8⟩
  · exact ⟨a2.trans b2.symm, tj_mk I a3 b3⟩
  · exact absurd a1 b1
  · exact absurd b1 a1
  · have e1 := tj_n10 a2 b2 a4 b4
    have e2 := tj_n10 a3 b3 a5 b5
    subst e1
    subst e2
    have e3 : st1 = st2 := tp_ext' (fun q => (a6 q).trans (b6 q).symm)
    subst e3
    exact ⟨a7.trans b7.symm, tj_mk (tj_set I (tj_pl a6)) a8 b8⟩

theorem tj_having (I : tp_I c o P E N st nm vl pa en kp pa2 tx wd kp2) {ia it : Int32} {w : Nat} (h1 : ((ia < 0 ∨ nI 10 < ia ∨ it < 0 ∨ nI 10 < it) ∧ r1 = -1 ∧ u1 = tp_wX dA dJ h (nI c) (nI o) st nm vl pa en kp) ∨ (¬ (ia < 0 ∨ nI 10 < ia ∨ it < 0 ∨ nI 10 < it) ∧ ∃ ax t st', ax ≤ 10 ∧ t ≤ 10 ∧ ia = nI ax ∧ it = nI t ∧ (∀ q, tp_b st' q = true ↔ tp_b st q = true ∧ (tp_hv c P E N ax t q ↔ w = 1)) ∧ r1 = nI (tp_c (tp_b st') 48) ∧ u1 = tp_wX dA dJ h (nI c) (nI o) st' nm vl pa en kp)) (h2 : ((ia < 0 ∨ nI 10 < ia ∨ it < 0 ∨ nI 10 < it) ∧ r2 = -1 ∧ u2 = tp_wM dA dJ dZ h (nI c) (nI o) st pa2 tx wd kp2) ∨ (¬ (ia < 0 ∨ nI 10 < ia ∨ it < 0 ∨ nI 10 < it) ∧ ∃ ax t st', ax ≤ 10 ∧ t ≤ 10 ∧ ia = nI ax ∧ it = nI t ∧ (∀ q, tp_b st' q = true ↔ tp_b st q = true ∧ (tp_hv c P E N ax t q ↔ w = 1)) ∧ r2 = nI (tp_c (tp_b st') 48) ∧ u2 = tp_wM dA dJ dZ h (nI c) (nI o) st' pa2 tx wd kp2)) : r1 = r2 ∧ tp_J dA dJ dZ h u1 u2 := by
  rcases h1 with ⟨a1, a2, a3⟩ | ⟨a1, ax, t, st1, a2, a3, a4, a5, a6, a7, a8⟩ <;> rcases h2 with ⟨b1, b2, b3⟩ | ⟨b1, ax2, t2, st2, b2, b3, b4, b5, b6, b7, b8⟩
  · exact ⟨a2.trans b2.symm, tj_mk I a3 b3⟩
  · exact absurd a1 b1
  · exact absurd b1 a1
  · have e1 := tj_n10 a2 b2 a4 b4
    have e2 := tj_n10 a3 b3 a5 b5
    subst e1
    subst e2
    have e3 : st1 = st2 := tp_ext' (fun q => (a6 q).trans (b6 q).symm)
    subst e3
    exact ⟨a7.trans b7.symm, tj_mk (tj_set I (tj_fl I.2.2.2.2.1 a6)) a8 b8⟩

theorem tj_valued (I : tp_I c o P E N st nm vl pa en kp pa2 tx wd kp2) {lo hi0 : Int32} (h1 : ∃ st', (∀ q, tp_b st' q = true ↔ tp_b st q = true ∧ tp_gv c E N vl lo hi0 q) ∧ r1 = nI (tp_c (tp_b st') 48) ∧ u1 = tp_wX dA dJ h (nI c) (nI o) st' nm vl pa en kp) (h2 : ∃ st', (∀ q, tp_b st' q = true ↔ tp_b st q = true ∧ tp_gv c E N vl lo hi0 q) ∧ r2 = nI (tp_c (tp_b st') 48) ∧ u2 = tp_wM dA dJ dZ h (nI c) (nI o) st' pa2 tx wd kp2) : r1 = r2 ∧ tp_J dA dJ dZ h u1 u2 := by
  obtain ⟨st1, a6, a7, a8⟩ := h1
  obtain ⟨st2, b6, b7, b8⟩ := h2
  have e3 : st1 = st2 := tp_ext' (fun q => (a6 q).trans (b6 q).symm)
  subst e3
  exact ⟨a7.trans b7.symm, tj_mk (tj_set I (tj_fl I.2.2.2.2.1 a6)) a8 b8⟩

theorem tj_keep2 (I : tp_I c o P E N st nm vl pa en kp pa2 tx wd kp2) {sl : Int32} (h1 : ∃ j, j < 2 ∧ sl &&& nI 1 = nI j ∧ u1 = tp_wX dA dJ h (nI c) (nI o) st nm vl pa en (vp_updL kp j st)) (h2 : ∃ j, j < 2 ∧ sl &&& nI 1 = nI j ∧ u2 = tp_wM dA dJ dZ h (nI c) (nI o) st pa2 tx wd (vp_updL kp2 j st)) : tp_J dA dJ dZ h u1 u2 := by
  obtain ⟨j, a1, a2, a3⟩ := h1
  obtain ⟨j2, b1, b2, b3⟩ := h2
  have e1 := tj_n10 (by omega) (by omega) a2 b2
  subst e1
  exact tj_mk (tj_keep I j) a3 b3

theorem tj_mix (I : tp_I c o P E N st nm vl pa en kp pa2 tx wd kp2) {sl kd : Int32} (h1 : ((kd < 0 ∨ nI 2 < kd) ∧ r1 = -1 ∧ u1 = tp_wX dA dJ h (nI c) (nI o) st nm vl pa en kp) ∨ (¬ (kd < 0 ∨ nI 2 < kd) ∧ ∃ j, j < 2 ∧ sl &&& nI 1 = nI j ∧ r1 = nI (tp_c (tp_b (tp_mx kd st (kp j))) 48) ∧ u1 = tp_wX dA dJ h (nI c) (nI o) (tp_mx kd st (kp j)) nm vl pa en kp)) (h2 : ((kd < 0 ∨ nI 2 < kd) ∧ r2 = -1 ∧ u2 = tp_wM dA dJ dZ h (nI c) (nI o) st pa2 tx wd kp2) ∨ (¬ (kd < 0 ∨ nI 2 < kd) ∧ ∃ j, j < 2 ∧ sl &&& nI 1 = nI j ∧ r2 = nI (tp_c (tp_b (tp_mx kd st (kp2 j))) 48) ∧ u2 = tp_wM dA dJ dZ h (nI c) (nI o) (tp_mx kd st (kp2 j)) pa2 tx wd kp2)) : r1 = r2 ∧ tp_J dA dJ dZ h u1 u2 := by
  rcases h1 with ⟨a1, a2, a3⟩ | ⟨a1, j, a2, a3, a4, a5⟩ <;> rcases h2 with ⟨b1, b2, b3⟩ | ⟨b1, j2, b2, b3, b4, b5⟩
  · exact ⟨a2.trans b2.symm, tj_mk I a3 b3⟩
  · exact absurd a1 b1
  · exact absurd b1 a1
  · have e1 := tj_n10 (by omega) (by omega) a3 b3
    subst e1
    have hk := I.2.2.2.2.2 j a2
    rw [hk.1] at b4 b5
    exact ⟨a4.trans b4.symm, tj_mk (tj_set I (tj_mx I.2.2.2.2.1 hk.2)) a5 b5⟩

end TPG
end
section
/-! THE CLAIM OUT OF ONE WALK OF THE LAW'S BODY. Your part is whole_start (and what it stands on); all else here is the same for every law, but numbers. -/
def R_law : String := "TreePathsLaw"
def lw_P (b : Addr) (xs : List Int32) (args : Array Value) (s : State) : Prop := args = #[.ref b] ∧ s.IntsAt b xs ∧ xs.length ≤ 256 ∧ (Jvm.Cond.and given_1 narrow_1).before args s = true
def lw_Q (_ : Array Value) (s : State) (o : Outcome) (t : State) : Prop := o = .returned (some (.int 1)) ∧ Framed s o t [] 600000 7290000
def lw_Z (below : List Frame) (a : Array Value) (s : State) : State → Prop := fun t => ∃ o, t.status = .running ∧ Ended t below o ∧ lw_Q a s o t
/-- the law's own end, with 1 on the stack, nothing written that was there before, its room as the claim has it -/
theorem lw_ret {p : Program} {l : Launch} {e : Env} {s : State} {m : MethodId} {below : List Frame} {meth : Method} {c : Code} {b : Nat} (hx : p.tables.exec = Jvm.exec) (hb : c.code = code) (hr : meth.sig.returnType = ret) (hlocks : meth.locks = false) {pc : Nat} {H : Heap} {ls : Array Slot} (hdg : decode code pc = .ok (.ireturn, 1)) : W p l e room_1 s m #[Value.ref b] below meth c H [] 600000 7290000 (lw_Z below #[Value.ref b] s) (F0 m pc ls [.int 1]) := by
  intro T hT X
  obtain ⟨fs, hret, hrun, hended, hW, hframe⟩ := X.leave (v := some (.int 1)) (hlocks := hlocks) (fun h => by rw [hr] at h; cases h)
  have hmeth' : T.vm.method? m = some meth := X.method'
  refine ⟨T.setFrames fs, ?_, .returned (some (.int 1)), hrun, hended, rfl, ⟨_, rfl⟩, hW, hframe⟩
  jvm_step X.here [X.here.top, hx, hb, hdg, hmeth', hr, ret, narrow_b1]
  (try refine ⟨rfl, ?_⟩); (try refine ⟨rfl, ?_⟩)
  first | (intro acts; rw [hret _ acts rfl rfl rfl]) | rw [hret _ _ rfl rfl rfl]
  exact Steps.refl _
/-- what holds at the law's entry: the machine, the code, the tables' words (any of lw_tbl by 'hts w (by decide +kernel)'), the script of L ints xs at the cell b, what the Statement gives of the start (any of its parts by flat_of_before) -/
def lw_At (p : Program) (s : State) (m : MethodId) (meth : Method) (c : Code) (b L : Nat) (xs : Nat → Int32) : Prop :=
  p.tables.exec = Jvm.exec ∧ c.code = code ∧ meth.sig.returnType = ret ∧ c.maxLocals = 4 ∧ s.vm.findClass R_law = some m.cls ∧ (∀ w ∈ lw_tbl, w.before #[Value.ref b] s = true) ∧ va_X b L xs s s.heap ∧ b < s.heap.size ∧ meth.locks = false ∧ (Jvm.Cond.and given_1 narrow_1).before #[Value.ref b] s = true
end
section
/-! the law: a case each -/
abbrev lc_A (s : State) : Nat → Prop := fun q => s.heap.size ≤ q
set_option maxHeartbeats 4000000 in
set_option maxRecDepth 100000 in
theorem lc_open {p : Program} {l : Launch} {e : Env} {s : State} {m : MethodId} {below : List Frame} {meth : Method} {c0 : Code} {b L : Nat} {xs : Nat → Int32} {D : va_G} {dA dJ dZ : ClassId} (hL : L ≤ 256) (C0 : lw_At p s m meth c0 b L xs) (hK : va_K D tp_cl (tp_ty dA dJ dZ) s) {i : Nat} (hi : i + 4 ≤ L) {h : Nat → Nat} {wx wm : va_W} (J : tp_J dA dJ dZ h wx wm) {H : Heap} {locs : List Loc} (hP : va_P D tp_cl (wx ++ wm) H) (hD : va_D (lc_A s) (wx ++ wm)) (hS : va_S (lc_A s) s.heap H locs) {ls : Array Slot} (hl : lv_has ls 4 [(0, .ref b), (1, .ref (h 0)), (2, .ref (h 6)), (3, .int (nI i))])
    (kk : ∀ (wx' wm' : va_W) (H' : Heap) (locs' : List Loc), tp_J dA dJ dZ h wx' wm' → va_P D tp_cl (wx' ++ wm') H' → va_D (lc_A s) (wx' ++ wm') → va_S (lc_A s) s.heap H' locs' → W p l e room_1 s m #[Value.ref b] below meth c0 H' locs' 11 355 (lw_Z below #[Value.ref b] s) (F0 m 414 ls [])) : W p l e room_1 s m #[Value.ref b] below meth c0 H locs 11 355 (lw_Z below #[Value.ref b] s) (F0 m 96 ls []) := by
  obtain ⟨hx, hb, hr, hml, hown, hts0, hX0, hbl, hlocks, -⟩ := id C0
  have hts : ∀ w ∈ lw_all, w.before #[Value.ref b] s = true := fun w z => hts0 w (lw_all_tbl z)
  have hA : ∀ q : Nat, s.heap.size ≤ q → lc_A s q := fun _ z => z
  have hbA : ¬ lc_A s b := Nat.not_le.mpr hbl
  obtain ⟨c, o, P, E, N, st, nm, vl, pa, en, kp, pa2, tx, wd, kp2, I, rfl, rfl⟩ := J
  obtain ⟨hW, hX, hM, ⟨ho, hE⟩, hs, -⟩ := id I
  have hc := tw_c hW
  refine lv_aload_n hx hb dL_law_96 rfl (lv_at hl 1 rfl) ?_
  refine lv_aload_n hx hb dL_law_97 rfl (lv_at hl 0 rfl) ?_
  refine lv_iload_n hx hb dL_law_98 rfl (lv_at hl 3 rfl) ?_
  refine lv_iconst (v := nI 1) hx hb dL_law_99 (by decide) ?_
  refine lv_iadd hx hb dL_law_100 ?_
  refine tp_ti (nI_add i 1) ?_
  refine tp_sld hx hb hX0 hbl hbA hS (j := i + 1) (by omega) (by omega) dL_law_101 ?_
  have hF1 := tp_fr (tp_dl hD) hS hA
  refine va_calli (va_runV (As := [.int (xs (i + 1))]) (rest := []) ⟨hx, hb, hml, hown, hts⟩ (met_open l D dA dJ dZ h st nm vl pa en kp (xs (i + 1)) H.size hW hX ho hE) (cwV 1 hts (lw_V q57 q58 q59 q20 q60) rfl rfl rfl (by decide +kernel) ⟨Nat.le_of_ble_eq_true rfl, Nat.le_of_ble_eq_true rfl⟩) (tp_pvm hK (tp_left hP) (tp_dl hD) (ci := 0) (q0 := 0) rfl rfl) rfl rfl hl.1 rfl (lv_room (Nat.le_of_ble_eq_true rfl)) dL_law_102 ⟨Nat.le_of_ble_eq_true rfl, Nat.le_of_ble_eq_true rfl⟩) hS (fun q _ z => hF1 q z) hF1 (fun r1 u1 t1 H1 locs1 ht1 hvm1 hw1 hB1 hz1 hk1 hS => ?_)
  obtain ⟨hP1, hK1, hD1⟩ := hB1
  rw [ht1] at hP1
  obtain ⟨hP, hD⟩ := tp_jo hP hD hk1 hF1 hP1 hD1
  refine lv_aload_n hx hb dL_law_105 rfl (lv_at hl 2 rfl) ?_
  refine lv_aload_n hx hb dL_law_106 rfl (lv_at hl 0 rfl) ?_
  refine lv_iload_n hx hb dL_law_107 rfl (lv_at hl 3 rfl) ?_
  refine lv_iconst (v := nI 1) hx hb dL_law_108 (by decide) ?_
  refine lv_iadd hx hb dL_law_109 ?_
  refine tp_ti (nI_add i 1) ?_
  refine tp_sld hx hb hX0 hbl hbA hS (j := i + 1) (by omega) (by omega) dL_law_110 ?_
  have hF2 := tp_fr (tp_dl hD) hS hA
  refine va_calli (va_runV (As := [.int (xs (i + 1))]) (rest := [.int r1]) ⟨hx, hb, hml, hown, hts⟩ (mem_open l D dA dJ dZ h st pa2 tx wd kp2 (cN := c) (oN := o) (xs (i + 1)) H1.size hc.2) (cwV 1 hts (lw_V q192 q193 q194 q21 q195) rfl rfl rfl (by decide +kernel) ⟨Nat.le_of_ble_eq_true rfl, Nat.le_of_ble_eq_true rfl⟩) (tp_pvm hK (tp_left hP) (tp_dl hD) (ci := 1) (q0 := 0) rfl rfl) rfl rfl hl.1 rfl (lv_room (Nat.le_of_ble_eq_true rfl)) dL_law_111 ⟨Nat.le_of_ble_eq_true rfl, Nat.le_of_ble_eq_true rfl⟩) hS (fun q _ z => hF2 q z) hF2 (fun r2 u2 t2 H2 locs2 ht2 hvm2 hw2 hB2 hz2 hk2 hS => ?_)
  obtain ⟨hP2, hK2, hD2⟩ := hB2
  rw [ht2] at hP2
  obtain ⟨hP, hD⟩ := tp_jo hP hD hk2 hF2 hP2 hD2
  obtain ⟨e12, J2⟩ := tj_open I hw1 hw2
  refine lv_icmp_eq (tgt := 414) hx hb dL_law_114 (by decide) (fun _ => ?_) (fun z => absurd e12 z)
  exact kk _ _ _ _ J2 hP hD hS

set_option maxHeartbeats 4000000 in
set_option maxRecDepth 100000 in
theorem lc_text {p : Program} {l : Launch} {e : Env} {s : State} {m : MethodId} {below : List Frame} {meth : Method} {c0 : Code} {b L : Nat} {xs : Nat → Int32} {D : va_G} {dA dJ dZ : ClassId} (hL : L ≤ 256) (C0 : lw_At p s m meth c0 b L xs) (hK : va_K D tp_cl (tp_ty dA dJ dZ) s) {i : Nat} (hi : i + 4 ≤ L) {h : Nat → Nat} {wx wm : va_W} (J : tp_J dA dJ dZ h wx wm) {H : Heap} {locs : List Loc} (hP : va_P D tp_cl (wx ++ wm) H) (hD : va_D (lc_A s) (wx ++ wm)) (hS : va_S (lc_A s) s.heap H locs) {ls : Array Slot} (hl : lv_has ls 4 [(0, .ref b), (1, .ref (h 0)), (2, .ref (h 6)), (3, .int (nI i))])
    (kk : ∀ (wx' wm' : va_W) (H' : Heap) (locs' : List Loc), tp_J dA dJ dZ h wx' wm' → va_P D tp_cl (wx' ++ wm') H' → va_D (lc_A s) (wx' ++ wm') → va_S (lc_A s) s.heap H' locs' → W p l e room_1 s m #[Value.ref b] below meth c0 H' locs' 11 355 (lw_Z below #[Value.ref b] s) (F0 m 414 ls [])) : W p l e room_1 s m #[Value.ref b] below meth c0 H locs 11 355 (lw_Z below #[Value.ref b] s) (F0 m 119 ls []) := by
  obtain ⟨hx, hb, hr, hml, hown, hts0, hX0, hbl, hlocks, -⟩ := id C0
  have hts : ∀ w ∈ lw_all, w.before #[Value.ref b] s = true := fun w z => hts0 w (lw_all_tbl z)
  have hA : ∀ q : Nat, s.heap.size ≤ q → lc_A s q := fun _ z => z
  have hbA : ¬ lc_A s b := Nat.not_le.mpr hbl
  obtain ⟨c, o, P, E, N, st, nm, vl, pa, en, kp, pa2, tx, wd, kp2, I, rfl, rfl⟩ := J
  obtain ⟨hW, hX, hM, ⟨ho, hE⟩, hs, -⟩ := id I
  have hc := tw_c hW
  refine lv_aload_n hx hb dL_law_119 rfl (lv_at hl 1 rfl) ?_
  refine lv_aload_n hx hb dL_law_120 rfl (lv_at hl 0 rfl) ?_
  refine lv_iload_n hx hb dL_law_121 rfl (lv_at hl 3 rfl) ?_
  refine lv_iconst (v := nI 1) hx hb dL_law_122 (by decide) ?_
  refine lv_iadd hx hb dL_law_123 ?_
  refine tp_ti (nI_add i 1) ?_
  refine tp_sld hx hb hX0 hbl hbA hS (j := i + 1) (by omega) (by omega) dL_law_124 ?_
  have hF1 := tp_fr (tp_dl hD) hS hA
  refine va_calli (va_runV (As := [.int (xs (i + 1))]) (rest := []) ⟨hx, hb, hml, hown, hts⟩ (met_text l D dA dJ dZ h st nm vl pa en kp (xs (i + 1)) H.size hW hX ho hE) (cwV 1 hts (lw_V q69 q70 q71 q20 q72) rfl rfl rfl (by decide +kernel) ⟨Nat.le_of_ble_eq_true rfl, Nat.le_of_ble_eq_true rfl⟩) (tp_pvm hK (tp_left hP) (tp_dl hD) (ci := 0) (q0 := 0) rfl rfl) rfl rfl hl.1 rfl (lv_room (Nat.le_of_ble_eq_true rfl)) dL_law_125 ⟨Nat.le_of_ble_eq_true rfl, Nat.le_of_ble_eq_true rfl⟩) hS (fun q _ z => hF1 q z) hF1 (fun r1 u1 t1 H1 locs1 ht1 hvm1 hw1 hB1 hz1 hk1 hS => ?_)
  obtain ⟨hP1, hK1, hD1⟩ := hB1
  rw [ht1] at hP1
  obtain ⟨hP, hD⟩ := tp_jo hP hD hk1 hF1 hP1 hD1
  refine lv_aload_n hx hb dL_law_128 rfl (lv_at hl 2 rfl) ?_
  refine lv_aload_n hx hb dL_law_129 rfl (lv_at hl 0 rfl) ?_
  refine lv_iload_n hx hb dL_law_130 rfl (lv_at hl 3 rfl) ?_
  refine lv_iconst (v := nI 1) hx hb dL_law_131 (by decide) ?_
  refine lv_iadd hx hb dL_law_132 ?_
  refine tp_ti (nI_add i 1) ?_
  refine tp_sld hx hb hX0 hbl hbA hS (j := i + 1) (by omega) (by omega) dL_law_133 ?_
  have hF2 := tp_fr (tp_dl hD) hS hA
  refine va_calli (va_runV (As := [.int (xs (i + 1))]) (rest := [.int r1]) ⟨hx, hb, hml, hown, hts⟩ (mem_text l D dA dJ dZ h st pa2 tx wd kp2 (cN := c) (oN := o) (xs (i + 1)) H1.size hc.2) (cwV 1 hts (lw_V q204 q205 q206 q21 q207) rfl rfl rfl (by decide +kernel) ⟨Nat.le_of_ble_eq_true rfl, Nat.le_of_ble_eq_true rfl⟩) (tp_pvm hK (tp_left hP) (tp_dl hD) (ci := 1) (q0 := 0) rfl rfl) rfl rfl hl.1 rfl (lv_room (Nat.le_of_ble_eq_true rfl)) dL_law_134 ⟨Nat.le_of_ble_eq_true rfl, Nat.le_of_ble_eq_true rfl⟩) hS (fun q _ z => hF2 q z) hF2 (fun r2 u2 t2 H2 locs2 ht2 hvm2 hw2 hB2 hz2 hk2 hS => ?_)
  obtain ⟨hP2, hK2, hD2⟩ := hB2
  rw [ht2] at hP2
  obtain ⟨hP, hD⟩ := tp_jo hP hD hk2 hF2 hP2 hD2
  obtain ⟨e12, J2⟩ := tj_text I hw1 hw2
  refine lv_icmp_eq (tgt := 414) hx hb dL_law_137 (by decide) (fun _ => ?_) (fun z => absurd e12 z)
  exact kk _ _ _ _ J2 hP hD hS

set_option maxHeartbeats 4000000 in
set_option maxRecDepth 100000 in
theorem lc_close {p : Program} {l : Launch} {e : Env} {s : State} {m : MethodId} {below : List Frame} {meth : Method} {c0 : Code} {b L : Nat} {xs : Nat → Int32} {D : va_G} {dA dJ dZ : ClassId} (hL : L ≤ 256) (C0 : lw_At p s m meth c0 b L xs) (hK : va_K D tp_cl (tp_ty dA dJ dZ) s) {i : Nat} (hi : i + 4 ≤ L) {h : Nat → Nat} {wx wm : va_W} (J : tp_J dA dJ dZ h wx wm) {H : Heap} {locs : List Loc} (hP : va_P D tp_cl (wx ++ wm) H) (hD : va_D (lc_A s) (wx ++ wm)) (hS : va_S (lc_A s) s.heap H locs) {ls : Array Slot} (hl : lv_has ls 4 [(0, .ref b), (1, .ref (h 0)), (2, .ref (h 6)), (3, .int (nI i))])
    (kk : ∀ (wx' wm' : va_W) (H' : Heap) (locs' : List Loc), tp_J dA dJ dZ h wx' wm' → va_P D tp_cl (wx' ++ wm') H' → va_D (lc_A s) (wx' ++ wm') → va_S (lc_A s) s.heap H' locs' → W p l e room_1 s m #[Value.ref b] below meth c0 H' locs' 11 355 (lw_Z below #[Value.ref b] s) (F0 m 414 ls [])) : W p l e room_1 s m #[Value.ref b] below meth c0 H locs 11 355 (lw_Z below #[Value.ref b] s) (F0 m 142 ls []) := by
  obtain ⟨hx, hb, hr, hml, hown, hts0, hX0, hbl, hlocks, -⟩ := id C0
  have hts : ∀ w ∈ lw_all, w.before #[Value.ref b] s = true := fun w z => hts0 w (lw_all_tbl z)
  have hA : ∀ q : Nat, s.heap.size ≤ q → lc_A s q := fun _ z => z
  have hbA : ¬ lc_A s b := Nat.not_le.mpr hbl
  obtain ⟨c, o, P, E, N, st, nm, vl, pa, en, kp, pa2, tx, wd, kp2, I, rfl, rfl⟩ := J
  obtain ⟨hW, hX, hM, ⟨ho, hE⟩, hs, -⟩ := id I
  have hc := tw_c hW
  refine lv_aload_n hx hb dL_law_142 rfl (lv_at hl 1 rfl) ?_
  have hF1 := tp_fr (tp_dl hD) hS hA
  refine va_calli (va_runV (As := []) (rest := []) ⟨hx, hb, hml, hown, hts⟩ (met_close l D dA dJ dZ h st nm vl pa en kp H.size hW hX ho) (cwV 0 hts (lw_V q73 q74 q75 q20 q76) rfl rfl rfl (by decide +kernel) ⟨Nat.le_of_ble_eq_true rfl, Nat.le_of_ble_eq_true rfl⟩) (tp_pvm hK (tp_left hP) (tp_dl hD) (ci := 0) (q0 := 0) rfl rfl) rfl rfl hl.1 rfl (lv_room (Nat.le_of_ble_eq_true rfl)) dL_law_143 ⟨Nat.le_of_ble_eq_true rfl, Nat.le_of_ble_eq_true rfl⟩) hS (fun q _ z => hF1 q z) hF1 (fun r1 u1 t1 H1 locs1 ht1 hvm1 hw1 hB1 hz1 hk1 hS => ?_)
  obtain ⟨hP1, hK1, hD1⟩ := hB1
  rw [ht1] at hP1
  obtain ⟨hP, hD⟩ := tp_jo hP hD hk1 hF1 hP1 hD1
  refine lv_aload_n hx hb dL_law_146 rfl (lv_at hl 2 rfl) ?_
  have hF2 := tp_fr (tp_dl hD) hS hA
  refine va_calli (va_runV (As := []) (rest := [.int r1]) ⟨hx, hb, hml, hown, hts⟩ (mem_close l D dA dJ dZ h st vl pa2 tx wd kp2 H1.size hW hM ho) (cwV 0 hts (lw_V q208 q209 q210 q21 q211) rfl rfl rfl (by decide +kernel) ⟨Nat.le_of_ble_eq_true rfl, Nat.le_of_ble_eq_true rfl⟩) (tp_pvm hK (tp_left hP) (tp_dl hD) (ci := 1) (q0 := 0) rfl rfl) rfl rfl hl.1 rfl (lv_room (Nat.le_of_ble_eq_true rfl)) dL_law_147 ⟨Nat.le_of_ble_eq_true rfl, Nat.le_of_ble_eq_true rfl⟩) hS (fun q _ z => hF2 q z) hF2 (fun r2 u2 t2 H2 locs2 ht2 hvm2 hw2 hB2 hz2 hk2 hS => ?_)
  obtain ⟨hP2, hK2, hD2⟩ := hB2
  rw [ht2] at hP2
  obtain ⟨hP, hD⟩ := tp_jo hP hD hk2 hF2 hP2 hD2
  obtain ⟨e12, J2⟩ := tj_close2 I hw1 hw2
  refine lv_icmp_eq (tgt := 414) hx hb dL_law_150 (by decide) (fun _ => ?_) (fun z => absurd e12 z)
  exact kk _ _ _ _ J2 hP hD hS

set_option maxHeartbeats 4000000 in
set_option maxRecDepth 100000 in
theorem lc_remove {p : Program} {l : Launch} {e : Env} {s : State} {m : MethodId} {below : List Frame} {meth : Method} {c0 : Code} {b L : Nat} {xs : Nat → Int32} {D : va_G} {dA dJ dZ : ClassId} (hL : L ≤ 256) (C0 : lw_At p s m meth c0 b L xs) (hK : va_K D tp_cl (tp_ty dA dJ dZ) s) {i : Nat} (hi : i + 4 ≤ L) {h : Nat → Nat} {wx wm : va_W} (J : tp_J dA dJ dZ h wx wm) {H : Heap} {locs : List Loc} (hP : va_P D tp_cl (wx ++ wm) H) (hD : va_D (lc_A s) (wx ++ wm)) (hS : va_S (lc_A s) s.heap H locs) {ls : Array Slot} (hl : lv_has ls 4 [(0, .ref b), (1, .ref (h 0)), (2, .ref (h 6)), (3, .int (nI i))])
    (kk : ∀ (wx' wm' : va_W) (H' : Heap) (locs' : List Loc), tp_J dA dJ dZ h wx' wm' → va_P D tp_cl (wx' ++ wm') H' → va_D (lc_A s) (wx' ++ wm') → va_S (lc_A s) s.heap H' locs' → W p l e room_1 s m #[Value.ref b] below meth c0 H' locs' 11 355 (lw_Z below #[Value.ref b] s) (F0 m 414 ls [])) : W p l e room_1 s m #[Value.ref b] below meth c0 H locs 11 355 (lw_Z below #[Value.ref b] s) (F0 m 155 ls []) := by
  obtain ⟨hx, hb, hr, hml, hown, hts0, hX0, hbl, hlocks, -⟩ := id C0
  have hts : ∀ w ∈ lw_all, w.before #[Value.ref b] s = true := fun w z => hts0 w (lw_all_tbl z)
  have hA : ∀ q : Nat, s.heap.size ≤ q → lc_A s q := fun _ z => z
  have hbA : ¬ lc_A s b := Nat.not_le.mpr hbl
  obtain ⟨c, o, P, E, N, st, nm, vl, pa, en, kp, pa2, tx, wd, kp2, I, rfl, rfl⟩ := J
  obtain ⟨hW, hX, hM, ⟨ho, hE⟩, hs, -⟩ := id I
  have hc := tw_c hW
  refine lv_aload_n hx hb dL_law_155 rfl (lv_at hl 1 rfl) ?_
  refine lv_aload_n hx hb dL_law_156 rfl (lv_at hl 0 rfl) ?_
  refine lv_iload_n hx hb dL_law_157 rfl (lv_at hl 3 rfl) ?_
  refine lv_iconst (v := nI 1) hx hb dL_law_158 (by decide) ?_
  refine lv_iadd hx hb dL_law_159 ?_
  refine tp_ti (nI_add i 1) ?_
  refine tp_sld hx hb hX0 hbl hbA hS (j := i + 1) (by omega) (by omega) dL_law_160 ?_
  have hF1 := tp_fr (tp_dl hD) hS hA
  refine va_calli (va_runV (As := [.int (xs (i + 1))]) (rest := []) ⟨hx, hb, hml, hown, hts⟩ (met_remove l D dA dJ dZ h st nm vl pa en kp (xs (i + 1)) H.size hW hX ho) (cwV 1 hts (lw_V q77 q78 q79 q20 q80) rfl rfl rfl (by decide +kernel) ⟨Nat.le_of_ble_eq_true rfl, Nat.le_of_ble_eq_true rfl⟩) (tp_pvm hK (tp_left hP) (tp_dl hD) (ci := 0) (q0 := 0) rfl rfl) rfl rfl hl.1 rfl (lv_room (Nat.le_of_ble_eq_true rfl)) dL_law_161 ⟨Nat.le_of_ble_eq_true rfl, Nat.le_of_ble_eq_true rfl⟩) hS (fun q _ z => hF1 q z) hF1 (fun r1 u1 t1 H1 locs1 ht1 hvm1 hw1 hB1 hz1 hk1 hS => ?_)
  obtain ⟨hP1, hK1, hD1⟩ := hB1
  rw [ht1] at hP1
  obtain ⟨hP, hD⟩ := tp_jo hP hD hk1 hF1 hP1 hD1
  refine lv_aload_n hx hb dL_law_164 rfl (lv_at hl 2 rfl) ?_
  refine lv_aload_n hx hb dL_law_165 rfl (lv_at hl 0 rfl) ?_
  refine lv_iload_n hx hb dL_law_166 rfl (lv_at hl 3 rfl) ?_
  refine lv_iconst (v := nI 1) hx hb dL_law_167 (by decide) ?_
  refine lv_iadd hx hb dL_law_168 ?_
  refine tp_ti (nI_add i 1) ?_
  refine tp_sld hx hb hX0 hbl hbA hS (j := i + 1) (by omega) (by omega) dL_law_169 ?_
  have hF2 := tp_fr (tp_dl hD) hS hA
  refine va_calli (va_runV (As := [.int (xs (i + 1))]) (rest := [.int r1]) ⟨hx, hb, hml, hown, hts⟩ (mem_remove l D dA dJ dZ h st vl pa2 tx wd kp2 (xs (i + 1)) H1.size hW hM ho) (cwV 1 hts (lw_V q212 q213 q214 q21 q215) rfl rfl rfl (by decide +kernel) ⟨Nat.le_of_ble_eq_true rfl, Nat.le_of_ble_eq_true rfl⟩) (tp_pvm hK (tp_left hP) (tp_dl hD) (ci := 1) (q0 := 0) rfl rfl) rfl rfl hl.1 rfl (lv_room (Nat.le_of_ble_eq_true rfl)) dL_law_170 ⟨Nat.le_of_ble_eq_true rfl, Nat.le_of_ble_eq_true rfl⟩) hS (fun q _ z => hF2 q z) hF2 (fun r2 u2 t2 H2 locs2 ht2 hvm2 hw2 hB2 hz2 hk2 hS => ?_)
  obtain ⟨hP2, hK2, hD2⟩ := hB2
  rw [ht2] at hP2
  obtain ⟨hP, hD⟩ := tp_jo hP hD hk2 hF2 hP2 hD2
  obtain ⟨e12, J2⟩ := tj_remove I hw1 hw2
  refine lv_icmp_eq (tgt := 414) hx hb dL_law_173 (by decide) (fun _ => ?_) (fun z => absurd e12 z)
  exact kk _ _ _ _ J2 hP hD hS

set_option maxHeartbeats 4000000 in
set_option maxRecDepth 100000 in
theorem lc_start {p : Program} {l : Launch} {e : Env} {s : State} {m : MethodId} {below : List Frame} {meth : Method} {c0 : Code} {b L : Nat} {xs : Nat → Int32} {D : va_G} {dA dJ dZ : ClassId} (hL : L ≤ 256) (C0 : lw_At p s m meth c0 b L xs) (hK : va_K D tp_cl (tp_ty dA dJ dZ) s) {i : Nat} (hi : i + 4 ≤ L) {h : Nat → Nat} {wx wm : va_W} (J : tp_J dA dJ dZ h wx wm) {H : Heap} {locs : List Loc} (hP : va_P D tp_cl (wx ++ wm) H) (hD : va_D (lc_A s) (wx ++ wm)) (hS : va_S (lc_A s) s.heap H locs) {ls : Array Slot} (hl : lv_has ls 4 [(0, .ref b), (1, .ref (h 0)), (2, .ref (h 6)), (3, .int (nI i))])
    (kk : ∀ (wx' wm' : va_W) (H' : Heap) (locs' : List Loc), tp_J dA dJ dZ h wx' wm' → va_P D tp_cl (wx' ++ wm') H' → va_D (lc_A s) (wx' ++ wm') → va_S (lc_A s) s.heap H' locs' → W p l e room_1 s m #[Value.ref b] below meth c0 H' locs' 11 355 (lw_Z below #[Value.ref b] s) (F0 m 414 ls [])) : W p l e room_1 s m #[Value.ref b] below meth c0 H locs 11 355 (lw_Z below #[Value.ref b] s) (F0 m 178 ls []) := by
  obtain ⟨hx, hb, hr, hml, hown, hts0, hX0, hbl, hlocks, -⟩ := id C0
  have hts : ∀ w ∈ lw_all, w.before #[Value.ref b] s = true := fun w z => hts0 w (lw_all_tbl z)
  have hA : ∀ q : Nat, s.heap.size ≤ q → lc_A s q := fun _ z => z
  have hbA : ¬ lc_A s b := Nat.not_le.mpr hbl
  obtain ⟨c, o, P, E, N, st, nm, vl, pa, en, kp, pa2, tx, wd, kp2, I, rfl, rfl⟩ := J
  obtain ⟨hW, hX, hM, ⟨ho, hE⟩, hs, -⟩ := id I
  have hc := tw_c hW
  refine lv_aload_n hx hb dL_law_178 rfl (lv_at hl 1 rfl) ?_
  have hF1 := tp_fr (tp_dl hD) hS hA
  refine va_callv (va_runV (As := []) (rest := []) ⟨hx, hb, hml, hown, hts⟩ (met_start l D dA dJ dZ h (nI c) (nI o) st nm vl pa en kp H.size) (cwV 0 hts (lw_V q81 q82 q83 q20 q84) rfl rfl rfl (by decide +kernel) ⟨Nat.le_of_ble_eq_true rfl, Nat.le_of_ble_eq_true rfl⟩) (tp_pvm hK (tp_left hP) (tp_dl hD) (ci := 0) (q0 := 0) rfl rfl) rfl rfl hl.1 rfl (lv_room (Nat.le_of_ble_eq_true rfl)) dL_law_179 ⟨Nat.le_of_ble_eq_true rfl, Nat.le_of_ble_eq_true rfl⟩) hS (fun q _ z => hF1 q z) hF1 (fun u1 t1 H1 locs1 ht1 hvm1 hw1 hB1 hz1 hk1 hS => ?_)
  obtain ⟨hP1, hK1, hD1⟩ := hB1
  rw [ht1] at hP1
  obtain ⟨hP, hD⟩ := tp_jo hP hD hk1 hF1 hP1 hD1
  refine lv_aload_n hx hb dL_law_182 rfl (lv_at hl 2 rfl) ?_
  have hF2 := tp_fr (tp_dl hD) hS hA
  refine va_callv (va_runV (As := []) (rest := []) ⟨hx, hb, hml, hown, hts⟩ (mem_start l D dA dJ dZ h (nI c) (nI o) st pa2 tx wd kp2 H1.size) (cwV 0 hts (lw_V q220 q221 q222 q21 q223) rfl rfl rfl (by decide +kernel) ⟨Nat.le_of_ble_eq_true rfl, Nat.le_of_ble_eq_true rfl⟩) (tp_pvm hK (tp_left hP) (tp_dl hD) (ci := 1) (q0 := 0) rfl rfl) rfl rfl hl.1 rfl (lv_room (Nat.le_of_ble_eq_true rfl)) dL_law_183 ⟨Nat.le_of_ble_eq_true rfl, Nat.le_of_ble_eq_true rfl⟩) hS (fun q _ z => hF2 q z) hF2 (fun u2 t2 H2 locs2 ht2 hvm2 hw2 hB2 hz2 hk2 hS => ?_)
  obtain ⟨hP2, hK2, hD2⟩ := hB2
  rw [ht2] at hP2
  obtain ⟨hP, hD⟩ := tp_jo hP hD hk2 hF2 hP2 hD2
  have J2 := tj_start2 I hw1 hw2
  refine lv_goto (tgt := 414) hx hb dL_law_186 (by decide) ?_
  exact kk _ _ _ _ J2 hP hD hS

set_option maxHeartbeats 4000000 in
set_option maxRecDepth 100000 in
theorem lc_step {p : Program} {l : Launch} {e : Env} {s : State} {m : MethodId} {below : List Frame} {meth : Method} {c0 : Code} {b L : Nat} {xs : Nat → Int32} {D : va_G} {dA dJ dZ : ClassId} (hL : L ≤ 256) (C0 : lw_At p s m meth c0 b L xs) (hK : va_K D tp_cl (tp_ty dA dJ dZ) s) {i : Nat} (hi : i + 4 ≤ L) {h : Nat → Nat} {wx wm : va_W} (J : tp_J dA dJ dZ h wx wm) {H : Heap} {locs : List Loc} (hP : va_P D tp_cl (wx ++ wm) H) (hD : va_D (lc_A s) (wx ++ wm)) (hS : va_S (lc_A s) s.heap H locs) {ls : Array Slot} (hl : lv_has ls 4 [(0, .ref b), (1, .ref (h 0)), (2, .ref (h 6)), (3, .int (nI i))])
    (kk : ∀ (wx' wm' : va_W) (H' : Heap) (locs' : List Loc), tp_J dA dJ dZ h wx' wm' → va_P D tp_cl (wx' ++ wm') H' → va_D (lc_A s) (wx' ++ wm') → va_S (lc_A s) s.heap H' locs' → W p l e room_1 s m #[Value.ref b] below meth c0 H' locs' 11 355 (lw_Z below #[Value.ref b] s) (F0 m 414 ls [])) : W p l e room_1 s m #[Value.ref b] below meth c0 H locs 11 355 (lw_Z below #[Value.ref b] s) (F0 m 189 ls []) := by
  obtain ⟨hx, hb, hr, hml, hown, hts0, hX0, hbl, hlocks, -⟩ := id C0
  have hts : ∀ w ∈ lw_all, w.before #[Value.ref b] s = true := fun w z => hts0 w (lw_all_tbl z)
  have hA : ∀ q : Nat, s.heap.size ≤ q → lc_A s q := fun _ z => z
  have hbA : ¬ lc_A s b := Nat.not_le.mpr hbl
  obtain ⟨c, o, P, E, N, st, nm, vl, pa, en, kp, pa2, tx, wd, kp2, I, rfl, rfl⟩ := J
  obtain ⟨hW, hX, hM, ⟨ho, hE⟩, hs, -⟩ := id I
  have hc := tw_c hW
  refine lv_aload_n hx hb dL_law_189 rfl (lv_at hl 1 rfl) ?_
  refine lv_aload_n hx hb dL_law_190 rfl (lv_at hl 0 rfl) ?_
  refine lv_iload_n hx hb dL_law_191 rfl (lv_at hl 3 rfl) ?_
  refine lv_iconst (v := nI 1) hx hb dL_law_192 (by decide) ?_
  refine lv_iadd hx hb dL_law_193 ?_
  refine tp_ti (nI_add i 1) ?_
  refine tp_sld hx hb hX0 hbl hbA hS (j := i + 1) (by omega) (by omega) dL_law_194 ?_
  refine lv_aload_n hx hb dL_law_195 rfl (lv_at hl 0 rfl) ?_
  refine lv_iload_n hx hb dL_law_196 rfl (lv_at hl 3 rfl) ?_
  refine lv_iconst (v := nI 2) hx hb dL_law_197 (by decide) ?_
  refine lv_iadd hx hb dL_law_198 ?_
  refine tp_ti (nI_add i 2) ?_
  refine tp_sld hx hb hX0 hbl hbA hS (j := i + 2) (by omega) (by omega) dL_law_199 ?_
  refine lv_aload_n hx hb dL_law_200 rfl (lv_at hl 0 rfl) ?_
  refine lv_iload_n hx hb dL_law_201 rfl (lv_at hl 3 rfl) ?_
  refine lv_iconst (v := nI 3) hx hb dL_law_202 (by decide) ?_
  refine lv_iadd hx hb dL_law_203 ?_
  refine tp_ti (nI_add i 3) ?_
  refine tp_sld hx hb hX0 hbl hbA hS (j := i + 3) (by omega) (by omega) dL_law_204 ?_
  have hF1 := tp_fr (tp_dl hD) hS hA
  refine va_calli (va_runV (As := [.int (xs (i + 1)), .int (xs (i + 2)), .int (xs (i + 3))]) (rest := []) ⟨hx, hb, hml, hown, hts⟩ (met_step l D dA dJ dZ h (nI o) st nm vl pa en kp (xs (i + 1)) (xs (i + 2)) (xs (i + 3)) H.size hW hX hs) (cwV 3 hts (lw_V q85 q86 q87 q20 q88) rfl rfl rfl (by decide +kernel) ⟨Nat.le_of_ble_eq_true rfl, Nat.le_of_ble_eq_true rfl⟩) (tp_pvm hK (tp_left hP) (tp_dl hD) (ci := 0) (q0 := 0) rfl rfl) rfl rfl hl.1 rfl (lv_room (Nat.le_of_ble_eq_true rfl)) dL_law_205 ⟨Nat.le_of_ble_eq_true rfl, Nat.le_of_ble_eq_true rfl⟩) hS (fun q _ z => hF1 q z) hF1 (fun r1 u1 t1 H1 locs1 ht1 hvm1 hw1 hB1 hz1 hk1 hS => ?_)
  obtain ⟨hP1, hK1, hD1⟩ := hB1
  rw [ht1] at hP1
  obtain ⟨hP, hD⟩ := tp_jo hP hD hk1 hF1 hP1 hD1
  refine lv_aload_n hx hb dL_law_208 rfl (lv_at hl 2 rfl) ?_
  refine lv_aload_n hx hb dL_law_209 rfl (lv_at hl 0 rfl) ?_
  refine lv_iload_n hx hb dL_law_210 rfl (lv_at hl 3 rfl) ?_
  refine lv_iconst (v := nI 1) hx hb dL_law_211 (by decide) ?_
  refine lv_iadd hx hb dL_law_212 ?_
  refine tp_ti (nI_add i 1) ?_
  refine tp_sld hx hb hX0 hbl hbA hS (j := i + 1) (by omega) (by omega) dL_law_213 ?_
  refine lv_aload_n hx hb dL_law_214 rfl (lv_at hl 0 rfl) ?_
  refine lv_iload_n hx hb dL_law_215 rfl (lv_at hl 3 rfl) ?_
  refine lv_iconst (v := nI 2) hx hb dL_law_216 (by decide) ?_
  refine lv_iadd hx hb dL_law_217 ?_
  refine tp_ti (nI_add i 2) ?_
  refine tp_sld hx hb hX0 hbl hbA hS (j := i + 2) (by omega) (by omega) dL_law_218 ?_
  refine lv_aload_n hx hb dL_law_219 rfl (lv_at hl 0 rfl) ?_
  refine lv_iload_n hx hb dL_law_220 rfl (lv_at hl 3 rfl) ?_
  refine lv_iconst (v := nI 3) hx hb dL_law_221 (by decide) ?_
  refine lv_iadd hx hb dL_law_222 ?_
  refine tp_ti (nI_add i 3) ?_
  refine tp_sld hx hb hX0 hbl hbA hS (j := i + 3) (by omega) (by omega) dL_law_223 ?_
  have hF2 := tp_fr (tp_dl hD) hS hA
  refine va_calli (va_runV (As := [.int (xs (i + 1)), .int (xs (i + 2)), .int (xs (i + 3))]) (rest := [.int r1]) ⟨hx, hb, hml, hown, hts⟩ (mem_step l D dA dJ dZ h (nI o) st vl pa2 tx wd kp2 (xs (i + 1)) (xs (i + 2)) (xs (i + 3)) H1.size hW hM) (cwV 3 hts (lw_V q224 q225 q226 q21 q227) rfl rfl rfl (by decide +kernel) ⟨Nat.le_of_ble_eq_true rfl, Nat.le_of_ble_eq_true rfl⟩) (tp_pvm hK (tp_left hP) (tp_dl hD) (ci := 1) (q0 := 0) rfl rfl) rfl rfl hl.1 rfl (lv_room (Nat.le_of_ble_eq_true rfl)) dL_law_224 ⟨Nat.le_of_ble_eq_true rfl, Nat.le_of_ble_eq_true rfl⟩) hS (fun q _ z => hF2 q z) hF2 (fun r2 u2 t2 H2 locs2 ht2 hvm2 hw2 hB2 hz2 hk2 hS => ?_)
  obtain ⟨hP2, hK2, hD2⟩ := hB2
  rw [ht2] at hP2
  obtain ⟨hP, hD⟩ := tp_jo hP hD hk2 hF2 hP2 hD2
  obtain ⟨e12, J2⟩ := tj_step I hw1 hw2
  refine lv_icmp_eq (tgt := 414) hx hb dL_law_227 (by decide) (fun _ => ?_) (fun z => absurd e12 z)
  exact kk _ _ _ _ J2 hP hD hS
end
section
/-! the law: further cases -/
set_option maxHeartbeats 4000000 in
set_option maxRecDepth 100000 in
theorem lc_having {p : Program} {l : Launch} {e : Env} {s : State} {m : MethodId} {below : List Frame} {meth : Method} {c0 : Code} {b L : Nat} {xs : Nat → Int32} {D : va_G} {dA dJ dZ : ClassId} (hL : L ≤ 256) (C0 : lw_At p s m meth c0 b L xs) (hK : va_K D tp_cl (tp_ty dA dJ dZ) s) {i : Nat} (hi : i + 4 ≤ L) {h : Nat → Nat} {wx wm : va_W} (J : tp_J dA dJ dZ h wx wm) {H : Heap} {locs : List Loc} (hP : va_P D tp_cl (wx ++ wm) H) (hD : va_D (lc_A s) (wx ++ wm)) (hS : va_S (lc_A s) s.heap H locs) {ls : Array Slot} (hl : lv_has ls 4 [(0, .ref b), (1, .ref (h 0)), (2, .ref (h 6)), (3, .int (nI i))])
    (kk : ∀ (wx' wm' : va_W) (H' : Heap) (locs' : List Loc), tp_J dA dJ dZ h wx' wm' → va_P D tp_cl (wx' ++ wm') H' → va_D (lc_A s) (wx' ++ wm') → va_S (lc_A s) s.heap H' locs' → W p l e room_1 s m #[Value.ref b] below meth c0 H' locs' 11 355 (lw_Z below #[Value.ref b] s) (F0 m 414 ls [])) : W p l e room_1 s m #[Value.ref b] below meth c0 H locs 11 355 (lw_Z below #[Value.ref b] s) (F0 m 232 ls []) := by
  obtain ⟨hx, hb, hr, hml, hown, hts0, hX0, hbl, hlocks, -⟩ := id C0
  have hts : ∀ w ∈ lw_all, w.before #[Value.ref b] s = true := fun w z => hts0 w (lw_all_tbl z)
  have hA : ∀ q : Nat, s.heap.size ≤ q → lc_A s q := fun _ z => z
  have hbA : ¬ lc_A s b := Nat.not_le.mpr hbl
  obtain ⟨c, o, P, E, N, st, nm, vl, pa, en, kp, pa2, tx, wd, kp2, I, rfl, rfl⟩ := J
  obtain ⟨hW, hX, hM, ⟨ho, hE⟩, hs, -⟩ := id I
  have hc := tw_c hW
  refine lv_aload_n hx hb dL_law_232 rfl (lv_at hl 1 rfl) ?_
  refine lv_aload_n hx hb dL_law_233 rfl (lv_at hl 0 rfl) ?_
  refine lv_iload_n hx hb dL_law_234 rfl (lv_at hl 3 rfl) ?_
  refine lv_iconst (v := nI 1) hx hb dL_law_235 (by decide) ?_
  refine lv_iadd hx hb dL_law_236 ?_
  refine tp_ti (nI_add i 1) ?_
  refine tp_sld hx hb hX0 hbl hbA hS (j := i + 1) (by omega) (by omega) dL_law_237 ?_
  refine lv_aload_n hx hb dL_law_238 rfl (lv_at hl 0 rfl) ?_
  refine lv_iload_n hx hb dL_law_239 rfl (lv_at hl 3 rfl) ?_
  refine lv_iconst (v := nI 2) hx hb dL_law_240 (by decide) ?_
  refine lv_iadd hx hb dL_law_241 ?_
  refine tp_ti (nI_add i 2) ?_
  refine tp_sld hx hb hX0 hbl hbA hS (j := i + 2) (by omega) (by omega) dL_law_242 ?_
  refine lv_aload_n hx hb dL_law_243 rfl (lv_at hl 0 rfl) ?_
  refine lv_iload_n hx hb dL_law_244 rfl (lv_at hl 3 rfl) ?_
  refine lv_iconst (v := nI 3) hx hb dL_law_245 (by decide) ?_
  refine lv_iadd hx hb dL_law_246 ?_
  refine tp_ti (nI_add i 3) ?_
  refine tp_sld hx hb hX0 hbl hbA hS (j := i + 3) (by omega) (by omega) dL_law_247 ?_
  refine lv_if_eq (tgt := 255) hx hb dL_law_248 (by decide) (fun c1 => ?_) (fun c1 => ?_)
  · refine lv_iconst (v := nI 0) hx hb dL_law_255 (by decide) ?_
    have hF1 := tp_fr (tp_dl hD) hS hA
    refine va_calli (va_runV (As := [.int (xs (i + 1)), .int (xs (i + 2)), .int (nI 0)]) (rest := []) ⟨hx, hb, hml, hown, hts⟩ (met_having l D dA dJ dZ h (nI o) st nm vl pa en kp (xs (i + 1)) (xs (i + 2)) (w := 0) H.size hW hX hs (by omega)) (cwV 3 hts (lw_V q139 q140 q141 q20 q142) rfl rfl rfl (by decide +kernel) ⟨Nat.le_of_ble_eq_true rfl, Nat.le_of_ble_eq_true rfl⟩) (tp_pvm hK (tp_left hP) (tp_dl hD) (ci := 0) (q0 := 0) rfl rfl) rfl rfl hl.1 rfl (lv_room (Nat.le_of_ble_eq_true rfl)) dL_law_256 ⟨Nat.le_of_ble_eq_true rfl, Nat.le_of_ble_eq_true rfl⟩) hS (fun q _ z => hF1 q z) hF1 (fun r1 u1 t1 H1 locs1 ht1 hvm1 hw1 hB1 hz1 hk1 hS => ?_)
    obtain ⟨hP1, hK1, hD1⟩ := hB1
    rw [ht1] at hP1
    obtain ⟨hP, hD⟩ := tp_jo hP hD hk1 hF1 hP1 hD1
    refine lv_aload_n hx hb dL_law_259 rfl (lv_at hl 2 rfl) ?_
    refine lv_aload_n hx hb dL_law_260 rfl (lv_at hl 0 rfl) ?_
    refine lv_iload_n hx hb dL_law_261 rfl (lv_at hl 3 rfl) ?_
    refine lv_iconst (v := nI 1) hx hb dL_law_262 (by decide) ?_
    refine lv_iadd hx hb dL_law_263 ?_
    refine tp_ti (nI_add i 1) ?_
    refine tp_sld hx hb hX0 hbl hbA hS (j := i + 1) (by omega) (by omega) dL_law_264 ?_
    refine lv_aload_n hx hb dL_law_265 rfl (lv_at hl 0 rfl) ?_
    refine lv_iload_n hx hb dL_law_266 rfl (lv_at hl 3 rfl) ?_
    refine lv_iconst (v := nI 2) hx hb dL_law_267 (by decide) ?_
    refine lv_iadd hx hb dL_law_268 ?_
    refine tp_ti (nI_add i 2) ?_
    refine tp_sld hx hb hX0 hbl hbA hS (j := i + 2) (by omega) (by omega) dL_law_269 ?_
    refine lv_aload_n hx hb dL_law_270 rfl (lv_at hl 0 rfl) ?_
    refine lv_iload_n hx hb dL_law_271 rfl (lv_at hl 3 rfl) ?_
    refine lv_iconst (v := nI 3) hx hb dL_law_272 (by decide) ?_
    refine lv_iadd hx hb dL_law_273 ?_
    refine tp_ti (nI_add i 3) ?_
    refine tp_sld hx hb hX0 hbl hbA hS (j := i + 3) (by omega) (by omega) dL_law_274 ?_
    refine lv_if_eq (tgt := 282) hx hb dL_law_275 (by decide) (fun _ => ?_) (fun z => absurd (c1) z)
    refine lv_iconst (v := nI 0) hx hb dL_law_282 (by decide) ?_
    have hF2 := tp_fr (tp_dl hD) hS hA
    refine va_calli (va_runV (As := [.int (xs (i + 1)), .int (xs (i + 2)), .int (nI 0)]) (rest := [.int r1]) ⟨hx, hb, hml, hown, hts⟩ (mem_having l D dA dJ dZ h (nI o) st vl pa2 tx wd kp2 (xs (i + 1)) (xs (i + 2)) (w := 0) H1.size hW hM hs (by omega)) (cwV 3 hts (lw_V q250 q251 q252 q21 q253) rfl rfl rfl (by decide +kernel) ⟨Nat.le_of_ble_eq_true rfl, Nat.le_of_ble_eq_true rfl⟩) (tp_pvm hK (tp_left hP) (tp_dl hD) (ci := 1) (q0 := 0) rfl rfl) rfl rfl hl.1 rfl (lv_room (Nat.le_of_ble_eq_true rfl)) dL_law_283 ⟨Nat.le_of_ble_eq_true rfl, Nat.le_of_ble_eq_true rfl⟩) hS (fun q _ z => hF2 q z) hF2 (fun r2 u2 t2 H2 locs2 ht2 hvm2 hw2 hB2 hz2 hk2 hS => ?_)
    obtain ⟨hP2, hK2, hD2⟩ := hB2
    rw [ht2] at hP2
    obtain ⟨hP, hD⟩ := tp_jo hP hD hk2 hF2 hP2 hD2
    obtain ⟨e12, J2⟩ := tj_having I hw1 hw2
    refine lv_icmp_eq (tgt := 414) hx hb dL_law_286 (by decide) (fun _ => ?_) (fun z => absurd e12 z)
    exact kk _ _ _ _ J2 hP hD hS
  · refine lv_iconst (v := nI 1) hx hb dL_law_251 (by decide) ?_
    refine lv_goto (tgt := 256) hx hb dL_law_252 (by decide) ?_
    have hF1 := tp_fr (tp_dl hD) hS hA
    refine va_calli (va_runV (As := [.int (xs (i + 1)), .int (xs (i + 2)), .int (nI 1)]) (rest := []) ⟨hx, hb, hml, hown, hts⟩ (met_having l D dA dJ dZ h (nI o) st nm vl pa en kp (xs (i + 1)) (xs (i + 2)) (w := 1) H.size hW hX hs (by omega)) (cwV 3 hts (lw_V q139 q140 q141 q20 q142) rfl rfl rfl (by decide +kernel) ⟨Nat.le_of_ble_eq_true rfl, Nat.le_of_ble_eq_true rfl⟩) (tp_pvm hK (tp_left hP) (tp_dl hD) (ci := 0) (q0 := 0) rfl rfl) rfl rfl hl.1 rfl (lv_room (Nat.le_of_ble_eq_true rfl)) dL_law_256 ⟨Nat.le_of_ble_eq_true rfl, Nat.le_of_ble_eq_true rfl⟩) hS (fun q _ z => hF1 q z) hF1 (fun r1 u1 t1 H1 locs1 ht1 hvm1 hw1 hB1 hz1 hk1 hS => ?_)
    obtain ⟨hP1, hK1, hD1⟩ := hB1
    rw [ht1] at hP1
    obtain ⟨hP, hD⟩ := tp_jo hP hD hk1 hF1 hP1 hD1
    refine lv_aload_n hx hb dL_law_259 rfl (lv_at hl 2 rfl) ?_
    refine lv_aload_n hx hb dL_law_260 rfl (lv_at hl 0 rfl) ?_
    refine lv_iload_n hx hb dL_law_261 rfl (lv_at hl 3 rfl) ?_
    refine lv_iconst (v := nI 1) hx hb dL_law_262 (by decide) ?_
    refine lv_iadd hx hb dL_law_263 ?_
    refine tp_ti (nI_add i 1) ?_
    refine tp_sld hx hb hX0 hbl hbA hS (j := i + 1) (by omega) (by omega) dL_law_264 ?_
    refine lv_aload_n hx hb dL_law_265 rfl (lv_at hl 0 rfl) ?_
    refine lv_iload_n hx hb dL_law_266 rfl (lv_at hl 3 rfl) ?_
    refine lv_iconst (v := nI 2) hx hb dL_law_267 (by decide) ?_
    refine lv_iadd hx hb dL_law_268 ?_
    refine tp_ti (nI_add i 2) ?_
    refine tp_sld hx hb hX0 hbl hbA hS (j := i + 2) (by omega) (by omega) dL_law_269 ?_
    refine lv_aload_n hx hb dL_law_270 rfl (lv_at hl 0 rfl) ?_
    refine lv_iload_n hx hb dL_law_271 rfl (lv_at hl 3 rfl) ?_
    refine lv_iconst (v := nI 3) hx hb dL_law_272 (by decide) ?_
    refine lv_iadd hx hb dL_law_273 ?_
    refine tp_ti (nI_add i 3) ?_
    refine tp_sld hx hb hX0 hbl hbA hS (j := i + 3) (by omega) (by omega) dL_law_274 ?_
    refine lv_if_eq (tgt := 282) hx hb dL_law_275 (by decide) (fun z => absurd z (c1)) (fun _ => ?_)
    refine lv_iconst (v := nI 1) hx hb dL_law_278 (by decide) ?_
    refine lv_goto (tgt := 283) hx hb dL_law_279 (by decide) ?_
    have hF2 := tp_fr (tp_dl hD) hS hA
    refine va_calli (va_runV (As := [.int (xs (i + 1)), .int (xs (i + 2)), .int (nI 1)]) (rest := [.int r1]) ⟨hx, hb, hml, hown, hts⟩ (mem_having l D dA dJ dZ h (nI o) st vl pa2 tx wd kp2 (xs (i + 1)) (xs (i + 2)) (w := 1) H1.size hW hM hs (by omega)) (cwV 3 hts (lw_V q250 q251 q252 q21 q253) rfl rfl rfl (by decide +kernel) ⟨Nat.le_of_ble_eq_true rfl, Nat.le_of_ble_eq_true rfl⟩) (tp_pvm hK (tp_left hP) (tp_dl hD) (ci := 1) (q0 := 0) rfl rfl) rfl rfl hl.1 rfl (lv_room (Nat.le_of_ble_eq_true rfl)) dL_law_283 ⟨Nat.le_of_ble_eq_true rfl, Nat.le_of_ble_eq_true rfl⟩) hS (fun q _ z => hF2 q z) hF2 (fun r2 u2 t2 H2 locs2 ht2 hvm2 hw2 hB2 hz2 hk2 hS => ?_)
    obtain ⟨hP2, hK2, hD2⟩ := hB2
    rw [ht2] at hP2
    obtain ⟨hP, hD⟩ := tp_jo hP hD hk2 hF2 hP2 hD2
    obtain ⟨e12, J2⟩ := tj_having I hw1 hw2
    refine lv_icmp_eq (tgt := 414) hx hb dL_law_286 (by decide) (fun _ => ?_) (fun z => absurd e12 z)
    exact kk _ _ _ _ J2 hP hD hS

set_option maxHeartbeats 4000000 in
set_option maxRecDepth 100000 in
theorem lc_valued {p : Program} {l : Launch} {e : Env} {s : State} {m : MethodId} {below : List Frame} {meth : Method} {c0 : Code} {b L : Nat} {xs : Nat → Int32} {D : va_G} {dA dJ dZ : ClassId} (hL : L ≤ 256) (C0 : lw_At p s m meth c0 b L xs) (hK : va_K D tp_cl (tp_ty dA dJ dZ) s) {i : Nat} (hi : i + 4 ≤ L) {h : Nat → Nat} {wx wm : va_W} (J : tp_J dA dJ dZ h wx wm) {H : Heap} {locs : List Loc} (hP : va_P D tp_cl (wx ++ wm) H) (hD : va_D (lc_A s) (wx ++ wm)) (hS : va_S (lc_A s) s.heap H locs) {ls : Array Slot} (hl : lv_has ls 4 [(0, .ref b), (1, .ref (h 0)), (2, .ref (h 6)), (3, .int (nI i))])
    (kk : ∀ (wx' wm' : va_W) (H' : Heap) (locs' : List Loc), tp_J dA dJ dZ h wx' wm' → va_P D tp_cl (wx' ++ wm') H' → va_D (lc_A s) (wx' ++ wm') → va_S (lc_A s) s.heap H' locs' → W p l e room_1 s m #[Value.ref b] below meth c0 H' locs' 11 355 (lw_Z below #[Value.ref b] s) (F0 m 414 ls [])) : W p l e room_1 s m #[Value.ref b] below meth c0 H locs 11 355 (lw_Z below #[Value.ref b] s) (F0 m 291 ls []) := by
  obtain ⟨hx, hb, hr, hml, hown, hts0, hX0, hbl, hlocks, -⟩ := id C0
  have hts : ∀ w ∈ lw_all, w.before #[Value.ref b] s = true := fun w z => hts0 w (lw_all_tbl z)
  have hA : ∀ q : Nat, s.heap.size ≤ q → lc_A s q := fun _ z => z
  have hbA : ¬ lc_A s b := Nat.not_le.mpr hbl
  obtain ⟨c, o, P, E, N, st, nm, vl, pa, en, kp, pa2, tx, wd, kp2, I, rfl, rfl⟩ := J
  obtain ⟨hW, hX, hM, ⟨ho, hE⟩, hs, -⟩ := id I
  have hc := tw_c hW
  refine lv_aload_n hx hb dL_law_291 rfl (lv_at hl 1 rfl) ?_
  refine lv_aload_n hx hb dL_law_292 rfl (lv_at hl 0 rfl) ?_
  refine lv_iload_n hx hb dL_law_293 rfl (lv_at hl 3 rfl) ?_
  refine lv_iconst (v := nI 1) hx hb dL_law_294 (by decide) ?_
  refine lv_iadd hx hb dL_law_295 ?_
  refine tp_ti (nI_add i 1) ?_
  refine tp_sld hx hb hX0 hbl hbA hS (j := i + 1) (by omega) (by omega) dL_law_296 ?_
  refine lv_aload_n hx hb dL_law_297 rfl (lv_at hl 0 rfl) ?_
  refine lv_iload_n hx hb dL_law_298 rfl (lv_at hl 3 rfl) ?_
  refine lv_iconst (v := nI 2) hx hb dL_law_299 (by decide) ?_
  refine lv_iadd hx hb dL_law_300 ?_
  refine tp_ti (nI_add i 2) ?_
  refine tp_sld hx hb hX0 hbl hbA hS (j := i + 2) (by omega) (by omega) dL_law_301 ?_
  have hF1 := tp_fr (tp_dl hD) hS hA
  refine va_calli (va_runV (As := [.int (xs (i + 1)), .int (xs (i + 2))]) (rest := []) ⟨hx, hb, hml, hown, hts⟩ (met_valued l D dA dJ dZ h (nI o) st nm vl pa en kp (xs (i + 1)) (xs (i + 2)) H.size hW hX hs) (cwV 2 hts (lw_V q143 q144 q145 q20 q146) rfl rfl rfl (by decide +kernel) ⟨Nat.le_of_ble_eq_true rfl, Nat.le_of_ble_eq_true rfl⟩) (tp_pvm hK (tp_left hP) (tp_dl hD) (ci := 0) (q0 := 0) rfl rfl) rfl rfl hl.1 rfl (lv_room (Nat.le_of_ble_eq_true rfl)) dL_law_302 ⟨Nat.le_of_ble_eq_true rfl, Nat.le_of_ble_eq_true rfl⟩) hS (fun q _ z => hF1 q z) hF1 (fun r1 u1 t1 H1 locs1 ht1 hvm1 hw1 hB1 hz1 hk1 hS => ?_)
  obtain ⟨hP1, hK1, hD1⟩ := hB1
  rw [ht1] at hP1
  obtain ⟨hP, hD⟩ := tp_jo hP hD hk1 hF1 hP1 hD1
  refine lv_aload_n hx hb dL_law_305 rfl (lv_at hl 2 rfl) ?_
  refine lv_aload_n hx hb dL_law_306 rfl (lv_at hl 0 rfl) ?_
  refine lv_iload_n hx hb dL_law_307 rfl (lv_at hl 3 rfl) ?_
  refine lv_iconst (v := nI 1) hx hb dL_law_308 (by decide) ?_
  refine lv_iadd hx hb dL_law_309 ?_
  refine tp_ti (nI_add i 1) ?_
  refine tp_sld hx hb hX0 hbl hbA hS (j := i + 1) (by omega) (by omega) dL_law_310 ?_
  refine lv_aload_n hx hb dL_law_311 rfl (lv_at hl 0 rfl) ?_
  refine lv_iload_n hx hb dL_law_312 rfl (lv_at hl 3 rfl) ?_
  refine lv_iconst (v := nI 2) hx hb dL_law_313 (by decide) ?_
  refine lv_iadd hx hb dL_law_314 ?_
  refine tp_ti (nI_add i 2) ?_
  refine tp_sld hx hb hX0 hbl hbA hS (j := i + 2) (by omega) (by omega) dL_law_315 ?_
  have hF2 := tp_fr (tp_dl hD) hS hA
  refine va_calli (va_runV (As := [.int (xs (i + 1)), .int (xs (i + 2))]) (rest := [.int r1]) ⟨hx, hb, hml, hown, hts⟩ (mem_valued l D dA dJ dZ h (nI o) st vl pa2 tx wd kp2 (xs (i + 1)) (xs (i + 2)) H1.size hW hM hs) (cwV 2 hts (lw_V q255 q256 q257 q21 q258) rfl rfl rfl (by decide +kernel) ⟨Nat.le_of_ble_eq_true rfl, Nat.le_of_ble_eq_true rfl⟩) (tp_pvm hK (tp_left hP) (tp_dl hD) (ci := 1) (q0 := 0) rfl rfl) rfl rfl hl.1 rfl (lv_room (Nat.le_of_ble_eq_true rfl)) dL_law_316 ⟨Nat.le_of_ble_eq_true rfl, Nat.le_of_ble_eq_true rfl⟩) hS (fun q _ z => hF2 q z) hF2 (fun r2 u2 t2 H2 locs2 ht2 hvm2 hw2 hB2 hz2 hk2 hS => ?_)
  obtain ⟨hP2, hK2, hD2⟩ := hB2
  rw [ht2] at hP2
  obtain ⟨hP, hD⟩ := tp_jo hP hD hk2 hF2 hP2 hD2
  obtain ⟨e12, J2⟩ := tj_valued I hw1 hw2
  refine lv_icmp_eq (tgt := 414) hx hb dL_law_319 (by decide) (fun _ => ?_) (fun z => absurd e12 z)
  exact kk _ _ _ _ J2 hP hD hS

set_option maxHeartbeats 4000000 in
set_option maxRecDepth 100000 in
theorem lc_keep {p : Program} {l : Launch} {e : Env} {s : State} {m : MethodId} {below : List Frame} {meth : Method} {c0 : Code} {b L : Nat} {xs : Nat → Int32} {D : va_G} {dA dJ dZ : ClassId} (hL : L ≤ 256) (C0 : lw_At p s m meth c0 b L xs) (hK : va_K D tp_cl (tp_ty dA dJ dZ) s) {i : Nat} (hi : i + 4 ≤ L) {h : Nat → Nat} {wx wm : va_W} (J : tp_J dA dJ dZ h wx wm) {H : Heap} {locs : List Loc} (hP : va_P D tp_cl (wx ++ wm) H) (hD : va_D (lc_A s) (wx ++ wm)) (hS : va_S (lc_A s) s.heap H locs) {ls : Array Slot} (hl : lv_has ls 4 [(0, .ref b), (1, .ref (h 0)), (2, .ref (h 6)), (3, .int (nI i))])
    (kk : ∀ (wx' wm' : va_W) (H' : Heap) (locs' : List Loc), tp_J dA dJ dZ h wx' wm' → va_P D tp_cl (wx' ++ wm') H' → va_D (lc_A s) (wx' ++ wm') → va_S (lc_A s) s.heap H' locs' → W p l e room_1 s m #[Value.ref b] below meth c0 H' locs' 11 355 (lw_Z below #[Value.ref b] s) (F0 m 414 ls [])) : W p l e room_1 s m #[Value.ref b] below meth c0 H locs 11 355 (lw_Z below #[Value.ref b] s) (F0 m 324 ls []) := by
  obtain ⟨hx, hb, hr, hml, hown, hts0, hX0, hbl, hlocks, -⟩ := id C0
  have hts : ∀ w ∈ lw_all, w.before #[Value.ref b] s = true := fun w z => hts0 w (lw_all_tbl z)
  have hA : ∀ q : Nat, s.heap.size ≤ q → lc_A s q := fun _ z => z
  have hbA : ¬ lc_A s b := Nat.not_le.mpr hbl
  obtain ⟨c, o, P, E, N, st, nm, vl, pa, en, kp, pa2, tx, wd, kp2, I, rfl, rfl⟩ := J
  obtain ⟨hW, hX, hM, ⟨ho, hE⟩, hs, -⟩ := id I
  have hc := tw_c hW
  refine lv_aload_n hx hb dL_law_324 rfl (lv_at hl 1 rfl) ?_
  refine lv_aload_n hx hb dL_law_325 rfl (lv_at hl 0 rfl) ?_
  refine lv_iload_n hx hb dL_law_326 rfl (lv_at hl 3 rfl) ?_
  refine lv_iconst (v := nI 1) hx hb dL_law_327 (by decide) ?_
  refine lv_iadd hx hb dL_law_328 ?_
  refine tp_ti (nI_add i 1) ?_
  refine tp_sld hx hb hX0 hbl hbA hS (j := i + 1) (by omega) (by omega) dL_law_329 ?_
  have hF1 := tp_fr (tp_dl hD) hS hA
  refine va_callv (va_runV (As := [.int (xs (i + 1))]) (rest := []) ⟨hx, hb, hml, hown, hts⟩ (met_keep l D dA dJ dZ h (nI c) (nI o) st nm vl pa en kp (xs (i + 1)) H.size) (cwV 1 hts (lw_V q147 q148 q149 q20 q150) rfl rfl rfl (by decide +kernel) ⟨Nat.le_of_ble_eq_true rfl, Nat.le_of_ble_eq_true rfl⟩) (tp_pvm hK (tp_left hP) (tp_dl hD) (ci := 0) (q0 := 0) rfl rfl) rfl rfl hl.1 rfl (lv_room (Nat.le_of_ble_eq_true rfl)) dL_law_330 ⟨Nat.le_of_ble_eq_true rfl, Nat.le_of_ble_eq_true rfl⟩) hS (fun q _ z => hF1 q z) hF1 (fun u1 t1 H1 locs1 ht1 hvm1 hw1 hB1 hz1 hk1 hS => ?_)
  obtain ⟨hP1, hK1, hD1⟩ := hB1
  rw [ht1] at hP1
  obtain ⟨hP, hD⟩ := tp_jo hP hD hk1 hF1 hP1 hD1
  refine lv_aload_n hx hb dL_law_333 rfl (lv_at hl 2 rfl) ?_
  refine lv_aload_n hx hb dL_law_334 rfl (lv_at hl 0 rfl) ?_
  refine lv_iload_n hx hb dL_law_335 rfl (lv_at hl 3 rfl) ?_
  refine lv_iconst (v := nI 1) hx hb dL_law_336 (by decide) ?_
  refine lv_iadd hx hb dL_law_337 ?_
  refine tp_ti (nI_add i 1) ?_
  refine tp_sld hx hb hX0 hbl hbA hS (j := i + 1) (by omega) (by omega) dL_law_338 ?_
  have hF2 := tp_fr (tp_dl hD) hS hA
  refine va_callv (va_runV (As := [.int (xs (i + 1))]) (rest := []) ⟨hx, hb, hml, hown, hts⟩ (mem_keep l D dA dJ dZ h (nI c) (nI o) st pa2 tx wd kp2 (xs (i + 1)) H1.size) (cwV 1 hts (lw_V q259 q260 q261 q21 q262) rfl rfl rfl (by decide +kernel) ⟨Nat.le_of_ble_eq_true rfl, Nat.le_of_ble_eq_true rfl⟩) (tp_pvm hK (tp_left hP) (tp_dl hD) (ci := 1) (q0 := 0) rfl rfl) rfl rfl hl.1 rfl (lv_room (Nat.le_of_ble_eq_true rfl)) dL_law_339 ⟨Nat.le_of_ble_eq_true rfl, Nat.le_of_ble_eq_true rfl⟩) hS (fun q _ z => hF2 q z) hF2 (fun u2 t2 H2 locs2 ht2 hvm2 hw2 hB2 hz2 hk2 hS => ?_)
  obtain ⟨hP2, hK2, hD2⟩ := hB2
  rw [ht2] at hP2
  obtain ⟨hP, hD⟩ := tp_jo hP hD hk2 hF2 hP2 hD2
  have J2 := tj_keep2 I hw1 hw2
  refine lv_goto (tgt := 414) hx hb dL_law_342 (by decide) ?_
  exact kk _ _ _ _ J2 hP hD hS

set_option maxHeartbeats 4000000 in
set_option maxRecDepth 100000 in
theorem lc_mix {p : Program} {l : Launch} {e : Env} {s : State} {m : MethodId} {below : List Frame} {meth : Method} {c0 : Code} {b L : Nat} {xs : Nat → Int32} {D : va_G} {dA dJ dZ : ClassId} (hL : L ≤ 256) (C0 : lw_At p s m meth c0 b L xs) (hK : va_K D tp_cl (tp_ty dA dJ dZ) s) {i : Nat} (hi : i + 4 ≤ L) {h : Nat → Nat} {wx wm : va_W} (J : tp_J dA dJ dZ h wx wm) {H : Heap} {locs : List Loc} (hP : va_P D tp_cl (wx ++ wm) H) (hD : va_D (lc_A s) (wx ++ wm)) (hS : va_S (lc_A s) s.heap H locs) {ls : Array Slot} (hl : lv_has ls 4 [(0, .ref b), (1, .ref (h 0)), (2, .ref (h 6)), (3, .int (nI i))])
    (kk : ∀ (wx' wm' : va_W) (H' : Heap) (locs' : List Loc), tp_J dA dJ dZ h wx' wm' → va_P D tp_cl (wx' ++ wm') H' → va_D (lc_A s) (wx' ++ wm') → va_S (lc_A s) s.heap H' locs' → W p l e room_1 s m #[Value.ref b] below meth c0 H' locs' 11 355 (lw_Z below #[Value.ref b] s) (F0 m 414 ls [])) : W p l e room_1 s m #[Value.ref b] below meth c0 H locs 11 355 (lw_Z below #[Value.ref b] s) (F0 m 345 ls []) := by
  obtain ⟨hx, hb, hr, hml, hown, hts0, hX0, hbl, hlocks, -⟩ := id C0
  have hts : ∀ w ∈ lw_all, w.before #[Value.ref b] s = true := fun w z => hts0 w (lw_all_tbl z)
  have hA : ∀ q : Nat, s.heap.size ≤ q → lc_A s q := fun _ z => z
  have hbA : ¬ lc_A s b := Nat.not_le.mpr hbl
  obtain ⟨c, o, P, E, N, st, nm, vl, pa, en, kp, pa2, tx, wd, kp2, I, rfl, rfl⟩ := J
  obtain ⟨hW, hX, hM, ⟨ho, hE⟩, hs, -⟩ := id I
  have hc := tw_c hW
  refine lv_aload_n hx hb dL_law_345 rfl (lv_at hl 1 rfl) ?_
  refine lv_aload_n hx hb dL_law_346 rfl (lv_at hl 0 rfl) ?_
  refine lv_iload_n hx hb dL_law_347 rfl (lv_at hl 3 rfl) ?_
  refine lv_iconst (v := nI 1) hx hb dL_law_348 (by decide) ?_
  refine lv_iadd hx hb dL_law_349 ?_
  refine tp_ti (nI_add i 1) ?_
  refine tp_sld hx hb hX0 hbl hbA hS (j := i + 1) (by omega) (by omega) dL_law_350 ?_
  refine lv_aload_n hx hb dL_law_351 rfl (lv_at hl 0 rfl) ?_
  refine lv_iload_n hx hb dL_law_352 rfl (lv_at hl 3 rfl) ?_
  refine lv_iconst (v := nI 2) hx hb dL_law_353 (by decide) ?_
  refine lv_iadd hx hb dL_law_354 ?_
  refine tp_ti (nI_add i 2) ?_
  refine tp_sld hx hb hX0 hbl hbA hS (j := i + 2) (by omega) (by omega) dL_law_355 ?_
  have hF1 := tp_fr (tp_dl hD) hS hA
  refine va_calli (va_runV (As := [.int (xs (i + 1)), .int (xs (i + 2))]) (rest := []) ⟨hx, hb, hml, hown, hts⟩ (met_mix l D dA dJ dZ h (nI c) (nI o) st nm vl pa en kp (xs (i + 1)) (xs (i + 2)) H.size) (cwV 2 hts (lw_V q151 q152 q153 q20 q154) rfl rfl rfl (by decide +kernel) ⟨Nat.le_of_ble_eq_true rfl, Nat.le_of_ble_eq_true rfl⟩) (tp_pvm hK (tp_left hP) (tp_dl hD) (ci := 0) (q0 := 0) rfl rfl) rfl rfl hl.1 rfl (lv_room (Nat.le_of_ble_eq_true rfl)) dL_law_356 ⟨Nat.le_of_ble_eq_true rfl, Nat.le_of_ble_eq_true rfl⟩) hS (fun q _ z => hF1 q z) hF1 (fun r1 u1 t1 H1 locs1 ht1 hvm1 hw1 hB1 hz1 hk1 hS => ?_)
  obtain ⟨hP1, hK1, hD1⟩ := hB1
  rw [ht1] at hP1
  obtain ⟨hP, hD⟩ := tp_jo hP hD hk1 hF1 hP1 hD1
  refine lv_aload_n hx hb dL_law_359 rfl (lv_at hl 2 rfl) ?_
  refine lv_aload_n hx hb dL_law_360 rfl (lv_at hl 0 rfl) ?_
  refine lv_iload_n hx hb dL_law_361 rfl (lv_at hl 3 rfl) ?_
  refine lv_iconst (v := nI 1) hx hb dL_law_362 (by decide) ?_
  refine lv_iadd hx hb dL_law_363 ?_
  refine tp_ti (nI_add i 1) ?_
  refine tp_sld hx hb hX0 hbl hbA hS (j := i + 1) (by omega) (by omega) dL_law_364 ?_
  refine lv_aload_n hx hb dL_law_365 rfl (lv_at hl 0 rfl) ?_
  refine lv_iload_n hx hb dL_law_366 rfl (lv_at hl 3 rfl) ?_
  refine lv_iconst (v := nI 2) hx hb dL_law_367 (by decide) ?_
  refine lv_iadd hx hb dL_law_368 ?_
  refine tp_ti (nI_add i 2) ?_
  refine tp_sld hx hb hX0 hbl hbA hS (j := i + 2) (by omega) (by omega) dL_law_369 ?_
  have hF2 := tp_fr (tp_dl hD) hS hA
  refine va_calli (va_runV (As := [.int (xs (i + 1)), .int (xs (i + 2))]) (rest := [.int r1]) ⟨hx, hb, hml, hown, hts⟩ (mem_mix l D dA dJ dZ h (nI o) st pa2 tx wd kp2 c (xs (i + 1)) (xs (i + 2)) H1.size) (cwV 2 hts (lw_V q263 q264 q265 q21 q266) rfl rfl rfl (by decide +kernel) ⟨Nat.le_of_ble_eq_true rfl, Nat.le_of_ble_eq_true rfl⟩) (tp_pvm hK (tp_left hP) (tp_dl hD) (ci := 1) (q0 := 0) rfl rfl) rfl rfl hl.1 rfl (lv_room (Nat.le_of_ble_eq_true rfl)) dL_law_370 ⟨Nat.le_of_ble_eq_true rfl, Nat.le_of_ble_eq_true rfl⟩) hS (fun q _ z => hF2 q z) hF2 (fun r2 u2 t2 H2 locs2 ht2 hvm2 hw2 hB2 hz2 hk2 hS => ?_)
  obtain ⟨hP2, hK2, hD2⟩ := hB2
  rw [ht2] at hP2
  obtain ⟨hP, hD⟩ := tp_jo hP hD hk2 hF2 hP2 hD2
  obtain ⟨e12, J2⟩ := tj_mix I hw1 hw2
  refine lv_icmp_eq (tgt := 414) hx hb dL_law_373 (by decide) (fun _ => ?_) (fun z => absurd e12 z)
  exact kk _ _ _ _ J2 hP hD hS

set_option maxHeartbeats 4000000 in
set_option maxRecDepth 100000 in
theorem lc_node {p : Program} {l : Launch} {e : Env} {s : State} {m : MethodId} {below : List Frame} {meth : Method} {c0 : Code} {b L : Nat} {xs : Nat → Int32} {D : va_G} {dA dJ dZ : ClassId} (hL : L ≤ 256) (C0 : lw_At p s m meth c0 b L xs) (hK : va_K D tp_cl (tp_ty dA dJ dZ) s) {i : Nat} (hi : i + 4 ≤ L) {h : Nat → Nat} {wx wm : va_W} (J : tp_J dA dJ dZ h wx wm) {H : Heap} {locs : List Loc} (hP : va_P D tp_cl (wx ++ wm) H) (hD : va_D (lc_A s) (wx ++ wm)) (hS : va_S (lc_A s) s.heap H locs) {ls : Array Slot} (hl : lv_has ls 4 [(0, .ref b), (1, .ref (h 0)), (2, .ref (h 6)), (3, .int (nI i))])
    (kk : ∀ (wx' wm' : va_W) (H' : Heap) (locs' : List Loc), tp_J dA dJ dZ h wx' wm' → va_P D tp_cl (wx' ++ wm') H' → va_D (lc_A s) (wx' ++ wm') → va_S (lc_A s) s.heap H' locs' → W p l e room_1 s m #[Value.ref b] below meth c0 H' locs' 11 355 (lw_Z below #[Value.ref b] s) (F0 m 414 ls [])) : W p l e room_1 s m #[Value.ref b] below meth c0 H locs 11 355 (lw_Z below #[Value.ref b] s) (F0 m 378 ls []) := by
  obtain ⟨hx, hb, hr, hml, hown, hts0, hX0, hbl, hlocks, -⟩ := id C0
  have hts : ∀ w ∈ lw_all, w.before #[Value.ref b] s = true := fun w z => hts0 w (lw_all_tbl z)
  have hA : ∀ q : Nat, s.heap.size ≤ q → lc_A s q := fun _ z => z
  have hbA : ¬ lc_A s b := Nat.not_le.mpr hbl
  obtain ⟨c, o, P, E, N, st, nm, vl, pa, en, kp, pa2, tx, wd, kp2, I, rfl, rfl⟩ := J
  obtain ⟨hW, hX, hM, ⟨ho, hE⟩, hs, -⟩ := id I
  have hc := tw_c hW
  refine lv_aload_n hx hb dL_law_378 rfl (lv_at hl 1 rfl) ?_
  refine lv_aload_n hx hb dL_law_379 rfl (lv_at hl 0 rfl) ?_
  refine lv_iload_n hx hb dL_law_380 rfl (lv_at hl 3 rfl) ?_
  refine lv_iconst (v := nI 1) hx hb dL_law_381 (by decide) ?_
  refine lv_iadd hx hb dL_law_382 ?_
  refine tp_ti (nI_add i 1) ?_
  refine tp_sld hx hb hX0 hbl hbA hS (j := i + 1) (by omega) (by omega) dL_law_383 ?_
  refine vp_callSi (W.runV (As := [.int (xs (i + 1))]) (rest := []) ⟨hx, hb, hml, hown, hts⟩ (met_node l D dA dJ dZ h (nI o) st nm vl pa en kp c (xs (i + 1))) (cwV 1 hts (lw_V q155 q156 q157 q20 q158) rfl rfl rfl (by decide +kernel) ⟨Nat.le_of_ble_eq_true rfl, Nat.le_of_ble_eq_true rfl⟩) (tp_pv hK (tp_left hP) (ci := 0) (q0 := 0) rfl rfl) rfl rfl hl.1 rfl (lv_room (Nat.le_of_ble_eq_true rfl)) dL_law_384 ⟨Nat.le_of_ble_eq_true rfl, Nat.le_of_ble_eq_true rfl⟩) (fun r1 hw1 => ?_)
  refine lv_aload_n hx hb dL_law_387 rfl (lv_at hl 2 rfl) ?_
  refine lv_aload_n hx hb dL_law_388 rfl (lv_at hl 0 rfl) ?_
  refine lv_iload_n hx hb dL_law_389 rfl (lv_at hl 3 rfl) ?_
  refine lv_iconst (v := nI 1) hx hb dL_law_390 (by decide) ?_
  refine lv_iadd hx hb dL_law_391 ?_
  refine tp_ti (nI_add i 1) ?_
  refine tp_sld hx hb hX0 hbl hbA hS (j := i + 1) (by omega) (by omega) dL_law_392 ?_
  refine vp_callSi (W.runV (As := [.int (xs (i + 1))]) (rest := [.int r1]) ⟨hx, hb, hml, hown, hts⟩ (mem_node l D dA dJ dZ h (nI o) st pa2 tx wd kp2 c (xs (i + 1)) hc.2 hs) (cwV 1 hts (lw_V q267 q268 q269 q21 q270) rfl rfl rfl (by decide +kernel) ⟨Nat.le_of_ble_eq_true rfl, Nat.le_of_ble_eq_true rfl⟩) (tp_pv hK (tp_right hP) (ci := 1) (q0 := 0) rfl rfl) rfl rfl hl.1 rfl (lv_room (Nat.le_of_ble_eq_true rfl)) dL_law_393 ⟨Nat.le_of_ble_eq_true rfl, Nat.le_of_ble_eq_true rfl⟩) (fun r2 hw2 => ?_)
  refine lv_icmp_eq (tgt := 414) hx hb dL_law_396 (by decide) (fun _ => ?_) (fun z => absurd (tn_nd hw1 hw2) z)
  exact kk _ _ _ _ (tj_mk I rfl rfl) hP hD hS

set_option maxHeartbeats 4000000 in
set_option maxRecDepth 100000 in
theorem lc_sum {p : Program} {l : Launch} {e : Env} {s : State} {m : MethodId} {below : List Frame} {meth : Method} {c0 : Code} {b L : Nat} {xs : Nat → Int32} {D : va_G} {dA dJ dZ : ClassId} (hL : L ≤ 256) (C0 : lw_At p s m meth c0 b L xs) (hK : va_K D tp_cl (tp_ty dA dJ dZ) s) {i : Nat} (hi : i + 4 ≤ L) {h : Nat → Nat} {wx wm : va_W} (J : tp_J dA dJ dZ h wx wm) {H : Heap} {locs : List Loc} (hP : va_P D tp_cl (wx ++ wm) H) (hD : va_D (lc_A s) (wx ++ wm)) (hS : va_S (lc_A s) s.heap H locs) {ls : Array Slot} (hl : lv_has ls 4 [(0, .ref b), (1, .ref (h 0)), (2, .ref (h 6)), (3, .int (nI i))])
    (kk : ∀ (wx' wm' : va_W) (H' : Heap) (locs' : List Loc), tp_J dA dJ dZ h wx' wm' → va_P D tp_cl (wx' ++ wm') H' → va_D (lc_A s) (wx' ++ wm') → va_S (lc_A s) s.heap H' locs' → W p l e room_1 s m #[Value.ref b] below meth c0 H' locs' 11 355 (lw_Z below #[Value.ref b] s) (F0 m 414 ls [])) : W p l e room_1 s m #[Value.ref b] below meth c0 H locs 11 355 (lw_Z below #[Value.ref b] s) (F0 m 401 ls []) := by
  obtain ⟨hx, hb, hr, hml, hown, hts0, hX0, hbl, hlocks, -⟩ := id C0
  have hts : ∀ w ∈ lw_all, w.before #[Value.ref b] s = true := fun w z => hts0 w (lw_all_tbl z)
  have hA : ∀ q : Nat, s.heap.size ≤ q → lc_A s q := fun _ z => z
  have hbA : ¬ lc_A s b := Nat.not_le.mpr hbl
  obtain ⟨c, o, P, E, N, st, nm, vl, pa, en, kp, pa2, tx, wd, kp2, I, rfl, rfl⟩ := J
  obtain ⟨hW, hX, hM, ⟨ho, hE⟩, hs, -⟩ := id I
  have hc := tw_c hW
  refine lv_aload_n hx hb dL_law_401 rfl (lv_at hl 1 rfl) ?_
  refine vp_callSi (W.runV (As := []) (rest := []) ⟨hx, hb, hml, hown, hts⟩ (met_sum l D dA dJ dZ h (nI o) st nm vl pa en kp hW hX) (cwV 0 hts (lw_V q159 q160 q161 q20 q162) rfl rfl rfl (by decide +kernel) ⟨Nat.le_of_ble_eq_true rfl, Nat.le_of_ble_eq_true rfl⟩) (tp_pv hK (tp_left hP) (ci := 0) (q0 := 0) rfl rfl) rfl rfl hl.1 rfl (lv_room (Nat.le_of_ble_eq_true rfl)) dL_law_402 ⟨Nat.le_of_ble_eq_true rfl, Nat.le_of_ble_eq_true rfl⟩) (fun r1 hw1 => ?_)
  refine lv_aload_n hx hb dL_law_405 rfl (lv_at hl 2 rfl) ?_
  refine vp_callSi (W.runV (As := []) (rest := [.int r1]) ⟨hx, hb, hml, hown, hts⟩ (mem_sum l D dA dJ dZ h (nI o) st vl pa2 tx wd kp2 hW hM) (cwV 0 hts (lw_V q271 q272 q273 q21 q274) rfl rfl rfl (by decide +kernel) ⟨Nat.le_of_ble_eq_true rfl, Nat.le_of_ble_eq_true rfl⟩) (tp_pv hK (tp_right hP) (ci := 1) (q0 := 0) rfl rfl) rfl rfl hl.1 rfl (lv_room (Nat.le_of_ble_eq_true rfl)) dL_law_406 ⟨Nat.le_of_ble_eq_true rfl, Nat.le_of_ble_eq_true rfl⟩) (fun r2 hw2 => ?_)
  refine lv_icmp_eq (tgt := 414) hx hb dL_law_409 (by decide) (fun _ => ?_) (fun z => absurd (hw1.trans hw2.symm) z)
  exact kk _ _ _ _ (tj_mk I rfl rfl) hP hD hS
end
section
/-! the law's loop, its start -/
theorem lc_gt {L i : Nat} (hL : L ≤ 256) (hi : i ≤ L) : nI L - nI 4 < nI i ↔ L < i + 4 := by
  have h1 : (nI L).toInt = L := nI_toInt (by omega)
  have h2 : (nI i).toInt = i := nI_toInt (by omega)
  have h3 : (nI 4).toInt = 4 := by decide
  rw [Int32.lt_iff_toInt_lt, tn_sub (by omega) (by omega), h1, h2, h3]
  omega
theorem lc_and (x : Int32) : ∃ j : Nat, j < 16 ∧ x &&& nI 15 = nI j := by
  obtain ⟨j, h1, h2⟩ := pk_andE x (m := nI 15) 4 (by decide)
  exact ⟨j, by omega, h2⟩
set_option maxHeartbeats 4000000 in
set_option maxRecDepth 100000 in
theorem lc_loop {p : Program} {l : Launch} {e : Env} {s : State} {m : MethodId} {below : List Frame} {meth : Method} {c0 : Code} {b L : Nat} {xs : Nat → Int32} {D : va_G} {dA dJ dZ : ClassId} {h : Nat → Nat} (hL : L ≤ 256) (C0 : lw_At p s m meth c0 b L xs) (hK : va_K D tp_cl (tp_ty dA dJ dZ) s) : ∀ (n i : Nat), L < i + n → i ≤ L → ∀ (wx wm : va_W) (H : Heap) (locs : List Loc), tp_J dA dJ dZ h wx wm → va_P D tp_cl (wx ++ wm) H → va_D (lc_A s) (wx ++ wm) → va_S (lc_A s) s.heap H locs → ∀ (ls : Array Slot), lv_has ls 4 [(0, .ref b), (1, .ref (h 0)), (2, .ref (h 6)), (3, .int (nI i))] → W p l e room_1 s m #[Value.ref b] below meth c0 H locs 11 355 (lw_Z below #[Value.ref b] s) (F0 m 18 ls []) := by
  obtain ⟨hx, hb, hr, hml, hown, hts0, hX0, hbl, hlocks, -⟩ := id C0
  have hbA : ¬ lc_A s b := Nat.not_le.mpr hbl
  intro n
  induction n with
  | zero => intro i h1 h2; exact absurd h1 (by omega)
  | succ n ih =>
    intro i hn hi wx wm H locs J hP hD hS ls hl
    refine lv_iload_n hx hb dL_law_18 rfl (lv_at hl 3 rfl) ?_
    refine lv_aload_n hx hb dL_law_19 rfl (lv_at hl 0 rfl) ?_
    refine va_slen hx hb hX0 hbl hbA hS dL_law_20 ?_
    refine tp_ti (y := nI L) rfl ?_
    refine lv_iconst (v := nI 4) hx hb dL_law_21 (by decide) ?_
    refine lv_isub hx hb dL_law_22 ?_
    refine lv_icmp_gt (tgt := 420) hx hb dL_law_23 (by decide) (fun c1 => ?_) (fun c1 => ?_)
    · refine lv_iconst (v := 1) hx hb dL_law_420 (by decide) ?_
      refine va_forget hS.2.2 ?_
      refine W.widen (k := 600000) (n := 7290000) (by omega) (by omega) ?_
      exact lw_ret hx hb hr hlocks dL_law_421
    · have hi4 : i + 4 ≤ L := Nat.not_lt.mp (fun z => c1 ((lc_gt hL hi).mpr z))
      have kk : ∀ (wx' wm' : va_W) (H' : Heap) (locs' : List Loc), tp_J dA dJ dZ h wx' wm' → va_P D tp_cl (wx' ++ wm') H' → va_D (lc_A s) (wx' ++ wm') → va_S (lc_A s) s.heap H' locs' → W p l e room_1 s m #[Value.ref b] below meth c0 H' locs' 11 355 (lw_Z below #[Value.ref b] s) (F0 m 414 ls []) := by
        intro wx' wm' H' locs' J' hP' hD' hS'
        refine lv_iinc (v := nI (i + 4)) (lv' := [(3, .int (nI (i + 4))), (0, .ref b), (1, .ref (h 0)), (2, .ref (h 6))]) hx hb dL_law_414 hl (k := 3) rfl (by rw [show Int32.ofInt 4 = nI 4 from by decide]; exact nI_add i 4) (by decide) rfl (fun ls hl => ?_)
        refine lv_goto (tgt := 18) hx hb dL_law_417 (by decide) ?_
        exact ih (i + 4) (by omega) hi4 wx' wm' H' locs' J' hP' hD' hS' ls (lv_sub hl [1, 2, 3, 0] rfl)
      refine lv_aload_n hx hb dL_law_26 rfl (lv_at hl 0 rfl) ?_
      refine lv_iload_n hx hb dL_law_27 rfl (lv_at hl 3 rfl) ?_
      refine tp_sld hx hb hX0 hbl hbA hS (j := i) (by omega) (by omega) dL_law_28 ?_
      refine lv_bipush (v := nI 15) hx hb dL_law_29 (by decide) ?_
      refine lv_iand hx hb dL_law_31 ?_
      obtain ⟨j, hj, ej⟩ := lc_and (xs i)
      refine tp_ti (y := nI j) ej ?_
      rcases (show j = 0 ∨ j = 1 ∨ j = 2 ∨ j = 3 ∨ j = 4 ∨ j = 5 ∨ j = 6 ∨ j = 7 ∨ j = 8 ∨ j = 9 ∨ j = 10 ∨ j = 11 ∨ 12 ≤ j by omega) with rfl | rfl | rfl | rfl | rfl | rfl | rfl | rfl | rfl | rfl | rfl | rfl | hj12
      · refine lv_tableIn (off := 64) (tgt := 96) hx hb dL_law_32 (by decide) (by decide) (by first | rfl | decide +kernel) (by decide) ?_
        exact lc_open hL C0 hK hi4 J hP hD hS hl kk
      · refine lv_tableIn (off := 87) (tgt := 119) hx hb dL_law_32 (by decide) (by decide) (by first | rfl | decide +kernel) (by decide) ?_
        exact lc_text hL C0 hK hi4 J hP hD hS hl kk
      · refine lv_tableIn (off := 110) (tgt := 142) hx hb dL_law_32 (by decide) (by decide) (by first | rfl | decide +kernel) (by decide) ?_
        exact lc_close hL C0 hK hi4 J hP hD hS hl kk
      · refine lv_tableIn (off := 123) (tgt := 155) hx hb dL_law_32 (by decide) (by decide) (by first | rfl | decide +kernel) (by decide) ?_
        exact lc_remove hL C0 hK hi4 J hP hD hS hl kk
      · refine lv_tableIn (off := 146) (tgt := 178) hx hb dL_law_32 (by decide) (by decide) (by first | rfl | decide +kernel) (by decide) ?_
        exact lc_start hL C0 hK hi4 J hP hD hS hl kk
      · refine lv_tableIn (off := 157) (tgt := 189) hx hb dL_law_32 (by decide) (by decide) (by first | rfl | decide +kernel) (by decide) ?_
        exact lc_step hL C0 hK hi4 J hP hD hS hl kk
      · refine lv_tableIn (off := 200) (tgt := 232) hx hb dL_law_32 (by decide) (by decide) (by first | rfl | decide +kernel) (by decide) ?_
        exact lc_having hL C0 hK hi4 J hP hD hS hl kk
      · refine lv_tableIn (off := 259) (tgt := 291) hx hb dL_law_32 (by decide) (by decide) (by first | rfl | decide +kernel) (by decide) ?_
        exact lc_valued hL C0 hK hi4 J hP hD hS hl kk
      · refine lv_tableIn (off := 292) (tgt := 324) hx hb dL_law_32 (by decide) (by decide) (by first | rfl | decide +kernel) (by decide) ?_
        exact lc_keep hL C0 hK hi4 J hP hD hS hl kk
      · refine lv_tableIn (off := 313) (tgt := 345) hx hb dL_law_32 (by decide) (by decide) (by first | rfl | decide +kernel) (by decide) ?_
        exact lc_mix hL C0 hK hi4 J hP hD hS hl kk
      · refine lv_tableIn (off := 346) (tgt := 378) hx hb dL_law_32 (by decide) (by decide) (by first | rfl | decide +kernel) (by decide) ?_
        exact lc_node hL C0 hK hi4 J hP hD hS hl kk
      · refine lv_tableIn (off := 369) (tgt := 401) hx hb dL_law_32 (by decide) (by decide) (by first | rfl | decide +kernel) (by decide) ?_
        exact lc_sum hL C0 hK hi4 J hP hD hS hl kk
      · refine lv_tableOut (tgt := 414) hx hb dL_law_32 (Or.inr (by rw [nI_toInt (by omega)]; omega)) (by decide) ?_
        exact kk wx wm H locs J hP hD hS

set_option maxHeartbeats 4000000 in
set_option maxRecDepth 100000 in
theorem whole_start {p : Program} {e : Env} {s : State} {m : MethodId} {below : List Frame} {meth : Method} {c : Code} (l : Launch) {b L : Nat} {xs : Nat → Int32} (hL : L ≤ 256) (C0 : lw_At p s m meth c b L xs) : W p l e room_1 s m #[Value.ref b] below meth c s.heap [] 0 0 (lw_Z below #[Value.ref b] s) (entryFrame m ([Value.ref b] : List Value).toArray 4) := by
  obtain ⟨hx, hb, hr, hml, hown, hts0, hX0, hbl, hlocks, -⟩ := id C0
  have hts : ∀ w ∈ lw_all, w.before #[Value.ref b] s = true := fun w z => hts0 w (lw_all_tbl z)
  have hA : ∀ q : Nat, s.heap.size ≤ q → lc_A s q := fun _ z => z
  obtain ⟨k0, iS0, hKn0⟩ := u_known (C := RX0) (T := TX0) (N := 8) (n := 8) hts in_X0 (hts _ q23)
  obtain ⟨k1, iS1, hKn1⟩ := u_known (C := RX1) (T := TX1) (N := 7) (n := 7) hts in_X1 (hts _ q164)
  obtain ⟨D, hKc⟩ : ∃ D : va_G, ∀ (k : Nat) (q : vw_C), tp_cl[k]? = some q → u_Kn s q.1 q.2.1 q.2.2 (D.1 k) (D.2 k) := by
    refine ⟨(fun k => if k = 0 then k0 else k1, fun k => if k = 0 then iS0 else iS1), ?_⟩
    intro k q hq
    match k, hq with
    | 0, hq => cases hq; exact hKn0
    | 1, hq => cases hq; exact hKn1
    | k + 2, hq => simp [tp_cl] at hq
  obtain ⟨dA, hA1, hA2⟩ := tp_arr (hts _ q55)
  obtain ⟨dJ, hJ1, hJ2⟩ := tp_arr (hts _ q56)
  obtain ⟨dZ, hZ1, hZ2⟩ := tp_arr (hts _ q191)
  have hK : va_K D tp_cl (tp_ty dA dJ dZ) s := by
    refine ⟨hKc, fun k q hq => ?_⟩
    match k, hq with
    | 0, hq => cases hq; exact ⟨hA1, hA2⟩
    | 1, hq => cases hq; exact ⟨hJ1, hJ2⟩
    | 2, hq => cases hq; exact ⟨hZ1, hZ2⟩
    | k + 3, hq => simp [tp_ty] at hq
  have hS : va_S (lc_A s) s.heap s.heap [] := va_S.rf
  have hP : va_P D tp_cl [] s.heap := fun k q z => by simp at z
  have hD : va_D (lc_A s) [] := ⟨fun i j p q z => by simp at z, fun k q z => by simp at z⟩
  have hl := lv_entry ([.ref b]) (n := 4) (Nat.le_of_ble_eq_true rfl)
  rw [lg_entry_eq]
  generalize (lg_sl ([.ref b]) ++ List.replicate (4 - (lg_sl ([.ref b])).length) Slot.unset).toArray = ls at hl ⊢
  have hl : lv_has ls 4 [(0, .ref b)] := hl
  refine va_new (ci := 0) (fs := [.int 0, .int 0, .null, .null, .null, .null, .long 0, .null]) (C := RX0) (T := TX0) (N := 8) hx hb hts in_X0 tyX0 tyX0_ok hown (hts _ q22) (hts _ q23) (hts _ q20) hK hP hD hS hA rfl (fun j hj => by rcases (show j = 0 ∨ j = 1 ∨ j = 2 ∨ j = 3 ∨ j = 4 ∨ j = 5 ∨ j = 6 ∨ j = 7 by omega) with rfl | rfl | rfl | rfl | rfl | rfl | rfl | rfl <;> rfl) (Nat.le_of_ble_eq_true rfl) (Nat.le_of_ble_eq_true rfl) dL_law_0 (fun a0 H hP hD hS => ?_)
  have hP : va_P D tp_cl [(a0, .inr (0, [.int 0, .int 0, .null, .null, .null, .null, .long 0, .null]))] H := hP
  have hD : va_D (lc_A s) [(a0, .inr (0, [.int 0, .int 0, .null, .null, .null, .null, .long 0, .null]))] := hD
  refine W.widen (k := 1) (n := 8) (by omega) (by omega) ?_
  refine lv_dup hx hb dL_law_3 rfl ?_
  have hF1 := tp_fr hD hS hA
  refine va_callv (va_runI (As := []) (rest := [.ref a0]) ⟨hx, hb, hml, hown, hts⟩ (met_init l D dA dJ dZ a0 H.size) (cwI 0 hts (lw_meth q26) rfl rfl rfl (hts _ q20) (hts _ q24) (hts _ q25) rfl (by decide +kernel) ⟨Nat.le_of_ble_eq_true rfl, Nat.le_of_ble_eq_true rfl⟩) (tp_psm hK hP hD) rfl rfl hl.1 rfl (lv_room (Nat.le_of_ble_eq_true rfl)) dL_law_4 ⟨Nat.le_of_ble_eq_true rfl, Nat.le_of_ble_eq_true rfl⟩) hS (fun q _ z => hF1 q z) hF1 (fun u1 t1 H1 locs1 ht1 hvm1 hw1 hB1 hz1 hk1 hS => ?_)
  obtain ⟨hP1, hK1, hD1⟩ := hB1
  rw [ht1] at hP1
  have hDw : va_D (lc_A s) u1 := hD1.weaken (fun _ q _ z => hF1 q.1 z)
  obtain ⟨h1, rfl, rfl⟩ := hw1
  refine W.widen (k := 6) (n := 202) (by omega) (by omega) ?_
  refine lv_astore_n (lv' := [(1, .ref (h1 0)), (0, .ref b)]) hx hb dL_law_7 rfl hl (by decide) rfl (fun ls hl => ?_)
  refine va_new (ci := 1) (fs := [.int 0, .null, .null, .null, .int 0, .long 0, .null]) (C := RX1) (T := TX1) (N := 7) hx hb hts in_X1 tyX1 tyX1_ok hown (hts _ q163) (hts _ q164) (hts _ q21) hK hP1 hDw hS hA rfl (fun j hj => by rcases (show j = 0 ∨ j = 1 ∨ j = 2 ∨ j = 3 ∨ j = 4 ∨ j = 5 ∨ j = 6 by omega) with rfl | rfl | rfl | rfl | rfl | rfl | rfl <;> rfl) (Nat.le_of_ble_eq_true rfl) (Nat.le_of_ble_eq_true rfl) dL_law_8 (fun a1 H hP hD hS => ?_)
  obtain ⟨hP, hD⟩ := tp_sw hP hD
  refine W.widen (k := 7) (n := 209) (by omega) (by omega) ?_
  refine lv_dup hx hb dL_law_11 rfl ?_
  have hF2 := tp_fr (tp_dl hD) hS hA
  refine va_callv (va_runI (As := []) (rest := [.ref a1]) ⟨hx, hb, hml, hown, hts⟩ (mem_init l D dA dJ dZ a1 H.size) (cwI 0 hts (lw_meth q167) rfl rfl rfl (hts _ q21) (hts _ q165) (hts _ q166) rfl (by decide +kernel) ⟨Nat.le_of_ble_eq_true rfl, Nat.le_of_ble_eq_true rfl⟩) (tp_psm hK (tp_left hP) (tp_dl hD)) rfl rfl hl.1 rfl (lv_room (Nat.le_of_ble_eq_true rfl)) dL_law_12 ⟨Nat.le_of_ble_eq_true rfl, Nat.le_of_ble_eq_true rfl⟩) hS (fun q _ z => hF2 q z) hF2 (fun u2 t2 H2 locs2 ht2 hvm2 hw2 hB2 hz2 hk2 hS9 => ?_)
  obtain ⟨hP2, hK2, hD2⟩ := hB2
  rw [ht2] at hP2
  obtain ⟨hP9, hD9⟩ := tp_jo hP hD hk2 hF2 hP2 hD2
  obtain ⟨h2, rfl, e2⟩ := hw2
  refine W.widen (k := 11) (n := 355) (by omega) (by omega) ?_
  refine lv_astore_n (lv' := [(2, .ref (h2 6)), (1, .ref (h1 0)), (0, .ref b)]) hx hb dL_law_15 rfl hl (by decide) rfl (fun ls hl => ?_)
  refine lv_iconst (v := nI 0) hx hb dL_law_16 (by decide) ?_
  refine lv_istore_n (lv' := [(3, .int (nI 0)), (2, .ref (h2 6)), (1, .ref (h1 0)), (0, .ref b)]) hx hb dL_law_17 rfl hl (by decide) rfl (fun ls hl => ?_)
  refine lc_loop (h := fun k => if k < 6 then h1 k else h2 k) hL C0 hK (L + 1) 0 (by omega) (by omega) _ _ _ _ (tj_mk tj_ini ?_ ?_) hP9 hD9 hS9 ls (lv_sub hl [3, 2, 1, 0] rfl)
  · first | rfl | (rw [nI_0]; rfl)
  · exact e2.trans (by first | rfl | (rw [nI_0]; rfl))
end
section
set_option maxHeartbeats 4000000 in
theorem lw_walk (l : Launch) (b : Addr) (xs : List Int32) : MetFree l x (headSpec (Jvm.Cond.code x code maxLocals ret :: tables_1) room_1) (lw_P b xs) (fun _ _ _ _ _ => True) lw_Q := by
  refine MetFree.of_bodyS (code := code) (maxLocals := maxLocals) (ret := ret) (by decide) ?_ ?_
  · intro args s m h hn
    obtain ⟨meth, c, h1, h2, h3, h4, h5, h6, -, -⟩ := Cond.code_spec hn (atoms_spec (ws := Jvm.Cond.code x code maxLocals ret :: tables_1) h _ List.mem_cons_self)
    exact ⟨meth, c, h1, h2, h3, h4, h5, h6⟩
  · intro p e s m args below meth c s₁ B hml0 hP _
    obtain ⟨rfl, hx, hbd, hgv⟩ := hP
    obtain ⟨scr, harrAt, hlist, hof, hsmall⟩ := hx
    obtain ⟨hcb, hkn, -, -⟩ := State.arrayAt?_spec harrAt
    have hown : s.vm.findClass R_law = some m.cls := findClass_of_methodNamed B.named
    have hts0 : ∀ c ∈ (Jvm.Cond.code x code maxLocals ret :: tables_1), c.before #[Value.ref b] s = true := atoms_spec (ws := Jvm.Cond.code x code maxLocals ret :: tables_1) B.pre
    have hts : ∀ w ∈ lw_tbl, w.before #[Value.ref b] s = true := k2_hts_sels lw_privs (fun w hw => hts0 w (List.mem_cons_of_mem _ hw)) lw_privs_ok
    have hml : c.maxLocals = 4 := B.maxLocals_eq (hts0 _ List.mem_cons_self)
    have X₀ : Stand p l e room_1 s m #[Value.ref b] below meth c s₁ [] 0 0 := Stand.of_body B
    have hh0 : s₁.heap = s.heap := by rw [B.state]; rfl
    have hsz : scr.slots.size = xs.length := by rw [← Array.length_toList, hlist, List.length_map]
    have hval : ∀ j : Nat, j < xs.length → scr.slots[j]? = some (.int (xs.getD j 0)) := fun j hj => by
      rw [← Array.getElem?_toList, hlist]
      simp [hj]
    have hbl : b < s.heap.size := (Array.getElem?_eq_some_iff.mp hcb).1
    have hX : va_X b xs.length (fun j => xs.getD j 0) s s.heap := ⟨scr, hcb, hof, hkn, hsz, hval⟩
    have K : W p l e room_1 s m #[Value.ref b] below meth c s₁.heap [] 0 0 (lw_Z below #[Value.ref b] s) (entryFrame m ([Value.ref b] : List Value).toArray 4) := by
      rw [hh0]
      exact whole_start l hbd ⟨B.exec, B.bytes, B.returns, hml, hown, hts, hX, hbl, B.notSynchronized, hgv⟩
    obtain ⟨t, a1, o, b1, b2, b3⟩ := K s₁ rfl X₀
    exact ⟨t, o, a1, b1, b2, b3⟩
theorem lw_pre_spec {args : Array Value} {s : State} (h : (Jvm.Cond.and given_1 narrow_1).before args s = true) (hr : rest_1_c.before args s = true) : ∃ (b : Addr) (xs : List Int32), lw_P b xs args s := by
  have hs := flat_of_before _ h
  have hq := flat_of_before _ hr
  have hc : (Cond.count 1).before args s = true := hs _ (by decide +kernel)
  have harr : (Cond.arrayOf (.arg 0) .int).before args s = true := hs _ (by decide +kernel)
  have hle : (Cond.le (.length (.arg 0)) (.int 256)).before args s = true := hs _ (by decide +kernel)
  have hlen : (Cond.isInt (.length (.arg 0))).before args s = true := hq _ (by decide +kernel)
  have hall : (Cond.all (.arg 0) (.isInt (.elem (.arg 0) (.index 0)))).before args s = true := hq _ (by decide +kernel)
  obtain ⟨b, xs, hb, hx⟩ := State.ints_of_pre rfl harr hlen hall
  have hsm : xs.length < 2 ^ 31 := hx.choose_spec.2.2.2
  have hev : (Term.length (.arg 0)).eval args s none [] s = some (.int xs.length.toInt32) := hx.length_eval hb
  have hv := Cond.le_ints hev (show (Term.int 256).eval args s none [] s = some (.int 256) from rfl)
  have hd : xs.length.toInt32 ≤ 256 := by
    simpa [Cond.before, Cond.holds, hv] using hle
  have hN : xs.length ≤ 256 := (Int32.ofNat_le_ofNat hsm (by decide)).mp (show Int32.ofNat xs.length ≤ Int32.ofNat 256 from hd)
  exact ⟨b, xs, Cond.one_arg hc (show args[0]? = some (.ref b) from hb), hx, hN, h⟩
theorem lw_comes (l : Launch) : Comes l x (Jvm.Cond.code x code maxLocals ret :: tables_1) room_1 (fun tb e args s => Calls_1 tb e args s ∧ rest_1 tb e args s ∧ Pre_1 tb e args s)
    (fun _ _ args s o t => lw_Q args s o t) := by
  intro p e ha hc hk s m args below hf hfit hheap happ hpre
  obtain ⟨b, xs, hP⟩ := lw_pre_spec hpre.2.2 hpre.2.1
  obtain ⟨k, o, h1, h2, h3, hQ⟩ := lw_walk l b xs p e ha hc hk s m args below hf ((Spec.applies_iff_loose hf).mp happ).1 hP trivial
  exact ⟨k, o, h1, h2, h3, hQ⟩
theorem lw_frame {s t : State} {o : Outcome} {args : Array Value} (h : Framed s o t [] 600000 7290000) :
    Framed s o t (fieldLocs frame_1_writes args s ++ arrayLocs frame_1_arrays args s ++ staticLocs frame_1_statics s) 600000 7290000 := h
theorem lw_limb (L : Cond) (hL : ∀ (args : Array Value) (s t : State), L.after args s (.returned (some (.int 1))) t = true) :
    ArmFor flags0 classFile x code maxLocals ret World_1 tables_1 room_1 Calls_1 rest_1 Pre_1
      (fun tb e a s o t => postC L tb e a s o t ∧ Framed s o t (fieldLocs frame_1_writes a s ++ arrayLocs frame_1_arrays a s ++ staticLocs frame_1_statics s) 600000 7290000) := by
  intro l _ _ _ p e ha hc hk s m args below hf hfit hheap happ hpre
  obtain ⟨k, o, h1, h2, h3, rfl, hF⟩ := lw_comes l p e ha hc hk s m args below hf hfit hheap happ hpre
  exact ⟨k, _, h1, h2, h3, hL args s _, lw_frame hF⟩
theorem i_vc : Claimed_1_1 ∧ Claimed_1_2 := ⟨lw_limb limb_1_1 (fun args s t => by simp [limb_1_1, Cond.after, Cond.holds, Cond.value]), lw_limb limb_1_2 (fun args s t => Cond.after_iff.mpr (by
  first | (rw [show limb_1_2 = Cond.eq .result (.int 1) from rfl, Cond.eq_ints (x := 1) (y := 1) rfl rfl]; simp; done) | (simp [limb_1_2, Cond.value, Term.eval]; done)))⟩
end
