section
-- ===== PART A: goes FIRST, ahead of the names: the tables' words, and 'selects' of the private methods out of them =====
/-- a private method of a class that the tables say can be made, by its rows of tables_1 -/
def lw_okq (q : MethodName × Nat) : Prop := (q.1.cls ≠ "java/lang/invoke/MethodHandle" ∧ q.1.cls ≠ "java/lang/invoke/VarHandle") ∧ Cond.instantiable q.1.cls q.2 ∈ tables_1 ∧ Cond.privateMethod q.1 ∈ tables_1 ∧ Cond.instanceMethod q.1 ∈ tables_1
set_option maxRecDepth 100000
theorem lw_t1 {w : Cond} (h : w ∈ tables_1_1) : w ∈ tables_1 := List.mem_append_left _ h
theorem lw_t2 {w : Cond} (h : w ∈ tables_1_2) : w ∈ tables_1 := List.mem_append_right _ h
theorem lw_p0 : lw_okq (⟨"RunFinder", "add", "(I)V"⟩, 11) := ⟨⟨by decide +kernel, by decide +kernel⟩, lw_t1 (List.mem_of_getElem? (i := 4) rfl), lw_t1 (List.mem_of_getElem? (i := 54) rfl), lw_t1 (List.mem_of_getElem? (i := 55) rfl)⟩
theorem lw_p1 : lw_okq (⟨"RunFinder", "badPlace", "(I)Z"⟩, 11) := ⟨⟨by decide +kernel, by decide +kernel⟩, lw_t1 (List.mem_of_getElem? (i := 4) rfl), lw_t1 (List.mem_of_getElem? (i := 62) rfl), lw_t1 (List.mem_of_getElem? (i := 63) rfl)⟩
theorem lw_p2 : lw_okq (⟨"RunFinder", "prepare", "()V"⟩, 11) := ⟨⟨by decide +kernel, by decide +kernel⟩, lw_t1 (List.mem_of_getElem? (i := 4) rfl), lw_t1 (List.mem_of_getElem? (i := 82) rfl), lw_t1 (List.mem_of_getElem? (i := 83) rfl)⟩
theorem lw_p3 : lw_okq (⟨"RunFinder", "fillOnward", "()V"⟩, 11) := ⟨⟨by decide +kernel, by decide +kernel⟩, lw_t1 (List.mem_of_getElem? (i := 4) rfl), lw_t1 (List.mem_of_getElem? (i := 86) rfl), lw_t1 (List.mem_of_getElem? (i := 87) rfl)⟩
theorem lw_p4 : lw_okq (⟨"RunFinder", "fillBackward", "()V"⟩, 11) := ⟨⟨by decide +kernel, by decide +kernel⟩, lw_t1 (List.mem_of_getElem? (i := 4) rfl), lw_t1 (List.mem_of_getElem? (i := 90) rfl), lw_t1 (List.mem_of_getElem? (i := 91) rfl)⟩
theorem lw_p5 : lw_okq (⟨"RunFinder", "findWords", "(Z)V"⟩, 11) := ⟨⟨by decide +kernel, by decide +kernel⟩, lw_t1 (List.mem_of_getElem? (i := 4) rfl), lw_t1 (List.mem_of_getElem? (i := 94) rfl), lw_t1 (List.mem_of_getElem? (i := 95) rfl)⟩
theorem lw_p6 : lw_okq (⟨"RunFinder", "smallerFrom", "(IIZ)Z"⟩, 11) := ⟨⟨by decide +kernel, by decide +kernel⟩, lw_t1 (List.mem_of_getElem? (i := 4) rfl), lw_t1 (List.mem_of_getElem? (i := 98) rfl), lw_t1 (List.mem_of_getElem? (i := 99) rfl)⟩
theorem lw_p7 : lw_okq (⟨"RunFinder", "stretchWords", "()V"⟩, 11) := ⟨⟨by decide +kernel, by decide +kernel⟩, lw_t1 (List.mem_of_getElem? (i := 4) rfl), lw_t1 (List.mem_of_getElem? (i := 102) rfl), lw_t1 (List.mem_of_getElem? (i := 103) rfl)⟩
theorem lw_p8 : lw_okq (⟨"RunFinder", "keep", "(III)V"⟩, 11) := ⟨⟨by decide +kernel, by decide +kernel⟩, lw_t1 (List.mem_of_getElem? (i := 4) rfl), lw_t1 (List.mem_of_getElem? (i := 106) rfl), lw_t1 (List.mem_of_getElem? (i := 107) rfl)⟩
theorem lw_p9 : lw_okq (⟨"RunFinder", "noRun", "(I)Z"⟩, 11) := ⟨⟨by decide +kernel, by decide +kernel⟩, lw_t1 (List.mem_of_getElem? (i := 4) rfl), lw_t1 (List.mem_of_getElem? (i := 114) rfl), lw_t1 (List.mem_of_getElem? (i := 115) rfl)⟩
theorem lw_p10 : lw_okq (⟨"RunFinder", "letterAt", "(I)I"⟩, 11) := ⟨⟨by decide +kernel, by decide +kernel⟩, lw_t1 (List.mem_of_getElem? (i := 4) rfl), lw_t1 (List.mem_of_getElem? (i := 146) rfl), lw_t1 (List.mem_of_getElem? (i := 147) rfl)⟩
theorem lw_p11 : lw_okq (⟨"RunFinderModel", "runEnd", "(II)I"⟩, 2) := ⟨⟨by decide +kernel, by decide +kernel⟩, lw_t1 (List.mem_of_getElem? (i := 150) rfl), lw_t1 (List.mem_of_getElem? (i := 187) rfl), lw_t1 (List.mem_of_getElem? (i := 188) rfl)⟩
theorem lw_p12 : lw_okq (⟨"RunFinderModel", "leastPeriod", "(II)I"⟩, 2) := ⟨⟨by decide +kernel, by decide +kernel⟩, lw_t1 (List.mem_of_getElem? (i := 150) rfl), lw_t1 (List.mem_of_getElem? (i := 191) rfl), lw_t1 (List.mem_of_getElem? (i := 192) rfl)⟩
theorem lw_p13 : lw_okq (⟨"RunFinderModel", "hasPeriod", "(III)Z"⟩, 2) := ⟨⟨by decide +kernel, by decide +kernel⟩, lw_t1 (List.mem_of_getElem? (i := 150) rfl), lw_t1 (List.mem_of_getElem? (i := 195) rfl), lw_t1 (List.mem_of_getElem? (i := 196) rfl)⟩
theorem lw_p14 : lw_okq (⟨"RunFinderModel", "run", "(I)I"⟩, 2) := ⟨⟨by decide +kernel, by decide +kernel⟩, lw_t1 (List.mem_of_getElem? (i := 150) rfl), lw_t1 (List.mem_of_getElem? (i := 203) rfl), lw_t1 (List.mem_of_getElem? (i := 204) rfl)⟩
theorem lw_p15 : lw_okq (⟨"RunFinderModel", "smallest", "(I)I"⟩, 2) := ⟨⟨by decide +kernel, by decide +kernel⟩, lw_t1 (List.mem_of_getElem? (i := 150) rfl), lw_t1 (List.mem_of_getElem? (i := 227) rfl), lw_t1 (List.mem_of_getElem? (i := 228) rfl)⟩
def lw_privs_1 : List (MethodName × Nat) := [(⟨"RunFinder", "add", "(I)V"⟩, 11), (⟨"RunFinder", "badPlace", "(I)Z"⟩, 11), (⟨"RunFinder", "prepare", "()V"⟩, 11), (⟨"RunFinder", "fillOnward", "()V"⟩, 11), (⟨"RunFinder", "fillBackward", "()V"⟩, 11), (⟨"RunFinder", "findWords", "(Z)V"⟩, 11), (⟨"RunFinder", "smallerFrom", "(IIZ)Z"⟩, 11), (⟨"RunFinder", "stretchWords", "()V"⟩, 11), (⟨"RunFinder", "keep", "(III)V"⟩, 11), (⟨"RunFinder", "noRun", "(I)Z"⟩, 11), (⟨"RunFinder", "letterAt", "(I)I"⟩, 11), (⟨"RunFinderModel", "runEnd", "(II)I"⟩, 2), (⟨"RunFinderModel", "leastPeriod", "(II)I"⟩, 2), (⟨"RunFinderModel", "hasPeriod", "(III)Z"⟩, 2), (⟨"RunFinderModel", "run", "(I)I"⟩, 2), (⟨"RunFinderModel", "smallest", "(I)I"⟩, 2)]
theorem lw_r1 : ∀ q ∈ lw_privs_1, lw_okq q := List.forall_mem_cons.mpr ⟨lw_p0, List.forall_mem_cons.mpr ⟨lw_p1, List.forall_mem_cons.mpr ⟨lw_p2, List.forall_mem_cons.mpr ⟨lw_p3, List.forall_mem_cons.mpr ⟨lw_p4, List.forall_mem_cons.mpr ⟨lw_p5, List.forall_mem_cons.mpr ⟨lw_p6, List.forall_mem_cons.mpr ⟨lw_p7, List.forall_mem_cons.mpr ⟨lw_p8, List.forall_mem_cons.mpr ⟨lw_p9, List.forall_mem_cons.mpr ⟨lw_p10, List.forall_mem_cons.mpr ⟨lw_p11, List.forall_mem_cons.mpr ⟨lw_p12, List.forall_mem_cons.mpr ⟨lw_p13, List.forall_mem_cons.mpr ⟨lw_p14, List.forall_mem_cons.mpr ⟨lw_p15, fun _ h => absurd h List.not_mem_nil⟩⟩⟩⟩⟩⟩⟩⟩⟩⟩⟩⟩⟩⟩⟩⟩
theorem lw_p16 : lw_okq (⟨"RunFinderModel", "smaller", "(III)Z"⟩, 2) := ⟨⟨by decide +kernel, by decide +kernel⟩, lw_t1 (List.mem_of_getElem? (i := 150) rfl), lw_t1 (List.mem_of_getElem? (i := 231) rfl), lw_t1 (List.mem_of_getElem? (i := 232) rfl)⟩
theorem lw_p17 : lw_okq (⟨"RunFinderModel", "turnSmaller", "(II)Z"⟩, 2) := ⟨⟨by decide +kernel, by decide +kernel⟩, lw_t1 (List.mem_of_getElem? (i := 150) rfl), lw_t2 (List.mem_of_getElem? (i := 3) rfl), lw_t2 (List.mem_of_getElem? (i := 4) rfl)⟩
def lw_privs_2 : List (MethodName × Nat) := [(⟨"RunFinderModel", "smaller", "(III)Z"⟩, 2), (⟨"RunFinderModel", "turnSmaller", "(II)Z"⟩, 2)]
theorem lw_r2 : ∀ q ∈ lw_privs_2, lw_okq q := List.forall_mem_cons.mpr ⟨lw_p16, List.forall_mem_cons.mpr ⟨lw_p17, fun _ h => absurd h List.not_mem_nil⟩⟩
def lw_privs : List (MethodName × Nat) := lw_privs_1 ++ (lw_privs_2)
def lw_tbl : List Cond := k2_sels lw_privs ++ tables_1
theorem lw_privs_ok : ∀ q ∈ lw_privs, lw_okq q := by
  show ∀ q ∈ lw_privs_1 ++ (lw_privs_2), lw_okq q
  exact List.forall_mem_append.mpr ⟨lw_r1, lw_r2⟩
-- ===== ONE list of words for every method: the tables' words that hold all through a run =====
def lw_all : List Cond := lw_tbl.filter goodWord
/-- a word of the tables by its place: claim/WORDS.tsv -/
theorem lw_w {w : Cond} (i : Nat) (h : lw_tbl[i]? = some w) (g : goodWord w = true) : w ∈ lw_all := List.mem_filter.mpr ⟨List.mem_of_getElem? h, g⟩
theorem lw_all_tbl {w : Cond} (h : w ∈ lw_all) : w ∈ lw_tbl := (List.mem_filter.mp h).1
theorem lw_self : GoodIn lw_all lw_all := fun w h => ⟨h, good_of_word (List.mem_filter.mp h).2⟩
/-- a class's field words, by their places -/
theorem lw_in (ws : List Cond) (ps : List Nat) (hp : ws = ps.filterMap (fun i => lw_tbl[i]?)) (hg : ws.all goodWord = true) : ∀ w ∈ ws, w ∈ lw_all := by
  intro w h
  have h1 := List.all_eq_true.mp hg w h
  rw [hp] at h
  obtain ⟨i, -, hi⟩ := List.mem_filterMap.mp h
  exact lw_w i hi h1
/-- the words of a contract for the method y with code b, L locals, answer r -/
abbrev ws_ (y : MethodName) (b : ByteArray) (L : Nat) (r : Option FieldType) : List Cond := Cond.code y b L r :: lw_all
theorem lw_meth {y : MethodName} {b : ByteArray} {L : Nat} {r : Option FieldType} (h : Cond.code y b L r ∈ lw_all) : GoodIn lw_all (ws_ y b L r) := by
  intro w hw
  rcases List.mem_cons.mp hw with e | e
  · rw [e]
    exact lw_self _ h
  · exact lw_self _ e
theorem lw_app {a c : List Cond} (ha : ∀ w ∈ a, w ∈ lw_all) (hc : GoodIn lw_all c) : GoodIn lw_all (a ++ c) := by
  intro w hw
  rcases List.mem_append.mp hw with e | e
  · exact lw_self w (ha w e)
  · exact hc w e
/-- what a call through an object asks: cwV n hts (lw_V ..) -/
theorem lw_V {own : String} {idx : Nat} {C : String} {y : MethodName} {b : ByteArray} {L : Nat} {r : Option FieldType} (h1 : Cond.methodLink own idx y ∈ lw_all) (h2 : Cond.instanceMethod y ∈ lw_all) (h3 : Cond.selects C y y ∈ lw_all) (h4 : Cond.initialized C ∈ lw_all) (h5 : Cond.code y b L r ∈ lw_all) : GoodIn lw_all (wsV own idx C y (ws_ y b L r)) := by
  refine lw_app ?_ (lw_meth h5)
  intro w hw
  simp only [List.mem_cons, List.not_mem_nil, or_false] at hw
  rcases hw with e | e | e | e
  · rw [e]; exact h1
  · rw [e]; exact h2
  · rw [e]; exact h3
  · rw [e]; exact h4
/-- what a static call asks: va_cwS n hts (lw_S ..) -/
theorem lw_S {own : String} {idx : Nat} {y : MethodName} {b : ByteArray} {L : Nat} {r : Option FieldType} (h1 : Cond.methodLink own idx y ∈ lw_all) (h2 : Cond.static y ∈ lw_all) (h3 : Cond.initialized y.cls ∈ lw_all) (h4 : Cond.code y b L r ∈ lw_all) : GoodIn lw_all (va_wsS own idx y (ws_ y b L r)) := by
  refine lw_app ?_ (lw_meth h4)
  intro w hw
  simp only [List.mem_cons, List.not_mem_nil, or_false] at hw
  rcases hw with e | e | e
  · rw [e]; exact h1
  · rw [e]; exact h2
  · rw [e]; exact h3
/-- the words of a contract for a method WITH HANDLERS (hh: its table) -/
abbrev wsW_ (y : MethodName) (b : ByteArray) (L : Nat) (r : Option FieldType) (hh : List (Nat × Nat × Nat × Nat)) : List Cond := Cond.codeWith y b L r hh :: lw_all
theorem lw_methW {y : MethodName} {b : ByteArray} {L : Nat} {r : Option FieldType} {hh : List (Nat × Nat × Nat × Nat)} (h : Cond.codeWith y b L r hh ∈ lw_all) : GoodIn lw_all (wsW_ y b L r hh) := by
  intro w hw
  rcases List.mem_cons.mp hw with e | e
  · rw [e]
    exact lw_self _ h
  · exact lw_self _ e
/-- any list of words by their places (lw_in), good -/
theorem lw_good {ws : List Cond} (h : ∀ w ∈ ws, w ∈ lw_all) : GoodIn lw_all ws := fun w hw => lw_self w (h w hw)
/-- what a call of a method with handlers asks: vx_cwVW n hts (lw_VW ..), vx_cwSW n hts (lw_SW ..) -/
theorem lw_VW {own : String} {idx : Nat} {C : String} {y : MethodName} {b : ByteArray} {L : Nat} {r : Option FieldType} {hh : List (Nat × Nat × Nat × Nat)} (h1 : Cond.methodLink own idx y ∈ lw_all) (h2 : Cond.instanceMethod y ∈ lw_all) (h3 : Cond.selects C y y ∈ lw_all) (h4 : Cond.initialized C ∈ lw_all) (h5 : Cond.codeWith y b L r hh ∈ lw_all) : GoodIn lw_all (wsV own idx C y (wsW_ y b L r hh)) := by
  refine lw_app ?_ (lw_methW h5)
  intro w hw
  simp only [List.mem_cons, List.not_mem_nil, or_false] at hw
  rcases hw with e | e | e | e
  · rw [e]; exact h1
  · rw [e]; exact h2
  · rw [e]; exact h3
  · rw [e]; exact h4
theorem lw_SW {own : String} {idx : Nat} {y : MethodName} {b : ByteArray} {L : Nat} {r : Option FieldType} {hh : List (Nat × Nat × Nat × Nat)} (h1 : Cond.methodLink own idx y ∈ lw_all) (h2 : Cond.static y ∈ lw_all) (h3 : Cond.initialized y.cls ∈ lw_all) (h4 : Cond.codeWith y b L r hh ∈ lw_all) : GoodIn lw_all (va_wsS own idx y (wsW_ y b L r hh)) := by
  refine lw_app ?_ (lw_methW h4)
  intro w hw
  simp only [List.mem_cons, List.not_mem_nil, or_false] at hw
  rcases hw with e | e | e
  · rw [e]; exact h1
  · rw [e]; exact h2
  · rw [e]; exact h3
/-- a word by its place in its run of the tables -/
theorem lw_at {r : List Cond} (hr : ∀ w ∈ r, w ∈ lw_tbl) {w : Cond} (i : Nat) (h : r[i]? = some w) : w ∈ lw_tbl := hr w (List.mem_of_getElem? h)
theorem lw_g {w : Cond} (h : w ∈ lw_tbl) (g : goodWord w = true) : w ∈ lw_all := List.mem_filter.mpr ⟨h, g⟩
theorem lw_ms : ∀ w ∈ k2_sels lw_privs, w ∈ lw_tbl := fun w h => show w ∈ k2_sels lw_privs ++ tables_1 from List.mem_append_left _ h
theorem lw_m1 : ∀ w ∈ tables_1_1, w ∈ lw_tbl := fun w h => show w ∈ k2_sels lw_privs ++ tables_1 from List.mem_append_right (k2_sels lw_privs) (show w ∈ tables_1 from List.mem_append_left _ h)
theorem lw_m2 : ∀ w ∈ tables_1_2, w ∈ lw_tbl := fun w h => show w ∈ k2_sels lw_privs ++ tables_1 from List.mem_append_right (k2_sels lw_privs) (show w ∈ tables_1 from List.mem_append_right _ h)
theorem qs0 : (Cond.selects "RunFinder" ⟨"RunFinder", "add", "(I)V"⟩ ⟨"RunFinder", "add", "(I)V"⟩) ∈ lw_all := lw_g (lw_at lw_ms 0 rfl) rfl
theorem qs1 : (Cond.selects "RunFinder" ⟨"RunFinder", "badPlace", "(I)Z"⟩ ⟨"RunFinder", "badPlace", "(I)Z"⟩) ∈ lw_all := lw_g (lw_at lw_ms 1 rfl) rfl
theorem qs2 : (Cond.selects "RunFinder" ⟨"RunFinder", "prepare", "()V"⟩ ⟨"RunFinder", "prepare", "()V"⟩) ∈ lw_all := lw_g (lw_at lw_ms 2 rfl) rfl
theorem qs3 : (Cond.selects "RunFinder" ⟨"RunFinder", "fillOnward", "()V"⟩ ⟨"RunFinder", "fillOnward", "()V"⟩) ∈ lw_all := lw_g (lw_at lw_ms 3 rfl) rfl
theorem qs4 : (Cond.selects "RunFinder" ⟨"RunFinder", "fillBackward", "()V"⟩ ⟨"RunFinder", "fillBackward", "()V"⟩) ∈ lw_all := lw_g (lw_at lw_ms 4 rfl) rfl
theorem qs5 : (Cond.selects "RunFinder" ⟨"RunFinder", "findWords", "(Z)V"⟩ ⟨"RunFinder", "findWords", "(Z)V"⟩) ∈ lw_all := lw_g (lw_at lw_ms 5 rfl) rfl
theorem qs6 : (Cond.selects "RunFinder" ⟨"RunFinder", "smallerFrom", "(IIZ)Z"⟩ ⟨"RunFinder", "smallerFrom", "(IIZ)Z"⟩) ∈ lw_all := lw_g (lw_at lw_ms 6 rfl) rfl
theorem qs7 : (Cond.selects "RunFinder" ⟨"RunFinder", "stretchWords", "()V"⟩ ⟨"RunFinder", "stretchWords", "()V"⟩) ∈ lw_all := lw_g (lw_at lw_ms 7 rfl) rfl
theorem qs8 : (Cond.selects "RunFinder" ⟨"RunFinder", "keep", "(III)V"⟩ ⟨"RunFinder", "keep", "(III)V"⟩) ∈ lw_all := lw_g (lw_at lw_ms 8 rfl) rfl
theorem qs9 : (Cond.selects "RunFinder" ⟨"RunFinder", "noRun", "(I)Z"⟩ ⟨"RunFinder", "noRun", "(I)Z"⟩) ∈ lw_all := lw_g (lw_at lw_ms 9 rfl) rfl
theorem qs10 : (Cond.selects "RunFinder" ⟨"RunFinder", "letterAt", "(I)I"⟩ ⟨"RunFinder", "letterAt", "(I)I"⟩) ∈ lw_all := lw_g (lw_at lw_ms 10 rfl) rfl
theorem qs11 : (Cond.selects "RunFinderModel" ⟨"RunFinderModel", "runEnd", "(II)I"⟩ ⟨"RunFinderModel", "runEnd", "(II)I"⟩) ∈ lw_all := lw_g (lw_at lw_ms 11 rfl) rfl
theorem qs12 : (Cond.selects "RunFinderModel" ⟨"RunFinderModel", "leastPeriod", "(II)I"⟩ ⟨"RunFinderModel", "leastPeriod", "(II)I"⟩) ∈ lw_all := lw_g (lw_at lw_ms 12 rfl) rfl
theorem qs13 : (Cond.selects "RunFinderModel" ⟨"RunFinderModel", "hasPeriod", "(III)Z"⟩ ⟨"RunFinderModel", "hasPeriod", "(III)Z"⟩) ∈ lw_all := lw_g (lw_at lw_ms 13 rfl) rfl
theorem qs14 : (Cond.selects "RunFinderModel" ⟨"RunFinderModel", "run", "(I)I"⟩ ⟨"RunFinderModel", "run", "(I)I"⟩) ∈ lw_all := lw_g (lw_at lw_ms 14 rfl) rfl
theorem qs15 : (Cond.selects "RunFinderModel" ⟨"RunFinderModel", "smallest", "(I)I"⟩ ⟨"RunFinderModel", "smallest", "(I)I"⟩) ∈ lw_all := lw_g (lw_at lw_ms 15 rfl) rfl
theorem qs16 : (Cond.selects "RunFinderModel" ⟨"RunFinderModel", "smaller", "(III)Z"⟩ ⟨"RunFinderModel", "smaller", "(III)Z"⟩) ∈ lw_all := lw_g (lw_at lw_ms 16 rfl) rfl
theorem qs17 : (Cond.selects "RunFinderModel" ⟨"RunFinderModel", "turnSmaller", "(II)Z"⟩ ⟨"RunFinderModel", "turnSmaller", "(II)Z"⟩) ∈ lw_all := lw_g (lw_at lw_ms 17 rfl) rfl
end
section
/-! RunFinder -/
set_option maxRecDepth 100000
def RX0 : String := "RunFinder"
def TX0 : u_T := fun k => match k with
  | 0 => ("RunFinder", "length", "I", false)
  | 1 => ("RunFinder", "text", "[I", true)
  | 2 => ("RunFinder", "ready", "Z", false)
  | 3 => ("RunFinder", "onward", "[I", true)
  | 4 => ("RunFinder", "backward", "[I", true)
  | 5 => ("RunFinder", "wordEnd", "[I", true)
  | 6 => ("RunFinder", "firstOrder", "[I", true)
  | 7 => ("RunFinder", "found", "I", false)
  | 8 => ("RunFinder", "from", "[I", true)
  | 9 => ("RunFinder", "to", "[I", true)
  | _ => ("RunFinder", "step", "[I", true)
def tyX0 : Nat → FieldType := fun k => match k with
  | 0 => .int
  | 1 => .array .int
  | 2 => .boolean
  | 3 => .array .int
  | 4 => .array .int
  | 5 => .array .int
  | 6 => .array .int
  | 7 => .int
  | 8 => .array .int
  | 9 => .array .int
  | _ => .array .int
abbrev wsX00 : List Cond := u_ws RX0 TX0 11
theorem nmX0 : ∀ a, a < 11 → ∀ b, b < 11 → a ≠ b → (TX0 a).2.1 ≠ (TX0 b).2.1 := by decide +kernel
theorem tyX0_ok : ∀ k, k < 11 → parseFieldDescriptor (TX0 k).2.2.1 = some (tyX0 k) := by decide +kernel
abbrev cX0_init : ByteArray := prog_1_method_1_code
def yX0_init : MethodName := ⟨RX0, "<init>", "()V"⟩
theorem dX0_init_0 : decode cX0_init 0 = .ok (.aload_n 0, 1) := by decide +kernel
theorem dX0_init_1 : decode cX0_init 1 = .ok (.invokespecial 1, 3) := by decide +kernel
theorem dX0_init_4 : decode cX0_init 4 = .ok (.aload_n 0, 1) := by decide +kernel
theorem dX0_init_5 : decode cX0_init 5 = .ok (.bipush 32, 2) := by decide +kernel
theorem dX0_init_7 : decode cX0_init 7 = .ok (.newarray .int, 2) := by decide +kernel
theorem dX0_init_9 : decode cX0_init 9 = .ok (.putfield 7, 3) := by decide +kernel
theorem dX0_init_12 : decode cX0_init 12 = .ok (.aload_n 0, 1) := by decide +kernel
theorem dX0_init_13 : decode cX0_init 13 = .ok (.sipush 1089, 3) := by decide +kernel
theorem dX0_init_16 : decode cX0_init 16 = .ok (.newarray .int, 2) := by decide +kernel
theorem dX0_init_18 : decode cX0_init 18 = .ok (.putfield 13, 3) := by decide +kernel
theorem dX0_init_21 : decode cX0_init 21 = .ok (.aload_n 0, 1) := by decide +kernel
theorem dX0_init_22 : decode cX0_init 22 = .ok (.sipush 1089, 3) := by decide +kernel
theorem dX0_init_25 : decode cX0_init 25 = .ok (.newarray .int, 2) := by decide +kernel
theorem dX0_init_27 : decode cX0_init 27 = .ok (.putfield 16, 3) := by decide +kernel
theorem dX0_init_30 : decode cX0_init 30 = .ok (.aload_n 0, 1) := by decide +kernel
theorem dX0_init_31 : decode cX0_init 31 = .ok (.bipush 33, 2) := by decide +kernel
theorem dX0_init_33 : decode cX0_init 33 = .ok (.newarray .int, 2) := by decide +kernel
theorem dX0_init_35 : decode cX0_init 35 = .ok (.putfield 19, 3) := by decide +kernel
theorem dX0_init_38 : decode cX0_init 38 = .ok (.aload_n 0, 1) := by decide +kernel
theorem dX0_init_39 : decode cX0_init 39 = .ok (.bipush 33, 2) := by decide +kernel
theorem dX0_init_41 : decode cX0_init 41 = .ok (.newarray .int, 2) := by decide +kernel
theorem dX0_init_43 : decode cX0_init 43 = .ok (.putfield 22, 3) := by decide +kernel
theorem dX0_init_46 : decode cX0_init 46 = .ok (.aload_n 0, 1) := by decide +kernel
theorem dX0_init_47 : decode cX0_init 47 = .ok (.bipush 64, 2) := by decide +kernel
theorem dX0_init_49 : decode cX0_init 49 = .ok (.newarray .int, 2) := by decide +kernel
theorem dX0_init_51 : decode cX0_init 51 = .ok (.putfield 25, 3) := by decide +kernel
theorem dX0_init_54 : decode cX0_init 54 = .ok (.aload_n 0, 1) := by decide +kernel
theorem dX0_init_55 : decode cX0_init 55 = .ok (.bipush 64, 2) := by decide +kernel
theorem dX0_init_57 : decode cX0_init 57 = .ok (.newarray .int, 2) := by decide +kernel
theorem dX0_init_59 : decode cX0_init 59 = .ok (.putfield 28, 3) := by decide +kernel
theorem dX0_init_62 : decode cX0_init 62 = .ok (.aload_n 0, 1) := by decide +kernel
theorem dX0_init_63 : decode cX0_init 63 = .ok (.bipush 64, 2) := by decide +kernel
theorem dX0_init_65 : decode cX0_init 65 = .ok (.newarray .int, 2) := by decide +kernel
theorem dX0_init_67 : decode cX0_init 67 = .ok (.putfield 31, 3) := by decide +kernel
theorem dX0_init_70 : decode cX0_init 70 = .ok (.aload_n 0, 1) := by decide +kernel
theorem dX0_init_71 : decode cX0_init 71 = .ok (.iconst 0, 1) := by decide +kernel
theorem dX0_init_72 : decode cX0_init 72 = .ok (.putfield 34, 3) := by decide +kernel
theorem dX0_init_75 : decode cX0_init 75 = .ok (.return_, 1) := by decide +kernel
abbrev cX0_append : ByteArray := prog_1_method_5_code
def yX0_append : MethodName := ⟨RX0, "append", "(I)I"⟩
theorem dX0_append_0 : decode cX0_append 0 = .ok (.iload_n 1, 1) := by decide +kernel
theorem dX0_append_1 : decode cX0_append 1 = .ok (.invokestatic 42, 3) := by decide +kernel
theorem dX0_append_4 : decode cX0_append 4 = .ok (.ifCond .eq 5, 3) := by decide +kernel
theorem dX0_append_7 : decode cX0_append 7 = .ok (.iconst (-1), 1) := by decide +kernel
theorem dX0_append_8 : decode cX0_append 8 = .ok (.ireturn, 1) := by decide +kernel
theorem dX0_append_9 : decode cX0_append 9 = .ok (.aload_n 0, 1) := by decide +kernel
theorem dX0_append_10 : decode cX0_append 10 = .ok (.getfield 38, 3) := by decide +kernel
theorem dX0_append_13 : decode cX0_append 13 = .ok (.bipush 32, 2) := by decide +kernel
theorem dX0_append_15 : decode cX0_append 15 = .ok (.if_icmp .lt 6, 3) := by decide +kernel
theorem dX0_append_18 : decode cX0_append 18 = .ok (.bipush (-2), 2) := by decide +kernel
theorem dX0_append_20 : decode cX0_append 20 = .ok (.ireturn, 1) := by decide +kernel
theorem dX0_append_21 : decode cX0_append 21 = .ok (.aload_n 0, 1) := by decide +kernel
theorem dX0_append_22 : decode cX0_append 22 = .ok (.iload_n 1, 1) := by decide +kernel
theorem dX0_append_23 : decode cX0_append 23 = .ok (.invokevirtual 46, 3) := by decide +kernel
theorem dX0_append_26 : decode cX0_append 26 = .ok (.aload_n 0, 1) := by decide +kernel
theorem dX0_append_27 : decode cX0_append 27 = .ok (.getfield 38, 3) := by decide +kernel
theorem dX0_append_30 : decode cX0_append 30 = .ok (.ireturn, 1) := by decide +kernel
abbrev cX0_badLetter : ByteArray := prog_1_method_2_code
def yX0_badLetter : MethodName := ⟨RX0, "badLetter", "(I)Z"⟩
theorem dX0_badLetter_0 : decode cX0_badLetter 0 = .ok (.iload_n 0, 1) := by decide +kernel
theorem dX0_badLetter_1 : decode cX0_badLetter 1 = .ok (.ifCond .lt 8, 3) := by decide +kernel
theorem dX0_badLetter_4 : decode cX0_badLetter 4 = .ok (.iload_n 0, 1) := by decide +kernel
theorem dX0_badLetter_5 : decode cX0_badLetter 5 = .ok (.iconst 3, 1) := by decide +kernel
theorem dX0_badLetter_6 : decode cX0_badLetter 6 = .ok (.if_icmp .le 7, 3) := by decide +kernel
theorem dX0_badLetter_9 : decode cX0_badLetter 9 = .ok (.iconst 1, 1) := by decide +kernel
theorem dX0_badLetter_10 : decode cX0_badLetter 10 = .ok (.goto 4, 3) := by decide +kernel
theorem dX0_badLetter_13 : decode cX0_badLetter 13 = .ok (.iconst 0, 1) := by decide +kernel
theorem dX0_badLetter_14 : decode cX0_badLetter 14 = .ok (.ireturn, 1) := by decide +kernel
abbrev cX0_add : ByteArray := prog_1_method_4_code
def yX0_add : MethodName := ⟨RX0, "add", "(I)V"⟩
theorem dX0_add_0 : decode cX0_add 0 = .ok (.aload_n 0, 1) := by decide +kernel
theorem dX0_add_1 : decode cX0_add 1 = .ok (.getfield 7, 3) := by decide +kernel
theorem dX0_add_4 : decode cX0_add 4 = .ok (.aload_n 0, 1) := by decide +kernel
theorem dX0_add_5 : decode cX0_add 5 = .ok (.getfield 38, 3) := by decide +kernel
theorem dX0_add_8 : decode cX0_add 8 = .ok (.iload_n 1, 1) := by decide +kernel
theorem dX0_add_9 : decode cX0_add 9 = .ok (.iastore, 1) := by decide +kernel
theorem dX0_add_10 : decode cX0_add 10 = .ok (.aload_n 0, 1) := by decide +kernel
theorem dX0_add_11 : decode cX0_add 11 = .ok (.dup, 1) := by decide +kernel
theorem dX0_add_12 : decode cX0_add 12 = .ok (.getfield 38, 3) := by decide +kernel
theorem dX0_add_15 : decode cX0_add 15 = .ok (.iconst 1, 1) := by decide +kernel
theorem dX0_add_16 : decode cX0_add 16 = .ok (.iadd, 1) := by decide +kernel
theorem dX0_add_17 : decode cX0_add 17 = .ok (.putfield 38, 3) := by decide +kernel
theorem dX0_add_20 : decode cX0_add 20 = .ok (.aload_n 0, 1) := by decide +kernel
theorem dX0_add_21 : decode cX0_add 21 = .ok (.iconst 0, 1) := by decide +kernel
theorem dX0_add_22 : decode cX0_add 22 = .ok (.putfield 34, 3) := by decide +kernel
theorem dX0_add_25 : decode cX0_add 25 = .ok (.return_, 1) := by decide +kernel
abbrev cX0_set : ByteArray := prog_1_method_6_code
def yX0_set : MethodName := ⟨RX0, "set", "(II)I"⟩
theorem dX0_set_0 : decode cX0_set 0 = .ok (.aload_n 0, 1) := by decide +kernel
theorem dX0_set_1 : decode cX0_set 1 = .ok (.iload_n 1, 1) := by decide +kernel
theorem dX0_set_2 : decode cX0_set 2 = .ok (.invokevirtual 50, 3) := by decide +kernel
theorem dX0_set_5 : decode cX0_set 5 = .ok (.ifCond .eq 6, 3) := by decide +kernel
theorem dX0_set_8 : decode cX0_set 8 = .ok (.bipush (-3), 2) := by decide +kernel
theorem dX0_set_10 : decode cX0_set 10 = .ok (.ireturn, 1) := by decide +kernel
theorem dX0_set_11 : decode cX0_set 11 = .ok (.iload_n 2, 1) := by decide +kernel
theorem dX0_set_12 : decode cX0_set 12 = .ok (.invokestatic 42, 3) := by decide +kernel
theorem dX0_set_15 : decode cX0_set 15 = .ok (.ifCond .eq 5, 3) := by decide +kernel
theorem dX0_set_18 : decode cX0_set 18 = .ok (.iconst (-1), 1) := by decide +kernel
theorem dX0_set_19 : decode cX0_set 19 = .ok (.ireturn, 1) := by decide +kernel
theorem dX0_set_20 : decode cX0_set 20 = .ok (.aload_n 0, 1) := by decide +kernel
theorem dX0_set_21 : decode cX0_set 21 = .ok (.getfield 7, 3) := by decide +kernel
theorem dX0_set_24 : decode cX0_set 24 = .ok (.iload_n 1, 1) := by decide +kernel
theorem dX0_set_25 : decode cX0_set 25 = .ok (.iaload, 1) := by decide +kernel
theorem dX0_set_26 : decode cX0_set 26 = .ok (.istore_n 3, 1) := by decide +kernel
theorem dX0_set_27 : decode cX0_set 27 = .ok (.aload_n 0, 1) := by decide +kernel
theorem dX0_set_28 : decode cX0_set 28 = .ok (.getfield 7, 3) := by decide +kernel
theorem dX0_set_31 : decode cX0_set 31 = .ok (.iload_n 1, 1) := by decide +kernel
theorem dX0_set_32 : decode cX0_set 32 = .ok (.iload_n 2, 1) := by decide +kernel
theorem dX0_set_33 : decode cX0_set 33 = .ok (.iastore, 1) := by decide +kernel
theorem dX0_set_34 : decode cX0_set 34 = .ok (.aload_n 0, 1) := by decide +kernel
theorem dX0_set_35 : decode cX0_set 35 = .ok (.iconst 0, 1) := by decide +kernel
theorem dX0_set_36 : decode cX0_set 36 = .ok (.putfield 34, 3) := by decide +kernel
theorem dX0_set_39 : decode cX0_set 39 = .ok (.iload_n 3, 1) := by decide +kernel
theorem dX0_set_40 : decode cX0_set 40 = .ok (.ireturn, 1) := by decide +kernel
abbrev cX0_badPlace : ByteArray := prog_1_method_3_code
def yX0_badPlace : MethodName := ⟨RX0, "badPlace", "(I)Z"⟩
theorem dX0_badPlace_0 : decode cX0_badPlace 0 = .ok (.iload_n 1, 1) := by decide +kernel
theorem dX0_badPlace_1 : decode cX0_badPlace 1 = .ok (.ifCond .lt 11, 3) := by decide +kernel
theorem dX0_badPlace_4 : decode cX0_badPlace 4 = .ok (.iload_n 1, 1) := by decide +kernel
theorem dX0_badPlace_5 : decode cX0_badPlace 5 = .ok (.aload_n 0, 1) := by decide +kernel
theorem dX0_badPlace_6 : decode cX0_badPlace 6 = .ok (.getfield 38, 3) := by decide +kernel
theorem dX0_badPlace_9 : decode cX0_badPlace 9 = .ok (.if_icmp .lt 7, 3) := by decide +kernel
theorem dX0_badPlace_12 : decode cX0_badPlace 12 = .ok (.iconst 1, 1) := by decide +kernel
theorem dX0_badPlace_13 : decode cX0_badPlace 13 = .ok (.goto 4, 3) := by decide +kernel
theorem dX0_badPlace_16 : decode cX0_badPlace 16 = .ok (.iconst 0, 1) := by decide +kernel
theorem dX0_badPlace_17 : decode cX0_badPlace 17 = .ok (.ireturn, 1) := by decide +kernel
abbrev cX0_repeat : ByteArray := prog_1_method_7_code
def yX0_repeat : MethodName := ⟨RX0, "repeat", "(I)I"⟩
theorem dX0_repeat_0 : decode cX0_repeat 0 = .ok (.iload_n 1, 1) := by decide +kernel
theorem dX0_repeat_1 : decode cX0_repeat 1 = .ok (.iconst 1, 1) := by decide +kernel
theorem dX0_repeat_2 : decode cX0_repeat 2 = .ok (.if_icmp .lt 11, 3) := by decide +kernel
theorem dX0_repeat_5 : decode cX0_repeat 5 = .ok (.iload_n 1, 1) := by decide +kernel
theorem dX0_repeat_6 : decode cX0_repeat 6 = .ok (.aload_n 0, 1) := by decide +kernel
theorem dX0_repeat_7 : decode cX0_repeat 7 = .ok (.getfield 38, 3) := by decide +kernel
theorem dX0_repeat_10 : decode cX0_repeat 10 = .ok (.if_icmp .le 6, 3) := by decide +kernel
theorem dX0_repeat_13 : decode cX0_repeat 13 = .ok (.bipush (-3), 2) := by decide +kernel
theorem dX0_repeat_15 : decode cX0_repeat 15 = .ok (.ireturn, 1) := by decide +kernel
theorem dX0_repeat_16 : decode cX0_repeat 16 = .ok (.aload_n 0, 1) := by decide +kernel
theorem dX0_repeat_17 : decode cX0_repeat 17 = .ok (.getfield 38, 3) := by decide +kernel
theorem dX0_repeat_20 : decode cX0_repeat 20 = .ok (.iload_n 1, 1) := by decide +kernel
theorem dX0_repeat_21 : decode cX0_repeat 21 = .ok (.isub, 1) := by decide +kernel
theorem dX0_repeat_22 : decode cX0_repeat 22 = .ok (.istore_n 2, 1) := by decide +kernel
theorem dX0_repeat_23 : decode cX0_repeat 23 = .ok (.iconst 0, 1) := by decide +kernel
theorem dX0_repeat_24 : decode cX0_repeat 24 = .ok (.istore_n 3, 1) := by decide +kernel
theorem dX0_repeat_25 : decode cX0_repeat 25 = .ok (.iload_n 3, 1) := by decide +kernel
theorem dX0_repeat_26 : decode cX0_repeat 26 = .ok (.iload_n 1, 1) := by decide +kernel
theorem dX0_repeat_27 : decode cX0_repeat 27 = .ok (.if_icmp .ge 30, 3) := by decide +kernel
theorem dX0_repeat_30 : decode cX0_repeat 30 = .ok (.aload_n 0, 1) := by decide +kernel
theorem dX0_repeat_31 : decode cX0_repeat 31 = .ok (.getfield 38, 3) := by decide +kernel
theorem dX0_repeat_34 : decode cX0_repeat 34 = .ok (.bipush 32, 2) := by decide +kernel
theorem dX0_repeat_36 : decode cX0_repeat 36 = .ok (.if_icmp .ge 21, 3) := by decide +kernel
theorem dX0_repeat_39 : decode cX0_repeat 39 = .ok (.aload_n 0, 1) := by decide +kernel
theorem dX0_repeat_40 : decode cX0_repeat 40 = .ok (.aload_n 0, 1) := by decide +kernel
theorem dX0_repeat_41 : decode cX0_repeat 41 = .ok (.getfield 7, 3) := by decide +kernel
theorem dX0_repeat_44 : decode cX0_repeat 44 = .ok (.iload_n 2, 1) := by decide +kernel
theorem dX0_repeat_45 : decode cX0_repeat 45 = .ok (.iload_n 3, 1) := by decide +kernel
theorem dX0_repeat_46 : decode cX0_repeat 46 = .ok (.iadd, 1) := by decide +kernel
theorem dX0_repeat_47 : decode cX0_repeat 47 = .ok (.iaload, 1) := by decide +kernel
theorem dX0_repeat_48 : decode cX0_repeat 48 = .ok (.invokevirtual 46, 3) := by decide +kernel
theorem dX0_repeat_51 : decode cX0_repeat 51 = .ok (.iinc 3 1, 3) := by decide +kernel
theorem dX0_repeat_54 : decode cX0_repeat 54 = .ok (.goto (-29), 3) := by decide +kernel
theorem dX0_repeat_57 : decode cX0_repeat 57 = .ok (.aload_n 0, 1) := by decide +kernel
theorem dX0_repeat_58 : decode cX0_repeat 58 = .ok (.getfield 38, 3) := by decide +kernel
theorem dX0_repeat_61 : decode cX0_repeat 61 = .ok (.ireturn, 1) := by decide +kernel
abbrev cX0_drop : ByteArray := prog_1_method_8_code
def yX0_drop : MethodName := ⟨RX0, "drop", "()I"⟩
theorem dX0_drop_0 : decode cX0_drop 0 = .ok (.aload_n 0, 1) := by decide +kernel
theorem dX0_drop_1 : decode cX0_drop 1 = .ok (.getfield 38, 3) := by decide +kernel
theorem dX0_drop_4 : decode cX0_drop 4 = .ok (.ifCond .ne 6, 3) := by decide +kernel
theorem dX0_drop_7 : decode cX0_drop 7 = .ok (.bipush (-4), 2) := by decide +kernel
theorem dX0_drop_9 : decode cX0_drop 9 = .ok (.ireturn, 1) := by decide +kernel
theorem dX0_drop_10 : decode cX0_drop 10 = .ok (.aload_n 0, 1) := by decide +kernel
theorem dX0_drop_11 : decode cX0_drop 11 = .ok (.dup, 1) := by decide +kernel
theorem dX0_drop_12 : decode cX0_drop 12 = .ok (.getfield 38, 3) := by decide +kernel
theorem dX0_drop_15 : decode cX0_drop 15 = .ok (.iconst 1, 1) := by decide +kernel
theorem dX0_drop_16 : decode cX0_drop 16 = .ok (.isub, 1) := by decide +kernel
theorem dX0_drop_17 : decode cX0_drop 17 = .ok (.putfield 38, 3) := by decide +kernel
theorem dX0_drop_20 : decode cX0_drop 20 = .ok (.aload_n 0, 1) := by decide +kernel
theorem dX0_drop_21 : decode cX0_drop 21 = .ok (.iconst 0, 1) := by decide +kernel
theorem dX0_drop_22 : decode cX0_drop 22 = .ok (.putfield 34, 3) := by decide +kernel
theorem dX0_drop_25 : decode cX0_drop 25 = .ok (.aload_n 0, 1) := by decide +kernel
theorem dX0_drop_26 : decode cX0_drop 26 = .ok (.getfield 38, 3) := by decide +kernel
theorem dX0_drop_29 : decode cX0_drop 29 = .ok (.ireturn, 1) := by decide +kernel
abbrev cX0_clear : ByteArray := prog_1_method_9_code
def yX0_clear : MethodName := ⟨RX0, "clear", "()V"⟩
theorem dX0_clear_0 : decode cX0_clear 0 = .ok (.aload_n 0, 1) := by decide +kernel
theorem dX0_clear_1 : decode cX0_clear 1 = .ok (.iconst 0, 1) := by decide +kernel
theorem dX0_clear_2 : decode cX0_clear 2 = .ok (.putfield 38, 3) := by decide +kernel
theorem dX0_clear_5 : decode cX0_clear 5 = .ok (.aload_n 0, 1) := by decide +kernel
theorem dX0_clear_6 : decode cX0_clear 6 = .ok (.iconst 0, 1) := by decide +kernel
theorem dX0_clear_7 : decode cX0_clear 7 = .ok (.putfield 34, 3) := by decide +kernel
theorem dX0_clear_10 : decode cX0_clear 10 = .ok (.return_, 1) := by decide +kernel
abbrev cX0_runs : ByteArray := prog_1_method_17_code
def yX0_runs : MethodName := ⟨RX0, "runs", "()I"⟩
theorem dX0_runs_0 : decode cX0_runs 0 = .ok (.aload_n 0, 1) := by decide +kernel
theorem dX0_runs_1 : decode cX0_runs 1 = .ok (.invokevirtual 77, 3) := by decide +kernel
theorem dX0_runs_4 : decode cX0_runs 4 = .ok (.aload_n 0, 1) := by decide +kernel
theorem dX0_runs_5 : decode cX0_runs 5 = .ok (.getfield 57, 3) := by decide +kernel
theorem dX0_runs_8 : decode cX0_runs 8 = .ok (.ireturn, 1) := by decide +kernel
abbrev cX0_prepare : ByteArray := prog_1_method_16_code
def yX0_prepare : MethodName := ⟨RX0, "prepare", "()V"⟩
theorem dX0_prepare_0 : decode cX0_prepare 0 = .ok (.aload_n 0, 1) := by decide +kernel
theorem dX0_prepare_1 : decode cX0_prepare 1 = .ok (.getfield 34, 3) := by decide +kernel
theorem dX0_prepare_4 : decode cX0_prepare 4 = .ok (.ifCond .eq 4, 3) := by decide +kernel
theorem dX0_prepare_7 : decode cX0_prepare 7 = .ok (.return_, 1) := by decide +kernel
theorem dX0_prepare_8 : decode cX0_prepare 8 = .ok (.aload_n 0, 1) := by decide +kernel
theorem dX0_prepare_9 : decode cX0_prepare 9 = .ok (.iconst 1, 1) := by decide +kernel
theorem dX0_prepare_10 : decode cX0_prepare 10 = .ok (.putfield 34, 3) := by decide +kernel
theorem dX0_prepare_13 : decode cX0_prepare 13 = .ok (.aload_n 0, 1) := by decide +kernel
theorem dX0_prepare_14 : decode cX0_prepare 14 = .ok (.invokevirtual 64, 3) := by decide +kernel
theorem dX0_prepare_17 : decode cX0_prepare 17 = .ok (.aload_n 0, 1) := by decide +kernel
theorem dX0_prepare_18 : decode cX0_prepare 18 = .ok (.invokevirtual 67, 3) := by decide +kernel
theorem dX0_prepare_21 : decode cX0_prepare 21 = .ok (.aload_n 0, 1) := by decide +kernel
theorem dX0_prepare_22 : decode cX0_prepare 22 = .ok (.iconst 0, 1) := by decide +kernel
theorem dX0_prepare_23 : decode cX0_prepare 23 = .ok (.putfield 57, 3) := by decide +kernel
theorem dX0_prepare_26 : decode cX0_prepare 26 = .ok (.aload_n 0, 1) := by decide +kernel
theorem dX0_prepare_27 : decode cX0_prepare 27 = .ok (.iconst 0, 1) := by decide +kernel
theorem dX0_prepare_28 : decode cX0_prepare 28 = .ok (.invokevirtual 70, 3) := by decide +kernel
theorem dX0_prepare_31 : decode cX0_prepare 31 = .ok (.iconst 0, 1) := by decide +kernel
theorem dX0_prepare_32 : decode cX0_prepare 32 = .ok (.istore_n 1, 1) := by decide +kernel
theorem dX0_prepare_33 : decode cX0_prepare 33 = .ok (.iload_n 1, 1) := by decide +kernel
theorem dX0_prepare_34 : decode cX0_prepare 34 = .ok (.aload_n 0, 1) := by decide +kernel
theorem dX0_prepare_35 : decode cX0_prepare 35 = .ok (.getfield 38, 3) := by decide +kernel
theorem dX0_prepare_38 : decode cX0_prepare 38 = .ok (.if_icmp .ge 21, 3) := by decide +kernel
theorem dX0_prepare_41 : decode cX0_prepare 41 = .ok (.aload_n 0, 1) := by decide +kernel
theorem dX0_prepare_42 : decode cX0_prepare 42 = .ok (.getfield 22, 3) := by decide +kernel
theorem dX0_prepare_45 : decode cX0_prepare 45 = .ok (.iload_n 1, 1) := by decide +kernel
theorem dX0_prepare_46 : decode cX0_prepare 46 = .ok (.aload_n 0, 1) := by decide +kernel
theorem dX0_prepare_47 : decode cX0_prepare 47 = .ok (.getfield 19, 3) := by decide +kernel
theorem dX0_prepare_50 : decode cX0_prepare 50 = .ok (.iload_n 1, 1) := by decide +kernel
theorem dX0_prepare_51 : decode cX0_prepare 51 = .ok (.iaload, 1) := by decide +kernel
theorem dX0_prepare_52 : decode cX0_prepare 52 = .ok (.iastore, 1) := by decide +kernel
theorem dX0_prepare_53 : decode cX0_prepare 53 = .ok (.iinc 1 1, 3) := by decide +kernel
theorem dX0_prepare_56 : decode cX0_prepare 56 = .ok (.goto (-23), 3) := by decide +kernel
theorem dX0_prepare_59 : decode cX0_prepare 59 = .ok (.aload_n 0, 1) := by decide +kernel
theorem dX0_prepare_60 : decode cX0_prepare 60 = .ok (.invokevirtual 74, 3) := by decide +kernel
theorem dX0_prepare_63 : decode cX0_prepare 63 = .ok (.aload_n 0, 1) := by decide +kernel
theorem dX0_prepare_64 : decode cX0_prepare 64 = .ok (.iconst 1, 1) := by decide +kernel
theorem dX0_prepare_65 : decode cX0_prepare 65 = .ok (.invokevirtual 70, 3) := by decide +kernel
theorem dX0_prepare_68 : decode cX0_prepare 68 = .ok (.aload_n 0, 1) := by decide +kernel
theorem dX0_prepare_69 : decode cX0_prepare 69 = .ok (.invokevirtual 74, 3) := by decide +kernel
theorem dX0_prepare_72 : decode cX0_prepare 72 = .ok (.return_, 1) := by decide +kernel
abbrev cX0_fillOnward : ByteArray := prog_1_method_10_code
def yX0_fillOnward : MethodName := ⟨RX0, "fillOnward", "()V"⟩
theorem dX0_fillOnward_0 : decode cX0_fillOnward 0 = .ok (.aload_n 0, 1) := by decide +kernel
theorem dX0_fillOnward_1 : decode cX0_fillOnward 1 = .ok (.getfield 38, 3) := by decide +kernel
theorem dX0_fillOnward_4 : decode cX0_fillOnward 4 = .ok (.istore_n 1, 1) := by decide +kernel
theorem dX0_fillOnward_5 : decode cX0_fillOnward 5 = .ok (.iload_n 1, 1) := by decide +kernel
theorem dX0_fillOnward_6 : decode cX0_fillOnward 6 = .ok (.ifCond .lt 97, 3) := by decide +kernel
theorem dX0_fillOnward_9 : decode cX0_fillOnward 9 = .ok (.aload_n 0, 1) := by decide +kernel
theorem dX0_fillOnward_10 : decode cX0_fillOnward 10 = .ok (.getfield 38, 3) := by decide +kernel
theorem dX0_fillOnward_13 : decode cX0_fillOnward 13 = .ok (.istore_n 2, 1) := by decide +kernel
theorem dX0_fillOnward_14 : decode cX0_fillOnward 14 = .ok (.iload_n 2, 1) := by decide +kernel
theorem dX0_fillOnward_15 : decode cX0_fillOnward 15 = .ok (.ifCond .lt 82, 3) := by decide +kernel
theorem dX0_fillOnward_18 : decode cX0_fillOnward 18 = .ok (.iload_n 1, 1) := by decide +kernel
theorem dX0_fillOnward_19 : decode cX0_fillOnward 19 = .ok (.aload_n 0, 1) := by decide +kernel
theorem dX0_fillOnward_20 : decode cX0_fillOnward 20 = .ok (.getfield 38, 3) := by decide +kernel
theorem dX0_fillOnward_23 : decode cX0_fillOnward 23 = .ok (.if_icmp .ge 30, 3) := by decide +kernel
theorem dX0_fillOnward_26 : decode cX0_fillOnward 26 = .ok (.iload_n 2, 1) := by decide +kernel
theorem dX0_fillOnward_27 : decode cX0_fillOnward 27 = .ok (.aload_n 0, 1) := by decide +kernel
theorem dX0_fillOnward_28 : decode cX0_fillOnward 28 = .ok (.getfield 38, 3) := by decide +kernel
theorem dX0_fillOnward_31 : decode cX0_fillOnward 31 = .ok (.if_icmp .ge 22, 3) := by decide +kernel
theorem dX0_fillOnward_34 : decode cX0_fillOnward 34 = .ok (.aload_n 0, 1) := by decide +kernel
theorem dX0_fillOnward_35 : decode cX0_fillOnward 35 = .ok (.getfield 7, 3) := by decide +kernel
theorem dX0_fillOnward_38 : decode cX0_fillOnward 38 = .ok (.iload_n 1, 1) := by decide +kernel
theorem dX0_fillOnward_39 : decode cX0_fillOnward 39 = .ok (.iaload, 1) := by decide +kernel
theorem dX0_fillOnward_40 : decode cX0_fillOnward 40 = .ok (.aload_n 0, 1) := by decide +kernel
theorem dX0_fillOnward_41 : decode cX0_fillOnward 41 = .ok (.getfield 7, 3) := by decide +kernel
theorem dX0_fillOnward_44 : decode cX0_fillOnward 44 = .ok (.iload_n 2, 1) := by decide +kernel
theorem dX0_fillOnward_45 : decode cX0_fillOnward 45 = .ok (.iaload, 1) := by decide +kernel
theorem dX0_fillOnward_46 : decode cX0_fillOnward 46 = .ok (.if_icmp .ne 7, 3) := by decide +kernel
theorem dX0_fillOnward_49 : decode cX0_fillOnward 49 = .ok (.iconst 1, 1) := by decide +kernel
theorem dX0_fillOnward_50 : decode cX0_fillOnward 50 = .ok (.goto 4, 3) := by decide +kernel
theorem dX0_fillOnward_53 : decode cX0_fillOnward 53 = .ok (.iconst 0, 1) := by decide +kernel
theorem dX0_fillOnward_54 : decode cX0_fillOnward 54 = .ok (.istore_n 3, 1) := by decide +kernel
theorem dX0_fillOnward_55 : decode cX0_fillOnward 55 = .ok (.aload_n 0, 1) := by decide +kernel
theorem dX0_fillOnward_56 : decode cX0_fillOnward 56 = .ok (.getfield 13, 3) := by decide +kernel
theorem dX0_fillOnward_59 : decode cX0_fillOnward 59 = .ok (.iload_n 1, 1) := by decide +kernel
theorem dX0_fillOnward_60 : decode cX0_fillOnward 60 = .ok (.bipush 33, 2) := by decide +kernel
theorem dX0_fillOnward_62 : decode cX0_fillOnward 62 = .ok (.imul, 1) := by decide +kernel
theorem dX0_fillOnward_63 : decode cX0_fillOnward 63 = .ok (.iload_n 2, 1) := by decide +kernel
theorem dX0_fillOnward_64 : decode cX0_fillOnward 64 = .ok (.iadd, 1) := by decide +kernel
theorem dX0_fillOnward_65 : decode cX0_fillOnward 65 = .ok (.iload_n 3, 1) := by decide +kernel
theorem dX0_fillOnward_66 : decode cX0_fillOnward 66 = .ok (.ifCond .eq 23, 3) := by decide +kernel
theorem dX0_fillOnward_69 : decode cX0_fillOnward 69 = .ok (.aload_n 0, 1) := by decide +kernel
theorem dX0_fillOnward_70 : decode cX0_fillOnward 70 = .ok (.getfield 13, 3) := by decide +kernel
theorem dX0_fillOnward_73 : decode cX0_fillOnward 73 = .ok (.iload_n 1, 1) := by decide +kernel
theorem dX0_fillOnward_74 : decode cX0_fillOnward 74 = .ok (.iconst 1, 1) := by decide +kernel
theorem dX0_fillOnward_75 : decode cX0_fillOnward 75 = .ok (.iadd, 1) := by decide +kernel
theorem dX0_fillOnward_76 : decode cX0_fillOnward 76 = .ok (.bipush 33, 2) := by decide +kernel
theorem dX0_fillOnward_78 : decode cX0_fillOnward 78 = .ok (.imul, 1) := by decide +kernel
theorem dX0_fillOnward_79 : decode cX0_fillOnward 79 = .ok (.iload_n 2, 1) := by decide +kernel
theorem dX0_fillOnward_80 : decode cX0_fillOnward 80 = .ok (.iadd, 1) := by decide +kernel
theorem dX0_fillOnward_81 : decode cX0_fillOnward 81 = .ok (.iconst 1, 1) := by decide +kernel
theorem dX0_fillOnward_82 : decode cX0_fillOnward 82 = .ok (.iadd, 1) := by decide +kernel
theorem dX0_fillOnward_83 : decode cX0_fillOnward 83 = .ok (.iaload, 1) := by decide +kernel
theorem dX0_fillOnward_84 : decode cX0_fillOnward 84 = .ok (.iconst 1, 1) := by decide +kernel
theorem dX0_fillOnward_85 : decode cX0_fillOnward 85 = .ok (.iadd, 1) := by decide +kernel
theorem dX0_fillOnward_86 : decode cX0_fillOnward 86 = .ok (.goto 4, 3) := by decide +kernel
theorem dX0_fillOnward_89 : decode cX0_fillOnward 89 = .ok (.iconst 0, 1) := by decide +kernel
theorem dX0_fillOnward_90 : decode cX0_fillOnward 90 = .ok (.iastore, 1) := by decide +kernel
theorem dX0_fillOnward_91 : decode cX0_fillOnward 91 = .ok (.iinc 2 (-1), 3) := by decide +kernel
theorem dX0_fillOnward_94 : decode cX0_fillOnward 94 = .ok (.goto (-80), 3) := by decide +kernel
theorem dX0_fillOnward_97 : decode cX0_fillOnward 97 = .ok (.iinc 1 (-1), 3) := by decide +kernel
theorem dX0_fillOnward_100 : decode cX0_fillOnward 100 = .ok (.goto (-95), 3) := by decide +kernel
theorem dX0_fillOnward_103 : decode cX0_fillOnward 103 = .ok (.return_, 1) := by decide +kernel
end
section
set_option maxRecDepth 100000
abbrev cX0_fillBackward : ByteArray := prog_1_method_11_code
def yX0_fillBackward : MethodName := ⟨RX0, "fillBackward", "()V"⟩
theorem dX0_fillBackward_0 : decode cX0_fillBackward 0 = .ok (.iconst 0, 1) := by decide +kernel
theorem dX0_fillBackward_1 : decode cX0_fillBackward 1 = .ok (.istore_n 1, 1) := by decide +kernel
theorem dX0_fillBackward_2 : decode cX0_fillBackward 2 = .ok (.iload_n 1, 1) := by decide +kernel
theorem dX0_fillBackward_3 : decode cX0_fillBackward 3 = .ok (.aload_n 0, 1) := by decide +kernel
theorem dX0_fillBackward_4 : decode cX0_fillBackward 4 = .ok (.getfield 38, 3) := by decide +kernel
theorem dX0_fillBackward_7 : decode cX0_fillBackward 7 = .ok (.if_icmp .ge 86, 3) := by decide +kernel
theorem dX0_fillBackward_10 : decode cX0_fillBackward 10 = .ok (.iconst 0, 1) := by decide +kernel
theorem dX0_fillBackward_11 : decode cX0_fillBackward 11 = .ok (.istore_n 2, 1) := by decide +kernel
theorem dX0_fillBackward_12 : decode cX0_fillBackward 12 = .ok (.iload_n 2, 1) := by decide +kernel
theorem dX0_fillBackward_13 : decode cX0_fillBackward 13 = .ok (.aload_n 0, 1) := by decide +kernel
theorem dX0_fillBackward_14 : decode cX0_fillBackward 14 = .ok (.getfield 38, 3) := by decide +kernel
theorem dX0_fillBackward_17 : decode cX0_fillBackward 17 = .ok (.if_icmp .ge 70, 3) := by decide +kernel
theorem dX0_fillBackward_20 : decode cX0_fillBackward 20 = .ok (.iload_n 1, 1) := by decide +kernel
theorem dX0_fillBackward_21 : decode cX0_fillBackward 21 = .ok (.ifCond .le 25, 3) := by decide +kernel
theorem dX0_fillBackward_24 : decode cX0_fillBackward 24 = .ok (.iload_n 2, 1) := by decide +kernel
theorem dX0_fillBackward_25 : decode cX0_fillBackward 25 = .ok (.ifCond .le 21, 3) := by decide +kernel
theorem dX0_fillBackward_28 : decode cX0_fillBackward 28 = .ok (.aload_n 0, 1) := by decide +kernel
theorem dX0_fillBackward_29 : decode cX0_fillBackward 29 = .ok (.getfield 16, 3) := by decide +kernel
theorem dX0_fillBackward_32 : decode cX0_fillBackward 32 = .ok (.iload_n 1, 1) := by decide +kernel
theorem dX0_fillBackward_33 : decode cX0_fillBackward 33 = .ok (.iconst 1, 1) := by decide +kernel
theorem dX0_fillBackward_34 : decode cX0_fillBackward 34 = .ok (.isub, 1) := by decide +kernel
theorem dX0_fillBackward_35 : decode cX0_fillBackward 35 = .ok (.bipush 33, 2) := by decide +kernel
theorem dX0_fillBackward_37 : decode cX0_fillBackward 37 = .ok (.imul, 1) := by decide +kernel
theorem dX0_fillBackward_38 : decode cX0_fillBackward 38 = .ok (.iload_n 2, 1) := by decide +kernel
theorem dX0_fillBackward_39 : decode cX0_fillBackward 39 = .ok (.iadd, 1) := by decide +kernel
theorem dX0_fillBackward_40 : decode cX0_fillBackward 40 = .ok (.iconst 1, 1) := by decide +kernel
theorem dX0_fillBackward_41 : decode cX0_fillBackward 41 = .ok (.isub, 1) := by decide +kernel
theorem dX0_fillBackward_42 : decode cX0_fillBackward 42 = .ok (.iaload, 1) := by decide +kernel
theorem dX0_fillBackward_43 : decode cX0_fillBackward 43 = .ok (.goto 4, 3) := by decide +kernel
theorem dX0_fillBackward_46 : decode cX0_fillBackward 46 = .ok (.iconst 0, 1) := by decide +kernel
theorem dX0_fillBackward_47 : decode cX0_fillBackward 47 = .ok (.istore_n 3, 1) := by decide +kernel
theorem dX0_fillBackward_48 : decode cX0_fillBackward 48 = .ok (.aload_n 0, 1) := by decide +kernel
theorem dX0_fillBackward_49 : decode cX0_fillBackward 49 = .ok (.getfield 16, 3) := by decide +kernel
theorem dX0_fillBackward_52 : decode cX0_fillBackward 52 = .ok (.iload_n 1, 1) := by decide +kernel
theorem dX0_fillBackward_53 : decode cX0_fillBackward 53 = .ok (.bipush 33, 2) := by decide +kernel
theorem dX0_fillBackward_55 : decode cX0_fillBackward 55 = .ok (.imul, 1) := by decide +kernel
theorem dX0_fillBackward_56 : decode cX0_fillBackward 56 = .ok (.iload_n 2, 1) := by decide +kernel
theorem dX0_fillBackward_57 : decode cX0_fillBackward 57 = .ok (.iadd, 1) := by decide +kernel
theorem dX0_fillBackward_58 : decode cX0_fillBackward 58 = .ok (.aload_n 0, 1) := by decide +kernel
theorem dX0_fillBackward_59 : decode cX0_fillBackward 59 = .ok (.getfield 7, 3) := by decide +kernel
theorem dX0_fillBackward_62 : decode cX0_fillBackward 62 = .ok (.iload_n 1, 1) := by decide +kernel
theorem dX0_fillBackward_63 : decode cX0_fillBackward 63 = .ok (.iaload, 1) := by decide +kernel
theorem dX0_fillBackward_64 : decode cX0_fillBackward 64 = .ok (.aload_n 0, 1) := by decide +kernel
theorem dX0_fillBackward_65 : decode cX0_fillBackward 65 = .ok (.getfield 7, 3) := by decide +kernel
theorem dX0_fillBackward_68 : decode cX0_fillBackward 68 = .ok (.iload_n 2, 1) := by decide +kernel
theorem dX0_fillBackward_69 : decode cX0_fillBackward 69 = .ok (.iaload, 1) := by decide +kernel
theorem dX0_fillBackward_70 : decode cX0_fillBackward 70 = .ok (.if_icmp .ne 9, 3) := by decide +kernel
theorem dX0_fillBackward_73 : decode cX0_fillBackward 73 = .ok (.iload_n 3, 1) := by decide +kernel
theorem dX0_fillBackward_74 : decode cX0_fillBackward 74 = .ok (.iconst 1, 1) := by decide +kernel
theorem dX0_fillBackward_75 : decode cX0_fillBackward 75 = .ok (.iadd, 1) := by decide +kernel
theorem dX0_fillBackward_76 : decode cX0_fillBackward 76 = .ok (.goto 4, 3) := by decide +kernel
theorem dX0_fillBackward_79 : decode cX0_fillBackward 79 = .ok (.iconst 0, 1) := by decide +kernel
theorem dX0_fillBackward_80 : decode cX0_fillBackward 80 = .ok (.iastore, 1) := by decide +kernel
theorem dX0_fillBackward_81 : decode cX0_fillBackward 81 = .ok (.iinc 2 1, 3) := by decide +kernel
theorem dX0_fillBackward_84 : decode cX0_fillBackward 84 = .ok (.goto (-72), 3) := by decide +kernel
theorem dX0_fillBackward_87 : decode cX0_fillBackward 87 = .ok (.iinc 1 1, 3) := by decide +kernel
theorem dX0_fillBackward_90 : decode cX0_fillBackward 90 = .ok (.goto (-88), 3) := by decide +kernel
theorem dX0_fillBackward_93 : decode cX0_fillBackward 93 = .ok (.return_, 1) := by decide +kernel
abbrev cX0_findWords : ByteArray := prog_1_method_13_code
def yX0_findWords : MethodName := ⟨RX0, "findWords", "(Z)V"⟩
theorem dX0_findWords_0 : decode cX0_findWords 0 = .ok (.aload_n 0, 1) := by decide +kernel
theorem dX0_findWords_1 : decode cX0_findWords 1 = .ok (.getfield 38, 3) := by decide +kernel
theorem dX0_findWords_4 : decode cX0_findWords 4 = .ok (.iconst 1, 1) := by decide +kernel
theorem dX0_findWords_5 : decode cX0_findWords 5 = .ok (.isub, 1) := by decide +kernel
theorem dX0_findWords_6 : decode cX0_findWords 6 = .ok (.istore_n 2, 1) := by decide +kernel
theorem dX0_findWords_7 : decode cX0_findWords 7 = .ok (.iload_n 2, 1) := by decide +kernel
theorem dX0_findWords_8 : decode cX0_findWords 8 = .ok (.ifCond .lt 48, 3) := by decide +kernel
theorem dX0_findWords_11 : decode cX0_findWords 11 = .ok (.iload_n 2, 1) := by decide +kernel
theorem dX0_findWords_12 : decode cX0_findWords 12 = .ok (.iconst 1, 1) := by decide +kernel
theorem dX0_findWords_13 : decode cX0_findWords 13 = .ok (.iadd, 1) := by decide +kernel
theorem dX0_findWords_14 : decode cX0_findWords 14 = .ok (.istore_n 3, 1) := by decide +kernel
theorem dX0_findWords_15 : decode cX0_findWords 15 = .ok (.iload_n 3, 1) := by decide +kernel
theorem dX0_findWords_16 : decode cX0_findWords 16 = .ok (.aload_n 0, 1) := by decide +kernel
theorem dX0_findWords_17 : decode cX0_findWords 17 = .ok (.getfield 38, 3) := by decide +kernel
theorem dX0_findWords_20 : decode cX0_findWords 20 = .ok (.if_icmp .ge 23, 3) := by decide +kernel
theorem dX0_findWords_23 : decode cX0_findWords 23 = .ok (.aload_n 0, 1) := by decide +kernel
theorem dX0_findWords_24 : decode cX0_findWords 24 = .ok (.iload_n 2, 1) := by decide +kernel
theorem dX0_findWords_25 : decode cX0_findWords 25 = .ok (.iload_n 3, 1) := by decide +kernel
theorem dX0_findWords_26 : decode cX0_findWords 26 = .ok (.iload_n 1, 1) := by decide +kernel
theorem dX0_findWords_27 : decode cX0_findWords 27 = .ok (.invokevirtual 53, 3) := by decide +kernel
theorem dX0_findWords_30 : decode cX0_findWords 30 = .ok (.ifCond .eq 13, 3) := by decide +kernel
theorem dX0_findWords_33 : decode cX0_findWords 33 = .ok (.aload_n 0, 1) := by decide +kernel
theorem dX0_findWords_34 : decode cX0_findWords 34 = .ok (.getfield 19, 3) := by decide +kernel
theorem dX0_findWords_37 : decode cX0_findWords 37 = .ok (.iload_n 3, 1) := by decide +kernel
theorem dX0_findWords_38 : decode cX0_findWords 38 = .ok (.iaload, 1) := by decide +kernel
theorem dX0_findWords_39 : decode cX0_findWords 39 = .ok (.istore_n 3, 1) := by decide +kernel
theorem dX0_findWords_40 : decode cX0_findWords 40 = .ok (.goto (-25), 3) := by decide +kernel
theorem dX0_findWords_43 : decode cX0_findWords 43 = .ok (.aload_n 0, 1) := by decide +kernel
theorem dX0_findWords_44 : decode cX0_findWords 44 = .ok (.getfield 19, 3) := by decide +kernel
theorem dX0_findWords_47 : decode cX0_findWords 47 = .ok (.iload_n 2, 1) := by decide +kernel
theorem dX0_findWords_48 : decode cX0_findWords 48 = .ok (.iload_n 3, 1) := by decide +kernel
theorem dX0_findWords_49 : decode cX0_findWords 49 = .ok (.iastore, 1) := by decide +kernel
theorem dX0_findWords_50 : decode cX0_findWords 50 = .ok (.iinc 2 (-1), 3) := by decide +kernel
theorem dX0_findWords_53 : decode cX0_findWords 53 = .ok (.goto (-46), 3) := by decide +kernel
theorem dX0_findWords_56 : decode cX0_findWords 56 = .ok (.return_, 1) := by decide +kernel
abbrev cX0_smallerFrom : ByteArray := prog_1_method_12_code
def yX0_smallerFrom : MethodName := ⟨RX0, "smallerFrom", "(IIZ)Z"⟩
theorem dX0_smallerFrom_0 : decode cX0_smallerFrom 0 = .ok (.aload_n 0, 1) := by decide +kernel
theorem dX0_smallerFrom_1 : decode cX0_smallerFrom 1 = .ok (.getfield 13, 3) := by decide +kernel
theorem dX0_smallerFrom_4 : decode cX0_smallerFrom 4 = .ok (.iload_n 1, 1) := by decide +kernel
theorem dX0_smallerFrom_5 : decode cX0_smallerFrom 5 = .ok (.bipush 33, 2) := by decide +kernel
theorem dX0_smallerFrom_7 : decode cX0_smallerFrom 7 = .ok (.imul, 1) := by decide +kernel
theorem dX0_smallerFrom_8 : decode cX0_smallerFrom 8 = .ok (.iload_n 2, 1) := by decide +kernel
theorem dX0_smallerFrom_9 : decode cX0_smallerFrom 9 = .ok (.iadd, 1) := by decide +kernel
theorem dX0_smallerFrom_10 : decode cX0_smallerFrom 10 = .ok (.iaload, 1) := by decide +kernel
theorem dX0_smallerFrom_11 : decode cX0_smallerFrom 11 = .ok (.istore 4, 2) := by decide +kernel
theorem dX0_smallerFrom_13 : decode cX0_smallerFrom 13 = .ok (.iload_n 2, 1) := by decide +kernel
theorem dX0_smallerFrom_14 : decode cX0_smallerFrom 14 = .ok (.iload 4, 2) := by decide +kernel
theorem dX0_smallerFrom_16 : decode cX0_smallerFrom 16 = .ok (.iadd, 1) := by decide +kernel
theorem dX0_smallerFrom_17 : decode cX0_smallerFrom 17 = .ok (.aload_n 0, 1) := by decide +kernel
theorem dX0_smallerFrom_18 : decode cX0_smallerFrom 18 = .ok (.getfield 38, 3) := by decide +kernel
theorem dX0_smallerFrom_21 : decode cX0_smallerFrom 21 = .ok (.if_icmp .lt 5, 3) := by decide +kernel
theorem dX0_smallerFrom_24 : decode cX0_smallerFrom 24 = .ok (.iconst 0, 1) := by decide +kernel
theorem dX0_smallerFrom_25 : decode cX0_smallerFrom 25 = .ok (.ireturn, 1) := by decide +kernel
theorem dX0_smallerFrom_26 : decode cX0_smallerFrom 26 = .ok (.iload_n 1, 1) := by decide +kernel
theorem dX0_smallerFrom_27 : decode cX0_smallerFrom 27 = .ok (.iload 4, 2) := by decide +kernel
theorem dX0_smallerFrom_29 : decode cX0_smallerFrom 29 = .ok (.iadd, 1) := by decide +kernel
theorem dX0_smallerFrom_30 : decode cX0_smallerFrom 30 = .ok (.aload_n 0, 1) := by decide +kernel
theorem dX0_smallerFrom_31 : decode cX0_smallerFrom 31 = .ok (.getfield 38, 3) := by decide +kernel
theorem dX0_smallerFrom_34 : decode cX0_smallerFrom 34 = .ok (.if_icmp .lt 5, 3) := by decide +kernel
theorem dX0_smallerFrom_37 : decode cX0_smallerFrom 37 = .ok (.iconst 1, 1) := by decide +kernel
theorem dX0_smallerFrom_38 : decode cX0_smallerFrom 38 = .ok (.ireturn, 1) := by decide +kernel
theorem dX0_smallerFrom_39 : decode cX0_smallerFrom 39 = .ok (.iload_n 3, 1) := by decide +kernel
theorem dX0_smallerFrom_40 : decode cX0_smallerFrom 40 = .ok (.ifCond .eq 32, 3) := by decide +kernel
theorem dX0_smallerFrom_43 : decode cX0_smallerFrom 43 = .ok (.aload_n 0, 1) := by decide +kernel
theorem dX0_smallerFrom_44 : decode cX0_smallerFrom 44 = .ok (.getfield 7, 3) := by decide +kernel
theorem dX0_smallerFrom_47 : decode cX0_smallerFrom 47 = .ok (.iload_n 1, 1) := by decide +kernel
theorem dX0_smallerFrom_48 : decode cX0_smallerFrom 48 = .ok (.iload 4, 2) := by decide +kernel
theorem dX0_smallerFrom_50 : decode cX0_smallerFrom 50 = .ok (.iadd, 1) := by decide +kernel
theorem dX0_smallerFrom_51 : decode cX0_smallerFrom 51 = .ok (.iaload, 1) := by decide +kernel
theorem dX0_smallerFrom_52 : decode cX0_smallerFrom 52 = .ok (.aload_n 0, 1) := by decide +kernel
theorem dX0_smallerFrom_53 : decode cX0_smallerFrom 53 = .ok (.getfield 7, 3) := by decide +kernel
theorem dX0_smallerFrom_56 : decode cX0_smallerFrom 56 = .ok (.iload_n 2, 1) := by decide +kernel
theorem dX0_smallerFrom_57 : decode cX0_smallerFrom 57 = .ok (.iload 4, 2) := by decide +kernel
theorem dX0_smallerFrom_59 : decode cX0_smallerFrom 59 = .ok (.iadd, 1) := by decide +kernel
theorem dX0_smallerFrom_60 : decode cX0_smallerFrom 60 = .ok (.iaload, 1) := by decide +kernel
theorem dX0_smallerFrom_61 : decode cX0_smallerFrom 61 = .ok (.if_icmp .le 7, 3) := by decide +kernel
theorem dX0_smallerFrom_64 : decode cX0_smallerFrom 64 = .ok (.iconst 1, 1) := by decide +kernel
theorem dX0_smallerFrom_65 : decode cX0_smallerFrom 65 = .ok (.goto 33, 3) := by decide +kernel
theorem dX0_smallerFrom_68 : decode cX0_smallerFrom 68 = .ok (.iconst 0, 1) := by decide +kernel
theorem dX0_smallerFrom_69 : decode cX0_smallerFrom 69 = .ok (.goto 29, 3) := by decide +kernel
theorem dX0_smallerFrom_72 : decode cX0_smallerFrom 72 = .ok (.aload_n 0, 1) := by decide +kernel
theorem dX0_smallerFrom_73 : decode cX0_smallerFrom 73 = .ok (.getfield 7, 3) := by decide +kernel
theorem dX0_smallerFrom_76 : decode cX0_smallerFrom 76 = .ok (.iload_n 1, 1) := by decide +kernel
theorem dX0_smallerFrom_77 : decode cX0_smallerFrom 77 = .ok (.iload 4, 2) := by decide +kernel
theorem dX0_smallerFrom_79 : decode cX0_smallerFrom 79 = .ok (.iadd, 1) := by decide +kernel
theorem dX0_smallerFrom_80 : decode cX0_smallerFrom 80 = .ok (.iaload, 1) := by decide +kernel
theorem dX0_smallerFrom_81 : decode cX0_smallerFrom 81 = .ok (.aload_n 0, 1) := by decide +kernel
theorem dX0_smallerFrom_82 : decode cX0_smallerFrom 82 = .ok (.getfield 7, 3) := by decide +kernel
theorem dX0_smallerFrom_85 : decode cX0_smallerFrom 85 = .ok (.iload_n 2, 1) := by decide +kernel
theorem dX0_smallerFrom_86 : decode cX0_smallerFrom 86 = .ok (.iload 4, 2) := by decide +kernel
theorem dX0_smallerFrom_88 : decode cX0_smallerFrom 88 = .ok (.iadd, 1) := by decide +kernel
theorem dX0_smallerFrom_89 : decode cX0_smallerFrom 89 = .ok (.iaload, 1) := by decide +kernel
theorem dX0_smallerFrom_90 : decode cX0_smallerFrom 90 = .ok (.if_icmp .ge 7, 3) := by decide +kernel
theorem dX0_smallerFrom_93 : decode cX0_smallerFrom 93 = .ok (.iconst 1, 1) := by decide +kernel
theorem dX0_smallerFrom_94 : decode cX0_smallerFrom 94 = .ok (.goto 4, 3) := by decide +kernel
theorem dX0_smallerFrom_97 : decode cX0_smallerFrom 97 = .ok (.iconst 0, 1) := by decide +kernel
theorem dX0_smallerFrom_98 : decode cX0_smallerFrom 98 = .ok (.ireturn, 1) := by decide +kernel
abbrev cX0_stretchWords : ByteArray := prog_1_method_15_code
def yX0_stretchWords : MethodName := ⟨RX0, "stretchWords", "()V"⟩
theorem dX0_stretchWords_0 : decode cX0_stretchWords 0 = .ok (.iconst 0, 1) := by decide +kernel
theorem dX0_stretchWords_1 : decode cX0_stretchWords 1 = .ok (.istore_n 1, 1) := by decide +kernel
theorem dX0_stretchWords_2 : decode cX0_stretchWords 2 = .ok (.iload_n 1, 1) := by decide +kernel
theorem dX0_stretchWords_3 : decode cX0_stretchWords 3 = .ok (.aload_n 0, 1) := by decide +kernel
theorem dX0_stretchWords_4 : decode cX0_stretchWords 4 = .ok (.getfield 38, 3) := by decide +kernel
theorem dX0_stretchWords_7 : decode cX0_stretchWords 7 = .ok (.if_icmp .ge 101, 3) := by decide +kernel
theorem dX0_stretchWords_10 : decode cX0_stretchWords 10 = .ok (.aload_n 0, 1) := by decide +kernel
theorem dX0_stretchWords_11 : decode cX0_stretchWords 11 = .ok (.getfield 19, 3) := by decide +kernel
theorem dX0_stretchWords_14 : decode cX0_stretchWords 14 = .ok (.iload_n 1, 1) := by decide +kernel
theorem dX0_stretchWords_15 : decode cX0_stretchWords 15 = .ok (.iaload, 1) := by decide +kernel
theorem dX0_stretchWords_16 : decode cX0_stretchWords 16 = .ok (.iload_n 1, 1) := by decide +kernel
theorem dX0_stretchWords_17 : decode cX0_stretchWords 17 = .ok (.isub, 1) := by decide +kernel
theorem dX0_stretchWords_18 : decode cX0_stretchWords 18 = .ok (.istore_n 2, 1) := by decide +kernel
theorem dX0_stretchWords_19 : decode cX0_stretchWords 19 = .ok (.aload_n 0, 1) := by decide +kernel
theorem dX0_stretchWords_20 : decode cX0_stretchWords 20 = .ok (.getfield 13, 3) := by decide +kernel
theorem dX0_stretchWords_23 : decode cX0_stretchWords 23 = .ok (.iload_n 1, 1) := by decide +kernel
theorem dX0_stretchWords_24 : decode cX0_stretchWords 24 = .ok (.bipush 33, 2) := by decide +kernel
theorem dX0_stretchWords_26 : decode cX0_stretchWords 26 = .ok (.imul, 1) := by decide +kernel
theorem dX0_stretchWords_27 : decode cX0_stretchWords 27 = .ok (.iload_n 1, 1) := by decide +kernel
theorem dX0_stretchWords_28 : decode cX0_stretchWords 28 = .ok (.iadd, 1) := by decide +kernel
theorem dX0_stretchWords_29 : decode cX0_stretchWords 29 = .ok (.iload_n 2, 1) := by decide +kernel
theorem dX0_stretchWords_30 : decode cX0_stretchWords 30 = .ok (.iadd, 1) := by decide +kernel
theorem dX0_stretchWords_31 : decode cX0_stretchWords 31 = .ok (.iaload, 1) := by decide +kernel
theorem dX0_stretchWords_32 : decode cX0_stretchWords 32 = .ok (.istore_n 3, 1) := by decide +kernel
theorem dX0_stretchWords_33 : decode cX0_stretchWords 33 = .ok (.iload_n 1, 1) := by decide +kernel
theorem dX0_stretchWords_34 : decode cX0_stretchWords 34 = .ok (.ifCond .le 23, 3) := by decide +kernel
theorem dX0_stretchWords_37 : decode cX0_stretchWords 37 = .ok (.aload_n 0, 1) := by decide +kernel
theorem dX0_stretchWords_38 : decode cX0_stretchWords 38 = .ok (.getfield 16, 3) := by decide +kernel
theorem dX0_stretchWords_41 : decode cX0_stretchWords 41 = .ok (.iload_n 1, 1) := by decide +kernel
theorem dX0_stretchWords_42 : decode cX0_stretchWords 42 = .ok (.iconst 1, 1) := by decide +kernel
theorem dX0_stretchWords_43 : decode cX0_stretchWords 43 = .ok (.isub, 1) := by decide +kernel
theorem dX0_stretchWords_44 : decode cX0_stretchWords 44 = .ok (.bipush 33, 2) := by decide +kernel
theorem dX0_stretchWords_46 : decode cX0_stretchWords 46 = .ok (.imul, 1) := by decide +kernel
theorem dX0_stretchWords_47 : decode cX0_stretchWords 47 = .ok (.iload_n 1, 1) := by decide +kernel
theorem dX0_stretchWords_48 : decode cX0_stretchWords 48 = .ok (.iadd, 1) := by decide +kernel
theorem dX0_stretchWords_49 : decode cX0_stretchWords 49 = .ok (.iload_n 2, 1) := by decide +kernel
theorem dX0_stretchWords_50 : decode cX0_stretchWords 50 = .ok (.iadd, 1) := by decide +kernel
theorem dX0_stretchWords_51 : decode cX0_stretchWords 51 = .ok (.iconst 1, 1) := by decide +kernel
theorem dX0_stretchWords_52 : decode cX0_stretchWords 52 = .ok (.isub, 1) := by decide +kernel
theorem dX0_stretchWords_53 : decode cX0_stretchWords 53 = .ok (.iaload, 1) := by decide +kernel
theorem dX0_stretchWords_54 : decode cX0_stretchWords 54 = .ok (.goto 4, 3) := by decide +kernel
theorem dX0_stretchWords_57 : decode cX0_stretchWords 57 = .ok (.iconst 0, 1) := by decide +kernel
theorem dX0_stretchWords_58 : decode cX0_stretchWords 58 = .ok (.istore 4, 2) := by decide +kernel
theorem dX0_stretchWords_60 : decode cX0_stretchWords 60 = .ok (.iload_n 1, 1) := by decide +kernel
theorem dX0_stretchWords_61 : decode cX0_stretchWords 61 = .ok (.iload 4, 2) := by decide +kernel
theorem dX0_stretchWords_63 : decode cX0_stretchWords 63 = .ok (.isub, 1) := by decide +kernel
theorem dX0_stretchWords_64 : decode cX0_stretchWords 64 = .ok (.istore 5, 2) := by decide +kernel
theorem dX0_stretchWords_66 : decode cX0_stretchWords 66 = .ok (.iload_n 1, 1) := by decide +kernel
theorem dX0_stretchWords_67 : decode cX0_stretchWords 67 = .ok (.iload_n 2, 1) := by decide +kernel
theorem dX0_stretchWords_68 : decode cX0_stretchWords 68 = .ok (.iadd, 1) := by decide +kernel
theorem dX0_stretchWords_69 : decode cX0_stretchWords 69 = .ok (.iload_n 3, 1) := by decide +kernel
theorem dX0_stretchWords_70 : decode cX0_stretchWords 70 = .ok (.iadd, 1) := by decide +kernel
theorem dX0_stretchWords_71 : decode cX0_stretchWords 71 = .ok (.istore 6, 2) := by decide +kernel
theorem dX0_stretchWords_73 : decode cX0_stretchWords 73 = .ok (.iload 6, 2) := by decide +kernel
theorem dX0_stretchWords_75 : decode cX0_stretchWords 75 = .ok (.iload 5, 2) := by decide +kernel
theorem dX0_stretchWords_77 : decode cX0_stretchWords 77 = .ok (.isub, 1) := by decide +kernel
theorem dX0_stretchWords_78 : decode cX0_stretchWords 78 = .ok (.iconst 2, 1) := by decide +kernel
theorem dX0_stretchWords_79 : decode cX0_stretchWords 79 = .ok (.iload_n 2, 1) := by decide +kernel
theorem dX0_stretchWords_80 : decode cX0_stretchWords 80 = .ok (.imul, 1) := by decide +kernel
theorem dX0_stretchWords_81 : decode cX0_stretchWords 81 = .ok (.if_icmp .lt 21, 3) := by decide +kernel
theorem dX0_stretchWords_84 : decode cX0_stretchWords 84 = .ok (.aload_n 0, 1) := by decide +kernel
theorem dX0_stretchWords_85 : decode cX0_stretchWords 85 = .ok (.getfield 57, 3) := by decide +kernel
theorem dX0_stretchWords_88 : decode cX0_stretchWords 88 = .ok (.bipush 63, 2) := by decide +kernel
theorem dX0_stretchWords_90 : decode cX0_stretchWords 90 = .ok (.if_icmp .ge 12, 3) := by decide +kernel
theorem dX0_stretchWords_93 : decode cX0_stretchWords 93 = .ok (.aload_n 0, 1) := by decide +kernel
theorem dX0_stretchWords_94 : decode cX0_stretchWords 94 = .ok (.iload 5, 2) := by decide +kernel
theorem dX0_stretchWords_96 : decode cX0_stretchWords 96 = .ok (.iload 6, 2) := by decide +kernel
theorem dX0_stretchWords_98 : decode cX0_stretchWords 98 = .ok (.iload_n 2, 1) := by decide +kernel
theorem dX0_stretchWords_99 : decode cX0_stretchWords 99 = .ok (.invokevirtual 60, 3) := by decide +kernel
theorem dX0_stretchWords_102 : decode cX0_stretchWords 102 = .ok (.iinc 1 1, 3) := by decide +kernel
theorem dX0_stretchWords_105 : decode cX0_stretchWords 105 = .ok (.goto (-103), 3) := by decide +kernel
theorem dX0_stretchWords_108 : decode cX0_stretchWords 108 = .ok (.return_, 1) := by decide +kernel
abbrev cX0_keep : ByteArray := prog_1_method_14_code
def yX0_keep : MethodName := ⟨RX0, "keep", "(III)V"⟩
theorem dX0_keep_0 : decode cX0_keep 0 = .ok (.aload_n 0, 1) := by decide +kernel
theorem dX0_keep_1 : decode cX0_keep 1 = .ok (.getfield 57, 3) := by decide +kernel
theorem dX0_keep_4 : decode cX0_keep 4 = .ok (.istore 4, 2) := by decide +kernel
theorem dX0_keep_6 : decode cX0_keep 6 = .ok (.iconst 0, 1) := by decide +kernel
theorem dX0_keep_7 : decode cX0_keep 7 = .ok (.istore 5, 2) := by decide +kernel
theorem dX0_keep_9 : decode cX0_keep 9 = .ok (.iload 5, 2) := by decide +kernel
theorem dX0_keep_11 : decode cX0_keep 11 = .ok (.aload_n 0, 1) := by decide +kernel
theorem dX0_keep_12 : decode cX0_keep 12 = .ok (.getfield 57, 3) := by decide +kernel
theorem dX0_keep_15 : decode cX0_keep 15 = .ok (.if_icmp .ge 32, 3) := by decide +kernel
theorem dX0_keep_18 : decode cX0_keep 18 = .ok (.aload_n 0, 1) := by decide +kernel
theorem dX0_keep_19 : decode cX0_keep 19 = .ok (.getfield 25, 3) := by decide +kernel
theorem dX0_keep_22 : decode cX0_keep 22 = .ok (.iload 5, 2) := by decide +kernel
theorem dX0_keep_24 : decode cX0_keep 24 = .ok (.iaload, 1) := by decide +kernel
theorem dX0_keep_25 : decode cX0_keep 25 = .ok (.iload_n 1, 1) := by decide +kernel
theorem dX0_keep_26 : decode cX0_keep 26 = .ok (.if_icmp .ne 15, 3) := by decide +kernel
theorem dX0_keep_29 : decode cX0_keep 29 = .ok (.aload_n 0, 1) := by decide +kernel
theorem dX0_keep_30 : decode cX0_keep 30 = .ok (.getfield 31, 3) := by decide +kernel
theorem dX0_keep_33 : decode cX0_keep 33 = .ok (.iload 5, 2) := by decide +kernel
theorem dX0_keep_35 : decode cX0_keep 35 = .ok (.iaload, 1) := by decide +kernel
theorem dX0_keep_36 : decode cX0_keep 36 = .ok (.iload_n 3, 1) := by decide +kernel
theorem dX0_keep_37 : decode cX0_keep 37 = .ok (.if_icmp .ne 4, 3) := by decide +kernel
theorem dX0_keep_40 : decode cX0_keep 40 = .ok (.return_, 1) := by decide +kernel
theorem dX0_keep_41 : decode cX0_keep 41 = .ok (.iinc 5 1, 3) := by decide +kernel
theorem dX0_keep_44 : decode cX0_keep 44 = .ok (.goto (-35), 3) := by decide +kernel
theorem dX0_keep_47 : decode cX0_keep 47 = .ok (.iload 4, 2) := by decide +kernel
theorem dX0_keep_49 : decode cX0_keep 49 = .ok (.ifCond .le 96, 3) := by decide +kernel
theorem dX0_keep_52 : decode cX0_keep 52 = .ok (.aload_n 0, 1) := by decide +kernel
theorem dX0_keep_53 : decode cX0_keep 53 = .ok (.getfield 25, 3) := by decide +kernel
theorem dX0_keep_56 : decode cX0_keep 56 = .ok (.iload 4, 2) := by decide +kernel
theorem dX0_keep_58 : decode cX0_keep 58 = .ok (.iconst 1, 1) := by decide +kernel
theorem dX0_keep_59 : decode cX0_keep 59 = .ok (.isub, 1) := by decide +kernel
theorem dX0_keep_60 : decode cX0_keep 60 = .ok (.iaload, 1) := by decide +kernel
theorem dX0_keep_61 : decode cX0_keep 61 = .ok (.iload_n 1, 1) := by decide +kernel
theorem dX0_keep_62 : decode cX0_keep 62 = .ok (.if_icmp .gt 29, 3) := by decide +kernel
theorem dX0_keep_65 : decode cX0_keep 65 = .ok (.aload_n 0, 1) := by decide +kernel
theorem dX0_keep_66 : decode cX0_keep 66 = .ok (.getfield 25, 3) := by decide +kernel
theorem dX0_keep_69 : decode cX0_keep 69 = .ok (.iload 4, 2) := by decide +kernel
theorem dX0_keep_71 : decode cX0_keep 71 = .ok (.iconst 1, 1) := by decide +kernel
theorem dX0_keep_72 : decode cX0_keep 72 = .ok (.isub, 1) := by decide +kernel
theorem dX0_keep_73 : decode cX0_keep 73 = .ok (.iaload, 1) := by decide +kernel
theorem dX0_keep_74 : decode cX0_keep 74 = .ok (.iload_n 1, 1) := by decide +kernel
theorem dX0_keep_75 : decode cX0_keep 75 = .ok (.if_icmp .ne 70, 3) := by decide +kernel
theorem dX0_keep_78 : decode cX0_keep 78 = .ok (.aload_n 0, 1) := by decide +kernel
theorem dX0_keep_79 : decode cX0_keep 79 = .ok (.getfield 31, 3) := by decide +kernel
theorem dX0_keep_82 : decode cX0_keep 82 = .ok (.iload 4, 2) := by decide +kernel
theorem dX0_keep_84 : decode cX0_keep 84 = .ok (.iconst 1, 1) := by decide +kernel
theorem dX0_keep_85 : decode cX0_keep 85 = .ok (.isub, 1) := by decide +kernel
theorem dX0_keep_86 : decode cX0_keep 86 = .ok (.iaload, 1) := by decide +kernel
theorem dX0_keep_87 : decode cX0_keep 87 = .ok (.iload_n 3, 1) := by decide +kernel
theorem dX0_keep_88 : decode cX0_keep 88 = .ok (.if_icmp .le 57, 3) := by decide +kernel
theorem dX0_keep_91 : decode cX0_keep 91 = .ok (.aload_n 0, 1) := by decide +kernel
theorem dX0_keep_92 : decode cX0_keep 92 = .ok (.getfield 25, 3) := by decide +kernel
theorem dX0_keep_95 : decode cX0_keep 95 = .ok (.iload 4, 2) := by decide +kernel
theorem dX0_keep_97 : decode cX0_keep 97 = .ok (.aload_n 0, 1) := by decide +kernel
theorem dX0_keep_98 : decode cX0_keep 98 = .ok (.getfield 25, 3) := by decide +kernel
theorem dX0_keep_101 : decode cX0_keep 101 = .ok (.iload 4, 2) := by decide +kernel
theorem dX0_keep_103 : decode cX0_keep 103 = .ok (.iconst 1, 1) := by decide +kernel
theorem dX0_keep_104 : decode cX0_keep 104 = .ok (.isub, 1) := by decide +kernel
theorem dX0_keep_105 : decode cX0_keep 105 = .ok (.iaload, 1) := by decide +kernel
theorem dX0_keep_106 : decode cX0_keep 106 = .ok (.iastore, 1) := by decide +kernel
theorem dX0_keep_107 : decode cX0_keep 107 = .ok (.aload_n 0, 1) := by decide +kernel
theorem dX0_keep_108 : decode cX0_keep 108 = .ok (.getfield 28, 3) := by decide +kernel
theorem dX0_keep_111 : decode cX0_keep 111 = .ok (.iload 4, 2) := by decide +kernel
theorem dX0_keep_113 : decode cX0_keep 113 = .ok (.aload_n 0, 1) := by decide +kernel
theorem dX0_keep_114 : decode cX0_keep 114 = .ok (.getfield 28, 3) := by decide +kernel
theorem dX0_keep_117 : decode cX0_keep 117 = .ok (.iload 4, 2) := by decide +kernel
theorem dX0_keep_119 : decode cX0_keep 119 = .ok (.iconst 1, 1) := by decide +kernel
theorem dX0_keep_120 : decode cX0_keep 120 = .ok (.isub, 1) := by decide +kernel
theorem dX0_keep_121 : decode cX0_keep 121 = .ok (.iaload, 1) := by decide +kernel
theorem dX0_keep_122 : decode cX0_keep 122 = .ok (.iastore, 1) := by decide +kernel
theorem dX0_keep_123 : decode cX0_keep 123 = .ok (.aload_n 0, 1) := by decide +kernel
theorem dX0_keep_124 : decode cX0_keep 124 = .ok (.getfield 31, 3) := by decide +kernel
theorem dX0_keep_127 : decode cX0_keep 127 = .ok (.iload 4, 2) := by decide +kernel
theorem dX0_keep_129 : decode cX0_keep 129 = .ok (.aload_n 0, 1) := by decide +kernel
theorem dX0_keep_130 : decode cX0_keep 130 = .ok (.getfield 31, 3) := by decide +kernel
theorem dX0_keep_133 : decode cX0_keep 133 = .ok (.iload 4, 2) := by decide +kernel
theorem dX0_keep_135 : decode cX0_keep 135 = .ok (.iconst 1, 1) := by decide +kernel
theorem dX0_keep_136 : decode cX0_keep 136 = .ok (.isub, 1) := by decide +kernel
theorem dX0_keep_137 : decode cX0_keep 137 = .ok (.iaload, 1) := by decide +kernel
theorem dX0_keep_138 : decode cX0_keep 138 = .ok (.iastore, 1) := by decide +kernel
theorem dX0_keep_139 : decode cX0_keep 139 = .ok (.iinc 4 (-1), 3) := by decide +kernel
theorem dX0_keep_142 : decode cX0_keep 142 = .ok (.goto (-95), 3) := by decide +kernel
theorem dX0_keep_145 : decode cX0_keep 145 = .ok (.aload_n 0, 1) := by decide +kernel
theorem dX0_keep_146 : decode cX0_keep 146 = .ok (.getfield 25, 3) := by decide +kernel
theorem dX0_keep_149 : decode cX0_keep 149 = .ok (.iload 4, 2) := by decide +kernel
theorem dX0_keep_151 : decode cX0_keep 151 = .ok (.iload_n 1, 1) := by decide +kernel
theorem dX0_keep_152 : decode cX0_keep 152 = .ok (.iastore, 1) := by decide +kernel
theorem dX0_keep_153 : decode cX0_keep 153 = .ok (.aload_n 0, 1) := by decide +kernel
theorem dX0_keep_154 : decode cX0_keep 154 = .ok (.getfield 28, 3) := by decide +kernel
theorem dX0_keep_157 : decode cX0_keep 157 = .ok (.iload 4, 2) := by decide +kernel
theorem dX0_keep_159 : decode cX0_keep 159 = .ok (.iload_n 2, 1) := by decide +kernel
theorem dX0_keep_160 : decode cX0_keep 160 = .ok (.iastore, 1) := by decide +kernel
theorem dX0_keep_161 : decode cX0_keep 161 = .ok (.aload_n 0, 1) := by decide +kernel
theorem dX0_keep_162 : decode cX0_keep 162 = .ok (.getfield 31, 3) := by decide +kernel
theorem dX0_keep_165 : decode cX0_keep 165 = .ok (.iload 4, 2) := by decide +kernel
theorem dX0_keep_167 : decode cX0_keep 167 = .ok (.iload_n 3, 1) := by decide +kernel
theorem dX0_keep_168 : decode cX0_keep 168 = .ok (.iastore, 1) := by decide +kernel
theorem dX0_keep_169 : decode cX0_keep 169 = .ok (.aload_n 0, 1) := by decide +kernel
theorem dX0_keep_170 : decode cX0_keep 170 = .ok (.dup, 1) := by decide +kernel
theorem dX0_keep_171 : decode cX0_keep 171 = .ok (.getfield 57, 3) := by decide +kernel
theorem dX0_keep_174 : decode cX0_keep 174 = .ok (.iconst 1, 1) := by decide +kernel
theorem dX0_keep_175 : decode cX0_keep 175 = .ok (.iadd, 1) := by decide +kernel
theorem dX0_keep_176 : decode cX0_keep 176 = .ok (.putfield 57, 3) := by decide +kernel
theorem dX0_keep_179 : decode cX0_keep 179 = .ok (.return_, 1) := by decide +kernel
abbrev cX0_begin : ByteArray := prog_1_method_19_code
def yX0_begin : MethodName := ⟨RX0, "begin", "(I)I"⟩
theorem dX0_begin_0 : decode cX0_begin 0 = .ok (.aload_n 0, 1) := by decide +kernel
theorem dX0_begin_1 : decode cX0_begin 1 = .ok (.iload_n 1, 1) := by decide +kernel
theorem dX0_begin_2 : decode cX0_begin 2 = .ok (.invokevirtual 80, 3) := by decide +kernel
theorem dX0_begin_5 : decode cX0_begin 5 = .ok (.ifCond .eq 8, 3) := by decide +kernel
theorem dX0_begin_8 : decode cX0_begin 8 = .ok (.bipush (-4), 2) := by decide +kernel
theorem dX0_begin_10 : decode cX0_begin 10 = .ok (.goto 9, 3) := by decide +kernel
theorem dX0_begin_13 : decode cX0_begin 13 = .ok (.aload_n 0, 1) := by decide +kernel
theorem dX0_begin_14 : decode cX0_begin 14 = .ok (.getfield 25, 3) := by decide +kernel
theorem dX0_begin_17 : decode cX0_begin 17 = .ok (.iload_n 1, 1) := by decide +kernel
theorem dX0_begin_18 : decode cX0_begin 18 = .ok (.iaload, 1) := by decide +kernel
theorem dX0_begin_19 : decode cX0_begin 19 = .ok (.ireturn, 1) := by decide +kernel
abbrev cX0_noRun : ByteArray := prog_1_method_18_code
def yX0_noRun : MethodName := ⟨RX0, "noRun", "(I)Z"⟩
theorem dX0_noRun_0 : decode cX0_noRun 0 = .ok (.aload_n 0, 1) := by decide +kernel
theorem dX0_noRun_1 : decode cX0_noRun 1 = .ok (.invokevirtual 77, 3) := by decide +kernel
theorem dX0_noRun_4 : decode cX0_noRun 4 = .ok (.iload_n 1, 1) := by decide +kernel
theorem dX0_noRun_5 : decode cX0_noRun 5 = .ok (.ifCond .lt 11, 3) := by decide +kernel
theorem dX0_noRun_8 : decode cX0_noRun 8 = .ok (.iload_n 1, 1) := by decide +kernel
theorem dX0_noRun_9 : decode cX0_noRun 9 = .ok (.aload_n 0, 1) := by decide +kernel
theorem dX0_noRun_10 : decode cX0_noRun 10 = .ok (.getfield 57, 3) := by decide +kernel
theorem dX0_noRun_13 : decode cX0_noRun 13 = .ok (.if_icmp .lt 7, 3) := by decide +kernel
theorem dX0_noRun_16 : decode cX0_noRun 16 = .ok (.iconst 1, 1) := by decide +kernel
theorem dX0_noRun_17 : decode cX0_noRun 17 = .ok (.goto 4, 3) := by decide +kernel
theorem dX0_noRun_20 : decode cX0_noRun 20 = .ok (.iconst 0, 1) := by decide +kernel
theorem dX0_noRun_21 : decode cX0_noRun 21 = .ok (.ireturn, 1) := by decide +kernel
abbrev cX0_end : ByteArray := prog_1_method_20_code
def yX0_end : MethodName := ⟨RX0, "end", "(I)I"⟩
theorem dX0_end_0 : decode cX0_end 0 = .ok (.aload_n 0, 1) := by decide +kernel
theorem dX0_end_1 : decode cX0_end 1 = .ok (.iload_n 1, 1) := by decide +kernel
theorem dX0_end_2 : decode cX0_end 2 = .ok (.invokevirtual 80, 3) := by decide +kernel
theorem dX0_end_5 : decode cX0_end 5 = .ok (.ifCond .eq 8, 3) := by decide +kernel
theorem dX0_end_8 : decode cX0_end 8 = .ok (.bipush (-4), 2) := by decide +kernel
theorem dX0_end_10 : decode cX0_end 10 = .ok (.goto 9, 3) := by decide +kernel
theorem dX0_end_13 : decode cX0_end 13 = .ok (.aload_n 0, 1) := by decide +kernel
theorem dX0_end_14 : decode cX0_end 14 = .ok (.getfield 28, 3) := by decide +kernel
theorem dX0_end_17 : decode cX0_end 17 = .ok (.iload_n 1, 1) := by decide +kernel
theorem dX0_end_18 : decode cX0_end 18 = .ok (.iaload, 1) := by decide +kernel
theorem dX0_end_19 : decode cX0_end 19 = .ok (.ireturn, 1) := by decide +kernel
end
section
set_option maxRecDepth 100000
abbrev cX0_period : ByteArray := prog_1_method_21_code
def yX0_period : MethodName := ⟨RX0, "period", "(I)I"⟩
theorem dX0_period_0 : decode cX0_period 0 = .ok (.aload_n 0, 1) := by decide +kernel
theorem dX0_period_1 : decode cX0_period 1 = .ok (.iload_n 1, 1) := by decide +kernel
theorem dX0_period_2 : decode cX0_period 2 = .ok (.invokevirtual 80, 3) := by decide +kernel
theorem dX0_period_5 : decode cX0_period 5 = .ok (.ifCond .eq 8, 3) := by decide +kernel
theorem dX0_period_8 : decode cX0_period 8 = .ok (.bipush (-4), 2) := by decide +kernel
theorem dX0_period_10 : decode cX0_period 10 = .ok (.goto 9, 3) := by decide +kernel
theorem dX0_period_13 : decode cX0_period 13 = .ok (.aload_n 0, 1) := by decide +kernel
theorem dX0_period_14 : decode cX0_period 14 = .ok (.getfield 31, 3) := by decide +kernel
theorem dX0_period_17 : decode cX0_period 17 = .ok (.iload_n 1, 1) := by decide +kernel
theorem dX0_period_18 : decode cX0_period 18 = .ok (.iaload, 1) := by decide +kernel
theorem dX0_period_19 : decode cX0_period 19 = .ok (.ireturn, 1) := by decide +kernel
abbrev cX0_squares : ByteArray := prog_1_method_22_code
def yX0_squares : MethodName := ⟨RX0, "squares", "()I"⟩
theorem dX0_squares_0 : decode cX0_squares 0 = .ok (.aload_n 0, 1) := by decide +kernel
theorem dX0_squares_1 : decode cX0_squares 1 = .ok (.invokevirtual 77, 3) := by decide +kernel
theorem dX0_squares_4 : decode cX0_squares 4 = .ok (.iconst 0, 1) := by decide +kernel
theorem dX0_squares_5 : decode cX0_squares 5 = .ok (.istore_n 1, 1) := by decide +kernel
theorem dX0_squares_6 : decode cX0_squares 6 = .ok (.iconst 0, 1) := by decide +kernel
theorem dX0_squares_7 : decode cX0_squares 7 = .ok (.istore_n 2, 1) := by decide +kernel
theorem dX0_squares_8 : decode cX0_squares 8 = .ok (.iload_n 2, 1) := by decide +kernel
theorem dX0_squares_9 : decode cX0_squares 9 = .ok (.aload_n 0, 1) := by decide +kernel
theorem dX0_squares_10 : decode cX0_squares 10 = .ok (.getfield 57, 3) := by decide +kernel
theorem dX0_squares_13 : decode cX0_squares 13 = .ok (.if_icmp .ge 64, 3) := by decide +kernel
theorem dX0_squares_16 : decode cX0_squares 16 = .ok (.aload_n 0, 1) := by decide +kernel
theorem dX0_squares_17 : decode cX0_squares 17 = .ok (.getfield 28, 3) := by decide +kernel
theorem dX0_squares_20 : decode cX0_squares 20 = .ok (.iload_n 2, 1) := by decide +kernel
theorem dX0_squares_21 : decode cX0_squares 21 = .ok (.iaload, 1) := by decide +kernel
theorem dX0_squares_22 : decode cX0_squares 22 = .ok (.aload_n 0, 1) := by decide +kernel
theorem dX0_squares_23 : decode cX0_squares 23 = .ok (.getfield 25, 3) := by decide +kernel
theorem dX0_squares_26 : decode cX0_squares 26 = .ok (.iload_n 2, 1) := by decide +kernel
theorem dX0_squares_27 : decode cX0_squares 27 = .ok (.iaload, 1) := by decide +kernel
theorem dX0_squares_28 : decode cX0_squares 28 = .ok (.isub, 1) := by decide +kernel
theorem dX0_squares_29 : decode cX0_squares 29 = .ok (.istore_n 3, 1) := by decide +kernel
theorem dX0_squares_30 : decode cX0_squares 30 = .ok (.iconst 2, 1) := by decide +kernel
theorem dX0_squares_31 : decode cX0_squares 31 = .ok (.aload_n 0, 1) := by decide +kernel
theorem dX0_squares_32 : decode cX0_squares 32 = .ok (.getfield 31, 3) := by decide +kernel
theorem dX0_squares_35 : decode cX0_squares 35 = .ok (.iload_n 2, 1) := by decide +kernel
theorem dX0_squares_36 : decode cX0_squares 36 = .ok (.iaload, 1) := by decide +kernel
theorem dX0_squares_37 : decode cX0_squares 37 = .ok (.imul, 1) := by decide +kernel
theorem dX0_squares_38 : decode cX0_squares 38 = .ok (.istore 4, 2) := by decide +kernel
theorem dX0_squares_40 : decode cX0_squares 40 = .ok (.iload 4, 2) := by decide +kernel
theorem dX0_squares_42 : decode cX0_squares 42 = .ok (.iload_n 3, 1) := by decide +kernel
theorem dX0_squares_43 : decode cX0_squares 43 = .ok (.if_icmp .gt 28, 3) := by decide +kernel
theorem dX0_squares_46 : decode cX0_squares 46 = .ok (.iload_n 1, 1) := by decide +kernel
theorem dX0_squares_47 : decode cX0_squares 47 = .ok (.iload_n 3, 1) := by decide +kernel
theorem dX0_squares_48 : decode cX0_squares 48 = .ok (.iload 4, 2) := by decide +kernel
theorem dX0_squares_50 : decode cX0_squares 50 = .ok (.isub, 1) := by decide +kernel
theorem dX0_squares_51 : decode cX0_squares 51 = .ok (.iconst 1, 1) := by decide +kernel
theorem dX0_squares_52 : decode cX0_squares 52 = .ok (.iadd, 1) := by decide +kernel
theorem dX0_squares_53 : decode cX0_squares 53 = .ok (.iadd, 1) := by decide +kernel
theorem dX0_squares_54 : decode cX0_squares 54 = .ok (.istore_n 1, 1) := by decide +kernel
theorem dX0_squares_55 : decode cX0_squares 55 = .ok (.iload 4, 2) := by decide +kernel
theorem dX0_squares_57 : decode cX0_squares 57 = .ok (.iconst 2, 1) := by decide +kernel
theorem dX0_squares_58 : decode cX0_squares 58 = .ok (.aload_n 0, 1) := by decide +kernel
theorem dX0_squares_59 : decode cX0_squares 59 = .ok (.getfield 31, 3) := by decide +kernel
theorem dX0_squares_62 : decode cX0_squares 62 = .ok (.iload_n 2, 1) := by decide +kernel
theorem dX0_squares_63 : decode cX0_squares 63 = .ok (.iaload, 1) := by decide +kernel
theorem dX0_squares_64 : decode cX0_squares 64 = .ok (.imul, 1) := by decide +kernel
theorem dX0_squares_65 : decode cX0_squares 65 = .ok (.iadd, 1) := by decide +kernel
theorem dX0_squares_66 : decode cX0_squares 66 = .ok (.istore 4, 2) := by decide +kernel
theorem dX0_squares_68 : decode cX0_squares 68 = .ok (.goto (-28), 3) := by decide +kernel
theorem dX0_squares_71 : decode cX0_squares 71 = .ok (.iinc 2 1, 3) := by decide +kernel
theorem dX0_squares_74 : decode cX0_squares 74 = .ok (.goto (-66), 3) := by decide +kernel
theorem dX0_squares_77 : decode cX0_squares 77 = .ok (.iload_n 1, 1) := by decide +kernel
theorem dX0_squares_78 : decode cX0_squares 78 = .ok (.ireturn, 1) := by decide +kernel
abbrev cX0_wholePeriod : ByteArray := prog_1_method_23_code
def yX0_wholePeriod : MethodName := ⟨RX0, "wholePeriod", "()I"⟩
theorem dX0_wholePeriod_0 : decode cX0_wholePeriod 0 = .ok (.aload_n 0, 1) := by decide +kernel
theorem dX0_wholePeriod_1 : decode cX0_wholePeriod 1 = .ok (.invokevirtual 77, 3) := by decide +kernel
theorem dX0_wholePeriod_4 : decode cX0_wholePeriod 4 = .ok (.aload_n 0, 1) := by decide +kernel
theorem dX0_wholePeriod_5 : decode cX0_wholePeriod 5 = .ok (.getfield 38, 3) := by decide +kernel
theorem dX0_wholePeriod_8 : decode cX0_wholePeriod 8 = .ok (.ifCond .ne 5, 3) := by decide +kernel
theorem dX0_wholePeriod_11 : decode cX0_wholePeriod 11 = .ok (.iconst 0, 1) := by decide +kernel
theorem dX0_wholePeriod_12 : decode cX0_wholePeriod 12 = .ok (.ireturn, 1) := by decide +kernel
theorem dX0_wholePeriod_13 : decode cX0_wholePeriod 13 = .ok (.iconst 1, 1) := by decide +kernel
theorem dX0_wholePeriod_14 : decode cX0_wholePeriod 14 = .ok (.istore_n 1, 1) := by decide +kernel
theorem dX0_wholePeriod_15 : decode cX0_wholePeriod 15 = .ok (.iload_n 1, 1) := by decide +kernel
theorem dX0_wholePeriod_16 : decode cX0_wholePeriod 16 = .ok (.aload_n 0, 1) := by decide +kernel
theorem dX0_wholePeriod_17 : decode cX0_wholePeriod 17 = .ok (.getfield 38, 3) := by decide +kernel
theorem dX0_wholePeriod_20 : decode cX0_wholePeriod 20 = .ok (.if_icmp .ge 24, 3) := by decide +kernel
theorem dX0_wholePeriod_23 : decode cX0_wholePeriod 23 = .ok (.aload_n 0, 1) := by decide +kernel
theorem dX0_wholePeriod_24 : decode cX0_wholePeriod 24 = .ok (.getfield 13, 3) := by decide +kernel
theorem dX0_wholePeriod_27 : decode cX0_wholePeriod 27 = .ok (.iload_n 1, 1) := by decide +kernel
theorem dX0_wholePeriod_28 : decode cX0_wholePeriod 28 = .ok (.iaload, 1) := by decide +kernel
theorem dX0_wholePeriod_29 : decode cX0_wholePeriod 29 = .ok (.aload_n 0, 1) := by decide +kernel
theorem dX0_wholePeriod_30 : decode cX0_wholePeriod 30 = .ok (.getfield 38, 3) := by decide +kernel
theorem dX0_wholePeriod_33 : decode cX0_wholePeriod 33 = .ok (.iload_n 1, 1) := by decide +kernel
theorem dX0_wholePeriod_34 : decode cX0_wholePeriod 34 = .ok (.isub, 1) := by decide +kernel
theorem dX0_wholePeriod_35 : decode cX0_wholePeriod 35 = .ok (.if_icmp .ge 9, 3) := by decide +kernel
theorem dX0_wholePeriod_38 : decode cX0_wholePeriod 38 = .ok (.iinc 1 1, 3) := by decide +kernel
theorem dX0_wholePeriod_41 : decode cX0_wholePeriod 41 = .ok (.goto (-26), 3) := by decide +kernel
theorem dX0_wholePeriod_44 : decode cX0_wholePeriod 44 = .ok (.iload_n 1, 1) := by decide +kernel
theorem dX0_wholePeriod_45 : decode cX0_wholePeriod 45 = .ok (.ireturn, 1) := by decide +kernel
abbrev cX0_smallestEnd : ByteArray := prog_1_method_24_code
def yX0_smallestEnd : MethodName := ⟨RX0, "smallestEnd", "()I"⟩
theorem dX0_smallestEnd_0 : decode cX0_smallestEnd 0 = .ok (.aload_n 0, 1) := by decide +kernel
theorem dX0_smallestEnd_1 : decode cX0_smallestEnd 1 = .ok (.invokevirtual 77, 3) := by decide +kernel
theorem dX0_smallestEnd_4 : decode cX0_smallestEnd 4 = .ok (.aload_n 0, 1) := by decide +kernel
theorem dX0_smallestEnd_5 : decode cX0_smallestEnd 5 = .ok (.getfield 38, 3) := by decide +kernel
theorem dX0_smallestEnd_8 : decode cX0_smallestEnd 8 = .ok (.ifCond .ne 6, 3) := by decide +kernel
theorem dX0_smallestEnd_11 : decode cX0_smallestEnd 11 = .ok (.bipush (-4), 2) := by decide +kernel
theorem dX0_smallestEnd_13 : decode cX0_smallestEnd 13 = .ok (.ireturn, 1) := by decide +kernel
theorem dX0_smallestEnd_14 : decode cX0_smallestEnd 14 = .ok (.iconst 0, 1) := by decide +kernel
theorem dX0_smallestEnd_15 : decode cX0_smallestEnd 15 = .ok (.istore_n 1, 1) := by decide +kernel
theorem dX0_smallestEnd_16 : decode cX0_smallestEnd 16 = .ok (.aload_n 0, 1) := by decide +kernel
theorem dX0_smallestEnd_17 : decode cX0_smallestEnd 17 = .ok (.getfield 22, 3) := by decide +kernel
theorem dX0_smallestEnd_20 : decode cX0_smallestEnd 20 = .ok (.iload_n 1, 1) := by decide +kernel
theorem dX0_smallestEnd_21 : decode cX0_smallestEnd 21 = .ok (.iaload, 1) := by decide +kernel
theorem dX0_smallestEnd_22 : decode cX0_smallestEnd 22 = .ok (.aload_n 0, 1) := by decide +kernel
theorem dX0_smallestEnd_23 : decode cX0_smallestEnd 23 = .ok (.getfield 38, 3) := by decide +kernel
theorem dX0_smallestEnd_26 : decode cX0_smallestEnd 26 = .ok (.if_icmp .ge 13, 3) := by decide +kernel
theorem dX0_smallestEnd_29 : decode cX0_smallestEnd 29 = .ok (.aload_n 0, 1) := by decide +kernel
theorem dX0_smallestEnd_30 : decode cX0_smallestEnd 30 = .ok (.getfield 22, 3) := by decide +kernel
theorem dX0_smallestEnd_33 : decode cX0_smallestEnd 33 = .ok (.iload_n 1, 1) := by decide +kernel
theorem dX0_smallestEnd_34 : decode cX0_smallestEnd 34 = .ok (.iaload, 1) := by decide +kernel
theorem dX0_smallestEnd_35 : decode cX0_smallestEnd 35 = .ok (.istore_n 1, 1) := by decide +kernel
theorem dX0_smallestEnd_36 : decode cX0_smallestEnd 36 = .ok (.goto (-20), 3) := by decide +kernel
theorem dX0_smallestEnd_39 : decode cX0_smallestEnd 39 = .ok (.iload_n 1, 1) := by decide +kernel
theorem dX0_smallestEnd_40 : decode cX0_smallestEnd 40 = .ok (.ireturn, 1) := by decide +kernel
abbrev cX0_factors : ByteArray := prog_1_method_25_code
def yX0_factors : MethodName := ⟨RX0, "factors", "()I"⟩
theorem dX0_factors_0 : decode cX0_factors 0 = .ok (.aload_n 0, 1) := by decide +kernel
theorem dX0_factors_1 : decode cX0_factors 1 = .ok (.invokevirtual 77, 3) := by decide +kernel
theorem dX0_factors_4 : decode cX0_factors 4 = .ok (.iconst 0, 1) := by decide +kernel
theorem dX0_factors_5 : decode cX0_factors 5 = .ok (.istore_n 1, 1) := by decide +kernel
theorem dX0_factors_6 : decode cX0_factors 6 = .ok (.iconst 0, 1) := by decide +kernel
theorem dX0_factors_7 : decode cX0_factors 7 = .ok (.istore_n 2, 1) := by decide +kernel
theorem dX0_factors_8 : decode cX0_factors 8 = .ok (.iload_n 2, 1) := by decide +kernel
theorem dX0_factors_9 : decode cX0_factors 9 = .ok (.aload_n 0, 1) := by decide +kernel
theorem dX0_factors_10 : decode cX0_factors 10 = .ok (.getfield 38, 3) := by decide +kernel
theorem dX0_factors_13 : decode cX0_factors 13 = .ok (.if_icmp .ge 16, 3) := by decide +kernel
theorem dX0_factors_16 : decode cX0_factors 16 = .ok (.iinc 1 1, 3) := by decide +kernel
theorem dX0_factors_19 : decode cX0_factors 19 = .ok (.aload_n 0, 1) := by decide +kernel
theorem dX0_factors_20 : decode cX0_factors 20 = .ok (.getfield 22, 3) := by decide +kernel
theorem dX0_factors_23 : decode cX0_factors 23 = .ok (.iload_n 2, 1) := by decide +kernel
theorem dX0_factors_24 : decode cX0_factors 24 = .ok (.iaload, 1) := by decide +kernel
theorem dX0_factors_25 : decode cX0_factors 25 = .ok (.istore_n 2, 1) := by decide +kernel
theorem dX0_factors_26 : decode cX0_factors 26 = .ok (.goto (-18), 3) := by decide +kernel
theorem dX0_factors_29 : decode cX0_factors 29 = .ok (.iload_n 1, 1) := by decide +kernel
theorem dX0_factors_30 : decode cX0_factors 30 = .ok (.ireturn, 1) := by decide +kernel
abbrev cX0_smallestTurn : ByteArray := prog_1_method_27_code
def yX0_smallestTurn : MethodName := ⟨RX0, "smallestTurn", "()I"⟩
theorem dX0_smallestTurn_0 : decode cX0_smallestTurn 0 = .ok (.aload_n 0, 1) := by decide +kernel
theorem dX0_smallestTurn_1 : decode cX0_smallestTurn 1 = .ok (.getfield 38, 3) := by decide +kernel
theorem dX0_smallestTurn_4 : decode cX0_smallestTurn 4 = .ok (.ifCond .ne 6, 3) := by decide +kernel
theorem dX0_smallestTurn_7 : decode cX0_smallestTurn 7 = .ok (.bipush (-4), 2) := by decide +kernel
theorem dX0_smallestTurn_9 : decode cX0_smallestTurn 9 = .ok (.ireturn, 1) := by decide +kernel
theorem dX0_smallestTurn_10 : decode cX0_smallestTurn 10 = .ok (.iconst 0, 1) := by decide +kernel
theorem dX0_smallestTurn_11 : decode cX0_smallestTurn 11 = .ok (.istore_n 1, 1) := by decide +kernel
theorem dX0_smallestTurn_12 : decode cX0_smallestTurn 12 = .ok (.iconst 1, 1) := by decide +kernel
theorem dX0_smallestTurn_13 : decode cX0_smallestTurn 13 = .ok (.istore_n 2, 1) := by decide +kernel
theorem dX0_smallestTurn_14 : decode cX0_smallestTurn 14 = .ok (.iconst 0, 1) := by decide +kernel
theorem dX0_smallestTurn_15 : decode cX0_smallestTurn 15 = .ok (.istore_n 3, 1) := by decide +kernel
theorem dX0_smallestTurn_16 : decode cX0_smallestTurn 16 = .ok (.iconst 0, 1) := by decide +kernel
theorem dX0_smallestTurn_17 : decode cX0_smallestTurn 17 = .ok (.istore 4, 2) := by decide +kernel
theorem dX0_smallestTurn_19 : decode cX0_smallestTurn 19 = .ok (.iload 4, 2) := by decide +kernel
theorem dX0_smallestTurn_21 : decode cX0_smallestTurn 21 = .ok (.sipush 128, 3) := by decide +kernel
theorem dX0_smallestTurn_24 : decode cX0_smallestTurn 24 = .ok (.if_icmp .ge 96, 3) := by decide +kernel
theorem dX0_smallestTurn_27 : decode cX0_smallestTurn 27 = .ok (.iload_n 1, 1) := by decide +kernel
theorem dX0_smallestTurn_28 : decode cX0_smallestTurn 28 = .ok (.aload_n 0, 1) := by decide +kernel
theorem dX0_smallestTurn_29 : decode cX0_smallestTurn 29 = .ok (.getfield 38, 3) := by decide +kernel
theorem dX0_smallestTurn_32 : decode cX0_smallestTurn 32 = .ok (.if_icmp .ge 88, 3) := by decide +kernel
theorem dX0_smallestTurn_35 : decode cX0_smallestTurn 35 = .ok (.iload_n 2, 1) := by decide +kernel
theorem dX0_smallestTurn_36 : decode cX0_smallestTurn 36 = .ok (.aload_n 0, 1) := by decide +kernel
theorem dX0_smallestTurn_37 : decode cX0_smallestTurn 37 = .ok (.getfield 38, 3) := by decide +kernel
theorem dX0_smallestTurn_40 : decode cX0_smallestTurn 40 = .ok (.if_icmp .ge 80, 3) := by decide +kernel
theorem dX0_smallestTurn_43 : decode cX0_smallestTurn 43 = .ok (.iload_n 3, 1) := by decide +kernel
theorem dX0_smallestTurn_44 : decode cX0_smallestTurn 44 = .ok (.aload_n 0, 1) := by decide +kernel
theorem dX0_smallestTurn_45 : decode cX0_smallestTurn 45 = .ok (.getfield 38, 3) := by decide +kernel
theorem dX0_smallestTurn_48 : decode cX0_smallestTurn 48 = .ok (.if_icmp .ge 72, 3) := by decide +kernel
theorem dX0_smallestTurn_51 : decode cX0_smallestTurn 51 = .ok (.aload_n 0, 1) := by decide +kernel
theorem dX0_smallestTurn_52 : decode cX0_smallestTurn 52 = .ok (.iload_n 1, 1) := by decide +kernel
theorem dX0_smallestTurn_53 : decode cX0_smallestTurn 53 = .ok (.iload_n 3, 1) := by decide +kernel
theorem dX0_smallestTurn_54 : decode cX0_smallestTurn 54 = .ok (.iadd, 1) := by decide +kernel
theorem dX0_smallestTurn_55 : decode cX0_smallestTurn 55 = .ok (.invokevirtual 83, 3) := by decide +kernel
theorem dX0_smallestTurn_58 : decode cX0_smallestTurn 58 = .ok (.istore 5, 2) := by decide +kernel
theorem dX0_smallestTurn_60 : decode cX0_smallestTurn 60 = .ok (.aload_n 0, 1) := by decide +kernel
theorem dX0_smallestTurn_61 : decode cX0_smallestTurn 61 = .ok (.iload_n 2, 1) := by decide +kernel
theorem dX0_smallestTurn_62 : decode cX0_smallestTurn 62 = .ok (.iload_n 3, 1) := by decide +kernel
theorem dX0_smallestTurn_63 : decode cX0_smallestTurn 63 = .ok (.iadd, 1) := by decide +kernel
theorem dX0_smallestTurn_64 : decode cX0_smallestTurn 64 = .ok (.invokevirtual 83, 3) := by decide +kernel
theorem dX0_smallestTurn_67 : decode cX0_smallestTurn 67 = .ok (.istore 6, 2) := by decide +kernel
theorem dX0_smallestTurn_69 : decode cX0_smallestTurn 69 = .ok (.iload 5, 2) := by decide +kernel
theorem dX0_smallestTurn_71 : decode cX0_smallestTurn 71 = .ok (.iload 6, 2) := by decide +kernel
theorem dX0_smallestTurn_73 : decode cX0_smallestTurn 73 = .ok (.if_icmp .ne 9, 3) := by decide +kernel
theorem dX0_smallestTurn_76 : decode cX0_smallestTurn 76 = .ok (.iinc 3 1, 3) := by decide +kernel
theorem dX0_smallestTurn_79 : decode cX0_smallestTurn 79 = .ok (.goto 35, 3) := by decide +kernel
theorem dX0_smallestTurn_82 : decode cX0_smallestTurn 82 = .ok (.iload 5, 2) := by decide +kernel
theorem dX0_smallestTurn_84 : decode cX0_smallestTurn 84 = .ok (.iload 6, 2) := by decide +kernel
theorem dX0_smallestTurn_86 : decode cX0_smallestTurn 86 = .ok (.if_icmp .le 12, 3) := by decide +kernel
theorem dX0_smallestTurn_89 : decode cX0_smallestTurn 89 = .ok (.iload_n 1, 1) := by decide +kernel
theorem dX0_smallestTurn_90 : decode cX0_smallestTurn 90 = .ok (.iload_n 3, 1) := by decide +kernel
theorem dX0_smallestTurn_91 : decode cX0_smallestTurn 91 = .ok (.iconst 1, 1) := by decide +kernel
theorem dX0_smallestTurn_92 : decode cX0_smallestTurn 92 = .ok (.iadd, 1) := by decide +kernel
theorem dX0_smallestTurn_93 : decode cX0_smallestTurn 93 = .ok (.iadd, 1) := by decide +kernel
theorem dX0_smallestTurn_94 : decode cX0_smallestTurn 94 = .ok (.istore_n 1, 1) := by decide +kernel
theorem dX0_smallestTurn_95 : decode cX0_smallestTurn 95 = .ok (.goto 9, 3) := by decide +kernel
theorem dX0_smallestTurn_98 : decode cX0_smallestTurn 98 = .ok (.iload_n 2, 1) := by decide +kernel
theorem dX0_smallestTurn_99 : decode cX0_smallestTurn 99 = .ok (.iload_n 3, 1) := by decide +kernel
theorem dX0_smallestTurn_100 : decode cX0_smallestTurn 100 = .ok (.iconst 1, 1) := by decide +kernel
theorem dX0_smallestTurn_101 : decode cX0_smallestTurn 101 = .ok (.iadd, 1) := by decide +kernel
theorem dX0_smallestTurn_102 : decode cX0_smallestTurn 102 = .ok (.iadd, 1) := by decide +kernel
theorem dX0_smallestTurn_103 : decode cX0_smallestTurn 103 = .ok (.istore_n 2, 1) := by decide +kernel
theorem dX0_smallestTurn_104 : decode cX0_smallestTurn 104 = .ok (.iload_n 1, 1) := by decide +kernel
theorem dX0_smallestTurn_105 : decode cX0_smallestTurn 105 = .ok (.iload_n 2, 1) := by decide +kernel
theorem dX0_smallestTurn_106 : decode cX0_smallestTurn 106 = .ok (.if_icmp .ne 6, 3) := by decide +kernel
theorem dX0_smallestTurn_109 : decode cX0_smallestTurn 109 = .ok (.iinc 2 1, 3) := by decide +kernel
theorem dX0_smallestTurn_112 : decode cX0_smallestTurn 112 = .ok (.iconst 0, 1) := by decide +kernel
theorem dX0_smallestTurn_113 : decode cX0_smallestTurn 113 = .ok (.istore_n 3, 1) := by decide +kernel
theorem dX0_smallestTurn_114 : decode cX0_smallestTurn 114 = .ok (.iinc 4 1, 3) := by decide +kernel
theorem dX0_smallestTurn_117 : decode cX0_smallestTurn 117 = .ok (.goto (-98), 3) := by decide +kernel
theorem dX0_smallestTurn_120 : decode cX0_smallestTurn 120 = .ok (.iload_n 1, 1) := by decide +kernel
theorem dX0_smallestTurn_121 : decode cX0_smallestTurn 121 = .ok (.iload_n 2, 1) := by decide +kernel
theorem dX0_smallestTurn_122 : decode cX0_smallestTurn 122 = .ok (.if_icmp .ge 7, 3) := by decide +kernel
theorem dX0_smallestTurn_125 : decode cX0_smallestTurn 125 = .ok (.iload_n 1, 1) := by decide +kernel
theorem dX0_smallestTurn_126 : decode cX0_smallestTurn 126 = .ok (.goto 4, 3) := by decide +kernel
theorem dX0_smallestTurn_129 : decode cX0_smallestTurn 129 = .ok (.iload_n 2, 1) := by decide +kernel
theorem dX0_smallestTurn_130 : decode cX0_smallestTurn 130 = .ok (.ireturn, 1) := by decide +kernel
abbrev cX0_letterAt : ByteArray := prog_1_method_26_code
def yX0_letterAt : MethodName := ⟨RX0, "letterAt", "(I)I"⟩
theorem dX0_letterAt_0 : decode cX0_letterAt 0 = .ok (.aload_n 0, 1) := by decide +kernel
theorem dX0_letterAt_1 : decode cX0_letterAt 1 = .ok (.getfield 7, 3) := by decide +kernel
theorem dX0_letterAt_4 : decode cX0_letterAt 4 = .ok (.iload_n 1, 1) := by decide +kernel
theorem dX0_letterAt_5 : decode cX0_letterAt 5 = .ok (.aload_n 0, 1) := by decide +kernel
theorem dX0_letterAt_6 : decode cX0_letterAt 6 = .ok (.getfield 38, 3) := by decide +kernel
theorem dX0_letterAt_9 : decode cX0_letterAt 9 = .ok (.if_icmp .ge 7, 3) := by decide +kernel
theorem dX0_letterAt_12 : decode cX0_letterAt 12 = .ok (.iload_n 1, 1) := by decide +kernel
theorem dX0_letterAt_13 : decode cX0_letterAt 13 = .ok (.goto 9, 3) := by decide +kernel
theorem dX0_letterAt_16 : decode cX0_letterAt 16 = .ok (.iload_n 1, 1) := by decide +kernel
theorem dX0_letterAt_17 : decode cX0_letterAt 17 = .ok (.aload_n 0, 1) := by decide +kernel
theorem dX0_letterAt_18 : decode cX0_letterAt 18 = .ok (.getfield 38, 3) := by decide +kernel
theorem dX0_letterAt_21 : decode cX0_letterAt 21 = .ok (.isub, 1) := by decide +kernel
theorem dX0_letterAt_22 : decode cX0_letterAt 22 = .ok (.iaload, 1) := by decide +kernel
theorem dX0_letterAt_23 : decode cX0_letterAt 23 = .ok (.ireturn, 1) := by decide +kernel
theorem q19 : (Jvm.Cond.initialized "RunFinder") ∈ lw_all := lw_g (lw_at lw_m1 1 rfl) rfl
theorem q22 : (Jvm.Cond.instantiable "RunFinder" (11 : Nat)) ∈ lw_all := lw_g (lw_at lw_m1 4 rfl) rfl
theorem q24 : (Jvm.Cond.instanceMethod ({ cls := "RunFinder", name := "<init>", desc := "()V" } : Jvm.MethodName)) ∈ lw_all := lw_g (lw_at lw_m1 6 rfl) rfl
theorem q25 : (Jvm.Cond.code ({ cls := "RunFinder", name := "<init>", desc := "()V" } : Jvm.MethodName) prog_1_method_1_code (1 : Nat) (Option.none : Option Jvm.ClassFile.FieldType)) ∈ lw_all := lw_g (lw_at lw_m1 7 rfl) rfl
theorem q26 : (Jvm.Cond.methodLink "RunFinder" (1 : Nat) ({ cls := "java/lang/Object", name := "<init>", desc := "()V" } : Jvm.MethodName)) ∈ lw_all := lw_g (lw_at lw_m1 8 rfl) rfl
theorem q29 : (Jvm.Cond.fieldLink "RunFinder" (38 : Nat) "RunFinder" "length" "I") ∈ lw_all := lw_g (lw_at lw_m1 11 rfl) rfl
theorem q30 : (Jvm.Cond.fieldLink "RunFinder" (7 : Nat) "RunFinder" "text" "[I") ∈ lw_all := lw_g (lw_at lw_m1 12 rfl) rfl
theorem q31 : (Jvm.Cond.fieldLink "RunFinder" (34 : Nat) "RunFinder" "ready" "Z") ∈ lw_all := lw_g (lw_at lw_m1 13 rfl) rfl
theorem q32 : (Jvm.Cond.fieldLink "RunFinder" (13 : Nat) "RunFinder" "onward" "[I") ∈ lw_all := lw_g (lw_at lw_m1 14 rfl) rfl
theorem q33 : (Jvm.Cond.fieldLink "RunFinder" (16 : Nat) "RunFinder" "backward" "[I") ∈ lw_all := lw_g (lw_at lw_m1 15 rfl) rfl
theorem q34 : (Jvm.Cond.fieldLink "RunFinder" (19 : Nat) "RunFinder" "wordEnd" "[I") ∈ lw_all := lw_g (lw_at lw_m1 16 rfl) rfl
theorem q35 : (Jvm.Cond.fieldLink "RunFinder" (22 : Nat) "RunFinder" "firstOrder" "[I") ∈ lw_all := lw_g (lw_at lw_m1 17 rfl) rfl
theorem q36 : (Jvm.Cond.fieldLink "RunFinder" (57 : Nat) "RunFinder" "found" "I") ∈ lw_all := lw_g (lw_at lw_m1 18 rfl) rfl
theorem q37 : (Jvm.Cond.fieldLink "RunFinder" (25 : Nat) "RunFinder" "from" "[I") ∈ lw_all := lw_g (lw_at lw_m1 19 rfl) rfl
theorem q38 : (Jvm.Cond.fieldLink "RunFinder" (28 : Nat) "RunFinder" "to" "[I") ∈ lw_all := lw_g (lw_at lw_m1 20 rfl) rfl
theorem q39 : (Jvm.Cond.fieldLink "RunFinder" (31 : Nat) "RunFinder" "step" "[I") ∈ lw_all := lw_g (lw_at lw_m1 21 rfl) rfl
theorem q40 : (Jvm.Cond.lays "RunFinder" "RunFinder" "length" "I") ∈ lw_all := lw_g (lw_at lw_m1 22 rfl) rfl
theorem q41 : (Jvm.Cond.soleField "RunFinder" "length") ∈ lw_all := lw_g (lw_at lw_m1 23 rfl) rfl
theorem q42 : (Jvm.Cond.laysFinal "RunFinder" "RunFinder" "text" "[I") ∈ lw_all := lw_g (lw_at lw_m1 24 rfl) rfl
theorem q43 : (Jvm.Cond.soleField "RunFinder" "text") ∈ lw_all := lw_g (lw_at lw_m1 25 rfl) rfl
theorem q44 : (Jvm.Cond.lays "RunFinder" "RunFinder" "ready" "Z") ∈ lw_all := lw_g (lw_at lw_m1 26 rfl) rfl
theorem q45 : (Jvm.Cond.soleField "RunFinder" "ready") ∈ lw_all := lw_g (lw_at lw_m1 27 rfl) rfl
theorem q46 : (Jvm.Cond.laysFinal "RunFinder" "RunFinder" "onward" "[I") ∈ lw_all := lw_g (lw_at lw_m1 28 rfl) rfl
theorem q47 : (Jvm.Cond.soleField "RunFinder" "onward") ∈ lw_all := lw_g (lw_at lw_m1 29 rfl) rfl
theorem q48 : (Jvm.Cond.laysFinal "RunFinder" "RunFinder" "backward" "[I") ∈ lw_all := lw_g (lw_at lw_m1 30 rfl) rfl
theorem q49 : (Jvm.Cond.soleField "RunFinder" "backward") ∈ lw_all := lw_g (lw_at lw_m1 31 rfl) rfl
theorem q50 : (Jvm.Cond.laysFinal "RunFinder" "RunFinder" "wordEnd" "[I") ∈ lw_all := lw_g (lw_at lw_m1 32 rfl) rfl
theorem q51 : (Jvm.Cond.soleField "RunFinder" "wordEnd") ∈ lw_all := lw_g (lw_at lw_m1 33 rfl) rfl
theorem q52 : (Jvm.Cond.laysFinal "RunFinder" "RunFinder" "firstOrder" "[I") ∈ lw_all := lw_g (lw_at lw_m1 34 rfl) rfl
theorem q53 : (Jvm.Cond.soleField "RunFinder" "firstOrder") ∈ lw_all := lw_g (lw_at lw_m1 35 rfl) rfl
theorem q54 : (Jvm.Cond.lays "RunFinder" "RunFinder" "found" "I") ∈ lw_all := lw_g (lw_at lw_m1 36 rfl) rfl
theorem q55 : (Jvm.Cond.soleField "RunFinder" "found") ∈ lw_all := lw_g (lw_at lw_m1 37 rfl) rfl
theorem q56 : (Jvm.Cond.laysFinal "RunFinder" "RunFinder" "from" "[I") ∈ lw_all := lw_g (lw_at lw_m1 38 rfl) rfl
theorem q57 : (Jvm.Cond.soleField "RunFinder" "from") ∈ lw_all := lw_g (lw_at lw_m1 39 rfl) rfl
theorem q58 : (Jvm.Cond.laysFinal "RunFinder" "RunFinder" "to" "[I") ∈ lw_all := lw_g (lw_at lw_m1 40 rfl) rfl
theorem q59 : (Jvm.Cond.soleField "RunFinder" "to") ∈ lw_all := lw_g (lw_at lw_m1 41 rfl) rfl
theorem q60 : (Jvm.Cond.laysFinal "RunFinder" "RunFinder" "step" "[I") ∈ lw_all := lw_g (lw_at lw_m1 42 rfl) rfl
theorem q61 : (Jvm.Cond.soleField "RunFinder" "step") ∈ lw_all := lw_g (lw_at lw_m1 43 rfl) rfl
theorem q62 : (Jvm.Cond.superclass "RunFinder" "java/lang/Object") ∈ lw_all := lw_g (lw_at lw_m1 44 rfl) rfl
theorem q65 : (Jvm.Cond.instanceMethod ({ cls := "RunFinder", name := "append", desc := "(I)I" } : Jvm.MethodName)) ∈ lw_all := lw_g (lw_at lw_m1 47 rfl) rfl
theorem q66 : (Jvm.Cond.selects "RunFinder" ({ cls := "RunFinder", name := "append", desc := "(I)I" } : Jvm.MethodName) ({ cls := "RunFinder", name := "append", desc := "(I)I" } : Jvm.MethodName)) ∈ lw_all := lw_g (lw_at lw_m1 48 rfl) rfl
theorem q67 : (Jvm.Cond.code ({ cls := "RunFinder", name := "append", desc := "(I)I" } : Jvm.MethodName) prog_1_method_5_code (2 : Nat) (Option.some Jvm.ClassFile.FieldType.int)) ∈ lw_all := lw_g (lw_at lw_m1 49 rfl) rfl
theorem q68 : (Jvm.Cond.methodLink "RunFinder" (42 : Nat) ({ cls := "RunFinder", name := "badLetter", desc := "(I)Z" } : Jvm.MethodName)) ∈ lw_all := lw_g (lw_at lw_m1 50 rfl) rfl
theorem q69 : (Jvm.Cond.static ({ cls := "RunFinder", name := "badLetter", desc := "(I)Z" } : Jvm.MethodName)) ∈ lw_all := lw_g (lw_at lw_m1 51 rfl) rfl
theorem q70 : (Jvm.Cond.code ({ cls := "RunFinder", name := "badLetter", desc := "(I)Z" } : Jvm.MethodName) prog_1_method_2_code (1 : Nat) (Option.some Jvm.ClassFile.FieldType.boolean)) ∈ lw_all := lw_g (lw_at lw_m1 52 rfl) rfl
theorem q71 : (Jvm.Cond.methodLink "RunFinder" (46 : Nat) ({ cls := "RunFinder", name := "add", desc := "(I)V" } : Jvm.MethodName)) ∈ lw_all := lw_g (lw_at lw_m1 53 rfl) rfl
theorem q72 : (Jvm.Cond.privateMethod ({ cls := "RunFinder", name := "add", desc := "(I)V" } : Jvm.MethodName)) ∈ lw_tbl := lw_at lw_m1 54 rfl
theorem q73 : (Jvm.Cond.instanceMethod ({ cls := "RunFinder", name := "add", desc := "(I)V" } : Jvm.MethodName)) ∈ lw_all := lw_g (lw_at lw_m1 55 rfl) rfl
theorem q74 : (Jvm.Cond.code ({ cls := "RunFinder", name := "add", desc := "(I)V" } : Jvm.MethodName) prog_1_method_4_code (2 : Nat) (Option.none : Option Jvm.ClassFile.FieldType)) ∈ lw_all := lw_g (lw_at lw_m1 56 rfl) rfl
theorem q76 : (Jvm.Cond.instanceMethod ({ cls := "RunFinder", name := "set", desc := "(II)I" } : Jvm.MethodName)) ∈ lw_all := lw_g (lw_at lw_m1 58 rfl) rfl
theorem q77 : (Jvm.Cond.selects "RunFinder" ({ cls := "RunFinder", name := "set", desc := "(II)I" } : Jvm.MethodName) ({ cls := "RunFinder", name := "set", desc := "(II)I" } : Jvm.MethodName)) ∈ lw_all := lw_g (lw_at lw_m1 59 rfl) rfl
theorem q78 : (Jvm.Cond.code ({ cls := "RunFinder", name := "set", desc := "(II)I" } : Jvm.MethodName) prog_1_method_6_code (4 : Nat) (Option.some Jvm.ClassFile.FieldType.int)) ∈ lw_all := lw_g (lw_at lw_m1 60 rfl) rfl
theorem q79 : (Jvm.Cond.methodLink "RunFinder" (50 : Nat) ({ cls := "RunFinder", name := "badPlace", desc := "(I)Z" } : Jvm.MethodName)) ∈ lw_all := lw_g (lw_at lw_m1 61 rfl) rfl
theorem q80 : (Jvm.Cond.privateMethod ({ cls := "RunFinder", name := "badPlace", desc := "(I)Z" } : Jvm.MethodName)) ∈ lw_tbl := lw_at lw_m1 62 rfl
theorem q81 : (Jvm.Cond.instanceMethod ({ cls := "RunFinder", name := "badPlace", desc := "(I)Z" } : Jvm.MethodName)) ∈ lw_all := lw_g (lw_at lw_m1 63 rfl) rfl
theorem q82 : (Jvm.Cond.code ({ cls := "RunFinder", name := "badPlace", desc := "(I)Z" } : Jvm.MethodName) prog_1_method_3_code (2 : Nat) (Option.some Jvm.ClassFile.FieldType.boolean)) ∈ lw_all := lw_g (lw_at lw_m1 64 rfl) rfl
theorem q84 : (Jvm.Cond.instanceMethod ({ cls := "RunFinder", name := "repeat", desc := "(I)I" } : Jvm.MethodName)) ∈ lw_all := lw_g (lw_at lw_m1 66 rfl) rfl
theorem q85 : (Jvm.Cond.selects "RunFinder" ({ cls := "RunFinder", name := "repeat", desc := "(I)I" } : Jvm.MethodName) ({ cls := "RunFinder", name := "repeat", desc := "(I)I" } : Jvm.MethodName)) ∈ lw_all := lw_g (lw_at lw_m1 67 rfl) rfl
theorem q86 : (Jvm.Cond.code ({ cls := "RunFinder", name := "repeat", desc := "(I)I" } : Jvm.MethodName) prog_1_method_7_code (4 : Nat) (Option.some Jvm.ClassFile.FieldType.int)) ∈ lw_all := lw_g (lw_at lw_m1 68 rfl) rfl
theorem q88 : (Jvm.Cond.instanceMethod ({ cls := "RunFinder", name := "drop", desc := "()I" } : Jvm.MethodName)) ∈ lw_all := lw_g (lw_at lw_m1 70 rfl) rfl
theorem q89 : (Jvm.Cond.selects "RunFinder" ({ cls := "RunFinder", name := "drop", desc := "()I" } : Jvm.MethodName) ({ cls := "RunFinder", name := "drop", desc := "()I" } : Jvm.MethodName)) ∈ lw_all := lw_g (lw_at lw_m1 71 rfl) rfl
theorem q90 : (Jvm.Cond.code ({ cls := "RunFinder", name := "drop", desc := "()I" } : Jvm.MethodName) prog_1_method_8_code (1 : Nat) (Option.some Jvm.ClassFile.FieldType.int)) ∈ lw_all := lw_g (lw_at lw_m1 72 rfl) rfl
theorem q92 : (Jvm.Cond.instanceMethod ({ cls := "RunFinder", name := "clear", desc := "()V" } : Jvm.MethodName)) ∈ lw_all := lw_g (lw_at lw_m1 74 rfl) rfl
theorem q93 : (Jvm.Cond.selects "RunFinder" ({ cls := "RunFinder", name := "clear", desc := "()V" } : Jvm.MethodName) ({ cls := "RunFinder", name := "clear", desc := "()V" } : Jvm.MethodName)) ∈ lw_all := lw_g (lw_at lw_m1 75 rfl) rfl
theorem q94 : (Jvm.Cond.code ({ cls := "RunFinder", name := "clear", desc := "()V" } : Jvm.MethodName) prog_1_method_9_code (1 : Nat) (Option.none : Option Jvm.ClassFile.FieldType)) ∈ lw_all := lw_g (lw_at lw_m1 76 rfl) rfl
theorem q96 : (Jvm.Cond.instanceMethod ({ cls := "RunFinder", name := "runs", desc := "()I" } : Jvm.MethodName)) ∈ lw_all := lw_g (lw_at lw_m1 78 rfl) rfl
theorem q97 : (Jvm.Cond.selects "RunFinder" ({ cls := "RunFinder", name := "runs", desc := "()I" } : Jvm.MethodName) ({ cls := "RunFinder", name := "runs", desc := "()I" } : Jvm.MethodName)) ∈ lw_all := lw_g (lw_at lw_m1 79 rfl) rfl
theorem q98 : (Jvm.Cond.code ({ cls := "RunFinder", name := "runs", desc := "()I" } : Jvm.MethodName) prog_1_method_17_code (1 : Nat) (Option.some Jvm.ClassFile.FieldType.int)) ∈ lw_all := lw_g (lw_at lw_m1 80 rfl) rfl
theorem q99 : (Jvm.Cond.methodLink "RunFinder" (77 : Nat) ({ cls := "RunFinder", name := "prepare", desc := "()V" } : Jvm.MethodName)) ∈ lw_all := lw_g (lw_at lw_m1 81 rfl) rfl
theorem q100 : (Jvm.Cond.privateMethod ({ cls := "RunFinder", name := "prepare", desc := "()V" } : Jvm.MethodName)) ∈ lw_tbl := lw_at lw_m1 82 rfl
theorem q101 : (Jvm.Cond.instanceMethod ({ cls := "RunFinder", name := "prepare", desc := "()V" } : Jvm.MethodName)) ∈ lw_all := lw_g (lw_at lw_m1 83 rfl) rfl
theorem q102 : (Jvm.Cond.code ({ cls := "RunFinder", name := "prepare", desc := "()V" } : Jvm.MethodName) prog_1_method_16_code (2 : Nat) (Option.none : Option Jvm.ClassFile.FieldType)) ∈ lw_all := lw_g (lw_at lw_m1 84 rfl) rfl
theorem q103 : (Jvm.Cond.methodLink "RunFinder" (64 : Nat) ({ cls := "RunFinder", name := "fillOnward", desc := "()V" } : Jvm.MethodName)) ∈ lw_all := lw_g (lw_at lw_m1 85 rfl) rfl
theorem q104 : (Jvm.Cond.privateMethod ({ cls := "RunFinder", name := "fillOnward", desc := "()V" } : Jvm.MethodName)) ∈ lw_tbl := lw_at lw_m1 86 rfl
theorem q105 : (Jvm.Cond.instanceMethod ({ cls := "RunFinder", name := "fillOnward", desc := "()V" } : Jvm.MethodName)) ∈ lw_all := lw_g (lw_at lw_m1 87 rfl) rfl
theorem q106 : (Jvm.Cond.code ({ cls := "RunFinder", name := "fillOnward", desc := "()V" } : Jvm.MethodName) prog_1_method_10_code (4 : Nat) (Option.none : Option Jvm.ClassFile.FieldType)) ∈ lw_all := lw_g (lw_at lw_m1 88 rfl) rfl
theorem q107 : (Jvm.Cond.methodLink "RunFinder" (67 : Nat) ({ cls := "RunFinder", name := "fillBackward", desc := "()V" } : Jvm.MethodName)) ∈ lw_all := lw_g (lw_at lw_m1 89 rfl) rfl
theorem q108 : (Jvm.Cond.privateMethod ({ cls := "RunFinder", name := "fillBackward", desc := "()V" } : Jvm.MethodName)) ∈ lw_tbl := lw_at lw_m1 90 rfl
theorem q109 : (Jvm.Cond.instanceMethod ({ cls := "RunFinder", name := "fillBackward", desc := "()V" } : Jvm.MethodName)) ∈ lw_all := lw_g (lw_at lw_m1 91 rfl) rfl
theorem q110 : (Jvm.Cond.code ({ cls := "RunFinder", name := "fillBackward", desc := "()V" } : Jvm.MethodName) prog_1_method_11_code (4 : Nat) (Option.none : Option Jvm.ClassFile.FieldType)) ∈ lw_all := lw_g (lw_at lw_m1 92 rfl) rfl
theorem q111 : (Jvm.Cond.methodLink "RunFinder" (70 : Nat) ({ cls := "RunFinder", name := "findWords", desc := "(Z)V" } : Jvm.MethodName)) ∈ lw_all := lw_g (lw_at lw_m1 93 rfl) rfl
theorem q112 : (Jvm.Cond.privateMethod ({ cls := "RunFinder", name := "findWords", desc := "(Z)V" } : Jvm.MethodName)) ∈ lw_tbl := lw_at lw_m1 94 rfl
theorem q113 : (Jvm.Cond.instanceMethod ({ cls := "RunFinder", name := "findWords", desc := "(Z)V" } : Jvm.MethodName)) ∈ lw_all := lw_g (lw_at lw_m1 95 rfl) rfl
theorem q114 : (Jvm.Cond.code ({ cls := "RunFinder", name := "findWords", desc := "(Z)V" } : Jvm.MethodName) prog_1_method_13_code (4 : Nat) (Option.none : Option Jvm.ClassFile.FieldType)) ∈ lw_all := lw_g (lw_at lw_m1 96 rfl) rfl
theorem q115 : (Jvm.Cond.methodLink "RunFinder" (53 : Nat) ({ cls := "RunFinder", name := "smallerFrom", desc := "(IIZ)Z" } : Jvm.MethodName)) ∈ lw_all := lw_g (lw_at lw_m1 97 rfl) rfl
theorem q116 : (Jvm.Cond.privateMethod ({ cls := "RunFinder", name := "smallerFrom", desc := "(IIZ)Z" } : Jvm.MethodName)) ∈ lw_tbl := lw_at lw_m1 98 rfl
theorem q117 : (Jvm.Cond.instanceMethod ({ cls := "RunFinder", name := "smallerFrom", desc := "(IIZ)Z" } : Jvm.MethodName)) ∈ lw_all := lw_g (lw_at lw_m1 99 rfl) rfl
theorem q118 : (Jvm.Cond.code ({ cls := "RunFinder", name := "smallerFrom", desc := "(IIZ)Z" } : Jvm.MethodName) prog_1_method_12_code (5 : Nat) (Option.some Jvm.ClassFile.FieldType.boolean)) ∈ lw_all := lw_g (lw_at lw_m1 100 rfl) rfl
theorem q119 : (Jvm.Cond.methodLink "RunFinder" (74 : Nat) ({ cls := "RunFinder", name := "stretchWords", desc := "()V" } : Jvm.MethodName)) ∈ lw_all := lw_g (lw_at lw_m1 101 rfl) rfl
theorem q120 : (Jvm.Cond.privateMethod ({ cls := "RunFinder", name := "stretchWords", desc := "()V" } : Jvm.MethodName)) ∈ lw_tbl := lw_at lw_m1 102 rfl
theorem q121 : (Jvm.Cond.instanceMethod ({ cls := "RunFinder", name := "stretchWords", desc := "()V" } : Jvm.MethodName)) ∈ lw_all := lw_g (lw_at lw_m1 103 rfl) rfl
theorem q122 : (Jvm.Cond.code ({ cls := "RunFinder", name := "stretchWords", desc := "()V" } : Jvm.MethodName) prog_1_method_15_code (7 : Nat) (Option.none : Option Jvm.ClassFile.FieldType)) ∈ lw_all := lw_g (lw_at lw_m1 104 rfl) rfl
theorem q123 : (Jvm.Cond.methodLink "RunFinder" (60 : Nat) ({ cls := "RunFinder", name := "keep", desc := "(III)V" } : Jvm.MethodName)) ∈ lw_all := lw_g (lw_at lw_m1 105 rfl) rfl
theorem q124 : (Jvm.Cond.privateMethod ({ cls := "RunFinder", name := "keep", desc := "(III)V" } : Jvm.MethodName)) ∈ lw_tbl := lw_at lw_m1 106 rfl
theorem q125 : (Jvm.Cond.instanceMethod ({ cls := "RunFinder", name := "keep", desc := "(III)V" } : Jvm.MethodName)) ∈ lw_all := lw_g (lw_at lw_m1 107 rfl) rfl
theorem q126 : (Jvm.Cond.code ({ cls := "RunFinder", name := "keep", desc := "(III)V" } : Jvm.MethodName) prog_1_method_14_code (6 : Nat) (Option.none : Option Jvm.ClassFile.FieldType)) ∈ lw_all := lw_g (lw_at lw_m1 108 rfl) rfl
theorem q128 : (Jvm.Cond.instanceMethod ({ cls := "RunFinder", name := "begin", desc := "(I)I" } : Jvm.MethodName)) ∈ lw_all := lw_g (lw_at lw_m1 110 rfl) rfl
theorem q129 : (Jvm.Cond.selects "RunFinder" ({ cls := "RunFinder", name := "begin", desc := "(I)I" } : Jvm.MethodName) ({ cls := "RunFinder", name := "begin", desc := "(I)I" } : Jvm.MethodName)) ∈ lw_all := lw_g (lw_at lw_m1 111 rfl) rfl
theorem q130 : (Jvm.Cond.code ({ cls := "RunFinder", name := "begin", desc := "(I)I" } : Jvm.MethodName) prog_1_method_19_code (2 : Nat) (Option.some Jvm.ClassFile.FieldType.int)) ∈ lw_all := lw_g (lw_at lw_m1 112 rfl) rfl
theorem q131 : (Jvm.Cond.methodLink "RunFinder" (80 : Nat) ({ cls := "RunFinder", name := "noRun", desc := "(I)Z" } : Jvm.MethodName)) ∈ lw_all := lw_g (lw_at lw_m1 113 rfl) rfl
theorem q132 : (Jvm.Cond.privateMethod ({ cls := "RunFinder", name := "noRun", desc := "(I)Z" } : Jvm.MethodName)) ∈ lw_tbl := lw_at lw_m1 114 rfl
theorem q133 : (Jvm.Cond.instanceMethod ({ cls := "RunFinder", name := "noRun", desc := "(I)Z" } : Jvm.MethodName)) ∈ lw_all := lw_g (lw_at lw_m1 115 rfl) rfl
theorem q134 : (Jvm.Cond.code ({ cls := "RunFinder", name := "noRun", desc := "(I)Z" } : Jvm.MethodName) prog_1_method_18_code (2 : Nat) (Option.some Jvm.ClassFile.FieldType.boolean)) ∈ lw_all := lw_g (lw_at lw_m1 116 rfl) rfl
theorem q136 : (Jvm.Cond.instanceMethod ({ cls := "RunFinder", name := "end", desc := "(I)I" } : Jvm.MethodName)) ∈ lw_all := lw_g (lw_at lw_m1 118 rfl) rfl
theorem q137 : (Jvm.Cond.selects "RunFinder" ({ cls := "RunFinder", name := "end", desc := "(I)I" } : Jvm.MethodName) ({ cls := "RunFinder", name := "end", desc := "(I)I" } : Jvm.MethodName)) ∈ lw_all := lw_g (lw_at lw_m1 119 rfl) rfl
theorem q138 : (Jvm.Cond.code ({ cls := "RunFinder", name := "end", desc := "(I)I" } : Jvm.MethodName) prog_1_method_20_code (2 : Nat) (Option.some Jvm.ClassFile.FieldType.int)) ∈ lw_all := lw_g (lw_at lw_m1 120 rfl) rfl
theorem q140 : (Jvm.Cond.instanceMethod ({ cls := "RunFinder", name := "period", desc := "(I)I" } : Jvm.MethodName)) ∈ lw_all := lw_g (lw_at lw_m1 122 rfl) rfl
theorem q141 : (Jvm.Cond.selects "RunFinder" ({ cls := "RunFinder", name := "period", desc := "(I)I" } : Jvm.MethodName) ({ cls := "RunFinder", name := "period", desc := "(I)I" } : Jvm.MethodName)) ∈ lw_all := lw_g (lw_at lw_m1 123 rfl) rfl
theorem q142 : (Jvm.Cond.code ({ cls := "RunFinder", name := "period", desc := "(I)I" } : Jvm.MethodName) prog_1_method_21_code (2 : Nat) (Option.some Jvm.ClassFile.FieldType.int)) ∈ lw_all := lw_g (lw_at lw_m1 124 rfl) rfl
theorem q144 : (Jvm.Cond.instanceMethod ({ cls := "RunFinder", name := "squares", desc := "()I" } : Jvm.MethodName)) ∈ lw_all := lw_g (lw_at lw_m1 126 rfl) rfl
theorem q145 : (Jvm.Cond.selects "RunFinder" ({ cls := "RunFinder", name := "squares", desc := "()I" } : Jvm.MethodName) ({ cls := "RunFinder", name := "squares", desc := "()I" } : Jvm.MethodName)) ∈ lw_all := lw_g (lw_at lw_m1 127 rfl) rfl
theorem q146 : (Jvm.Cond.code ({ cls := "RunFinder", name := "squares", desc := "()I" } : Jvm.MethodName) prog_1_method_22_code (5 : Nat) (Option.some Jvm.ClassFile.FieldType.int)) ∈ lw_all := lw_g (lw_at lw_m1 128 rfl) rfl
theorem q148 : (Jvm.Cond.instanceMethod ({ cls := "RunFinder", name := "wholePeriod", desc := "()I" } : Jvm.MethodName)) ∈ lw_all := lw_g (lw_at lw_m1 130 rfl) rfl
theorem q149 : (Jvm.Cond.selects "RunFinder" ({ cls := "RunFinder", name := "wholePeriod", desc := "()I" } : Jvm.MethodName) ({ cls := "RunFinder", name := "wholePeriod", desc := "()I" } : Jvm.MethodName)) ∈ lw_all := lw_g (lw_at lw_m1 131 rfl) rfl
theorem q150 : (Jvm.Cond.code ({ cls := "RunFinder", name := "wholePeriod", desc := "()I" } : Jvm.MethodName) prog_1_method_23_code (2 : Nat) (Option.some Jvm.ClassFile.FieldType.int)) ∈ lw_all := lw_g (lw_at lw_m1 132 rfl) rfl
theorem q152 : (Jvm.Cond.instanceMethod ({ cls := "RunFinder", name := "smallestEnd", desc := "()I" } : Jvm.MethodName)) ∈ lw_all := lw_g (lw_at lw_m1 134 rfl) rfl
theorem q153 : (Jvm.Cond.selects "RunFinder" ({ cls := "RunFinder", name := "smallestEnd", desc := "()I" } : Jvm.MethodName) ({ cls := "RunFinder", name := "smallestEnd", desc := "()I" } : Jvm.MethodName)) ∈ lw_all := lw_g (lw_at lw_m1 135 rfl) rfl
theorem q154 : (Jvm.Cond.code ({ cls := "RunFinder", name := "smallestEnd", desc := "()I" } : Jvm.MethodName) prog_1_method_24_code (2 : Nat) (Option.some Jvm.ClassFile.FieldType.int)) ∈ lw_all := lw_g (lw_at lw_m1 136 rfl) rfl
theorem q156 : (Jvm.Cond.instanceMethod ({ cls := "RunFinder", name := "factors", desc := "()I" } : Jvm.MethodName)) ∈ lw_all := lw_g (lw_at lw_m1 138 rfl) rfl
theorem q157 : (Jvm.Cond.selects "RunFinder" ({ cls := "RunFinder", name := "factors", desc := "()I" } : Jvm.MethodName) ({ cls := "RunFinder", name := "factors", desc := "()I" } : Jvm.MethodName)) ∈ lw_all := lw_g (lw_at lw_m1 139 rfl) rfl
theorem q158 : (Jvm.Cond.code ({ cls := "RunFinder", name := "factors", desc := "()I" } : Jvm.MethodName) prog_1_method_25_code (3 : Nat) (Option.some Jvm.ClassFile.FieldType.int)) ∈ lw_all := lw_g (lw_at lw_m1 140 rfl) rfl
theorem q160 : (Jvm.Cond.instanceMethod ({ cls := "RunFinder", name := "smallestTurn", desc := "()I" } : Jvm.MethodName)) ∈ lw_all := lw_g (lw_at lw_m1 142 rfl) rfl
theorem q161 : (Jvm.Cond.selects "RunFinder" ({ cls := "RunFinder", name := "smallestTurn", desc := "()I" } : Jvm.MethodName) ({ cls := "RunFinder", name := "smallestTurn", desc := "()I" } : Jvm.MethodName)) ∈ lw_all := lw_g (lw_at lw_m1 143 rfl) rfl
theorem q162 : (Jvm.Cond.code ({ cls := "RunFinder", name := "smallestTurn", desc := "()I" } : Jvm.MethodName) prog_1_method_27_code (7 : Nat) (Option.some Jvm.ClassFile.FieldType.int)) ∈ lw_all := lw_g (lw_at lw_m1 144 rfl) rfl
theorem q163 : (Jvm.Cond.methodLink "RunFinder" (83 : Nat) ({ cls := "RunFinder", name := "letterAt", desc := "(I)I" } : Jvm.MethodName)) ∈ lw_all := lw_g (lw_at lw_m1 145 rfl) rfl
theorem q164 : (Jvm.Cond.privateMethod ({ cls := "RunFinder", name := "letterAt", desc := "(I)I" } : Jvm.MethodName)) ∈ lw_tbl := lw_at lw_m1 146 rfl
theorem q165 : (Jvm.Cond.instanceMethod ({ cls := "RunFinder", name := "letterAt", desc := "(I)I" } : Jvm.MethodName)) ∈ lw_all := lw_g (lw_at lw_m1 147 rfl) rfl
theorem q166 : (Jvm.Cond.code ({ cls := "RunFinder", name := "letterAt", desc := "(I)I" } : Jvm.MethodName) prog_1_method_26_code (2 : Nat) (Option.some Jvm.ClassFile.FieldType.int)) ∈ lw_all := lw_g (lw_at lw_m1 148 rfl) rfl
theorem in_X0 : ∀ w ∈ wsX00, w ∈ lw_all := lw_in wsX00 [40, 42, 44, 46, 48, 50, 52, 54, 56, 58, 60] (by decide +kernel) (by decide +kernel)
end
section
/-! RunFinderModel -/
set_option maxRecDepth 100000
def RX1 : String := "RunFinderModel"
def TX1 : u_T := fun k => match k with
  | 0 => ("RunFinderModel", "size", "I", false)
  | _ => ("RunFinderModel", "text", "[I", true)
def tyX1 : Nat → FieldType := fun k => match k with
  | 0 => .int
  | _ => .array .int
abbrev wsX10 : List Cond := u_ws RX1 TX1 2
theorem nmX1 : ∀ a, a < 2 → ∀ b, b < 2 → a ≠ b → (TX1 a).2.1 ≠ (TX1 b).2.1 := by decide +kernel
theorem tyX1_ok : ∀ k, k < 2 → parseFieldDescriptor (TX1 k).2.2.1 = some (tyX1 k) := by decide +kernel
abbrev cX1_init : ByteArray := prog_3_method_1_code
def yX1_init : MethodName := ⟨RX1, "<init>", "()V"⟩
theorem dX1_init_0 : decode cX1_init 0 = .ok (.aload_n 0, 1) := by decide +kernel
theorem dX1_init_1 : decode cX1_init 1 = .ok (.invokespecial 1, 3) := by decide +kernel
theorem dX1_init_4 : decode cX1_init 4 = .ok (.aload_n 0, 1) := by decide +kernel
theorem dX1_init_5 : decode cX1_init 5 = .ok (.bipush 32, 2) := by decide +kernel
theorem dX1_init_7 : decode cX1_init 7 = .ok (.newarray .int, 2) := by decide +kernel
theorem dX1_init_9 : decode cX1_init 9 = .ok (.putfield 7, 3) := by decide +kernel
theorem dX1_init_12 : decode cX1_init 12 = .ok (.return_, 1) := by decide +kernel
abbrev cX1_append : ByteArray := prog_3_method_2_code
def yX1_append : MethodName := ⟨RX1, "append", "(I)I"⟩
theorem dX1_append_0 : decode cX1_append 0 = .ok (.iload_n 1, 1) := by decide +kernel
theorem dX1_append_1 : decode cX1_append 1 = .ok (.ifCond .lt 8, 3) := by decide +kernel
theorem dX1_append_4 : decode cX1_append 4 = .ok (.iload_n 1, 1) := by decide +kernel
theorem dX1_append_5 : decode cX1_append 5 = .ok (.iconst 3, 1) := by decide +kernel
theorem dX1_append_6 : decode cX1_append 6 = .ok (.if_icmp .le 5, 3) := by decide +kernel
theorem dX1_append_9 : decode cX1_append 9 = .ok (.iconst (-1), 1) := by decide +kernel
theorem dX1_append_10 : decode cX1_append 10 = .ok (.ireturn, 1) := by decide +kernel
theorem dX1_append_11 : decode cX1_append 11 = .ok (.aload_n 0, 1) := by decide +kernel
theorem dX1_append_12 : decode cX1_append 12 = .ok (.getfield 13, 3) := by decide +kernel
theorem dX1_append_15 : decode cX1_append 15 = .ok (.bipush 32, 2) := by decide +kernel
theorem dX1_append_17 : decode cX1_append 17 = .ok (.if_icmp .ne 6, 3) := by decide +kernel
theorem dX1_append_20 : decode cX1_append 20 = .ok (.bipush (-2), 2) := by decide +kernel
theorem dX1_append_22 : decode cX1_append 22 = .ok (.ireturn, 1) := by decide +kernel
theorem dX1_append_23 : decode cX1_append 23 = .ok (.aload_n 0, 1) := by decide +kernel
theorem dX1_append_24 : decode cX1_append 24 = .ok (.getfield 7, 3) := by decide +kernel
theorem dX1_append_27 : decode cX1_append 27 = .ok (.aload_n 0, 1) := by decide +kernel
theorem dX1_append_28 : decode cX1_append 28 = .ok (.getfield 13, 3) := by decide +kernel
theorem dX1_append_31 : decode cX1_append 31 = .ok (.iload_n 1, 1) := by decide +kernel
theorem dX1_append_32 : decode cX1_append 32 = .ok (.iastore, 1) := by decide +kernel
theorem dX1_append_33 : decode cX1_append 33 = .ok (.aload_n 0, 1) := by decide +kernel
theorem dX1_append_34 : decode cX1_append 34 = .ok (.aload_n 0, 1) := by decide +kernel
theorem dX1_append_35 : decode cX1_append 35 = .ok (.getfield 13, 3) := by decide +kernel
theorem dX1_append_38 : decode cX1_append 38 = .ok (.iconst 1, 1) := by decide +kernel
theorem dX1_append_39 : decode cX1_append 39 = .ok (.iadd, 1) := by decide +kernel
theorem dX1_append_40 : decode cX1_append 40 = .ok (.putfield 13, 3) := by decide +kernel
theorem dX1_append_43 : decode cX1_append 43 = .ok (.aload_n 0, 1) := by decide +kernel
theorem dX1_append_44 : decode cX1_append 44 = .ok (.getfield 13, 3) := by decide +kernel
theorem dX1_append_47 : decode cX1_append 47 = .ok (.ireturn, 1) := by decide +kernel
abbrev cX1_set : ByteArray := prog_3_method_3_code
def yX1_set : MethodName := ⟨RX1, "set", "(II)I"⟩
theorem dX1_set_0 : decode cX1_set 0 = .ok (.iload_n 1, 1) := by decide +kernel
theorem dX1_set_1 : decode cX1_set 1 = .ok (.ifCond .lt 11, 3) := by decide +kernel
theorem dX1_set_4 : decode cX1_set 4 = .ok (.iload_n 1, 1) := by decide +kernel
theorem dX1_set_5 : decode cX1_set 5 = .ok (.aload_n 0, 1) := by decide +kernel
theorem dX1_set_6 : decode cX1_set 6 = .ok (.getfield 13, 3) := by decide +kernel
theorem dX1_set_9 : decode cX1_set 9 = .ok (.if_icmp .lt 6, 3) := by decide +kernel
theorem dX1_set_12 : decode cX1_set 12 = .ok (.bipush (-3), 2) := by decide +kernel
theorem dX1_set_14 : decode cX1_set 14 = .ok (.ireturn, 1) := by decide +kernel
theorem dX1_set_15 : decode cX1_set 15 = .ok (.iload_n 2, 1) := by decide +kernel
theorem dX1_set_16 : decode cX1_set 16 = .ok (.ifCond .lt 8, 3) := by decide +kernel
theorem dX1_set_19 : decode cX1_set 19 = .ok (.iload_n 2, 1) := by decide +kernel
theorem dX1_set_20 : decode cX1_set 20 = .ok (.iconst 3, 1) := by decide +kernel
theorem dX1_set_21 : decode cX1_set 21 = .ok (.if_icmp .le 5, 3) := by decide +kernel
theorem dX1_set_24 : decode cX1_set 24 = .ok (.iconst (-1), 1) := by decide +kernel
theorem dX1_set_25 : decode cX1_set 25 = .ok (.ireturn, 1) := by decide +kernel
theorem dX1_set_26 : decode cX1_set 26 = .ok (.aload_n 0, 1) := by decide +kernel
theorem dX1_set_27 : decode cX1_set 27 = .ok (.getfield 7, 3) := by decide +kernel
theorem dX1_set_30 : decode cX1_set 30 = .ok (.iload_n 1, 1) := by decide +kernel
theorem dX1_set_31 : decode cX1_set 31 = .ok (.iaload, 1) := by decide +kernel
theorem dX1_set_32 : decode cX1_set 32 = .ok (.istore_n 3, 1) := by decide +kernel
theorem dX1_set_33 : decode cX1_set 33 = .ok (.aload_n 0, 1) := by decide +kernel
theorem dX1_set_34 : decode cX1_set 34 = .ok (.getfield 7, 3) := by decide +kernel
theorem dX1_set_37 : decode cX1_set 37 = .ok (.iload_n 1, 1) := by decide +kernel
theorem dX1_set_38 : decode cX1_set 38 = .ok (.iload_n 2, 1) := by decide +kernel
theorem dX1_set_39 : decode cX1_set 39 = .ok (.iastore, 1) := by decide +kernel
theorem dX1_set_40 : decode cX1_set 40 = .ok (.iload_n 3, 1) := by decide +kernel
theorem dX1_set_41 : decode cX1_set 41 = .ok (.ireturn, 1) := by decide +kernel
abbrev cX1_repeat : ByteArray := prog_3_method_4_code
def yX1_repeat : MethodName := ⟨RX1, "repeat", "(I)I"⟩
theorem dX1_repeat_0 : decode cX1_repeat 0 = .ok (.iload_n 1, 1) := by decide +kernel
theorem dX1_repeat_1 : decode cX1_repeat 1 = .ok (.iconst 1, 1) := by decide +kernel
theorem dX1_repeat_2 : decode cX1_repeat 2 = .ok (.if_icmp .lt 11, 3) := by decide +kernel
theorem dX1_repeat_5 : decode cX1_repeat 5 = .ok (.iload_n 1, 1) := by decide +kernel
theorem dX1_repeat_6 : decode cX1_repeat 6 = .ok (.aload_n 0, 1) := by decide +kernel
theorem dX1_repeat_7 : decode cX1_repeat 7 = .ok (.getfield 13, 3) := by decide +kernel
theorem dX1_repeat_10 : decode cX1_repeat 10 = .ok (.if_icmp .le 6, 3) := by decide +kernel
theorem dX1_repeat_13 : decode cX1_repeat 13 = .ok (.bipush (-3), 2) := by decide +kernel
theorem dX1_repeat_15 : decode cX1_repeat 15 = .ok (.ireturn, 1) := by decide +kernel
theorem dX1_repeat_16 : decode cX1_repeat 16 = .ok (.aload_n 0, 1) := by decide +kernel
theorem dX1_repeat_17 : decode cX1_repeat 17 = .ok (.getfield 13, 3) := by decide +kernel
theorem dX1_repeat_20 : decode cX1_repeat 20 = .ok (.iload_n 1, 1) := by decide +kernel
theorem dX1_repeat_21 : decode cX1_repeat 21 = .ok (.isub, 1) := by decide +kernel
theorem dX1_repeat_22 : decode cX1_repeat 22 = .ok (.istore_n 2, 1) := by decide +kernel
theorem dX1_repeat_23 : decode cX1_repeat 23 = .ok (.iconst 0, 1) := by decide +kernel
theorem dX1_repeat_24 : decode cX1_repeat 24 = .ok (.istore_n 3, 1) := by decide +kernel
theorem dX1_repeat_25 : decode cX1_repeat 25 = .ok (.iload_n 3, 1) := by decide +kernel
theorem dX1_repeat_26 : decode cX1_repeat 26 = .ok (.iload_n 1, 1) := by decide +kernel
theorem dX1_repeat_27 : decode cX1_repeat 27 = .ok (.if_icmp .ge 45, 3) := by decide +kernel
theorem dX1_repeat_30 : decode cX1_repeat 30 = .ok (.aload_n 0, 1) := by decide +kernel
theorem dX1_repeat_31 : decode cX1_repeat 31 = .ok (.getfield 13, 3) := by decide +kernel
theorem dX1_repeat_34 : decode cX1_repeat 34 = .ok (.bipush 32, 2) := by decide +kernel
theorem dX1_repeat_36 : decode cX1_repeat 36 = .ok (.if_icmp .ge 30, 3) := by decide +kernel
theorem dX1_repeat_39 : decode cX1_repeat 39 = .ok (.aload_n 0, 1) := by decide +kernel
theorem dX1_repeat_40 : decode cX1_repeat 40 = .ok (.getfield 7, 3) := by decide +kernel
theorem dX1_repeat_43 : decode cX1_repeat 43 = .ok (.aload_n 0, 1) := by decide +kernel
theorem dX1_repeat_44 : decode cX1_repeat 44 = .ok (.getfield 13, 3) := by decide +kernel
theorem dX1_repeat_47 : decode cX1_repeat 47 = .ok (.aload_n 0, 1) := by decide +kernel
theorem dX1_repeat_48 : decode cX1_repeat 48 = .ok (.getfield 7, 3) := by decide +kernel
theorem dX1_repeat_51 : decode cX1_repeat 51 = .ok (.iload_n 2, 1) := by decide +kernel
theorem dX1_repeat_52 : decode cX1_repeat 52 = .ok (.iload_n 3, 1) := by decide +kernel
theorem dX1_repeat_53 : decode cX1_repeat 53 = .ok (.iadd, 1) := by decide +kernel
theorem dX1_repeat_54 : decode cX1_repeat 54 = .ok (.iaload, 1) := by decide +kernel
theorem dX1_repeat_55 : decode cX1_repeat 55 = .ok (.iastore, 1) := by decide +kernel
theorem dX1_repeat_56 : decode cX1_repeat 56 = .ok (.aload_n 0, 1) := by decide +kernel
theorem dX1_repeat_57 : decode cX1_repeat 57 = .ok (.aload_n 0, 1) := by decide +kernel
theorem dX1_repeat_58 : decode cX1_repeat 58 = .ok (.getfield 13, 3) := by decide +kernel
theorem dX1_repeat_61 : decode cX1_repeat 61 = .ok (.iconst 1, 1) := by decide +kernel
theorem dX1_repeat_62 : decode cX1_repeat 62 = .ok (.iadd, 1) := by decide +kernel
theorem dX1_repeat_63 : decode cX1_repeat 63 = .ok (.putfield 13, 3) := by decide +kernel
theorem dX1_repeat_66 : decode cX1_repeat 66 = .ok (.iinc 3 1, 3) := by decide +kernel
theorem dX1_repeat_69 : decode cX1_repeat 69 = .ok (.goto (-44), 3) := by decide +kernel
theorem dX1_repeat_72 : decode cX1_repeat 72 = .ok (.aload_n 0, 1) := by decide +kernel
theorem dX1_repeat_73 : decode cX1_repeat 73 = .ok (.getfield 13, 3) := by decide +kernel
theorem dX1_repeat_76 : decode cX1_repeat 76 = .ok (.ireturn, 1) := by decide +kernel
abbrev cX1_drop : ByteArray := prog_3_method_5_code
def yX1_drop : MethodName := ⟨RX1, "drop", "()I"⟩
theorem dX1_drop_0 : decode cX1_drop 0 = .ok (.aload_n 0, 1) := by decide +kernel
theorem dX1_drop_1 : decode cX1_drop 1 = .ok (.getfield 13, 3) := by decide +kernel
theorem dX1_drop_4 : decode cX1_drop 4 = .ok (.ifCond .ne 6, 3) := by decide +kernel
theorem dX1_drop_7 : decode cX1_drop 7 = .ok (.bipush (-4), 2) := by decide +kernel
theorem dX1_drop_9 : decode cX1_drop 9 = .ok (.ireturn, 1) := by decide +kernel
theorem dX1_drop_10 : decode cX1_drop 10 = .ok (.aload_n 0, 1) := by decide +kernel
theorem dX1_drop_11 : decode cX1_drop 11 = .ok (.aload_n 0, 1) := by decide +kernel
theorem dX1_drop_12 : decode cX1_drop 12 = .ok (.getfield 13, 3) := by decide +kernel
theorem dX1_drop_15 : decode cX1_drop 15 = .ok (.iconst 1, 1) := by decide +kernel
theorem dX1_drop_16 : decode cX1_drop 16 = .ok (.isub, 1) := by decide +kernel
theorem dX1_drop_17 : decode cX1_drop 17 = .ok (.putfield 13, 3) := by decide +kernel
theorem dX1_drop_20 : decode cX1_drop 20 = .ok (.aload_n 0, 1) := by decide +kernel
theorem dX1_drop_21 : decode cX1_drop 21 = .ok (.getfield 13, 3) := by decide +kernel
theorem dX1_drop_24 : decode cX1_drop 24 = .ok (.ireturn, 1) := by decide +kernel
abbrev cX1_clear : ByteArray := prog_3_method_6_code
def yX1_clear : MethodName := ⟨RX1, "clear", "()V"⟩
theorem dX1_clear_0 : decode cX1_clear 0 = .ok (.aload_n 0, 1) := by decide +kernel
theorem dX1_clear_1 : decode cX1_clear 1 = .ok (.iconst 0, 1) := by decide +kernel
theorem dX1_clear_2 : decode cX1_clear 2 = .ok (.putfield 13, 3) := by decide +kernel
theorem dX1_clear_5 : decode cX1_clear 5 = .ok (.return_, 1) := by decide +kernel
abbrev cX1_runs : ByteArray := prog_3_method_11_code
def yX1_runs : MethodName := ⟨RX1, "runs", "()I"⟩
theorem dX1_runs_0 : decode cX1_runs 0 = .ok (.iconst 0, 1) := by decide +kernel
theorem dX1_runs_1 : decode cX1_runs 1 = .ok (.istore_n 1, 1) := by decide +kernel
theorem dX1_runs_2 : decode cX1_runs 2 = .ok (.iconst 0, 1) := by decide +kernel
theorem dX1_runs_3 : decode cX1_runs 3 = .ok (.istore_n 2, 1) := by decide +kernel
theorem dX1_runs_4 : decode cX1_runs 4 = .ok (.iload_n 2, 1) := by decide +kernel
theorem dX1_runs_5 : decode cX1_runs 5 = .ok (.aload_n 0, 1) := by decide +kernel
theorem dX1_runs_6 : decode cX1_runs 6 = .ok (.getfield 13, 3) := by decide +kernel
theorem dX1_runs_9 : decode cX1_runs 9 = .ok (.if_icmp .ge 35, 3) := by decide +kernel
theorem dX1_runs_12 : decode cX1_runs 12 = .ok (.iconst 1, 1) := by decide +kernel
theorem dX1_runs_13 : decode cX1_runs 13 = .ok (.istore_n 3, 1) := by decide +kernel
theorem dX1_runs_14 : decode cX1_runs 14 = .ok (.iload_n 3, 1) := by decide +kernel
theorem dX1_runs_15 : decode cX1_runs 15 = .ok (.bipush 16, 2) := by decide +kernel
theorem dX1_runs_17 : decode cX1_runs 17 = .ok (.if_icmp .gt 21, 3) := by decide +kernel
theorem dX1_runs_20 : decode cX1_runs 20 = .ok (.aload_n 0, 1) := by decide +kernel
theorem dX1_runs_21 : decode cX1_runs 21 = .ok (.iload_n 2, 1) := by decide +kernel
theorem dX1_runs_22 : decode cX1_runs 22 = .ok (.iload_n 3, 1) := by decide +kernel
theorem dX1_runs_23 : decode cX1_runs 23 = .ok (.invokevirtual 25, 3) := by decide +kernel
theorem dX1_runs_26 : decode cX1_runs 26 = .ok (.ifCond .lt 6, 3) := by decide +kernel
theorem dX1_runs_29 : decode cX1_runs 29 = .ok (.iinc 1 1, 3) := by decide +kernel
theorem dX1_runs_32 : decode cX1_runs 32 = .ok (.iinc 3 1, 3) := by decide +kernel
theorem dX1_runs_35 : decode cX1_runs 35 = .ok (.goto (-21), 3) := by decide +kernel
theorem dX1_runs_38 : decode cX1_runs 38 = .ok (.iinc 2 1, 3) := by decide +kernel
theorem dX1_runs_41 : decode cX1_runs 41 = .ok (.goto (-37), 3) := by decide +kernel
theorem dX1_runs_44 : decode cX1_runs 44 = .ok (.iload_n 1, 1) := by decide +kernel
theorem dX1_runs_45 : decode cX1_runs 45 = .ok (.ireturn, 1) := by decide +kernel
abbrev cX1_runEnd : ByteArray := prog_3_method_9_code
def yX1_runEnd : MethodName := ⟨RX1, "runEnd", "(II)I"⟩
theorem dX1_runEnd_0 : decode cX1_runEnd 0 = .ok (.iload_n 1, 1) := by decide +kernel
theorem dX1_runEnd_1 : decode cX1_runEnd 1 = .ok (.iload_n 2, 1) := by decide +kernel
theorem dX1_runEnd_2 : decode cX1_runEnd 2 = .ok (.iadd, 1) := by decide +kernel
theorem dX1_runEnd_3 : decode cX1_runEnd 3 = .ok (.aload_n 0, 1) := by decide +kernel
theorem dX1_runEnd_4 : decode cX1_runEnd 4 = .ok (.getfield 13, 3) := by decide +kernel
theorem dX1_runEnd_7 : decode cX1_runEnd 7 = .ok (.if_icmp .ge 28, 3) := by decide +kernel
theorem dX1_runEnd_10 : decode cX1_runEnd 10 = .ok (.iload_n 1, 1) := by decide +kernel
theorem dX1_runEnd_11 : decode cX1_runEnd 11 = .ok (.ifCond .le 26, 3) := by decide +kernel
theorem dX1_runEnd_14 : decode cX1_runEnd 14 = .ok (.aload_n 0, 1) := by decide +kernel
theorem dX1_runEnd_15 : decode cX1_runEnd 15 = .ok (.getfield 7, 3) := by decide +kernel
theorem dX1_runEnd_18 : decode cX1_runEnd 18 = .ok (.iload_n 1, 1) := by decide +kernel
theorem dX1_runEnd_19 : decode cX1_runEnd 19 = .ok (.iconst 1, 1) := by decide +kernel
theorem dX1_runEnd_20 : decode cX1_runEnd 20 = .ok (.isub, 1) := by decide +kernel
theorem dX1_runEnd_21 : decode cX1_runEnd 21 = .ok (.iaload, 1) := by decide +kernel
theorem dX1_runEnd_22 : decode cX1_runEnd 22 = .ok (.aload_n 0, 1) := by decide +kernel
theorem dX1_runEnd_23 : decode cX1_runEnd 23 = .ok (.getfield 7, 3) := by decide +kernel
theorem dX1_runEnd_26 : decode cX1_runEnd 26 = .ok (.iload_n 1, 1) := by decide +kernel
theorem dX1_runEnd_27 : decode cX1_runEnd 27 = .ok (.iconst 1, 1) := by decide +kernel
theorem dX1_runEnd_28 : decode cX1_runEnd 28 = .ok (.isub, 1) := by decide +kernel
theorem dX1_runEnd_29 : decode cX1_runEnd 29 = .ok (.iload_n 2, 1) := by decide +kernel
theorem dX1_runEnd_30 : decode cX1_runEnd 30 = .ok (.iadd, 1) := by decide +kernel
theorem dX1_runEnd_31 : decode cX1_runEnd 31 = .ok (.iaload, 1) := by decide +kernel
theorem dX1_runEnd_32 : decode cX1_runEnd 32 = .ok (.if_icmp .ne 5, 3) := by decide +kernel
theorem dX1_runEnd_35 : decode cX1_runEnd 35 = .ok (.iconst (-1), 1) := by decide +kernel
theorem dX1_runEnd_36 : decode cX1_runEnd 36 = .ok (.ireturn, 1) := by decide +kernel
theorem dX1_runEnd_37 : decode cX1_runEnd 37 = .ok (.iload_n 1, 1) := by decide +kernel
theorem dX1_runEnd_38 : decode cX1_runEnd 38 = .ok (.iload_n 2, 1) := by decide +kernel
theorem dX1_runEnd_39 : decode cX1_runEnd 39 = .ok (.iadd, 1) := by decide +kernel
theorem dX1_runEnd_40 : decode cX1_runEnd 40 = .ok (.istore_n 3, 1) := by decide +kernel
theorem dX1_runEnd_41 : decode cX1_runEnd 41 = .ok (.iload_n 1, 1) := by decide +kernel
theorem dX1_runEnd_42 : decode cX1_runEnd 42 = .ok (.iload_n 2, 1) := by decide +kernel
theorem dX1_runEnd_43 : decode cX1_runEnd 43 = .ok (.iadd, 1) := by decide +kernel
theorem dX1_runEnd_44 : decode cX1_runEnd 44 = .ok (.istore 4, 2) := by decide +kernel
theorem dX1_runEnd_46 : decode cX1_runEnd 46 = .ok (.iload 4, 2) := by decide +kernel
theorem dX1_runEnd_48 : decode cX1_runEnd 48 = .ok (.aload_n 0, 1) := by decide +kernel
theorem dX1_runEnd_49 : decode cX1_runEnd 49 = .ok (.getfield 13, 3) := by decide +kernel
theorem dX1_runEnd_52 : decode cX1_runEnd 52 = .ok (.if_icmp .ge 39, 3) := by decide +kernel
theorem dX1_runEnd_55 : decode cX1_runEnd 55 = .ok (.iload_n 3, 1) := by decide +kernel
theorem dX1_runEnd_56 : decode cX1_runEnd 56 = .ok (.iload 4, 2) := by decide +kernel
theorem dX1_runEnd_58 : decode cX1_runEnd 58 = .ok (.if_icmp .ne 27, 3) := by decide +kernel
theorem dX1_runEnd_61 : decode cX1_runEnd 61 = .ok (.aload_n 0, 1) := by decide +kernel
theorem dX1_runEnd_62 : decode cX1_runEnd 62 = .ok (.getfield 7, 3) := by decide +kernel
theorem dX1_runEnd_65 : decode cX1_runEnd 65 = .ok (.iload 4, 2) := by decide +kernel
theorem dX1_runEnd_67 : decode cX1_runEnd 67 = .ok (.iaload, 1) := by decide +kernel
theorem dX1_runEnd_68 : decode cX1_runEnd 68 = .ok (.aload_n 0, 1) := by decide +kernel
theorem dX1_runEnd_69 : decode cX1_runEnd 69 = .ok (.getfield 7, 3) := by decide +kernel
theorem dX1_runEnd_72 : decode cX1_runEnd 72 = .ok (.iload 4, 2) := by decide +kernel
theorem dX1_runEnd_74 : decode cX1_runEnd 74 = .ok (.iload_n 2, 1) := by decide +kernel
theorem dX1_runEnd_75 : decode cX1_runEnd 75 = .ok (.isub, 1) := by decide +kernel
theorem dX1_runEnd_76 : decode cX1_runEnd 76 = .ok (.iaload, 1) := by decide +kernel
theorem dX1_runEnd_77 : decode cX1_runEnd 77 = .ok (.if_icmp .ne 8, 3) := by decide +kernel
theorem dX1_runEnd_80 : decode cX1_runEnd 80 = .ok (.iload 4, 2) := by decide +kernel
theorem dX1_runEnd_82 : decode cX1_runEnd 82 = .ok (.iconst 1, 1) := by decide +kernel
theorem dX1_runEnd_83 : decode cX1_runEnd 83 = .ok (.iadd, 1) := by decide +kernel
theorem dX1_runEnd_84 : decode cX1_runEnd 84 = .ok (.istore_n 3, 1) := by decide +kernel
theorem dX1_runEnd_85 : decode cX1_runEnd 85 = .ok (.iinc 4 1, 3) := by decide +kernel
theorem dX1_runEnd_88 : decode cX1_runEnd 88 = .ok (.goto (-42), 3) := by decide +kernel
theorem dX1_runEnd_91 : decode cX1_runEnd 91 = .ok (.iload_n 3, 1) := by decide +kernel
theorem dX1_runEnd_92 : decode cX1_runEnd 92 = .ok (.iload_n 1, 1) := by decide +kernel
theorem dX1_runEnd_93 : decode cX1_runEnd 93 = .ok (.isub, 1) := by decide +kernel
theorem dX1_runEnd_94 : decode cX1_runEnd 94 = .ok (.iconst 2, 1) := by decide +kernel
theorem dX1_runEnd_95 : decode cX1_runEnd 95 = .ok (.iload_n 2, 1) := by decide +kernel
theorem dX1_runEnd_96 : decode cX1_runEnd 96 = .ok (.imul, 1) := by decide +kernel
theorem dX1_runEnd_97 : decode cX1_runEnd 97 = .ok (.if_icmp .lt 17, 3) := by decide +kernel
theorem dX1_runEnd_100 : decode cX1_runEnd 100 = .ok (.aload_n 0, 1) := by decide +kernel
theorem dX1_runEnd_101 : decode cX1_runEnd 101 = .ok (.iload_n 1, 1) := by decide +kernel
theorem dX1_runEnd_102 : decode cX1_runEnd 102 = .ok (.iload_n 3, 1) := by decide +kernel
theorem dX1_runEnd_103 : decode cX1_runEnd 103 = .ok (.invokevirtual 21, 3) := by decide +kernel
theorem dX1_runEnd_106 : decode cX1_runEnd 106 = .ok (.iload_n 2, 1) := by decide +kernel
theorem dX1_runEnd_107 : decode cX1_runEnd 107 = .ok (.if_icmp .ne 7, 3) := by decide +kernel
theorem dX1_runEnd_110 : decode cX1_runEnd 110 = .ok (.iload_n 3, 1) := by decide +kernel
theorem dX1_runEnd_111 : decode cX1_runEnd 111 = .ok (.goto 4, 3) := by decide +kernel
theorem dX1_runEnd_114 : decode cX1_runEnd 114 = .ok (.iconst (-1), 1) := by decide +kernel
theorem dX1_runEnd_115 : decode cX1_runEnd 115 = .ok (.ireturn, 1) := by decide +kernel
abbrev cX1_leastPeriod : ByteArray := prog_3_method_8_code
def yX1_leastPeriod : MethodName := ⟨RX1, "leastPeriod", "(II)I"⟩
theorem dX1_leastPeriod_0 : decode cX1_leastPeriod 0 = .ok (.iconst 1, 1) := by decide +kernel
theorem dX1_leastPeriod_1 : decode cX1_leastPeriod 1 = .ok (.istore_n 3, 1) := by decide +kernel
theorem dX1_leastPeriod_2 : decode cX1_leastPeriod 2 = .ok (.iload_n 3, 1) := by decide +kernel
theorem dX1_leastPeriod_3 : decode cX1_leastPeriod 3 = .ok (.iload_n 2, 1) := by decide +kernel
theorem dX1_leastPeriod_4 : decode cX1_leastPeriod 4 = .ok (.iload_n 1, 1) := by decide +kernel
theorem dX1_leastPeriod_5 : decode cX1_leastPeriod 5 = .ok (.isub, 1) := by decide +kernel
theorem dX1_leastPeriod_6 : decode cX1_leastPeriod 6 = .ok (.if_icmp .ge 21, 3) := by decide +kernel
theorem dX1_leastPeriod_9 : decode cX1_leastPeriod 9 = .ok (.aload_n 0, 1) := by decide +kernel
theorem dX1_leastPeriod_10 : decode cX1_leastPeriod 10 = .ok (.iload_n 1, 1) := by decide +kernel
theorem dX1_leastPeriod_11 : decode cX1_leastPeriod 11 = .ok (.iload_n 2, 1) := by decide +kernel
theorem dX1_leastPeriod_12 : decode cX1_leastPeriod 12 = .ok (.iload_n 3, 1) := by decide +kernel
theorem dX1_leastPeriod_13 : decode cX1_leastPeriod 13 = .ok (.invokevirtual 17, 3) := by decide +kernel
theorem dX1_leastPeriod_16 : decode cX1_leastPeriod 16 = .ok (.ifCond .eq 5, 3) := by decide +kernel
theorem dX1_leastPeriod_19 : decode cX1_leastPeriod 19 = .ok (.iload_n 3, 1) := by decide +kernel
theorem dX1_leastPeriod_20 : decode cX1_leastPeriod 20 = .ok (.ireturn, 1) := by decide +kernel
theorem dX1_leastPeriod_21 : decode cX1_leastPeriod 21 = .ok (.iinc 3 1, 3) := by decide +kernel
theorem dX1_leastPeriod_24 : decode cX1_leastPeriod 24 = .ok (.goto (-22), 3) := by decide +kernel
theorem dX1_leastPeriod_27 : decode cX1_leastPeriod 27 = .ok (.iload_n 2, 1) := by decide +kernel
theorem dX1_leastPeriod_28 : decode cX1_leastPeriod 28 = .ok (.iload_n 1, 1) := by decide +kernel
theorem dX1_leastPeriod_29 : decode cX1_leastPeriod 29 = .ok (.isub, 1) := by decide +kernel
theorem dX1_leastPeriod_30 : decode cX1_leastPeriod 30 = .ok (.ireturn, 1) := by decide +kernel
abbrev cX1_hasPeriod : ByteArray := prog_3_method_7_code
def yX1_hasPeriod : MethodName := ⟨RX1, "hasPeriod", "(III)Z"⟩
theorem dX1_hasPeriod_0 : decode cX1_hasPeriod 0 = .ok (.iload_n 1, 1) := by decide +kernel
theorem dX1_hasPeriod_1 : decode cX1_hasPeriod 1 = .ok (.istore 4, 2) := by decide +kernel
theorem dX1_hasPeriod_3 : decode cX1_hasPeriod 3 = .ok (.iload 4, 2) := by decide +kernel
theorem dX1_hasPeriod_5 : decode cX1_hasPeriod 5 = .ok (.iload_n 3, 1) := by decide +kernel
theorem dX1_hasPeriod_6 : decode cX1_hasPeriod 6 = .ok (.iadd, 1) := by decide +kernel
theorem dX1_hasPeriod_7 : decode cX1_hasPeriod 7 = .ok (.iload_n 2, 1) := by decide +kernel
theorem dX1_hasPeriod_8 : decode cX1_hasPeriod 8 = .ok (.if_icmp .ge 30, 3) := by decide +kernel
theorem dX1_hasPeriod_11 : decode cX1_hasPeriod 11 = .ok (.aload_n 0, 1) := by decide +kernel
theorem dX1_hasPeriod_12 : decode cX1_hasPeriod 12 = .ok (.getfield 7, 3) := by decide +kernel
theorem dX1_hasPeriod_15 : decode cX1_hasPeriod 15 = .ok (.iload 4, 2) := by decide +kernel
theorem dX1_hasPeriod_17 : decode cX1_hasPeriod 17 = .ok (.iaload, 1) := by decide +kernel
theorem dX1_hasPeriod_18 : decode cX1_hasPeriod 18 = .ok (.aload_n 0, 1) := by decide +kernel
theorem dX1_hasPeriod_19 : decode cX1_hasPeriod 19 = .ok (.getfield 7, 3) := by decide +kernel
theorem dX1_hasPeriod_22 : decode cX1_hasPeriod 22 = .ok (.iload 4, 2) := by decide +kernel
theorem dX1_hasPeriod_24 : decode cX1_hasPeriod 24 = .ok (.iload_n 3, 1) := by decide +kernel
theorem dX1_hasPeriod_25 : decode cX1_hasPeriod 25 = .ok (.iadd, 1) := by decide +kernel
theorem dX1_hasPeriod_26 : decode cX1_hasPeriod 26 = .ok (.iaload, 1) := by decide +kernel
theorem dX1_hasPeriod_27 : decode cX1_hasPeriod 27 = .ok (.if_icmp .eq 5, 3) := by decide +kernel
theorem dX1_hasPeriod_30 : decode cX1_hasPeriod 30 = .ok (.iconst 0, 1) := by decide +kernel
theorem dX1_hasPeriod_31 : decode cX1_hasPeriod 31 = .ok (.ireturn, 1) := by decide +kernel
theorem dX1_hasPeriod_32 : decode cX1_hasPeriod 32 = .ok (.iinc 4 1, 3) := by decide +kernel
theorem dX1_hasPeriod_35 : decode cX1_hasPeriod 35 = .ok (.goto (-32), 3) := by decide +kernel
theorem dX1_hasPeriod_38 : decode cX1_hasPeriod 38 = .ok (.iconst 1, 1) := by decide +kernel
theorem dX1_hasPeriod_39 : decode cX1_hasPeriod 39 = .ok (.ireturn, 1) := by decide +kernel
abbrev cX1_begin : ByteArray := prog_3_method_12_code
def yX1_begin : MethodName := ⟨RX1, "begin", "(I)I"⟩
theorem dX1_begin_0 : decode cX1_begin 0 = .ok (.aload_n 0, 1) := by decide +kernel
theorem dX1_begin_1 : decode cX1_begin 1 = .ok (.iload_n 1, 1) := by decide +kernel
theorem dX1_begin_2 : decode cX1_begin 2 = .ok (.invokevirtual 28, 3) := by decide +kernel
theorem dX1_begin_5 : decode cX1_begin 5 = .ok (.istore_n 2, 1) := by decide +kernel
theorem dX1_begin_6 : decode cX1_begin 6 = .ok (.iload_n 2, 1) := by decide +kernel
theorem dX1_begin_7 : decode cX1_begin 7 = .ok (.ifCond .ge 8, 3) := by decide +kernel
theorem dX1_begin_10 : decode cX1_begin 10 = .ok (.bipush (-4), 2) := by decide +kernel
theorem dX1_begin_12 : decode cX1_begin 12 = .ok (.goto 8, 3) := by decide +kernel
theorem dX1_begin_15 : decode cX1_begin 15 = .ok (.iload_n 2, 1) := by decide +kernel
theorem dX1_begin_16 : decode cX1_begin 16 = .ok (.sipush 1024, 3) := by decide +kernel
theorem dX1_begin_19 : decode cX1_begin 19 = .ok (.idiv, 1) := by decide +kernel
theorem dX1_begin_20 : decode cX1_begin 20 = .ok (.ireturn, 1) := by decide +kernel
abbrev cX1_run : ByteArray := prog_3_method_10_code
def yX1_run : MethodName := ⟨RX1, "run", "(I)I"⟩
theorem dX1_run_0 : decode cX1_run 0 = .ok (.iconst 0, 1) := by decide +kernel
theorem dX1_run_1 : decode cX1_run 1 = .ok (.istore_n 2, 1) := by decide +kernel
theorem dX1_run_2 : decode cX1_run 2 = .ok (.iconst 0, 1) := by decide +kernel
theorem dX1_run_3 : decode cX1_run 3 = .ok (.istore_n 3, 1) := by decide +kernel
theorem dX1_run_4 : decode cX1_run 4 = .ok (.iload_n 3, 1) := by decide +kernel
theorem dX1_run_5 : decode cX1_run 5 = .ok (.aload_n 0, 1) := by decide +kernel
theorem dX1_run_6 : decode cX1_run 6 = .ok (.getfield 13, 3) := by decide +kernel
theorem dX1_run_9 : decode cX1_run 9 = .ok (.if_icmp .ge 64, 3) := by decide +kernel
theorem dX1_run_12 : decode cX1_run 12 = .ok (.iconst 1, 1) := by decide +kernel
theorem dX1_run_13 : decode cX1_run 13 = .ok (.istore 4, 2) := by decide +kernel
theorem dX1_run_15 : decode cX1_run 15 = .ok (.iload 4, 2) := by decide +kernel
theorem dX1_run_17 : decode cX1_run 17 = .ok (.bipush 16, 2) := by decide +kernel
theorem dX1_run_19 : decode cX1_run 19 = .ok (.if_icmp .gt 48, 3) := by decide +kernel
theorem dX1_run_22 : decode cX1_run 22 = .ok (.aload_n 0, 1) := by decide +kernel
theorem dX1_run_23 : decode cX1_run 23 = .ok (.iload_n 3, 1) := by decide +kernel
theorem dX1_run_24 : decode cX1_run 24 = .ok (.iload 4, 2) := by decide +kernel
theorem dX1_run_26 : decode cX1_run 26 = .ok (.invokevirtual 25, 3) := by decide +kernel
theorem dX1_run_29 : decode cX1_run 29 = .ok (.istore 5, 2) := by decide +kernel
theorem dX1_run_31 : decode cX1_run 31 = .ok (.iload 5, 2) := by decide +kernel
theorem dX1_run_33 : decode cX1_run 33 = .ok (.ifCond .lt 28, 3) := by decide +kernel
theorem dX1_run_36 : decode cX1_run 36 = .ok (.iload_n 2, 1) := by decide +kernel
theorem dX1_run_37 : decode cX1_run 37 = .ok (.iload_n 1, 1) := by decide +kernel
theorem dX1_run_38 : decode cX1_run 38 = .ok (.if_icmp .ne 20, 3) := by decide +kernel
theorem dX1_run_41 : decode cX1_run 41 = .ok (.iload_n 3, 1) := by decide +kernel
theorem dX1_run_42 : decode cX1_run 42 = .ok (.sipush 1024, 3) := by decide +kernel
theorem dX1_run_45 : decode cX1_run 45 = .ok (.imul, 1) := by decide +kernel
theorem dX1_run_46 : decode cX1_run 46 = .ok (.iload 4, 2) := by decide +kernel
theorem dX1_run_48 : decode cX1_run 48 = .ok (.bipush 32, 2) := by decide +kernel
theorem dX1_run_50 : decode cX1_run 50 = .ok (.imul, 1) := by decide +kernel
theorem dX1_run_51 : decode cX1_run 51 = .ok (.iadd, 1) := by decide +kernel
theorem dX1_run_52 : decode cX1_run 52 = .ok (.iload 5, 2) := by decide +kernel
theorem dX1_run_54 : decode cX1_run 54 = .ok (.iadd, 1) := by decide +kernel
theorem dX1_run_55 : decode cX1_run 55 = .ok (.iconst 1, 1) := by decide +kernel
theorem dX1_run_56 : decode cX1_run 56 = .ok (.isub, 1) := by decide +kernel
theorem dX1_run_57 : decode cX1_run 57 = .ok (.ireturn, 1) := by decide +kernel
theorem dX1_run_58 : decode cX1_run 58 = .ok (.iinc 2 1, 3) := by decide +kernel
theorem dX1_run_61 : decode cX1_run 61 = .ok (.iinc 4 1, 3) := by decide +kernel
theorem dX1_run_64 : decode cX1_run 64 = .ok (.goto (-49), 3) := by decide +kernel
theorem dX1_run_67 : decode cX1_run 67 = .ok (.iinc 3 1, 3) := by decide +kernel
theorem dX1_run_70 : decode cX1_run 70 = .ok (.goto (-66), 3) := by decide +kernel
theorem dX1_run_73 : decode cX1_run 73 = .ok (.iconst (-1), 1) := by decide +kernel
theorem dX1_run_74 : decode cX1_run 74 = .ok (.ireturn, 1) := by decide +kernel
abbrev cX1_end : ByteArray := prog_3_method_13_code
def yX1_end : MethodName := ⟨RX1, "end", "(I)I"⟩
theorem dX1_end_0 : decode cX1_end 0 = .ok (.aload_n 0, 1) := by decide +kernel
theorem dX1_end_1 : decode cX1_end 1 = .ok (.iload_n 1, 1) := by decide +kernel
theorem dX1_end_2 : decode cX1_end 2 = .ok (.invokevirtual 28, 3) := by decide +kernel
theorem dX1_end_5 : decode cX1_end 5 = .ok (.istore_n 2, 1) := by decide +kernel
theorem dX1_end_6 : decode cX1_end 6 = .ok (.iload_n 2, 1) := by decide +kernel
theorem dX1_end_7 : decode cX1_end 7 = .ok (.ifCond .ge 8, 3) := by decide +kernel
theorem dX1_end_10 : decode cX1_end 10 = .ok (.bipush (-4), 2) := by decide +kernel
theorem dX1_end_12 : decode cX1_end 12 = .ok (.goto 9, 3) := by decide +kernel
theorem dX1_end_15 : decode cX1_end 15 = .ok (.iload_n 2, 1) := by decide +kernel
theorem dX1_end_16 : decode cX1_end 16 = .ok (.bipush 32, 2) := by decide +kernel
theorem dX1_end_18 : decode cX1_end 18 = .ok (.irem, 1) := by decide +kernel
theorem dX1_end_19 : decode cX1_end 19 = .ok (.iconst 1, 1) := by decide +kernel
theorem dX1_end_20 : decode cX1_end 20 = .ok (.iadd, 1) := by decide +kernel
theorem dX1_end_21 : decode cX1_end 21 = .ok (.ireturn, 1) := by decide +kernel
end
section
set_option maxRecDepth 100000
abbrev cX1_period : ByteArray := prog_3_method_14_code
def yX1_period : MethodName := ⟨RX1, "period", "(I)I"⟩
theorem dX1_period_0 : decode cX1_period 0 = .ok (.aload_n 0, 1) := by decide +kernel
theorem dX1_period_1 : decode cX1_period 1 = .ok (.iload_n 1, 1) := by decide +kernel
theorem dX1_period_2 : decode cX1_period 2 = .ok (.invokevirtual 28, 3) := by decide +kernel
theorem dX1_period_5 : decode cX1_period 5 = .ok (.istore_n 2, 1) := by decide +kernel
theorem dX1_period_6 : decode cX1_period 6 = .ok (.iload_n 2, 1) := by decide +kernel
theorem dX1_period_7 : decode cX1_period 7 = .ok (.ifCond .ge 8, 3) := by decide +kernel
theorem dX1_period_10 : decode cX1_period 10 = .ok (.bipush (-4), 2) := by decide +kernel
theorem dX1_period_12 : decode cX1_period 12 = .ok (.goto 10, 3) := by decide +kernel
theorem dX1_period_15 : decode cX1_period 15 = .ok (.iload_n 2, 1) := by decide +kernel
theorem dX1_period_16 : decode cX1_period 16 = .ok (.bipush 32, 2) := by decide +kernel
theorem dX1_period_18 : decode cX1_period 18 = .ok (.idiv, 1) := by decide +kernel
theorem dX1_period_19 : decode cX1_period 19 = .ok (.bipush 32, 2) := by decide +kernel
theorem dX1_period_21 : decode cX1_period 21 = .ok (.irem, 1) := by decide +kernel
theorem dX1_period_22 : decode cX1_period 22 = .ok (.ireturn, 1) := by decide +kernel
abbrev cX1_squares : ByteArray := prog_3_method_15_code
def yX1_squares : MethodName := ⟨RX1, "squares", "()I"⟩
theorem dX1_squares_0 : decode cX1_squares 0 = .ok (.iconst 0, 1) := by decide +kernel
theorem dX1_squares_1 : decode cX1_squares 1 = .ok (.istore_n 1, 1) := by decide +kernel
theorem dX1_squares_2 : decode cX1_squares 2 = .ok (.iconst 0, 1) := by decide +kernel
theorem dX1_squares_3 : decode cX1_squares 3 = .ok (.istore_n 2, 1) := by decide +kernel
theorem dX1_squares_4 : decode cX1_squares 4 = .ok (.iload_n 2, 1) := by decide +kernel
theorem dX1_squares_5 : decode cX1_squares 5 = .ok (.aload_n 0, 1) := by decide +kernel
theorem dX1_squares_6 : decode cX1_squares 6 = .ok (.getfield 13, 3) := by decide +kernel
theorem dX1_squares_9 : decode cX1_squares 9 = .ok (.if_icmp .ge 52, 3) := by decide +kernel
theorem dX1_squares_12 : decode cX1_squares 12 = .ok (.iconst 1, 1) := by decide +kernel
theorem dX1_squares_13 : decode cX1_squares 13 = .ok (.istore_n 3, 1) := by decide +kernel
theorem dX1_squares_14 : decode cX1_squares 14 = .ok (.iload_n 3, 1) := by decide +kernel
theorem dX1_squares_15 : decode cX1_squares 15 = .ok (.bipush 16, 2) := by decide +kernel
theorem dX1_squares_17 : decode cX1_squares 17 = .ok (.if_icmp .gt 38, 3) := by decide +kernel
theorem dX1_squares_20 : decode cX1_squares 20 = .ok (.iload_n 2, 1) := by decide +kernel
theorem dX1_squares_21 : decode cX1_squares 21 = .ok (.iconst 2, 1) := by decide +kernel
theorem dX1_squares_22 : decode cX1_squares 22 = .ok (.iload_n 3, 1) := by decide +kernel
theorem dX1_squares_23 : decode cX1_squares 23 = .ok (.imul, 1) := by decide +kernel
theorem dX1_squares_24 : decode cX1_squares 24 = .ok (.iadd, 1) := by decide +kernel
theorem dX1_squares_25 : decode cX1_squares 25 = .ok (.aload_n 0, 1) := by decide +kernel
theorem dX1_squares_26 : decode cX1_squares 26 = .ok (.getfield 13, 3) := by decide +kernel
theorem dX1_squares_29 : decode cX1_squares 29 = .ok (.if_icmp .gt 20, 3) := by decide +kernel
theorem dX1_squares_32 : decode cX1_squares 32 = .ok (.aload_n 0, 1) := by decide +kernel
theorem dX1_squares_33 : decode cX1_squares 33 = .ok (.iload_n 2, 1) := by decide +kernel
theorem dX1_squares_34 : decode cX1_squares 34 = .ok (.iload_n 2, 1) := by decide +kernel
theorem dX1_squares_35 : decode cX1_squares 35 = .ok (.iconst 2, 1) := by decide +kernel
theorem dX1_squares_36 : decode cX1_squares 36 = .ok (.iload_n 3, 1) := by decide +kernel
theorem dX1_squares_37 : decode cX1_squares 37 = .ok (.imul, 1) := by decide +kernel
theorem dX1_squares_38 : decode cX1_squares 38 = .ok (.iadd, 1) := by decide +kernel
theorem dX1_squares_39 : decode cX1_squares 39 = .ok (.iload_n 3, 1) := by decide +kernel
theorem dX1_squares_40 : decode cX1_squares 40 = .ok (.invokevirtual 17, 3) := by decide +kernel
theorem dX1_squares_43 : decode cX1_squares 43 = .ok (.ifCond .eq 6, 3) := by decide +kernel
theorem dX1_squares_46 : decode cX1_squares 46 = .ok (.iinc 1 1, 3) := by decide +kernel
theorem dX1_squares_49 : decode cX1_squares 49 = .ok (.iinc 3 1, 3) := by decide +kernel
theorem dX1_squares_52 : decode cX1_squares 52 = .ok (.goto (-38), 3) := by decide +kernel
theorem dX1_squares_55 : decode cX1_squares 55 = .ok (.iinc 2 1, 3) := by decide +kernel
theorem dX1_squares_58 : decode cX1_squares 58 = .ok (.goto (-54), 3) := by decide +kernel
theorem dX1_squares_61 : decode cX1_squares 61 = .ok (.iload_n 1, 1) := by decide +kernel
theorem dX1_squares_62 : decode cX1_squares 62 = .ok (.ireturn, 1) := by decide +kernel
abbrev cX1_wholePeriod : ByteArray := prog_3_method_16_code
def yX1_wholePeriod : MethodName := ⟨RX1, "wholePeriod", "()I"⟩
theorem dX1_wholePeriod_0 : decode cX1_wholePeriod 0 = .ok (.aload_n 0, 1) := by decide +kernel
theorem dX1_wholePeriod_1 : decode cX1_wholePeriod 1 = .ok (.getfield 13, 3) := by decide +kernel
theorem dX1_wholePeriod_4 : decode cX1_wholePeriod 4 = .ok (.ifCond .ne 7, 3) := by decide +kernel
theorem dX1_wholePeriod_7 : decode cX1_wholePeriod 7 = .ok (.iconst 0, 1) := by decide +kernel
theorem dX1_wholePeriod_8 : decode cX1_wholePeriod 8 = .ok (.goto 12, 3) := by decide +kernel
theorem dX1_wholePeriod_11 : decode cX1_wholePeriod 11 = .ok (.aload_n 0, 1) := by decide +kernel
theorem dX1_wholePeriod_12 : decode cX1_wholePeriod 12 = .ok (.iconst 0, 1) := by decide +kernel
theorem dX1_wholePeriod_13 : decode cX1_wholePeriod 13 = .ok (.aload_n 0, 1) := by decide +kernel
theorem dX1_wholePeriod_14 : decode cX1_wholePeriod 14 = .ok (.getfield 13, 3) := by decide +kernel
theorem dX1_wholePeriod_17 : decode cX1_wholePeriod 17 = .ok (.invokevirtual 21, 3) := by decide +kernel
theorem dX1_wholePeriod_20 : decode cX1_wholePeriod 20 = .ok (.ireturn, 1) := by decide +kernel
abbrev cX1_smallestEnd : ByteArray := prog_3_method_19_code
def yX1_smallestEnd : MethodName := ⟨RX1, "smallestEnd", "()I"⟩
theorem dX1_smallestEnd_0 : decode cX1_smallestEnd 0 = .ok (.aload_n 0, 1) := by decide +kernel
theorem dX1_smallestEnd_1 : decode cX1_smallestEnd 1 = .ok (.getfield 13, 3) := by decide +kernel
theorem dX1_smallestEnd_4 : decode cX1_smallestEnd 4 = .ok (.ifCond .ne 8, 3) := by decide +kernel
theorem dX1_smallestEnd_7 : decode cX1_smallestEnd 7 = .ok (.bipush (-4), 2) := by decide +kernel
theorem dX1_smallestEnd_9 : decode cX1_smallestEnd 9 = .ok (.goto 11, 3) := by decide +kernel
theorem dX1_smallestEnd_12 : decode cX1_smallestEnd 12 = .ok (.aload_n 0, 1) := by decide +kernel
theorem dX1_smallestEnd_13 : decode cX1_smallestEnd 13 = .ok (.aload_n 0, 1) := by decide +kernel
theorem dX1_smallestEnd_14 : decode cX1_smallestEnd 14 = .ok (.getfield 13, 3) := by decide +kernel
theorem dX1_smallestEnd_17 : decode cX1_smallestEnd 17 = .ok (.invokevirtual 35, 3) := by decide +kernel
theorem dX1_smallestEnd_20 : decode cX1_smallestEnd 20 = .ok (.ireturn, 1) := by decide +kernel
abbrev cX1_smallest : ByteArray := prog_3_method_18_code
def yX1_smallest : MethodName := ⟨RX1, "smallest", "(I)I"⟩
theorem dX1_smallest_0 : decode cX1_smallest 0 = .ok (.iconst 0, 1) := by decide +kernel
theorem dX1_smallest_1 : decode cX1_smallest 1 = .ok (.istore_n 2, 1) := by decide +kernel
theorem dX1_smallest_2 : decode cX1_smallest 2 = .ok (.iconst 1, 1) := by decide +kernel
theorem dX1_smallest_3 : decode cX1_smallest 3 = .ok (.istore_n 3, 1) := by decide +kernel
theorem dX1_smallest_4 : decode cX1_smallest 4 = .ok (.iload_n 3, 1) := by decide +kernel
theorem dX1_smallest_5 : decode cX1_smallest 5 = .ok (.iload_n 1, 1) := by decide +kernel
theorem dX1_smallest_6 : decode cX1_smallest 6 = .ok (.if_icmp .ge 21, 3) := by decide +kernel
theorem dX1_smallest_9 : decode cX1_smallest 9 = .ok (.aload_n 0, 1) := by decide +kernel
theorem dX1_smallest_10 : decode cX1_smallest 10 = .ok (.iload_n 3, 1) := by decide +kernel
theorem dX1_smallest_11 : decode cX1_smallest 11 = .ok (.iload_n 2, 1) := by decide +kernel
theorem dX1_smallest_12 : decode cX1_smallest 12 = .ok (.iload_n 1, 1) := by decide +kernel
theorem dX1_smallest_13 : decode cX1_smallest 13 = .ok (.invokevirtual 32, 3) := by decide +kernel
theorem dX1_smallest_16 : decode cX1_smallest 16 = .ok (.ifCond .eq 5, 3) := by decide +kernel
theorem dX1_smallest_19 : decode cX1_smallest 19 = .ok (.iload_n 3, 1) := by decide +kernel
theorem dX1_smallest_20 : decode cX1_smallest 20 = .ok (.istore_n 2, 1) := by decide +kernel
theorem dX1_smallest_21 : decode cX1_smallest 21 = .ok (.iinc 3 1, 3) := by decide +kernel
theorem dX1_smallest_24 : decode cX1_smallest 24 = .ok (.goto (-20), 3) := by decide +kernel
theorem dX1_smallest_27 : decode cX1_smallest 27 = .ok (.iload_n 2, 1) := by decide +kernel
theorem dX1_smallest_28 : decode cX1_smallest 28 = .ok (.ireturn, 1) := by decide +kernel
abbrev cX1_smaller : ByteArray := prog_3_method_17_code
def yX1_smaller : MethodName := ⟨RX1, "smaller", "(III)Z"⟩
theorem dX1_smaller_0 : decode cX1_smaller 0 = .ok (.iconst 0, 1) := by decide +kernel
theorem dX1_smaller_1 : decode cX1_smaller 1 = .ok (.istore 4, 2) := by decide +kernel
theorem dX1_smaller_3 : decode cX1_smaller 3 = .ok (.iload 4, 2) := by decide +kernel
theorem dX1_smaller_5 : decode cX1_smaller 5 = .ok (.bipush 32, 2) := by decide +kernel
theorem dX1_smaller_7 : decode cX1_smaller 7 = .ok (.if_icmp .ge 84, 3) := by decide +kernel
theorem dX1_smaller_10 : decode cX1_smaller 10 = .ok (.iload_n 1, 1) := by decide +kernel
theorem dX1_smaller_11 : decode cX1_smaller 11 = .ok (.iload 4, 2) := by decide +kernel
theorem dX1_smaller_13 : decode cX1_smaller 13 = .ok (.iadd, 1) := by decide +kernel
theorem dX1_smaller_14 : decode cX1_smaller 14 = .ok (.iload_n 3, 1) := by decide +kernel
theorem dX1_smaller_15 : decode cX1_smaller 15 = .ok (.if_icmp .ge 11, 3) := by decide +kernel
theorem dX1_smaller_18 : decode cX1_smaller 18 = .ok (.iload_n 2, 1) := by decide +kernel
theorem dX1_smaller_19 : decode cX1_smaller 19 = .ok (.iload 4, 2) := by decide +kernel
theorem dX1_smaller_21 : decode cX1_smaller 21 = .ok (.iadd, 1) := by decide +kernel
theorem dX1_smaller_22 : decode cX1_smaller 22 = .ok (.iload_n 3, 1) := by decide +kernel
theorem dX1_smaller_23 : decode cX1_smaller 23 = .ok (.if_icmp .lt 14, 3) := by decide +kernel
theorem dX1_smaller_26 : decode cX1_smaller 26 = .ok (.iload_n 1, 1) := by decide +kernel
theorem dX1_smaller_27 : decode cX1_smaller 27 = .ok (.iload_n 2, 1) := by decide +kernel
theorem dX1_smaller_28 : decode cX1_smaller 28 = .ok (.if_icmp .le 7, 3) := by decide +kernel
theorem dX1_smaller_31 : decode cX1_smaller 31 = .ok (.iconst 1, 1) := by decide +kernel
theorem dX1_smaller_32 : decode cX1_smaller 32 = .ok (.goto 4, 3) := by decide +kernel
theorem dX1_smaller_35 : decode cX1_smaller 35 = .ok (.iconst 0, 1) := by decide +kernel
theorem dX1_smaller_36 : decode cX1_smaller 36 = .ok (.ireturn, 1) := by decide +kernel
theorem dX1_smaller_37 : decode cX1_smaller 37 = .ok (.aload_n 0, 1) := by decide +kernel
theorem dX1_smaller_38 : decode cX1_smaller 38 = .ok (.getfield 7, 3) := by decide +kernel
theorem dX1_smaller_41 : decode cX1_smaller 41 = .ok (.iload_n 1, 1) := by decide +kernel
theorem dX1_smaller_42 : decode cX1_smaller 42 = .ok (.iload 4, 2) := by decide +kernel
theorem dX1_smaller_44 : decode cX1_smaller 44 = .ok (.iadd, 1) := by decide +kernel
theorem dX1_smaller_45 : decode cX1_smaller 45 = .ok (.iaload, 1) := by decide +kernel
theorem dX1_smaller_46 : decode cX1_smaller 46 = .ok (.aload_n 0, 1) := by decide +kernel
theorem dX1_smaller_47 : decode cX1_smaller 47 = .ok (.getfield 7, 3) := by decide +kernel
theorem dX1_smaller_50 : decode cX1_smaller 50 = .ok (.iload_n 2, 1) := by decide +kernel
theorem dX1_smaller_51 : decode cX1_smaller 51 = .ok (.iload 4, 2) := by decide +kernel
theorem dX1_smaller_53 : decode cX1_smaller 53 = .ok (.iadd, 1) := by decide +kernel
theorem dX1_smaller_54 : decode cX1_smaller 54 = .ok (.iaload, 1) := by decide +kernel
theorem dX1_smaller_55 : decode cX1_smaller 55 = .ok (.if_icmp .eq 30, 3) := by decide +kernel
theorem dX1_smaller_58 : decode cX1_smaller 58 = .ok (.aload_n 0, 1) := by decide +kernel
theorem dX1_smaller_59 : decode cX1_smaller 59 = .ok (.getfield 7, 3) := by decide +kernel
theorem dX1_smaller_62 : decode cX1_smaller 62 = .ok (.iload_n 1, 1) := by decide +kernel
theorem dX1_smaller_63 : decode cX1_smaller 63 = .ok (.iload 4, 2) := by decide +kernel
theorem dX1_smaller_65 : decode cX1_smaller 65 = .ok (.iadd, 1) := by decide +kernel
theorem dX1_smaller_66 : decode cX1_smaller 66 = .ok (.iaload, 1) := by decide +kernel
theorem dX1_smaller_67 : decode cX1_smaller 67 = .ok (.aload_n 0, 1) := by decide +kernel
theorem dX1_smaller_68 : decode cX1_smaller 68 = .ok (.getfield 7, 3) := by decide +kernel
theorem dX1_smaller_71 : decode cX1_smaller 71 = .ok (.iload_n 2, 1) := by decide +kernel
theorem dX1_smaller_72 : decode cX1_smaller 72 = .ok (.iload 4, 2) := by decide +kernel
theorem dX1_smaller_74 : decode cX1_smaller 74 = .ok (.iadd, 1) := by decide +kernel
theorem dX1_smaller_75 : decode cX1_smaller 75 = .ok (.iaload, 1) := by decide +kernel
theorem dX1_smaller_76 : decode cX1_smaller 76 = .ok (.if_icmp .ge 7, 3) := by decide +kernel
theorem dX1_smaller_79 : decode cX1_smaller 79 = .ok (.iconst 1, 1) := by decide +kernel
theorem dX1_smaller_80 : decode cX1_smaller 80 = .ok (.goto 4, 3) := by decide +kernel
theorem dX1_smaller_83 : decode cX1_smaller 83 = .ok (.iconst 0, 1) := by decide +kernel
theorem dX1_smaller_84 : decode cX1_smaller 84 = .ok (.ireturn, 1) := by decide +kernel
theorem dX1_smaller_85 : decode cX1_smaller 85 = .ok (.iinc 4 1, 3) := by decide +kernel
theorem dX1_smaller_88 : decode cX1_smaller 88 = .ok (.goto (-85), 3) := by decide +kernel
theorem dX1_smaller_91 : decode cX1_smaller 91 = .ok (.iconst 0, 1) := by decide +kernel
theorem dX1_smaller_92 : decode cX1_smaller 92 = .ok (.ireturn, 1) := by decide +kernel
abbrev cX1_factors : ByteArray := prog_3_method_20_code
def yX1_factors : MethodName := ⟨RX1, "factors", "()I"⟩
theorem dX1_factors_0 : decode cX1_factors 0 = .ok (.iconst 0, 1) := by decide +kernel
theorem dX1_factors_1 : decode cX1_factors 1 = .ok (.istore_n 1, 1) := by decide +kernel
theorem dX1_factors_2 : decode cX1_factors 2 = .ok (.aload_n 0, 1) := by decide +kernel
theorem dX1_factors_3 : decode cX1_factors 3 = .ok (.getfield 13, 3) := by decide +kernel
theorem dX1_factors_6 : decode cX1_factors 6 = .ok (.istore_n 2, 1) := by decide +kernel
theorem dX1_factors_7 : decode cX1_factors 7 = .ok (.iconst 0, 1) := by decide +kernel
theorem dX1_factors_8 : decode cX1_factors 8 = .ok (.istore_n 3, 1) := by decide +kernel
theorem dX1_factors_9 : decode cX1_factors 9 = .ok (.iload_n 3, 1) := by decide +kernel
theorem dX1_factors_10 : decode cX1_factors 10 = .ok (.bipush 32, 2) := by decide +kernel
theorem dX1_factors_12 : decode cX1_factors 12 = .ok (.if_icmp .ge 22, 3) := by decide +kernel
theorem dX1_factors_15 : decode cX1_factors 15 = .ok (.iload_n 2, 1) := by decide +kernel
theorem dX1_factors_16 : decode cX1_factors 16 = .ok (.ifCond .le 12, 3) := by decide +kernel
theorem dX1_factors_19 : decode cX1_factors 19 = .ok (.aload_n 0, 1) := by decide +kernel
theorem dX1_factors_20 : decode cX1_factors 20 = .ok (.iload_n 2, 1) := by decide +kernel
theorem dX1_factors_21 : decode cX1_factors 21 = .ok (.invokevirtual 35, 3) := by decide +kernel
theorem dX1_factors_24 : decode cX1_factors 24 = .ok (.istore_n 2, 1) := by decide +kernel
theorem dX1_factors_25 : decode cX1_factors 25 = .ok (.iinc 1 1, 3) := by decide +kernel
theorem dX1_factors_28 : decode cX1_factors 28 = .ok (.iinc 3 1, 3) := by decide +kernel
theorem dX1_factors_31 : decode cX1_factors 31 = .ok (.goto (-22), 3) := by decide +kernel
theorem dX1_factors_34 : decode cX1_factors 34 = .ok (.iload_n 1, 1) := by decide +kernel
theorem dX1_factors_35 : decode cX1_factors 35 = .ok (.ireturn, 1) := by decide +kernel
abbrev cX1_smallestTurn : ByteArray := prog_3_method_22_code
def yX1_smallestTurn : MethodName := ⟨RX1, "smallestTurn", "()I"⟩
theorem dX1_smallestTurn_0 : decode cX1_smallestTurn 0 = .ok (.aload_n 0, 1) := by decide +kernel
theorem dX1_smallestTurn_1 : decode cX1_smallestTurn 1 = .ok (.getfield 13, 3) := by decide +kernel
theorem dX1_smallestTurn_4 : decode cX1_smallestTurn 4 = .ok (.ifCond .ne 6, 3) := by decide +kernel
theorem dX1_smallestTurn_7 : decode cX1_smallestTurn 7 = .ok (.bipush (-4), 2) := by decide +kernel
theorem dX1_smallestTurn_9 : decode cX1_smallestTurn 9 = .ok (.ireturn, 1) := by decide +kernel
theorem dX1_smallestTurn_10 : decode cX1_smallestTurn 10 = .ok (.iconst 0, 1) := by decide +kernel
theorem dX1_smallestTurn_11 : decode cX1_smallestTurn 11 = .ok (.istore_n 1, 1) := by decide +kernel
theorem dX1_smallestTurn_12 : decode cX1_smallestTurn 12 = .ok (.iconst 1, 1) := by decide +kernel
theorem dX1_smallestTurn_13 : decode cX1_smallestTurn 13 = .ok (.istore_n 2, 1) := by decide +kernel
theorem dX1_smallestTurn_14 : decode cX1_smallestTurn 14 = .ok (.iload_n 2, 1) := by decide +kernel
theorem dX1_smallestTurn_15 : decode cX1_smallestTurn 15 = .ok (.aload_n 0, 1) := by decide +kernel
theorem dX1_smallestTurn_16 : decode cX1_smallestTurn 16 = .ok (.getfield 13, 3) := by decide +kernel
theorem dX1_smallestTurn_19 : decode cX1_smallestTurn 19 = .ok (.if_icmp .ge 20, 3) := by decide +kernel
theorem dX1_smallestTurn_22 : decode cX1_smallestTurn 22 = .ok (.aload_n 0, 1) := by decide +kernel
theorem dX1_smallestTurn_23 : decode cX1_smallestTurn 23 = .ok (.iload_n 2, 1) := by decide +kernel
theorem dX1_smallestTurn_24 : decode cX1_smallestTurn 24 = .ok (.iload_n 1, 1) := by decide +kernel
theorem dX1_smallestTurn_25 : decode cX1_smallestTurn 25 = .ok (.invokevirtual 38, 3) := by decide +kernel
theorem dX1_smallestTurn_28 : decode cX1_smallestTurn 28 = .ok (.ifCond .eq 5, 3) := by decide +kernel
theorem dX1_smallestTurn_31 : decode cX1_smallestTurn 31 = .ok (.iload_n 2, 1) := by decide +kernel
theorem dX1_smallestTurn_32 : decode cX1_smallestTurn 32 = .ok (.istore_n 1, 1) := by decide +kernel
theorem dX1_smallestTurn_33 : decode cX1_smallestTurn 33 = .ok (.iinc 2 1, 3) := by decide +kernel
theorem dX1_smallestTurn_36 : decode cX1_smallestTurn 36 = .ok (.goto (-22), 3) := by decide +kernel
theorem dX1_smallestTurn_39 : decode cX1_smallestTurn 39 = .ok (.iload_n 1, 1) := by decide +kernel
theorem dX1_smallestTurn_40 : decode cX1_smallestTurn 40 = .ok (.ireturn, 1) := by decide +kernel
abbrev cX1_turnSmaller : ByteArray := prog_3_method_21_code
def yX1_turnSmaller : MethodName := ⟨RX1, "turnSmaller", "(II)Z"⟩
theorem dX1_turnSmaller_0 : decode cX1_turnSmaller 0 = .ok (.iconst 0, 1) := by decide +kernel
theorem dX1_turnSmaller_1 : decode cX1_turnSmaller 1 = .ok (.istore_n 3, 1) := by decide +kernel
theorem dX1_turnSmaller_2 : decode cX1_turnSmaller 2 = .ok (.iload_n 3, 1) := by decide +kernel
theorem dX1_turnSmaller_3 : decode cX1_turnSmaller 3 = .ok (.aload_n 0, 1) := by decide +kernel
theorem dX1_turnSmaller_4 : decode cX1_turnSmaller 4 = .ok (.getfield 13, 3) := by decide +kernel
theorem dX1_turnSmaller_7 : decode cX1_turnSmaller 7 = .ok (.if_icmp .ge 101, 3) := by decide +kernel
theorem dX1_turnSmaller_10 : decode cX1_turnSmaller 10 = .ok (.iload_n 1, 1) := by decide +kernel
theorem dX1_turnSmaller_11 : decode cX1_turnSmaller 11 = .ok (.iload_n 3, 1) := by decide +kernel
theorem dX1_turnSmaller_12 : decode cX1_turnSmaller 12 = .ok (.iadd, 1) := by decide +kernel
theorem dX1_turnSmaller_13 : decode cX1_turnSmaller 13 = .ok (.aload_n 0, 1) := by decide +kernel
theorem dX1_turnSmaller_14 : decode cX1_turnSmaller 14 = .ok (.getfield 13, 3) := by decide +kernel
theorem dX1_turnSmaller_17 : decode cX1_turnSmaller 17 = .ok (.if_icmp .ge 9, 3) := by decide +kernel
theorem dX1_turnSmaller_20 : decode cX1_turnSmaller 20 = .ok (.iload_n 1, 1) := by decide +kernel
theorem dX1_turnSmaller_21 : decode cX1_turnSmaller 21 = .ok (.iload_n 3, 1) := by decide +kernel
theorem dX1_turnSmaller_22 : decode cX1_turnSmaller 22 = .ok (.iadd, 1) := by decide +kernel
theorem dX1_turnSmaller_23 : decode cX1_turnSmaller 23 = .ok (.goto 11, 3) := by decide +kernel
theorem dX1_turnSmaller_26 : decode cX1_turnSmaller 26 = .ok (.iload_n 1, 1) := by decide +kernel
theorem dX1_turnSmaller_27 : decode cX1_turnSmaller 27 = .ok (.iload_n 3, 1) := by decide +kernel
theorem dX1_turnSmaller_28 : decode cX1_turnSmaller 28 = .ok (.iadd, 1) := by decide +kernel
theorem dX1_turnSmaller_29 : decode cX1_turnSmaller 29 = .ok (.aload_n 0, 1) := by decide +kernel
theorem dX1_turnSmaller_30 : decode cX1_turnSmaller 30 = .ok (.getfield 13, 3) := by decide +kernel
theorem dX1_turnSmaller_33 : decode cX1_turnSmaller 33 = .ok (.isub, 1) := by decide +kernel
theorem dX1_turnSmaller_34 : decode cX1_turnSmaller 34 = .ok (.istore 4, 2) := by decide +kernel
theorem dX1_turnSmaller_36 : decode cX1_turnSmaller 36 = .ok (.iload_n 2, 1) := by decide +kernel
theorem dX1_turnSmaller_37 : decode cX1_turnSmaller 37 = .ok (.iload_n 3, 1) := by decide +kernel
theorem dX1_turnSmaller_38 : decode cX1_turnSmaller 38 = .ok (.iadd, 1) := by decide +kernel
theorem dX1_turnSmaller_39 : decode cX1_turnSmaller 39 = .ok (.aload_n 0, 1) := by decide +kernel
theorem dX1_turnSmaller_40 : decode cX1_turnSmaller 40 = .ok (.getfield 13, 3) := by decide +kernel
theorem dX1_turnSmaller_43 : decode cX1_turnSmaller 43 = .ok (.if_icmp .ge 9, 3) := by decide +kernel
theorem dX1_turnSmaller_46 : decode cX1_turnSmaller 46 = .ok (.iload_n 2, 1) := by decide +kernel
theorem dX1_turnSmaller_47 : decode cX1_turnSmaller 47 = .ok (.iload_n 3, 1) := by decide +kernel
theorem dX1_turnSmaller_48 : decode cX1_turnSmaller 48 = .ok (.iadd, 1) := by decide +kernel
theorem dX1_turnSmaller_49 : decode cX1_turnSmaller 49 = .ok (.goto 11, 3) := by decide +kernel
theorem dX1_turnSmaller_52 : decode cX1_turnSmaller 52 = .ok (.iload_n 2, 1) := by decide +kernel
theorem dX1_turnSmaller_53 : decode cX1_turnSmaller 53 = .ok (.iload_n 3, 1) := by decide +kernel
theorem dX1_turnSmaller_54 : decode cX1_turnSmaller 54 = .ok (.iadd, 1) := by decide +kernel
theorem dX1_turnSmaller_55 : decode cX1_turnSmaller 55 = .ok (.aload_n 0, 1) := by decide +kernel
theorem dX1_turnSmaller_56 : decode cX1_turnSmaller 56 = .ok (.getfield 13, 3) := by decide +kernel
theorem dX1_turnSmaller_59 : decode cX1_turnSmaller 59 = .ok (.isub, 1) := by decide +kernel
theorem dX1_turnSmaller_60 : decode cX1_turnSmaller 60 = .ok (.istore 5, 2) := by decide +kernel
theorem dX1_turnSmaller_62 : decode cX1_turnSmaller 62 = .ok (.aload_n 0, 1) := by decide +kernel
theorem dX1_turnSmaller_63 : decode cX1_turnSmaller 63 = .ok (.getfield 7, 3) := by decide +kernel
theorem dX1_turnSmaller_66 : decode cX1_turnSmaller 66 = .ok (.iload 4, 2) := by decide +kernel
theorem dX1_turnSmaller_68 : decode cX1_turnSmaller 68 = .ok (.iaload, 1) := by decide +kernel
theorem dX1_turnSmaller_69 : decode cX1_turnSmaller 69 = .ok (.aload_n 0, 1) := by decide +kernel
theorem dX1_turnSmaller_70 : decode cX1_turnSmaller 70 = .ok (.getfield 7, 3) := by decide +kernel
theorem dX1_turnSmaller_73 : decode cX1_turnSmaller 73 = .ok (.iload 5, 2) := by decide +kernel
theorem dX1_turnSmaller_75 : decode cX1_turnSmaller 75 = .ok (.iaload, 1) := by decide +kernel
theorem dX1_turnSmaller_76 : decode cX1_turnSmaller 76 = .ok (.if_icmp .eq 26, 3) := by decide +kernel
theorem dX1_turnSmaller_79 : decode cX1_turnSmaller 79 = .ok (.aload_n 0, 1) := by decide +kernel
theorem dX1_turnSmaller_80 : decode cX1_turnSmaller 80 = .ok (.getfield 7, 3) := by decide +kernel
theorem dX1_turnSmaller_83 : decode cX1_turnSmaller 83 = .ok (.iload 4, 2) := by decide +kernel
theorem dX1_turnSmaller_85 : decode cX1_turnSmaller 85 = .ok (.iaload, 1) := by decide +kernel
theorem dX1_turnSmaller_86 : decode cX1_turnSmaller 86 = .ok (.aload_n 0, 1) := by decide +kernel
theorem dX1_turnSmaller_87 : decode cX1_turnSmaller 87 = .ok (.getfield 7, 3) := by decide +kernel
theorem dX1_turnSmaller_90 : decode cX1_turnSmaller 90 = .ok (.iload 5, 2) := by decide +kernel
theorem dX1_turnSmaller_92 : decode cX1_turnSmaller 92 = .ok (.iaload, 1) := by decide +kernel
theorem dX1_turnSmaller_93 : decode cX1_turnSmaller 93 = .ok (.if_icmp .ge 7, 3) := by decide +kernel
theorem dX1_turnSmaller_96 : decode cX1_turnSmaller 96 = .ok (.iconst 1, 1) := by decide +kernel
theorem dX1_turnSmaller_97 : decode cX1_turnSmaller 97 = .ok (.goto 4, 3) := by decide +kernel
theorem dX1_turnSmaller_100 : decode cX1_turnSmaller 100 = .ok (.iconst 0, 1) := by decide +kernel
theorem dX1_turnSmaller_101 : decode cX1_turnSmaller 101 = .ok (.ireturn, 1) := by decide +kernel
theorem dX1_turnSmaller_102 : decode cX1_turnSmaller 102 = .ok (.iinc 3 1, 3) := by decide +kernel
theorem dX1_turnSmaller_105 : decode cX1_turnSmaller 105 = .ok (.goto (-103), 3) := by decide +kernel
theorem dX1_turnSmaller_108 : decode cX1_turnSmaller 108 = .ok (.iconst 0, 1) := by decide +kernel
theorem dX1_turnSmaller_109 : decode cX1_turnSmaller 109 = .ok (.ireturn, 1) := by decide +kernel
theorem q20 : (Jvm.Cond.initialized "RunFinderModel") ∈ lw_all := lw_g (lw_at lw_m1 2 rfl) rfl
theorem q168 : (Jvm.Cond.instantiable "RunFinderModel" (2 : Nat)) ∈ lw_all := lw_g (lw_at lw_m1 150 rfl) rfl
theorem q170 : (Jvm.Cond.instanceMethod ({ cls := "RunFinderModel", name := "<init>", desc := "()V" } : Jvm.MethodName)) ∈ lw_all := lw_g (lw_at lw_m1 152 rfl) rfl
theorem q171 : (Jvm.Cond.code ({ cls := "RunFinderModel", name := "<init>", desc := "()V" } : Jvm.MethodName) prog_3_method_1_code (1 : Nat) (Option.none : Option Jvm.ClassFile.FieldType)) ∈ lw_all := lw_g (lw_at lw_m1 153 rfl) rfl
theorem q172 : (Jvm.Cond.methodLink "RunFinderModel" (1 : Nat) ({ cls := "java/lang/Object", name := "<init>", desc := "()V" } : Jvm.MethodName)) ∈ lw_all := lw_g (lw_at lw_m1 154 rfl) rfl
theorem q173 : (Jvm.Cond.fieldLink "RunFinderModel" (13 : Nat) "RunFinderModel" "size" "I") ∈ lw_all := lw_g (lw_at lw_m1 155 rfl) rfl
theorem q174 : (Jvm.Cond.fieldLink "RunFinderModel" (7 : Nat) "RunFinderModel" "text" "[I") ∈ lw_all := lw_g (lw_at lw_m1 156 rfl) rfl
theorem q175 : (Jvm.Cond.lays "RunFinderModel" "RunFinderModel" "size" "I") ∈ lw_all := lw_g (lw_at lw_m1 157 rfl) rfl
theorem q176 : (Jvm.Cond.soleField "RunFinderModel" "size") ∈ lw_all := lw_g (lw_at lw_m1 158 rfl) rfl
theorem q177 : (Jvm.Cond.laysFinal "RunFinderModel" "RunFinderModel" "text" "[I") ∈ lw_all := lw_g (lw_at lw_m1 159 rfl) rfl
theorem q178 : (Jvm.Cond.soleField "RunFinderModel" "text") ∈ lw_all := lw_g (lw_at lw_m1 160 rfl) rfl
theorem q179 : (Jvm.Cond.superclass "RunFinderModel" "java/lang/Object") ∈ lw_all := lw_g (lw_at lw_m1 161 rfl) rfl
theorem q181 : (Jvm.Cond.instanceMethod ({ cls := "RunFinderModel", name := "append", desc := "(I)I" } : Jvm.MethodName)) ∈ lw_all := lw_g (lw_at lw_m1 163 rfl) rfl
theorem q182 : (Jvm.Cond.selects "RunFinderModel" ({ cls := "RunFinderModel", name := "append", desc := "(I)I" } : Jvm.MethodName) ({ cls := "RunFinderModel", name := "append", desc := "(I)I" } : Jvm.MethodName)) ∈ lw_all := lw_g (lw_at lw_m1 164 rfl) rfl
theorem q183 : (Jvm.Cond.code ({ cls := "RunFinderModel", name := "append", desc := "(I)I" } : Jvm.MethodName) prog_3_method_2_code (2 : Nat) (Option.some Jvm.ClassFile.FieldType.int)) ∈ lw_all := lw_g (lw_at lw_m1 165 rfl) rfl
theorem q185 : (Jvm.Cond.instanceMethod ({ cls := "RunFinderModel", name := "set", desc := "(II)I" } : Jvm.MethodName)) ∈ lw_all := lw_g (lw_at lw_m1 167 rfl) rfl
theorem q186 : (Jvm.Cond.selects "RunFinderModel" ({ cls := "RunFinderModel", name := "set", desc := "(II)I" } : Jvm.MethodName) ({ cls := "RunFinderModel", name := "set", desc := "(II)I" } : Jvm.MethodName)) ∈ lw_all := lw_g (lw_at lw_m1 168 rfl) rfl
theorem q187 : (Jvm.Cond.code ({ cls := "RunFinderModel", name := "set", desc := "(II)I" } : Jvm.MethodName) prog_3_method_3_code (4 : Nat) (Option.some Jvm.ClassFile.FieldType.int)) ∈ lw_all := lw_g (lw_at lw_m1 169 rfl) rfl
theorem q189 : (Jvm.Cond.instanceMethod ({ cls := "RunFinderModel", name := "repeat", desc := "(I)I" } : Jvm.MethodName)) ∈ lw_all := lw_g (lw_at lw_m1 171 rfl) rfl
theorem q190 : (Jvm.Cond.selects "RunFinderModel" ({ cls := "RunFinderModel", name := "repeat", desc := "(I)I" } : Jvm.MethodName) ({ cls := "RunFinderModel", name := "repeat", desc := "(I)I" } : Jvm.MethodName)) ∈ lw_all := lw_g (lw_at lw_m1 172 rfl) rfl
theorem q191 : (Jvm.Cond.code ({ cls := "RunFinderModel", name := "repeat", desc := "(I)I" } : Jvm.MethodName) prog_3_method_4_code (4 : Nat) (Option.some Jvm.ClassFile.FieldType.int)) ∈ lw_all := lw_g (lw_at lw_m1 173 rfl) rfl
theorem q193 : (Jvm.Cond.instanceMethod ({ cls := "RunFinderModel", name := "drop", desc := "()I" } : Jvm.MethodName)) ∈ lw_all := lw_g (lw_at lw_m1 175 rfl) rfl
theorem q194 : (Jvm.Cond.selects "RunFinderModel" ({ cls := "RunFinderModel", name := "drop", desc := "()I" } : Jvm.MethodName) ({ cls := "RunFinderModel", name := "drop", desc := "()I" } : Jvm.MethodName)) ∈ lw_all := lw_g (lw_at lw_m1 176 rfl) rfl
theorem q195 : (Jvm.Cond.code ({ cls := "RunFinderModel", name := "drop", desc := "()I" } : Jvm.MethodName) prog_3_method_5_code (1 : Nat) (Option.some Jvm.ClassFile.FieldType.int)) ∈ lw_all := lw_g (lw_at lw_m1 177 rfl) rfl
theorem q197 : (Jvm.Cond.instanceMethod ({ cls := "RunFinderModel", name := "clear", desc := "()V" } : Jvm.MethodName)) ∈ lw_all := lw_g (lw_at lw_m1 179 rfl) rfl
theorem q198 : (Jvm.Cond.selects "RunFinderModel" ({ cls := "RunFinderModel", name := "clear", desc := "()V" } : Jvm.MethodName) ({ cls := "RunFinderModel", name := "clear", desc := "()V" } : Jvm.MethodName)) ∈ lw_all := lw_g (lw_at lw_m1 180 rfl) rfl
theorem q199 : (Jvm.Cond.code ({ cls := "RunFinderModel", name := "clear", desc := "()V" } : Jvm.MethodName) prog_3_method_6_code (1 : Nat) (Option.none : Option Jvm.ClassFile.FieldType)) ∈ lw_all := lw_g (lw_at lw_m1 181 rfl) rfl
theorem q201 : (Jvm.Cond.instanceMethod ({ cls := "RunFinderModel", name := "runs", desc := "()I" } : Jvm.MethodName)) ∈ lw_all := lw_g (lw_at lw_m1 183 rfl) rfl
theorem q202 : (Jvm.Cond.selects "RunFinderModel" ({ cls := "RunFinderModel", name := "runs", desc := "()I" } : Jvm.MethodName) ({ cls := "RunFinderModel", name := "runs", desc := "()I" } : Jvm.MethodName)) ∈ lw_all := lw_g (lw_at lw_m1 184 rfl) rfl
theorem q203 : (Jvm.Cond.code ({ cls := "RunFinderModel", name := "runs", desc := "()I" } : Jvm.MethodName) prog_3_method_11_code (4 : Nat) (Option.some Jvm.ClassFile.FieldType.int)) ∈ lw_all := lw_g (lw_at lw_m1 185 rfl) rfl
theorem q204 : (Jvm.Cond.methodLink "RunFinderModel" (25 : Nat) ({ cls := "RunFinderModel", name := "runEnd", desc := "(II)I" } : Jvm.MethodName)) ∈ lw_all := lw_g (lw_at lw_m1 186 rfl) rfl
theorem q205 : (Jvm.Cond.privateMethod ({ cls := "RunFinderModel", name := "runEnd", desc := "(II)I" } : Jvm.MethodName)) ∈ lw_tbl := lw_at lw_m1 187 rfl
theorem q206 : (Jvm.Cond.instanceMethod ({ cls := "RunFinderModel", name := "runEnd", desc := "(II)I" } : Jvm.MethodName)) ∈ lw_all := lw_g (lw_at lw_m1 188 rfl) rfl
theorem q207 : (Jvm.Cond.code ({ cls := "RunFinderModel", name := "runEnd", desc := "(II)I" } : Jvm.MethodName) prog_3_method_9_code (5 : Nat) (Option.some Jvm.ClassFile.FieldType.int)) ∈ lw_all := lw_g (lw_at lw_m1 189 rfl) rfl
theorem q208 : (Jvm.Cond.methodLink "RunFinderModel" (21 : Nat) ({ cls := "RunFinderModel", name := "leastPeriod", desc := "(II)I" } : Jvm.MethodName)) ∈ lw_all := lw_g (lw_at lw_m1 190 rfl) rfl
theorem q209 : (Jvm.Cond.privateMethod ({ cls := "RunFinderModel", name := "leastPeriod", desc := "(II)I" } : Jvm.MethodName)) ∈ lw_tbl := lw_at lw_m1 191 rfl
theorem q210 : (Jvm.Cond.instanceMethod ({ cls := "RunFinderModel", name := "leastPeriod", desc := "(II)I" } : Jvm.MethodName)) ∈ lw_all := lw_g (lw_at lw_m1 192 rfl) rfl
theorem q211 : (Jvm.Cond.code ({ cls := "RunFinderModel", name := "leastPeriod", desc := "(II)I" } : Jvm.MethodName) prog_3_method_8_code (4 : Nat) (Option.some Jvm.ClassFile.FieldType.int)) ∈ lw_all := lw_g (lw_at lw_m1 193 rfl) rfl
theorem q212 : (Jvm.Cond.methodLink "RunFinderModel" (17 : Nat) ({ cls := "RunFinderModel", name := "hasPeriod", desc := "(III)Z" } : Jvm.MethodName)) ∈ lw_all := lw_g (lw_at lw_m1 194 rfl) rfl
theorem q213 : (Jvm.Cond.privateMethod ({ cls := "RunFinderModel", name := "hasPeriod", desc := "(III)Z" } : Jvm.MethodName)) ∈ lw_tbl := lw_at lw_m1 195 rfl
theorem q214 : (Jvm.Cond.instanceMethod ({ cls := "RunFinderModel", name := "hasPeriod", desc := "(III)Z" } : Jvm.MethodName)) ∈ lw_all := lw_g (lw_at lw_m1 196 rfl) rfl
theorem q215 : (Jvm.Cond.code ({ cls := "RunFinderModel", name := "hasPeriod", desc := "(III)Z" } : Jvm.MethodName) prog_3_method_7_code (5 : Nat) (Option.some Jvm.ClassFile.FieldType.boolean)) ∈ lw_all := lw_g (lw_at lw_m1 197 rfl) rfl
theorem q217 : (Jvm.Cond.instanceMethod ({ cls := "RunFinderModel", name := "begin", desc := "(I)I" } : Jvm.MethodName)) ∈ lw_all := lw_g (lw_at lw_m1 199 rfl) rfl
theorem q218 : (Jvm.Cond.selects "RunFinderModel" ({ cls := "RunFinderModel", name := "begin", desc := "(I)I" } : Jvm.MethodName) ({ cls := "RunFinderModel", name := "begin", desc := "(I)I" } : Jvm.MethodName)) ∈ lw_all := lw_g (lw_at lw_m1 200 rfl) rfl
theorem q219 : (Jvm.Cond.code ({ cls := "RunFinderModel", name := "begin", desc := "(I)I" } : Jvm.MethodName) prog_3_method_12_code (3 : Nat) (Option.some Jvm.ClassFile.FieldType.int)) ∈ lw_all := lw_g (lw_at lw_m1 201 rfl) rfl
theorem q220 : (Jvm.Cond.methodLink "RunFinderModel" (28 : Nat) ({ cls := "RunFinderModel", name := "run", desc := "(I)I" } : Jvm.MethodName)) ∈ lw_all := lw_g (lw_at lw_m1 202 rfl) rfl
theorem q221 : (Jvm.Cond.privateMethod ({ cls := "RunFinderModel", name := "run", desc := "(I)I" } : Jvm.MethodName)) ∈ lw_tbl := lw_at lw_m1 203 rfl
theorem q222 : (Jvm.Cond.instanceMethod ({ cls := "RunFinderModel", name := "run", desc := "(I)I" } : Jvm.MethodName)) ∈ lw_all := lw_g (lw_at lw_m1 204 rfl) rfl
theorem q223 : (Jvm.Cond.code ({ cls := "RunFinderModel", name := "run", desc := "(I)I" } : Jvm.MethodName) prog_3_method_10_code (6 : Nat) (Option.some Jvm.ClassFile.FieldType.int)) ∈ lw_all := lw_g (lw_at lw_m1 205 rfl) rfl
theorem q225 : (Jvm.Cond.instanceMethod ({ cls := "RunFinderModel", name := "end", desc := "(I)I" } : Jvm.MethodName)) ∈ lw_all := lw_g (lw_at lw_m1 207 rfl) rfl
theorem q226 : (Jvm.Cond.selects "RunFinderModel" ({ cls := "RunFinderModel", name := "end", desc := "(I)I" } : Jvm.MethodName) ({ cls := "RunFinderModel", name := "end", desc := "(I)I" } : Jvm.MethodName)) ∈ lw_all := lw_g (lw_at lw_m1 208 rfl) rfl
theorem q227 : (Jvm.Cond.code ({ cls := "RunFinderModel", name := "end", desc := "(I)I" } : Jvm.MethodName) prog_3_method_13_code (3 : Nat) (Option.some Jvm.ClassFile.FieldType.int)) ∈ lw_all := lw_g (lw_at lw_m1 209 rfl) rfl
theorem q229 : (Jvm.Cond.instanceMethod ({ cls := "RunFinderModel", name := "period", desc := "(I)I" } : Jvm.MethodName)) ∈ lw_all := lw_g (lw_at lw_m1 211 rfl) rfl
theorem q230 : (Jvm.Cond.selects "RunFinderModel" ({ cls := "RunFinderModel", name := "period", desc := "(I)I" } : Jvm.MethodName) ({ cls := "RunFinderModel", name := "period", desc := "(I)I" } : Jvm.MethodName)) ∈ lw_all := lw_g (lw_at lw_m1 212 rfl) rfl
theorem q231 : (Jvm.Cond.code ({ cls := "RunFinderModel", name := "period", desc := "(I)I" } : Jvm.MethodName) prog_3_method_14_code (3 : Nat) (Option.some Jvm.ClassFile.FieldType.int)) ∈ lw_all := lw_g (lw_at lw_m1 213 rfl) rfl
theorem q233 : (Jvm.Cond.instanceMethod ({ cls := "RunFinderModel", name := "squares", desc := "()I" } : Jvm.MethodName)) ∈ lw_all := lw_g (lw_at lw_m1 215 rfl) rfl
theorem q234 : (Jvm.Cond.selects "RunFinderModel" ({ cls := "RunFinderModel", name := "squares", desc := "()I" } : Jvm.MethodName) ({ cls := "RunFinderModel", name := "squares", desc := "()I" } : Jvm.MethodName)) ∈ lw_all := lw_g (lw_at lw_m1 216 rfl) rfl
theorem q235 : (Jvm.Cond.code ({ cls := "RunFinderModel", name := "squares", desc := "()I" } : Jvm.MethodName) prog_3_method_15_code (4 : Nat) (Option.some Jvm.ClassFile.FieldType.int)) ∈ lw_all := lw_g (lw_at lw_m1 217 rfl) rfl
theorem q237 : (Jvm.Cond.instanceMethod ({ cls := "RunFinderModel", name := "wholePeriod", desc := "()I" } : Jvm.MethodName)) ∈ lw_all := lw_g (lw_at lw_m1 219 rfl) rfl
theorem q238 : (Jvm.Cond.selects "RunFinderModel" ({ cls := "RunFinderModel", name := "wholePeriod", desc := "()I" } : Jvm.MethodName) ({ cls := "RunFinderModel", name := "wholePeriod", desc := "()I" } : Jvm.MethodName)) ∈ lw_all := lw_g (lw_at lw_m1 220 rfl) rfl
theorem q239 : (Jvm.Cond.code ({ cls := "RunFinderModel", name := "wholePeriod", desc := "()I" } : Jvm.MethodName) prog_3_method_16_code (1 : Nat) (Option.some Jvm.ClassFile.FieldType.int)) ∈ lw_all := lw_g (lw_at lw_m1 221 rfl) rfl
theorem q241 : (Jvm.Cond.instanceMethod ({ cls := "RunFinderModel", name := "smallestEnd", desc := "()I" } : Jvm.MethodName)) ∈ lw_all := lw_g (lw_at lw_m1 223 rfl) rfl
theorem q242 : (Jvm.Cond.selects "RunFinderModel" ({ cls := "RunFinderModel", name := "smallestEnd", desc := "()I" } : Jvm.MethodName) ({ cls := "RunFinderModel", name := "smallestEnd", desc := "()I" } : Jvm.MethodName)) ∈ lw_all := lw_g (lw_at lw_m1 224 rfl) rfl
theorem q243 : (Jvm.Cond.code ({ cls := "RunFinderModel", name := "smallestEnd", desc := "()I" } : Jvm.MethodName) prog_3_method_19_code (1 : Nat) (Option.some Jvm.ClassFile.FieldType.int)) ∈ lw_all := lw_g (lw_at lw_m1 225 rfl) rfl
theorem q244 : (Jvm.Cond.methodLink "RunFinderModel" (35 : Nat) ({ cls := "RunFinderModel", name := "smallest", desc := "(I)I" } : Jvm.MethodName)) ∈ lw_all := lw_g (lw_at lw_m1 226 rfl) rfl
theorem q245 : (Jvm.Cond.privateMethod ({ cls := "RunFinderModel", name := "smallest", desc := "(I)I" } : Jvm.MethodName)) ∈ lw_tbl := lw_at lw_m1 227 rfl
theorem q246 : (Jvm.Cond.instanceMethod ({ cls := "RunFinderModel", name := "smallest", desc := "(I)I" } : Jvm.MethodName)) ∈ lw_all := lw_g (lw_at lw_m1 228 rfl) rfl
theorem q247 : (Jvm.Cond.code ({ cls := "RunFinderModel", name := "smallest", desc := "(I)I" } : Jvm.MethodName) prog_3_method_18_code (4 : Nat) (Option.some Jvm.ClassFile.FieldType.int)) ∈ lw_all := lw_g (lw_at lw_m1 229 rfl) rfl
theorem q248 : (Jvm.Cond.methodLink "RunFinderModel" (32 : Nat) ({ cls := "RunFinderModel", name := "smaller", desc := "(III)Z" } : Jvm.MethodName)) ∈ lw_all := lw_g (lw_at lw_m1 230 rfl) rfl
theorem q249 : (Jvm.Cond.privateMethod ({ cls := "RunFinderModel", name := "smaller", desc := "(III)Z" } : Jvm.MethodName)) ∈ lw_tbl := lw_at lw_m1 231 rfl
theorem q250 : (Jvm.Cond.instanceMethod ({ cls := "RunFinderModel", name := "smaller", desc := "(III)Z" } : Jvm.MethodName)) ∈ lw_all := lw_g (lw_at lw_m1 232 rfl) rfl
theorem q251 : (Jvm.Cond.code ({ cls := "RunFinderModel", name := "smaller", desc := "(III)Z" } : Jvm.MethodName) prog_3_method_17_code (5 : Nat) (Option.some Jvm.ClassFile.FieldType.boolean)) ∈ lw_all := lw_g (lw_at lw_m1 233 rfl) rfl
theorem q253 : (Jvm.Cond.instanceMethod ({ cls := "RunFinderModel", name := "factors", desc := "()I" } : Jvm.MethodName)) ∈ lw_all := lw_g (lw_at lw_m1 235 rfl) rfl
theorem q254 : (Jvm.Cond.selects "RunFinderModel" ({ cls := "RunFinderModel", name := "factors", desc := "()I" } : Jvm.MethodName) ({ cls := "RunFinderModel", name := "factors", desc := "()I" } : Jvm.MethodName)) ∈ lw_all := lw_g (lw_at lw_m1 236 rfl) rfl
theorem q255 : (Jvm.Cond.code ({ cls := "RunFinderModel", name := "factors", desc := "()I" } : Jvm.MethodName) prog_3_method_20_code (4 : Nat) (Option.some Jvm.ClassFile.FieldType.int)) ∈ lw_all := lw_g (lw_at lw_m1 237 rfl) rfl
theorem q257 : (Jvm.Cond.instanceMethod ({ cls := "RunFinderModel", name := "smallestTurn", desc := "()I" } : Jvm.MethodName)) ∈ lw_all := lw_g (lw_at lw_m1 239 rfl) rfl
theorem q258 : (Jvm.Cond.selects "RunFinderModel" ({ cls := "RunFinderModel", name := "smallestTurn", desc := "()I" } : Jvm.MethodName) ({ cls := "RunFinderModel", name := "smallestTurn", desc := "()I" } : Jvm.MethodName)) ∈ lw_all := lw_g (lw_at lw_m2 0 rfl) rfl
theorem q259 : (Jvm.Cond.code ({ cls := "RunFinderModel", name := "smallestTurn", desc := "()I" } : Jvm.MethodName) prog_3_method_22_code (3 : Nat) (Option.some Jvm.ClassFile.FieldType.int)) ∈ lw_all := lw_g (lw_at lw_m2 1 rfl) rfl
theorem q260 : (Jvm.Cond.methodLink "RunFinderModel" (38 : Nat) ({ cls := "RunFinderModel", name := "turnSmaller", desc := "(II)Z" } : Jvm.MethodName)) ∈ lw_all := lw_g (lw_at lw_m2 2 rfl) rfl
theorem q261 : (Jvm.Cond.privateMethod ({ cls := "RunFinderModel", name := "turnSmaller", desc := "(II)Z" } : Jvm.MethodName)) ∈ lw_tbl := lw_at lw_m2 3 rfl
theorem q262 : (Jvm.Cond.instanceMethod ({ cls := "RunFinderModel", name := "turnSmaller", desc := "(II)Z" } : Jvm.MethodName)) ∈ lw_all := lw_g (lw_at lw_m2 4 rfl) rfl
theorem q263 : (Jvm.Cond.code ({ cls := "RunFinderModel", name := "turnSmaller", desc := "(II)Z" } : Jvm.MethodName) prog_3_method_21_code (6 : Nat) (Option.some Jvm.ClassFile.FieldType.boolean)) ∈ lw_all := lw_g (lw_at lw_m2 5 rfl) rfl
theorem in_X1 : ∀ w ∈ wsX10, w ∈ lw_all := lw_in wsX10 [175, 177] (by decide +kernel) (by decide +kernel)
end
section
set_option maxRecDepth 100000
/-! java/lang/Object -/
set_option maxRecDepth 100000
def RJ0 : String := "java/lang/Object"
abbrev cJ0_init : ByteArray := object_method_1_code
def yJ0_init : MethodName := ⟨RJ0, "<init>", "()V"⟩
theorem dJ0_init_0 : decode cJ0_init 0 = .ok (.return_, 1) := by decide +kernel
theorem q27 : (Jvm.Cond.instanceMethod ({ cls := "java/lang/Object", name := "<init>", desc := "()V" } : Jvm.MethodName)) ∈ lw_all := lw_g (lw_at lw_m1 9 rfl) rfl
theorem q28 : (Jvm.Cond.code ({ cls := "java/lang/Object", name := "<init>", desc := "()V" } : Jvm.MethodName) object_method_1_code (1 : Nat) (Option.none : Option Jvm.ClassFile.FieldType)) ∈ lw_all := lw_g (lw_at lw_m1 10 rfl) rfl
theorem q63 : (Jvm.Cond.arrayClass Jvm.ClassFile.FieldType.int) ∈ lw_all := lw_g (lw_at lw_m1 45 rfl) rfl
set_option maxRecDepth 100000
theorem q18 : (Jvm.Cond.initialized "RunFinderLaw") ∈ lw_all := lw_g (lw_at lw_m1 0 rfl) rfl
set_option maxRecDepth 100000
theorem q21 : (Jvm.Cond.classLink "RunFinderLaw" (7 : Nat) "RunFinder") ∈ lw_all := lw_g (lw_at lw_m1 3 rfl) rfl
theorem q23 : (Jvm.Cond.methodLink "RunFinderLaw" (9 : Nat) ({ cls := "RunFinder", name := "<init>", desc := "()V" } : Jvm.MethodName)) ∈ lw_all := lw_g (lw_at lw_m1 5 rfl) rfl
theorem q64 : (Jvm.Cond.methodLink "RunFinderLaw" (13 : Nat) ({ cls := "RunFinder", name := "append", desc := "(I)I" } : Jvm.MethodName)) ∈ lw_all := lw_g (lw_at lw_m1 46 rfl) rfl
theorem q75 : (Jvm.Cond.methodLink "RunFinderLaw" (18 : Nat) ({ cls := "RunFinder", name := "set", desc := "(II)I" } : Jvm.MethodName)) ∈ lw_all := lw_g (lw_at lw_m1 57 rfl) rfl
theorem q83 : (Jvm.Cond.methodLink "RunFinderLaw" (23 : Nat) ({ cls := "RunFinder", name := "repeat", desc := "(I)I" } : Jvm.MethodName)) ∈ lw_all := lw_g (lw_at lw_m1 65 rfl) rfl
theorem q87 : (Jvm.Cond.methodLink "RunFinderLaw" (27 : Nat) ({ cls := "RunFinder", name := "drop", desc := "()I" } : Jvm.MethodName)) ∈ lw_all := lw_g (lw_at lw_m1 69 rfl) rfl
theorem q91 : (Jvm.Cond.methodLink "RunFinderLaw" (32 : Nat) ({ cls := "RunFinder", name := "clear", desc := "()V" } : Jvm.MethodName)) ∈ lw_all := lw_g (lw_at lw_m1 73 rfl) rfl
theorem q95 : (Jvm.Cond.methodLink "RunFinderLaw" (36 : Nat) ({ cls := "RunFinder", name := "runs", desc := "()I" } : Jvm.MethodName)) ∈ lw_all := lw_g (lw_at lw_m1 77 rfl) rfl
theorem q127 : (Jvm.Cond.methodLink "RunFinderLaw" (40 : Nat) ({ cls := "RunFinder", name := "begin", desc := "(I)I" } : Jvm.MethodName)) ∈ lw_all := lw_g (lw_at lw_m1 109 rfl) rfl
theorem q135 : (Jvm.Cond.methodLink "RunFinderLaw" (44 : Nat) ({ cls := "RunFinder", name := "end", desc := "(I)I" } : Jvm.MethodName)) ∈ lw_all := lw_g (lw_at lw_m1 117 rfl) rfl
theorem q139 : (Jvm.Cond.methodLink "RunFinderLaw" (48 : Nat) ({ cls := "RunFinder", name := "period", desc := "(I)I" } : Jvm.MethodName)) ∈ lw_all := lw_g (lw_at lw_m1 121 rfl) rfl
theorem q143 : (Jvm.Cond.methodLink "RunFinderLaw" (52 : Nat) ({ cls := "RunFinder", name := "squares", desc := "()I" } : Jvm.MethodName)) ∈ lw_all := lw_g (lw_at lw_m1 125 rfl) rfl
theorem q147 : (Jvm.Cond.methodLink "RunFinderLaw" (56 : Nat) ({ cls := "RunFinder", name := "wholePeriod", desc := "()I" } : Jvm.MethodName)) ∈ lw_all := lw_g (lw_at lw_m1 129 rfl) rfl
theorem q151 : (Jvm.Cond.methodLink "RunFinderLaw" (60 : Nat) ({ cls := "RunFinder", name := "smallestEnd", desc := "()I" } : Jvm.MethodName)) ∈ lw_all := lw_g (lw_at lw_m1 133 rfl) rfl
theorem q155 : (Jvm.Cond.methodLink "RunFinderLaw" (64 : Nat) ({ cls := "RunFinder", name := "factors", desc := "()I" } : Jvm.MethodName)) ∈ lw_all := lw_g (lw_at lw_m1 137 rfl) rfl
theorem q159 : (Jvm.Cond.methodLink "RunFinderLaw" (68 : Nat) ({ cls := "RunFinder", name := "smallestTurn", desc := "()I" } : Jvm.MethodName)) ∈ lw_all := lw_g (lw_at lw_m1 141 rfl) rfl
theorem q167 : (Jvm.Cond.classLink "RunFinderLaw" (10 : Nat) "RunFinderModel") ∈ lw_all := lw_g (lw_at lw_m1 149 rfl) rfl
theorem q169 : (Jvm.Cond.methodLink "RunFinderLaw" (12 : Nat) ({ cls := "RunFinderModel", name := "<init>", desc := "()V" } : Jvm.MethodName)) ∈ lw_all := lw_g (lw_at lw_m1 151 rfl) rfl
theorem q180 : (Jvm.Cond.methodLink "RunFinderLaw" (17 : Nat) ({ cls := "RunFinderModel", name := "append", desc := "(I)I" } : Jvm.MethodName)) ∈ lw_all := lw_g (lw_at lw_m1 162 rfl) rfl
theorem q184 : (Jvm.Cond.methodLink "RunFinderLaw" (22 : Nat) ({ cls := "RunFinderModel", name := "set", desc := "(II)I" } : Jvm.MethodName)) ∈ lw_all := lw_g (lw_at lw_m1 166 rfl) rfl
theorem q188 : (Jvm.Cond.methodLink "RunFinderLaw" (26 : Nat) ({ cls := "RunFinderModel", name := "repeat", desc := "(I)I" } : Jvm.MethodName)) ∈ lw_all := lw_g (lw_at lw_m1 170 rfl) rfl
theorem q192 : (Jvm.Cond.methodLink "RunFinderLaw" (31 : Nat) ({ cls := "RunFinderModel", name := "drop", desc := "()I" } : Jvm.MethodName)) ∈ lw_all := lw_g (lw_at lw_m1 174 rfl) rfl
theorem q196 : (Jvm.Cond.methodLink "RunFinderLaw" (35 : Nat) ({ cls := "RunFinderModel", name := "clear", desc := "()V" } : Jvm.MethodName)) ∈ lw_all := lw_g (lw_at lw_m1 178 rfl) rfl
theorem q200 : (Jvm.Cond.methodLink "RunFinderLaw" (39 : Nat) ({ cls := "RunFinderModel", name := "runs", desc := "()I" } : Jvm.MethodName)) ∈ lw_all := lw_g (lw_at lw_m1 182 rfl) rfl
theorem q216 : (Jvm.Cond.methodLink "RunFinderLaw" (43 : Nat) ({ cls := "RunFinderModel", name := "begin", desc := "(I)I" } : Jvm.MethodName)) ∈ lw_all := lw_g (lw_at lw_m1 198 rfl) rfl
theorem q224 : (Jvm.Cond.methodLink "RunFinderLaw" (47 : Nat) ({ cls := "RunFinderModel", name := "end", desc := "(I)I" } : Jvm.MethodName)) ∈ lw_all := lw_g (lw_at lw_m1 206 rfl) rfl
theorem q228 : (Jvm.Cond.methodLink "RunFinderLaw" (51 : Nat) ({ cls := "RunFinderModel", name := "period", desc := "(I)I" } : Jvm.MethodName)) ∈ lw_all := lw_g (lw_at lw_m1 210 rfl) rfl
theorem q232 : (Jvm.Cond.methodLink "RunFinderLaw" (55 : Nat) ({ cls := "RunFinderModel", name := "squares", desc := "()I" } : Jvm.MethodName)) ∈ lw_all := lw_g (lw_at lw_m1 214 rfl) rfl
theorem q236 : (Jvm.Cond.methodLink "RunFinderLaw" (59 : Nat) ({ cls := "RunFinderModel", name := "wholePeriod", desc := "()I" } : Jvm.MethodName)) ∈ lw_all := lw_g (lw_at lw_m1 218 rfl) rfl
theorem q240 : (Jvm.Cond.methodLink "RunFinderLaw" (63 : Nat) ({ cls := "RunFinderModel", name := "smallestEnd", desc := "()I" } : Jvm.MethodName)) ∈ lw_all := lw_g (lw_at lw_m1 222 rfl) rfl
theorem q252 : (Jvm.Cond.methodLink "RunFinderLaw" (67 : Nat) ({ cls := "RunFinderModel", name := "factors", desc := "()I" } : Jvm.MethodName)) ∈ lw_all := lw_g (lw_at lw_m1 234 rfl) rfl
theorem q256 : (Jvm.Cond.methodLink "RunFinderLaw" (71 : Nat) ({ cls := "RunFinderModel", name := "smallestTurn", desc := "()I" } : Jvm.MethodName)) ∈ lw_all := lw_g (lw_at lw_m1 238 rfl) rfl
/-! the law's own entry -/
set_option maxRecDepth 100000
abbrev cL_law : ByteArray := code
theorem dL_law_0 : decode cL_law 0 = .ok (.new 7, 3) := by decide +kernel
theorem dL_law_3 : decode cL_law 3 = .ok (.dup, 1) := by decide +kernel
theorem dL_law_4 : decode cL_law 4 = .ok (.invokespecial 9, 3) := by decide +kernel
theorem dL_law_7 : decode cL_law 7 = .ok (.astore_n 1, 1) := by decide +kernel
theorem dL_law_8 : decode cL_law 8 = .ok (.new 10, 3) := by decide +kernel
theorem dL_law_11 : decode cL_law 11 = .ok (.dup, 1) := by decide +kernel
theorem dL_law_12 : decode cL_law 12 = .ok (.invokespecial 12, 3) := by decide +kernel
theorem dL_law_15 : decode cL_law 15 = .ok (.astore_n 2, 1) := by decide +kernel
theorem dL_law_16 : decode cL_law 16 = .ok (.iconst 0, 1) := by decide +kernel
theorem dL_law_17 : decode cL_law 17 = .ok (.istore_n 3, 1) := by decide +kernel
theorem dL_law_18 : decode cL_law 18 = .ok (.iload_n 3, 1) := by decide +kernel
theorem dL_law_19 : decode cL_law 19 = .ok (.aload_n 0, 1) := by decide +kernel
theorem dL_law_20 : decode cL_law 20 = .ok (.arraylength, 1) := by decide +kernel
theorem dL_law_21 : decode cL_law 21 = .ok (.iconst 3, 1) := by decide +kernel
theorem dL_law_22 : decode cL_law 22 = .ok (.isub, 1) := by decide +kernel
theorem dL_law_23 : decode cL_law 23 = .ok (.if_icmp .gt 337, 3) := by decide +kernel
theorem dL_law_26 : decode cL_law 26 = .ok (.aload_n 0, 1) := by decide +kernel
theorem dL_law_27 : decode cL_law 27 = .ok (.iload_n 3, 1) := by decide +kernel
theorem dL_law_28 : decode cL_law 28 = .ok (.iaload, 1) := by decide +kernel
theorem dL_law_29 : decode cL_law 29 = .ok (.bipush 15, 2) := by decide +kernel
theorem dL_law_31 : decode cL_law 31 = .ok (.iand, 1) := by decide +kernel
theorem dL_law_32 : decode cL_law 32 = .ok (.tableswitch 322 0 13 #[72, 95, 128, 151, 164, 175, 188, 211, 234, 257, 270, 283, 296, 309], 72) := by decide +kernel
theorem dL_law_104 : decode cL_law 104 = .ok (.aload_n 1, 1) := by decide +kernel
theorem dL_law_105 : decode cL_law 105 = .ok (.aload_n 0, 1) := by decide +kernel
theorem dL_law_106 : decode cL_law 106 = .ok (.iload_n 3, 1) := by decide +kernel
theorem dL_law_107 : decode cL_law 107 = .ok (.iconst 1, 1) := by decide +kernel
theorem dL_law_108 : decode cL_law 108 = .ok (.iadd, 1) := by decide +kernel
theorem dL_law_109 : decode cL_law 109 = .ok (.iaload, 1) := by decide +kernel
theorem dL_law_110 : decode cL_law 110 = .ok (.invokevirtual 13, 3) := by decide +kernel
theorem dL_law_113 : decode cL_law 113 = .ok (.aload_n 2, 1) := by decide +kernel
theorem dL_law_114 : decode cL_law 114 = .ok (.aload_n 0, 1) := by decide +kernel
theorem dL_law_115 : decode cL_law 115 = .ok (.iload_n 3, 1) := by decide +kernel
theorem dL_law_116 : decode cL_law 116 = .ok (.iconst 1, 1) := by decide +kernel
theorem dL_law_117 : decode cL_law 117 = .ok (.iadd, 1) := by decide +kernel
theorem dL_law_118 : decode cL_law 118 = .ok (.iaload, 1) := by decide +kernel
theorem dL_law_119 : decode cL_law 119 = .ok (.invokevirtual 17, 3) := by decide +kernel
theorem dL_law_122 : decode cL_law 122 = .ok (.if_icmp .eq 232, 3) := by decide +kernel
theorem dL_law_125 : decode cL_law 125 = .ok (.iconst 0, 1) := by decide +kernel
theorem dL_law_126 : decode cL_law 126 = .ok (.ireturn, 1) := by decide +kernel
theorem dL_law_127 : decode cL_law 127 = .ok (.aload_n 1, 1) := by decide +kernel
theorem dL_law_128 : decode cL_law 128 = .ok (.aload_n 0, 1) := by decide +kernel
theorem dL_law_129 : decode cL_law 129 = .ok (.iload_n 3, 1) := by decide +kernel
theorem dL_law_130 : decode cL_law 130 = .ok (.iconst 1, 1) := by decide +kernel
theorem dL_law_131 : decode cL_law 131 = .ok (.iadd, 1) := by decide +kernel
theorem dL_law_132 : decode cL_law 132 = .ok (.iaload, 1) := by decide +kernel
theorem dL_law_133 : decode cL_law 133 = .ok (.aload_n 0, 1) := by decide +kernel
theorem dL_law_134 : decode cL_law 134 = .ok (.iload_n 3, 1) := by decide +kernel
theorem dL_law_135 : decode cL_law 135 = .ok (.iconst 2, 1) := by decide +kernel
theorem dL_law_136 : decode cL_law 136 = .ok (.iadd, 1) := by decide +kernel
theorem dL_law_137 : decode cL_law 137 = .ok (.iaload, 1) := by decide +kernel
theorem dL_law_138 : decode cL_law 138 = .ok (.invokevirtual 18, 3) := by decide +kernel
theorem dL_law_141 : decode cL_law 141 = .ok (.aload_n 2, 1) := by decide +kernel
theorem dL_law_142 : decode cL_law 142 = .ok (.aload_n 0, 1) := by decide +kernel
theorem dL_law_143 : decode cL_law 143 = .ok (.iload_n 3, 1) := by decide +kernel
theorem dL_law_144 : decode cL_law 144 = .ok (.iconst 1, 1) := by decide +kernel
theorem dL_law_145 : decode cL_law 145 = .ok (.iadd, 1) := by decide +kernel
theorem dL_law_146 : decode cL_law 146 = .ok (.iaload, 1) := by decide +kernel
theorem dL_law_147 : decode cL_law 147 = .ok (.aload_n 0, 1) := by decide +kernel
theorem dL_law_148 : decode cL_law 148 = .ok (.iload_n 3, 1) := by decide +kernel
theorem dL_law_149 : decode cL_law 149 = .ok (.iconst 2, 1) := by decide +kernel
theorem dL_law_150 : decode cL_law 150 = .ok (.iadd, 1) := by decide +kernel
theorem dL_law_151 : decode cL_law 151 = .ok (.iaload, 1) := by decide +kernel
theorem dL_law_152 : decode cL_law 152 = .ok (.invokevirtual 22, 3) := by decide +kernel
theorem dL_law_155 : decode cL_law 155 = .ok (.if_icmp .eq 199, 3) := by decide +kernel
theorem dL_law_158 : decode cL_law 158 = .ok (.iconst 0, 1) := by decide +kernel
theorem dL_law_159 : decode cL_law 159 = .ok (.ireturn, 1) := by decide +kernel
theorem dL_law_160 : decode cL_law 160 = .ok (.aload_n 1, 1) := by decide +kernel
theorem dL_law_161 : decode cL_law 161 = .ok (.aload_n 0, 1) := by decide +kernel
theorem dL_law_162 : decode cL_law 162 = .ok (.iload_n 3, 1) := by decide +kernel
theorem dL_law_163 : decode cL_law 163 = .ok (.iconst 1, 1) := by decide +kernel
theorem dL_law_164 : decode cL_law 164 = .ok (.iadd, 1) := by decide +kernel
theorem dL_law_165 : decode cL_law 165 = .ok (.iaload, 1) := by decide +kernel
theorem dL_law_166 : decode cL_law 166 = .ok (.invokevirtual 23, 3) := by decide +kernel
theorem dL_law_169 : decode cL_law 169 = .ok (.aload_n 2, 1) := by decide +kernel
theorem dL_law_170 : decode cL_law 170 = .ok (.aload_n 0, 1) := by decide +kernel
theorem dL_law_171 : decode cL_law 171 = .ok (.iload_n 3, 1) := by decide +kernel
theorem dL_law_172 : decode cL_law 172 = .ok (.iconst 1, 1) := by decide +kernel
theorem dL_law_173 : decode cL_law 173 = .ok (.iadd, 1) := by decide +kernel
theorem dL_law_174 : decode cL_law 174 = .ok (.iaload, 1) := by decide +kernel
theorem dL_law_175 : decode cL_law 175 = .ok (.invokevirtual 26, 3) := by decide +kernel
theorem dL_law_178 : decode cL_law 178 = .ok (.if_icmp .eq 176, 3) := by decide +kernel
theorem dL_law_181 : decode cL_law 181 = .ok (.iconst 0, 1) := by decide +kernel
theorem dL_law_182 : decode cL_law 182 = .ok (.ireturn, 1) := by decide +kernel
theorem dL_law_183 : decode cL_law 183 = .ok (.aload_n 1, 1) := by decide +kernel
theorem dL_law_184 : decode cL_law 184 = .ok (.invokevirtual 27, 3) := by decide +kernel
theorem dL_law_187 : decode cL_law 187 = .ok (.aload_n 2, 1) := by decide +kernel
theorem dL_law_188 : decode cL_law 188 = .ok (.invokevirtual 31, 3) := by decide +kernel
theorem dL_law_191 : decode cL_law 191 = .ok (.if_icmp .eq 163, 3) := by decide +kernel
theorem dL_law_194 : decode cL_law 194 = .ok (.iconst 0, 1) := by decide +kernel
theorem dL_law_195 : decode cL_law 195 = .ok (.ireturn, 1) := by decide +kernel
theorem dL_law_196 : decode cL_law 196 = .ok (.aload_n 1, 1) := by decide +kernel
theorem dL_law_197 : decode cL_law 197 = .ok (.invokevirtual 32, 3) := by decide +kernel
theorem dL_law_200 : decode cL_law 200 = .ok (.aload_n 2, 1) := by decide +kernel
theorem dL_law_201 : decode cL_law 201 = .ok (.invokevirtual 35, 3) := by decide +kernel
theorem dL_law_204 : decode cL_law 204 = .ok (.goto 150, 3) := by decide +kernel
theorem dL_law_207 : decode cL_law 207 = .ok (.aload_n 1, 1) := by decide +kernel
theorem dL_law_208 : decode cL_law 208 = .ok (.invokevirtual 36, 3) := by decide +kernel
theorem dL_law_211 : decode cL_law 211 = .ok (.aload_n 2, 1) := by decide +kernel
theorem dL_law_212 : decode cL_law 212 = .ok (.invokevirtual 39, 3) := by decide +kernel
theorem dL_law_215 : decode cL_law 215 = .ok (.if_icmp .eq 139, 3) := by decide +kernel
theorem dL_law_218 : decode cL_law 218 = .ok (.iconst 0, 1) := by decide +kernel
theorem dL_law_219 : decode cL_law 219 = .ok (.ireturn, 1) := by decide +kernel
theorem dL_law_220 : decode cL_law 220 = .ok (.aload_n 1, 1) := by decide +kernel
theorem dL_law_221 : decode cL_law 221 = .ok (.aload_n 0, 1) := by decide +kernel
theorem dL_law_222 : decode cL_law 222 = .ok (.iload_n 3, 1) := by decide +kernel
theorem dL_law_223 : decode cL_law 223 = .ok (.iconst 1, 1) := by decide +kernel
theorem dL_law_224 : decode cL_law 224 = .ok (.iadd, 1) := by decide +kernel
theorem dL_law_225 : decode cL_law 225 = .ok (.iaload, 1) := by decide +kernel
theorem dL_law_226 : decode cL_law 226 = .ok (.invokevirtual 40, 3) := by decide +kernel
theorem dL_law_229 : decode cL_law 229 = .ok (.aload_n 2, 1) := by decide +kernel
theorem dL_law_230 : decode cL_law 230 = .ok (.aload_n 0, 1) := by decide +kernel
theorem dL_law_231 : decode cL_law 231 = .ok (.iload_n 3, 1) := by decide +kernel
theorem dL_law_232 : decode cL_law 232 = .ok (.iconst 1, 1) := by decide +kernel
theorem dL_law_233 : decode cL_law 233 = .ok (.iadd, 1) := by decide +kernel
theorem dL_law_234 : decode cL_law 234 = .ok (.iaload, 1) := by decide +kernel
theorem dL_law_235 : decode cL_law 235 = .ok (.invokevirtual 43, 3) := by decide +kernel
theorem dL_law_238 : decode cL_law 238 = .ok (.if_icmp .eq 116, 3) := by decide +kernel
theorem dL_law_241 : decode cL_law 241 = .ok (.iconst 0, 1) := by decide +kernel
theorem dL_law_242 : decode cL_law 242 = .ok (.ireturn, 1) := by decide +kernel
theorem dL_law_243 : decode cL_law 243 = .ok (.aload_n 1, 1) := by decide +kernel
theorem dL_law_244 : decode cL_law 244 = .ok (.aload_n 0, 1) := by decide +kernel
theorem dL_law_245 : decode cL_law 245 = .ok (.iload_n 3, 1) := by decide +kernel
theorem dL_law_246 : decode cL_law 246 = .ok (.iconst 1, 1) := by decide +kernel
theorem dL_law_247 : decode cL_law 247 = .ok (.iadd, 1) := by decide +kernel
theorem dL_law_248 : decode cL_law 248 = .ok (.iaload, 1) := by decide +kernel
theorem dL_law_249 : decode cL_law 249 = .ok (.invokevirtual 44, 3) := by decide +kernel
theorem dL_law_252 : decode cL_law 252 = .ok (.aload_n 2, 1) := by decide +kernel
theorem dL_law_253 : decode cL_law 253 = .ok (.aload_n 0, 1) := by decide +kernel
theorem dL_law_254 : decode cL_law 254 = .ok (.iload_n 3, 1) := by decide +kernel
theorem dL_law_255 : decode cL_law 255 = .ok (.iconst 1, 1) := by decide +kernel
theorem dL_law_256 : decode cL_law 256 = .ok (.iadd, 1) := by decide +kernel
theorem dL_law_257 : decode cL_law 257 = .ok (.iaload, 1) := by decide +kernel
theorem dL_law_258 : decode cL_law 258 = .ok (.invokevirtual 47, 3) := by decide +kernel
theorem dL_law_261 : decode cL_law 261 = .ok (.if_icmp .eq 93, 3) := by decide +kernel
theorem dL_law_264 : decode cL_law 264 = .ok (.iconst 0, 1) := by decide +kernel
theorem dL_law_265 : decode cL_law 265 = .ok (.ireturn, 1) := by decide +kernel
theorem dL_law_266 : decode cL_law 266 = .ok (.aload_n 1, 1) := by decide +kernel
theorem dL_law_267 : decode cL_law 267 = .ok (.aload_n 0, 1) := by decide +kernel
theorem dL_law_268 : decode cL_law 268 = .ok (.iload_n 3, 1) := by decide +kernel
theorem dL_law_269 : decode cL_law 269 = .ok (.iconst 1, 1) := by decide +kernel
theorem dL_law_270 : decode cL_law 270 = .ok (.iadd, 1) := by decide +kernel
theorem dL_law_271 : decode cL_law 271 = .ok (.iaload, 1) := by decide +kernel
theorem dL_law_272 : decode cL_law 272 = .ok (.invokevirtual 48, 3) := by decide +kernel
theorem dL_law_275 : decode cL_law 275 = .ok (.aload_n 2, 1) := by decide +kernel
theorem dL_law_276 : decode cL_law 276 = .ok (.aload_n 0, 1) := by decide +kernel
theorem dL_law_277 : decode cL_law 277 = .ok (.iload_n 3, 1) := by decide +kernel
theorem dL_law_278 : decode cL_law 278 = .ok (.iconst 1, 1) := by decide +kernel
theorem dL_law_279 : decode cL_law 279 = .ok (.iadd, 1) := by decide +kernel
theorem dL_law_280 : decode cL_law 280 = .ok (.iaload, 1) := by decide +kernel
theorem dL_law_281 : decode cL_law 281 = .ok (.invokevirtual 51, 3) := by decide +kernel
theorem dL_law_284 : decode cL_law 284 = .ok (.if_icmp .eq 70, 3) := by decide +kernel
theorem dL_law_287 : decode cL_law 287 = .ok (.iconst 0, 1) := by decide +kernel
theorem dL_law_288 : decode cL_law 288 = .ok (.ireturn, 1) := by decide +kernel
theorem dL_law_289 : decode cL_law 289 = .ok (.aload_n 1, 1) := by decide +kernel
theorem dL_law_290 : decode cL_law 290 = .ok (.invokevirtual 52, 3) := by decide +kernel
theorem dL_law_293 : decode cL_law 293 = .ok (.aload_n 2, 1) := by decide +kernel
theorem dL_law_294 : decode cL_law 294 = .ok (.invokevirtual 55, 3) := by decide +kernel
theorem dL_law_297 : decode cL_law 297 = .ok (.if_icmp .eq 57, 3) := by decide +kernel
theorem dL_law_300 : decode cL_law 300 = .ok (.iconst 0, 1) := by decide +kernel
theorem dL_law_301 : decode cL_law 301 = .ok (.ireturn, 1) := by decide +kernel
theorem dL_law_302 : decode cL_law 302 = .ok (.aload_n 1, 1) := by decide +kernel
theorem dL_law_303 : decode cL_law 303 = .ok (.invokevirtual 56, 3) := by decide +kernel
theorem dL_law_306 : decode cL_law 306 = .ok (.aload_n 2, 1) := by decide +kernel
theorem dL_law_307 : decode cL_law 307 = .ok (.invokevirtual 59, 3) := by decide +kernel
theorem dL_law_310 : decode cL_law 310 = .ok (.if_icmp .eq 44, 3) := by decide +kernel
theorem dL_law_313 : decode cL_law 313 = .ok (.iconst 0, 1) := by decide +kernel
theorem dL_law_314 : decode cL_law 314 = .ok (.ireturn, 1) := by decide +kernel
theorem dL_law_315 : decode cL_law 315 = .ok (.aload_n 1, 1) := by decide +kernel
theorem dL_law_316 : decode cL_law 316 = .ok (.invokevirtual 60, 3) := by decide +kernel
theorem dL_law_319 : decode cL_law 319 = .ok (.aload_n 2, 1) := by decide +kernel
theorem dL_law_320 : decode cL_law 320 = .ok (.invokevirtual 63, 3) := by decide +kernel
theorem dL_law_323 : decode cL_law 323 = .ok (.if_icmp .eq 31, 3) := by decide +kernel
theorem dL_law_326 : decode cL_law 326 = .ok (.iconst 0, 1) := by decide +kernel
theorem dL_law_327 : decode cL_law 327 = .ok (.ireturn, 1) := by decide +kernel
theorem dL_law_328 : decode cL_law 328 = .ok (.aload_n 1, 1) := by decide +kernel
theorem dL_law_329 : decode cL_law 329 = .ok (.invokevirtual 64, 3) := by decide +kernel
theorem dL_law_332 : decode cL_law 332 = .ok (.aload_n 2, 1) := by decide +kernel
theorem dL_law_333 : decode cL_law 333 = .ok (.invokevirtual 67, 3) := by decide +kernel
theorem dL_law_336 : decode cL_law 336 = .ok (.if_icmp .eq 18, 3) := by decide +kernel
theorem dL_law_339 : decode cL_law 339 = .ok (.iconst 0, 1) := by decide +kernel
theorem dL_law_340 : decode cL_law 340 = .ok (.ireturn, 1) := by decide +kernel
theorem dL_law_341 : decode cL_law 341 = .ok (.aload_n 1, 1) := by decide +kernel
theorem dL_law_342 : decode cL_law 342 = .ok (.invokevirtual 68, 3) := by decide +kernel
theorem dL_law_345 : decode cL_law 345 = .ok (.aload_n 2, 1) := by decide +kernel
theorem dL_law_346 : decode cL_law 346 = .ok (.invokevirtual 71, 3) := by decide +kernel
theorem dL_law_349 : decode cL_law 349 = .ok (.if_icmp .eq 5, 3) := by decide +kernel
theorem dL_law_352 : decode cL_law 352 = .ok (.iconst 0, 1) := by decide +kernel
theorem dL_law_353 : decode cL_law 353 = .ok (.ireturn, 1) := by decide +kernel
theorem dL_law_354 : decode cL_law 354 = .ok (.iinc 3 3, 3) := by decide +kernel
theorem dL_law_357 : decode cL_law 357 = .ok (.goto (-339), 3) := by decide +kernel
theorem dL_law_360 : decode cL_law 360 = .ok (.iconst 1, 1) := by decide +kernel
theorem dL_law_361 : decode cL_law 361 = .ok (.ireturn, 1) := by decide +kernel
end
section
/-! PURE 1: sequences: agreeing stretches, the order of what follows two places, common beginnings and ends, the next smaller place -/
/-- from i and from j the same k letters -/
def ru_ag (s : Nat → Nat) (i j k : Nat) : Prop := ∀ m, m < k → s (i + m) = s (j + m)
/-- what follows i is smaller than what follows j -/
def ru_L (s : Nat → Nat) (i j : Nat) : Prop := ∃ k, ru_ag s i j k ∧ s (i + k) < s (j + k)
theorem ru_ag_mono {s : Nat → Nat} {i j k k' : Nat} (h : ru_ag s i j k) (hk : k' ≤ k) : ru_ag s i j k' := fun m hm => h m (by omega)
theorem ru_ag_symm {s : Nat → Nat} {i j k : Nat} (h : ru_ag s i j k) : ru_ag s j i k := fun m hm => (h m hm).symm
theorem ru_L_irr {s : Nat → Nat} {i : Nat} : ¬ ru_L s i i := by
  rintro ⟨k, -, h⟩
  exact Nat.lt_irrefl _ h
theorem ru_L_trans {s : Nat → Nat} {i j k : Nat} (h1 : ru_L s i j) (h2 : ru_L s j k) : ru_L s i k := by
  obtain ⟨a, ha, la⟩ := h1
  obtain ⟨b, hb, lb⟩ := h2
  rcases Nat.lt_trichotomy a b with h | h | h
  · refine ⟨a, fun m hm => (ha m hm).trans (hb m (by omega)), ?_⟩
    have := hb a h
    omega
  · subst h
    exact ⟨a, fun m hm => (ha m hm).trans (hb m hm), by omega⟩
  · refine ⟨b, fun m hm => (ha m (by omega)).trans (hb m hm), ?_⟩
    have := ha b h
    omega
theorem ru_L_asymm {s : Nat → Nat} {i j : Nat} (h1 : ru_L s i j) (h2 : ru_L s j i) : False := ru_L_irr (ru_L_trans h1 h2)
/-- the first r letters being the same, they may be left out -/
theorem ru_L_shift {s : Nat → Nat} {i j r : Nat} (h : ru_L s i j) (ha : ru_ag s i j r) : ru_L s (i + r) (j + r) := by
  obtain ⟨k, hk, lk⟩ := h
  have hr : r ≤ k := by
    rcases Nat.lt_or_ge k r with q | q
    · have := ha k q
      omega
    · exact q
  refine ⟨k - r, fun m hm => ?_, ?_⟩
  · have := hk (r + m) (by omega)
    rw [← Nat.add_assoc, ← Nat.add_assoc] at this
    exact this
  · have e1 : i + r + (k - r) = i + k := by omega
    have e2 : j + r + (k - r) = j + k := by omega
    rw [e1, e2]
    exact lk
theorem ru_L_tri (s : Nat → Nat) (i j : Nat) : (∀ m, s (i + m) = s (j + m)) ∨ ru_L s i j ∨ ru_L s j i := by
  by_cases h : ∃ m, s (i + m) ≠ s (j + m)
  · obtain ⟨k, hk, hm⟩ := pk_least _ h
    have hag : ru_ag s i j k := fun m q => Classical.not_not.mp (hm m q)
    rcases Nat.lt_or_gt_of_ne hk with q | q
    · exact Or.inr (Or.inl ⟨k, hag, q⟩)
    · exact Or.inr (Or.inr ⟨k, ru_ag_symm hag, q⟩)
  · exact Or.inl fun m => Classical.not_not.mp fun q => h ⟨m, q⟩
/-- s stands for a text of n letters: 0 behind its end, more before it -/
def ru_tx (s : Nat → Nat) (n : Nat) : Prop := ∀ m, 0 < s m ↔ m < n
theorem ru_tx_0 {s : Nat → Nat} {n m : Nat} (h : ru_tx s n) (hm : n ≤ m) : s m = 0 := by
  have := h m
  omega
theorem ru_tx_p {s : Nat → Nat} {n m : Nat} (h : ru_tx s n) (hm : m < n) : 0 < s m := (h m).mpr hm
theorem ru_tx_tri {s : Nat → Nat} {n i j : Nat} (h : ru_tx s n) (hi : i < n) (hij : i < j) : ru_L s i j ∨ ru_L s j i := by
  rcases ru_L_tri s i j with q | q
  · exfalso
    have h1 := q (n - j)
    have h2 := ru_tx_0 h (m := j + (n - j)) (by omega)
    have h3 := ru_tx_p h (m := i + (n - j)) (by omega)
    omega
  · exact q
theorem ru_tx_tri' {s : Nat → Nat} {n i j : Nat} (h : ru_tx s n) (hi : i < n) (hj : j < n) (hij : i ≠ j) : ru_L s i j ∨ ru_L s j i := by
  rcases Nat.lt_or_gt_of_ne hij with q | q
  · exact ru_tx_tri h hi q
  · exact (ru_tx_tri h hj q).symm
theorem ru_L_end {s : Nat → Nat} {n i : Nat} (h : ru_tx s n) (hi : i < n) : ru_L s n i := by
  refine ⟨0, fun m hm => absurd hm (Nat.not_lt_zero m), ?_⟩
  have h1 := ru_tx_0 h (Nat.le_refl n)
  have h2 := ru_tx_p h hi
  simp only [Nat.add_zero]
  omega
/-- the next smaller place -/
def ru_N (s : Nat → Nat) (n i j : Nat) : Prop := i < j ∧ j ≤ n ∧ (∀ y, i < y → y < j → ru_L s i y) ∧ ru_L s j i
theorem ru_N_uniq {s : Nat → Nat} {n i j j' : Nat} (h : ru_N s n i j) (h' : ru_N s n i j') : j = j' := by
  rcases Nat.lt_trichotomy j j' with q | q | q
  · exact (ru_L_asymm (h'.2.2.1 j h.1 q) h.2.2.2).elim
  · exact q
  · exact (ru_L_asymm (h.2.2.1 j' h'.1 q) h'.2.2.2).elim
/-- the word up to the next smaller place is smaller than all its ends, and differs from them before its own end -/
theorem ru_N_word {s : Nat → Nat} {n i j : Nat} (h : ru_N s n i j) : ∀ y, i < y → y < j → ∃ k, y + k < j ∧ ru_ag s i y k ∧ s (i + k) < s (y + k) := by
  intro y h1 h2
  have hL := h.2.2.1 y h1 h2
  obtain ⟨k, hk, lk⟩ := id hL
  rcases Nat.lt_or_ge (y + k) j with q | q
  · exact ⟨k, q, hk, lk⟩
  · exfalso
    have hs := ru_L_shift hL (r := j - y) (ru_ag_mono hk (by omega))
    rw [show y + (j - y) = j by omega] at hs
    exact ru_L_asymm (ru_L_trans (h.2.2.1 (i + (j - y)) (by omega) (by omega)) hs) h.2.2.2
/-- one step of the search for it -/
theorem ru_N_step {s : Nat → Nat} {n i j e : Nat} (h : ∀ y, i < y → y < j → ru_L s i y) (hj : ru_L s i j) (he : ru_N s n j e) : ∀ y, i < y → y < e → ru_L s i y := by
  intro y h1 h2
  rcases Nat.lt_trichotomy y j with q | q | q
  · exact h y h1 q
  · rw [q]; exact hj
  · exact ru_L_trans hj (he.2.2.1 y q h2)
/-! common beginnings -/
def ru_lf (t : Nat → Nat) (n : Nat) : Nat → Nat → Nat → Nat
  | 0, _, _ => 0
  | f + 1, i, j => if i < n ∧ j < n ∧ t i = t j then ru_lf t n f (i + 1) (j + 1) + 1 else 0
def ru_lce (t : Nat → Nat) (n i j : Nat) : Nat := ru_lf t n (n - i) i j
theorem ru_lce_t {t : Nat → Nat} {n i j : Nat} (h1 : i < n) (h2 : j < n) (h3 : t i = t j) : ru_lce t n i j = ru_lce t n (i + 1) (j + 1) + 1 := by
  have e : n - i = (n - (i + 1)) + 1 := by omega
  unfold ru_lce
  rw [e]
  simp only [ru_lf]
  rw [if_pos ⟨h1, h2, h3⟩]
theorem ru_lce_f {t : Nat → Nat} {n i j : Nat} (h : ¬ (i < n ∧ j < n ∧ t i = t j)) : ru_lce t n i j = 0 := by
  unfold ru_lce
  rcases Nat.eq_zero_or_pos (n - i) with e | e
  · rw [e]; rfl
  · have e : n - i = (n - (i + 1)) + 1 := by omega
    rw [e]
    simp only [ru_lf]
    rw [if_neg h]
theorem ru_lce_spec (t : Nat → Nat) (n : Nat) : ∀ (d i j : Nat), n - i ≤ d → (∀ m, m < ru_lce t n i j → t (i + m) = t (j + m) ∧ i + m < n ∧ j + m < n) ∧ (i + ru_lce t n i j < n → j + ru_lce t n i j < n → t (i + ru_lce t n i j) ≠ t (j + ru_lce t n i j)) := by
  intro d
  induction d with
  | zero =>
    intro i j hd
    rw [ru_lce_f (by omega)]
    exact ⟨fun m hm => absurd hm (Nat.not_lt_zero m), fun h => by omega⟩
  | succ d ih =>
    intro i j hd
    by_cases h : i < n ∧ j < n ∧ t i = t j
    · rw [ru_lce_t h.1 h.2.1 h.2.2]
      obtain ⟨a, b⟩ := ih (i + 1) (j + 1) (by omega)
      refine ⟨fun m hm => ?_, fun h1 h2 => ?_⟩
      · cases m with
        | zero => exact ⟨h.2.2, h.1, h.2.1⟩
        | succ m =>
          have := a m (by omega)
          rw [show i + (m + 1) = i + 1 + m by omega, show j + (m + 1) = j + 1 + m by omega]
          exact this
      · rw [show i + (ru_lce t n (i + 1) (j + 1) + 1) = i + 1 + ru_lce t n (i + 1) (j + 1) by omega] at h1 ⊢
        rw [show j + (ru_lce t n (i + 1) (j + 1) + 1) = j + 1 + ru_lce t n (i + 1) (j + 1) by omega] at h2 ⊢
        exact b h1 h2
    · rw [ru_lce_f h]
      refine ⟨fun m hm => absurd hm (Nat.not_lt_zero m), fun h1 h2 => ?_⟩
      simp only [Nat.add_zero] at h1 h2 ⊢
      exact fun q => h ⟨h1, h2, q⟩
theorem ru_lce_in {t : Nat → Nat} {n i j m : Nat} (h : m < ru_lce t n i j) : t (i + m) = t (j + m) ∧ i + m < n ∧ j + m < n := (ru_lce_spec t n (n - i) i j (Nat.le_refl _)).1 m h
theorem ru_lce_out {t : Nat → Nat} {n i j : Nat} (h1 : i + ru_lce t n i j < n) (h2 : j + ru_lce t n i j < n) : t (i + ru_lce t n i j) ≠ t (j + ru_lce t n i j) := (ru_lce_spec t n (n - i) i j (Nat.le_refl _)).2 h1 h2
theorem ru_lce_le {t : Nat → Nat} {n i j : Nat} (hi : i ≤ n) (hj : j ≤ n) : i + ru_lce t n i j ≤ n ∧ j + ru_lce t n i j ≤ n := by
  rcases Nat.eq_zero_or_pos (ru_lce t n i j) with e | e
  · rw [e]; exact ⟨hi, hj⟩
  · have := ru_lce_in (t := t) (n := n) (i := i) (j := j) (m := ru_lce t n i j - 1) (by omega)
    omega
/-- what makes a number the common beginning -/
theorem ru_lce_eq {t : Nat → Nat} {n i j k : Nat} (h1 : ∀ m, m < k → t (i + m) = t (j + m)) (h2 : i + k ≤ n) (h3 : j + k ≤ n) (h4 : i + k < n → j + k < n → t (i + k) ≠ t (j + k)) : ru_lce t n i j = k := by
  rcases Nat.lt_trichotomy (ru_lce t n i j) k with q | q | q
  · exact absurd (h1 _ q) (ru_lce_out (by omega) (by omega))
  · exact q
  · have := ru_lce_in q
    exact absurd this.1 (h4 this.2.1 this.2.2)
/-! common ends -/
def ru_lcb (t : Nat → Nat) : Nat → Nat → Nat
  | 0, j => if t 0 = t j then 1 else 0
  | i + 1, 0 => if t (i + 1) = t 0 then 1 else 0
  | i + 1, j + 1 => if t (i + 1) = t (j + 1) then ru_lcb t i j + 1 else 0
theorem ru_lcb_f {t : Nat → Nat} {i j : Nat} (h : t i ≠ t j) : ru_lcb t i j = 0 := by
  cases i with
  | zero => simp only [ru_lcb]; rw [if_neg h]
  | succ i =>
    cases j with
    | zero => simp only [ru_lcb]; rw [if_neg h]
    | succ j => simp only [ru_lcb]; rw [if_neg h]
theorem ru_lcb_0 {t : Nat → Nat} {i j : Nat} (h : t i = t j) (h0 : i = 0 ∨ j = 0) : ru_lcb t i j = 1 := by
  cases i with
  | zero => simp only [ru_lcb]; rw [if_pos h]
  | succ i =>
    cases j with
    | zero => simp only [ru_lcb]; rw [if_pos h]
    | succ j => omega
theorem ru_lcb_t {t : Nat → Nat} {i j : Nat} (h : t (i + 1) = t (j + 1)) : ru_lcb t (i + 1) (j + 1) = ru_lcb t i j + 1 := by
  simp only [ru_lcb]; rw [if_pos h]
theorem ru_lcb_spec (t : Nat → Nat) : ∀ (i j : Nat), ru_lcb t i j ≤ i + 1 ∧ ru_lcb t i j ≤ j + 1 ∧ (∀ m, m < ru_lcb t i j → t (i - m) = t (j - m)) ∧ (ru_lcb t i j ≤ i → ru_lcb t i j ≤ j → t (i - ru_lcb t i j) ≠ t (j - ru_lcb t i j)) := by
  intro i
  induction i with
  | zero =>
    intro j
    by_cases h : t 0 = t j
    · rw [ru_lcb_0 h (Or.inl rfl)]
      refine ⟨by omega, by omega, fun m hm => ?_, by omega⟩
      rw [show m = 0 by omega]; exact h
    · rw [ru_lcb_f h]
      exact ⟨by omega, by omega, fun m hm => by omega, fun _ _ => h⟩
  | succ i ih =>
    intro j
    by_cases h : t (i + 1) = t j
    · cases j with
      | zero =>
        rw [ru_lcb_0 h (Or.inr rfl)]
        refine ⟨by omega, by omega, fun m hm => ?_, by omega⟩
        rw [show m = 0 by omega]; exact h
      | succ j =>
        rw [ru_lcb_t h]
        obtain ⟨a, b, c, d⟩ := ih j
        refine ⟨by omega, by omega, fun m hm => ?_, fun h1 h2 => ?_⟩
        · cases m with
          | zero => exact h
          | succ m =>
            have := c m (by omega)
            rw [show i + 1 - (m + 1) = i - m by omega, show j + 1 - (m + 1) = j - m by omega]
            exact this
        · rw [show i + 1 - (ru_lcb t i j + 1) = i - ru_lcb t i j by omega, show j + 1 - (ru_lcb t i j + 1) = j - ru_lcb t i j by omega]
          exact d (by omega) (by omega)
    · rw [ru_lcb_f h]
      exact ⟨by omega, by omega, fun m hm => by omega, fun _ _ => h⟩
/-! the two orders of the letters: a text as a sequence with an end -/
def ru_s0 (t : Nat → Nat) (n : Nat) : Nat → Nat := fun m => if m < n then t m + 1 else 0
def ru_s1 (t : Nat → Nat) (n : Nat) : Nat → Nat := fun m => if m < n then 4 - t m else 0
/-- the order by number: 0 plain, other turned -/
def ru_sq (o : Nat) (t : Nat → Nat) (n : Nat) : Nat → Nat := if o = 0 then ru_s0 t n else ru_s1 t n
theorem ru_sq_in {o : Nat} {t : Nat → Nat} {n m : Nat} (h : m < n) : ru_sq o t n m = if o = 0 then t m + 1 else 4 - t m := by
  unfold ru_sq
  by_cases e : o = 0
  · rw [if_pos e, if_pos e]; unfold ru_s0; rw [if_pos h]
  · rw [if_neg e, if_neg e]; unfold ru_s1; rw [if_pos h]
theorem ru_sq_out {o : Nat} {t : Nat → Nat} {n m : Nat} (h : n ≤ m) : ru_sq o t n m = 0 := by
  have h : ¬ m < n := by omega
  unfold ru_sq
  by_cases e : o = 0
  · rw [if_pos e]; unfold ru_s0; rw [if_neg h]
  · rw [if_neg e]; unfold ru_s1; rw [if_neg h]
theorem ru_sq_tx {t : Nat → Nat} (ht : ∀ k, t k < 4) (o n : Nat) : ru_tx (ru_sq o t n) n := by
  intro m
  have := ht m
  by_cases h : m < n
  · rw [ru_sq_in h]
    by_cases e : o = 0
    · rw [if_pos e]; omega
    · rw [if_neg e]; omega
  · rw [ru_sq_out (by omega)]; omega
theorem ru_sq_eq {t : Nat → Nat} (ht : ∀ k, t k < 4) {o n a b : Nat} (ha : a < n) (hb : b < n) : ru_sq o t n a = ru_sq o t n b ↔ t a = t b := by
  have h1 := ht a
  have h2 := ht b
  rw [ru_sq_in ha, ru_sq_in hb]
  by_cases e : o = 0
  · rw [if_pos e, if_pos e]; omega
  · rw [if_neg e, if_neg e]; omega
theorem ru_sq_lt0 {t : Nat → Nat} {n a b : Nat} (ha : a < n) (hb : b < n) : ru_sq 0 t n a < ru_sq 0 t n b ↔ t a < t b := by
  rw [ru_sq_in ha, ru_sq_in hb, if_pos rfl, if_pos rfl]; omega
theorem ru_sq_lt1 {t : Nat → Nat} (ht : ∀ k, t k < 4) {n a b : Nat} (ha : a < n) (hb : b < n) : ru_sq 1 t n a < ru_sq 1 t n b ↔ t b < t a := by
  have h1 := ht a
  have h2 := ht b
  rw [ru_sq_in ha, ru_sq_in hb, if_neg (by omega), if_neg (by omega)]; omega
/-- what the program asks of two places is the order of what follows them -/
theorem ru_L_lce {t : Nat → Nat} (ht : ∀ k, t k < 4) {o n i j : Nat} (hi : i ≤ n) (hj : j ≤ n) : ru_L (ru_sq o t n) i j ↔ (j + ru_lce t n i j < n ∧ (n ≤ i + ru_lce t n i j ∨ ru_sq o t n (i + ru_lce t n i j) < ru_sq o t n (j + ru_lce t n i j))) := by
  obtain ⟨hl1, hl2⟩ := ru_lce_le (t := t) hi hj
  have hag : ru_ag (ru_sq o t n) i j (ru_lce t n i j) := fun m hm => by
    obtain ⟨a, b, c⟩ := ru_lce_in hm
    exact (ru_sq_eq ht b c).mpr a
  constructor
  · intro h
    have hs := ru_L_shift h hag
    have hj2 : j + ru_lce t n i j < n := by
      rcases Nat.lt_or_ge (j + ru_lce t n i j) n with q | q
      · exact q
      · exfalso
        obtain ⟨k, -, lk⟩ := hs
        rw [ru_sq_out (m := j + ru_lce t n i j + k) (by omega)] at lk
        omega
    refine ⟨hj2, ?_⟩
    rcases Nat.lt_or_ge (i + ru_lce t n i j) n with q | q
    · right
      have hne := ru_lce_out q hj2
      obtain ⟨k, hk, lk⟩ := hs
      cases k with
      | zero => exact lk
      | succ k => exact absurd ((ru_sq_eq ht q hj2).mp (hk 0 (by omega))) hne
    · exact Or.inl q
  · rintro ⟨h1, h2⟩
    refine ⟨ru_lce t n i j, hag, ?_⟩
    rcases h2 with q | q
    · rw [ru_sq_out q]
      exact ru_tx_p (ru_sq_tx ht o n) h1
    · exact q
end
section
/-! PURE 2: runs: the longest words that are smaller than all their ends, stretched, are the runs -/
def ru_Per (t : Nat → Nat) (i j p : Nat) : Prop := ∀ k, i ≤ k → k + p < j → t k = t (k + p)
def ru_Run (t : Nat → Nat) (n i j p : Nat) : Prop := 1 ≤ p ∧ i + 2 * p ≤ j ∧ j ≤ n ∧ ru_Per t i j p ∧ (i = 0 ∨ t (i - 1) ≠ t (i - 1 + p)) ∧ (j = n ∨ t j ≠ t (j - p)) ∧ ∀ q, 1 ≤ q → q < p → ¬ ru_Per t i j q
theorem ru_Run_uniq {t : Nat → Nat} {n i j j' p : Nat} (h : ru_Run t n i j p) (h' : ru_Run t n i j' p) : j = j' := by
  have key : ∀ {a b : Nat}, ru_Run t n i a p → ru_Run t n i b p → ¬ a < b := by
    intro a b ha hb hab
    obtain ⟨h1, h2, h3, h4, h5, h6, h7⟩ := ha
    obtain ⟨g1, g2, g3, g4, g5, g6, g7⟩ := hb
    rcases h6 with q | q
    · omega
    · have := g4 (a - p) (by omega) (by omega)
      rw [show a - p + p = a by omega] at this
      exact q this.symm
  have a1 := key h h'
  have a2 := key h' h
  omega
theorem ru_Run_lce {t : Nat → Nat} {n i j p : Nat} (h : ru_Run t n i j p) : i + p + ru_lce t n i (i + p) = j := by
  obtain ⟨h1, h2, h3, h4, h5, h6, h7⟩ := h
  have : ru_lce t n i (i + p) = j - p - i := by
    refine ru_lce_eq (fun m hm => ?_) (by omega) (by omega) (fun a b => ?_)
    · have := h4 (i + m) (by omega) (by omega)
      rw [this]
      congr 1
      omega
    · rw [show i + (j - p - i) = j - p by omega, show i + p + (j - p - i) = j by omega]
      rcases h6 with q | q
      · omega
      · exact fun z => q z.symm
  omega
/-- how far the word from i to e goes on to the left -/
def ru_lft (t : Nat → Nat) (i e : Nat) : Nat := if 0 < i then ru_lcb t (i - 1) (e - 1) else 0
theorem ru_lft_le (t : Nat → Nat) (i e : Nat) : ru_lft t i e ≤ i := by
  unfold ru_lft
  by_cases h : 0 < i
  · rw [if_pos h]
    have := (ru_lcb_spec t (i - 1) (e - 1)).1
    omega
  · rw [if_neg h]; omega
theorem ru_found {t : Nat → Nat} (ht : ∀ k, t k < 4) {o n i e : Nat} (hN : ru_N (ru_sq o t n) n i e) (hl : i - ru_lft t i e + 2 * (e - i) ≤ e + ru_lce t n i e) : ru_Run t n (i - ru_lft t i e) (e + ru_lce t n i e) (e - i) := by
  have hw := ru_N_word hN
  obtain ⟨hie, hen, -, -⟩ := hN
  have hle := ru_lft_le t i e
  obtain ⟨-, hr2⟩ := ru_lce_le (t := t) (n := n) (i := i) (j := e) (by omega) hen
  have hin : ∀ m, m < ru_lft t i e → t (i - 1 - m) = t (e - 1 - m) := by
    intro m hm
    unfold ru_lft at hm
    by_cases h : 0 < i
    · rw [if_pos h] at hm
      exact (ru_lcb_spec t (i - 1) (e - 1)).2.2.1 m hm
    · rw [if_neg h] at hm; omega
  have hst : ru_lft t i e < i → t (i - 1 - ru_lft t i e) ≠ t (e - 1 - ru_lft t i e) := by
    intro h
    have h0 : 0 < i := by omega
    have e1 : ru_lft t i e = ru_lcb t (i - 1) (e - 1) := by unfold ru_lft; rw [if_pos h0]
    rw [e1] at h ⊢
    exact (ru_lcb_spec t (i - 1) (e - 1)).2.2.2 (by omega) (by omega)
  refine ⟨by omega, hl, hr2, ?_, ?_, ?_, ?_⟩
  · intro k h1 h2
    rcases Nat.lt_or_ge k i with q | q
    · have := hin (i - 1 - k) (by omega)
      rw [show i - 1 - (i - 1 - k) = k by omega, show e - 1 - (i - 1 - k) = k + (e - i) by omega] at this
      exact this
    · have := (ru_lce_in (t := t) (n := n) (i := i) (j := e) (m := k - i) (by omega)).1
      rw [show i + (k - i) = k by omega, show e + (k - i) = k + (e - i) by omega] at this
      exact this
  · rcases Nat.lt_or_ge (ru_lft t i e) i with q | q
    · right
      have := hst q
      rw [show i - 1 - ru_lft t i e = i - ru_lft t i e - 1 by omega, show e - 1 - ru_lft t i e = i - ru_lft t i e - 1 + (e - i) by omega] at this
      exact this
    · left; omega
  · rcases Nat.lt_or_ge (e + ru_lce t n i e) n with q | q
    · right
      have := ru_lce_out (t := t) (n := n) (i := i) (j := e) (by omega) q
      rw [show e + ru_lce t n i e - (e - i) = i + ru_lce t n i e by omega]
      exact fun z => this z.symm
    · left; omega
  · intro q h1 h2 hP
    obtain ⟨k, hk, -, lk⟩ := hw (i + q) (by omega) (by omega)
    have := hP (i + k) (by omega) (by omega)
    rw [show i + k + q = i + q + k by omega] at this
    have := (ru_sq_eq ht (o := o) (n := n) (a := i + k) (b := i + q + k) (by omega) (by omega)).mpr this
    omega
theorem ru_lcb_eq {t : Nat → Nat} {a b k : Nat} (h1 : ∀ m, m < k → t (a - m) = t (b - m)) (h2 : k ≤ a + 1) (h3 : k ≤ b + 1) (h4 : k ≤ a → k ≤ b → t (a - k) ≠ t (b - k)) : ru_lcb t a b = k := by
  obtain ⟨c1, c2, c3, c4⟩ := ru_lcb_spec t a b
  rcases Nat.lt_trichotomy (ru_lcb t a b) k with q | q | q
  · exact absurd (h1 _ q) (c4 (by omega) (by omega))
  · exact q
  · exact absurd (c3 k q) (h4 (by omega) (by omega))
/-- among finitely many places there is one that none comes before -/
theorem ru_min (s : Nat → Nat) : ∀ p, 0 < p → ∃ x, x < p ∧ ∀ y, y < p → ¬ ru_L s y x := by
  intro p
  induction p with
  | zero => intro h; omega
  | succ p ih =>
    intro _
    rcases Nat.eq_zero_or_pos p with e | e
    · subst e
      exact ⟨0, by omega, fun y hy => by rw [show y = 0 by omega]; exact ru_L_irr⟩
    · obtain ⟨x, hx, hm⟩ := ih e
      by_cases h : ru_L s p x
      · refine ⟨p, by omega, fun y hy hL => ?_⟩
        rcases Nat.lt_or_ge y p with q | q
        · exact hm y q (ru_L_trans hL h)
        · rw [show y = p by omega] at hL
          exact ru_L_irr hL
      · refine ⟨x, by omega, fun y hy hL => ?_⟩
        rcases Nat.lt_or_ge y p with q | q
        · exact hm y q hL
        · rw [show y = p by omega] at hL
          exact h hL
theorem ru_L_congr {s : Nat → Nat} {a b a' b' : Nat} (h : ru_L s a b) (ha : ∀ m, s (a' + m) = s (a + m)) (hb : ∀ m, s (b' + m) = s (b + m)) : ru_L s a' b' := by
  obtain ⟨k, hk, lk⟩ := h
  exact ⟨k, fun m hm => by rw [ha, hb]; exact hk m hm, by rw [ha, hb]; exact lk⟩
/-- a cyclic word without a smaller period: the place from which it is smaller than all its ends -/
theorem ru_cyc {c : Nat → Nat} {p : Nat} (hp : 0 < p) (hc : ∀ m, c (m + p) = c m) (hprim : ∀ q, 1 ≤ q → q < p → ¬ ∀ m, c (m + q) = c m) : ∃ x, x < p ∧ ∀ r, 0 < r → r < p → ∃ k, r + k < p ∧ ru_ag c x (x + r) k ∧ c (x + k) < c (x + r + k) := by
  obtain ⟨x, hx, hmin⟩ := ru_min c p hp
  have hcm : ∀ a m, c (m + a * p) = c m := by
    intro a
    induction a with
    | zero => intro m; simp
    | succ a ih => intro m; rw [Nat.succ_mul, ← Nat.add_assoc, hc, ih]
  have hL : ∀ r, 0 < r → r < p → ru_L c x (x + r) := by
    intro r h1 h2
    rcases ru_L_tri c x (x + r) with q | q | q
    · exfalso
      refine hprim r h1 h2 fun m => ?_
      have h3 := q (m + x * p - x)
      have hxp : x ≤ x * p := Nat.le_mul_of_pos_right x hp
      rw [show x + (m + x * p - x) = m + x * p by omega, show x + r + (m + x * p - x) = m + r + x * p by omega, hcm, hcm] at h3
      exact h3.symm
    · exact q
    · exfalso
      rcases Nat.lt_or_ge (x + r) p with z | z
      · exact hmin _ z q
      · refine hmin (x + r - p) (by omega) (ru_L_congr q (fun m => ?_) (fun m => rfl))
        rw [← hc (x + r - p + m)]
        congr 1
        omega
  refine ⟨x, hx, fun r h1 h2 => ?_⟩
  obtain ⟨k, hk, lk⟩ := hL r h1 h2
  rcases Nat.lt_or_ge (r + k) p with z | z
  · exact ⟨k, z, hk, lk⟩
  · exfalso
    have hs := ru_L_shift (hL r h1 h2) (r := p - r) (ru_ag_mono hk (by omega))
    have hs2 : ru_L c (x + (p - r)) x := ru_L_congr hs (fun m => rfl) (fun m => by
      rw [show x + r + (p - r) + m = x + m + p by omega, hc])
    exact ru_L_asymm (hL (p - r) (by omega) (by omega)) hs2
theorem ru_run_found {t : Nat → Nat} (ht : ∀ k, t k < 4) {n i j p : Nat} (h : ru_Run t n i j p) : ∃ o, (o = 0 ∨ o = 1) ∧ ∃ x, x < n ∧ ru_N (ru_sq o t n) n x (x + p) ∧ x - ru_lft t x (x + p) = i ∧ x + p + ru_lce t n x (x + p) = j := by
  obtain ⟨h1, h2, h3, h4, h5, h6, h7⟩ := h
  have hord : ∃ o, (o = 0 ∨ o = 1) ∧ ru_sq o t n j < ru_sq o t n (j - p) := by
    rcases Nat.lt_or_ge j n with q | q
    · have hne : t j ≠ t (j - p) := by
        rcases h6 with z | z
        · omega
        · exact z
      rcases Nat.lt_or_gt_of_ne hne with z | z
      · exact ⟨0, Or.inl rfl, (ru_sq_lt0 q (by omega)).mpr z⟩
      · exact ⟨1, Or.inr rfl, (ru_sq_lt1 ht q (by omega)).mpr z⟩
    · refine ⟨0, Or.inl rfl, ?_⟩
      rw [ru_sq_out q]
      exact ru_tx_p (ru_sq_tx ht 0 n) (by omega)
  obtain ⟨o, ho, hlt⟩ := hord
  refine ⟨o, ho, ?_⟩
  have hs : ∀ m, i + m < j → ru_sq o t n (i + m) = ru_sq o t n (i + m % p) := by
    intro m
    induction m using Nat.strongRecOn with
    | ind m ih =>
      intro hm
      rcases Nat.lt_or_ge m p with q | q
      · rw [Nat.mod_eq_of_lt q]
      · rw [Nat.mod_eq_sub_mod q, ← ih (m - p) (by omega) (by omega)]
        have := h4 (i + (m - p)) (by omega) (by omega)
        rw [show i + (m - p) + p = i + m by omega] at this
        exact ((ru_sq_eq ht (by omega) (by omega)).mpr this).symm
  obtain ⟨x, hx, hw⟩ := ru_cyc (c := fun m => ru_sq o t n (i + m % p)) (p := p) h1 (fun m => by simp) (by
    intro q q1 q2 hall
    refine h7 q q1 q2 fun k k1 k2 => ?_
    have e := hall (k - i)
    rw [← hs (k - i) (by omega), ← hs (k - i + q) (by omega)] at e
    rw [show i + (k - i + q) = k + q by omega, show i + (k - i) = k by omega] at e
    exact ((ru_sq_eq ht (by omega) (by omega)).mp e).symm)
  have hN : ru_N (ru_sq o t n) n (i + x) (i + x + p) := by
    refine ⟨by omega, by omega, fun y y1 y2 => ?_, ?_⟩
    · obtain ⟨k, k1, k2, k3⟩ := hw (y - (i + x)) (by omega) (by omega)
      refine ⟨k, fun m hm => ?_, ?_⟩
      · have e := k2 m hm
        simp only at e
        rw [← hs (x + m) (by omega), ← hs _ (by omega)] at e
        rw [show i + x + m = i + (x + m) by omega, e]
        congr 1
        omega
      · rw [← hs (x + k) (by omega), ← hs _ (by omega)] at k3
        rw [show i + x + k = i + (x + k) by omega, show y + k = i + (x + (y - (i + x)) + k) by omega]
        exact k3
    · refine ⟨j - p - (i + x), fun m hm => ?_, ?_⟩
      · have := h4 (i + x + m) (by omega) (by omega)
        rw [show i + x + m + p = i + x + p + m by omega] at this
        exact ((ru_sq_eq ht (by omega) (by omega)).mpr this).symm
      · rw [show i + x + p + (j - p - (i + x)) = j by omega, show i + x + (j - p - (i + x)) = j - p by omega]
        exact hlt
  refine ⟨i + x, by omega, hN, ?_, ?_⟩
  · unfold ru_lft
    by_cases h0 : 0 < i + x
    · rw [if_pos h0]
      have : ru_lcb t (i + x - 1) (i + x + p - 1) = x := by
        refine ru_lcb_eq (fun m hm => ?_) (by omega) (by omega) (fun a b => ?_)
        · have := h4 (i + x - 1 - m) (by omega) (by omega)
          rw [this]
          congr 1
          omega
        · rcases h5 with q | q
          · omega
          · rw [show i + x - 1 - x = i - 1 by omega, show i + x + p - 1 - x = i - 1 + p by omega]
            exact q
      omega
    · rw [if_neg h0]; omega
  · have : ru_lce t n (i + x) (i + x + p) = j - p - (i + x) := by
      refine ru_lce_eq (fun m hm => ?_) (by omega) (by omega) (fun a b => ?_)
      · have := h4 (i + x + m) (by omega) (by omega)
        rw [this]
        congr 1
        omega
      · rw [show i + x + (j - p - (i + x)) = j - p by omega, show i + x + p + (j - p - (i + x)) = j by omega]
        rcases h6 with q | q
        · omega
        · exact fun z => q z.symm
    omega
end
section
/-! PURE 3: sums, ranks, squares -/
def ru_sm (f : Nat → Nat) : Nat → Nat
  | 0 => 0
  | n + 1 => ru_sm f n + f n
theorem ru_sm_s (f : Nat → Nat) (n : Nat) : ru_sm f (n + 1) = ru_sm f n + f n := rfl
theorem ru_sm_congr {f g : Nat → Nat} : ∀ {n : Nat}, (∀ k, k < n → f k = g k) → ru_sm f n = ru_sm g n := by
  intro n
  induction n with
  | zero => intro _; rfl
  | succ n ih => intro h; rw [ru_sm_s, ru_sm_s, ih (fun k hk => h k (by omega)), h n (by omega)]
theorem ru_sm_0 {f : Nat → Nat} {n : Nat} (h : ∀ k, k < n → f k = 0) : ru_sm f n = 0 := by
  rw [ru_sm_congr (g := fun _ => 0) h]
  clear h
  induction n with
  | zero => rfl
  | succ n ih => rw [ru_sm_s, ih]
theorem ru_sm_add (f g : Nat → Nat) (n : Nat) : ru_sm (fun k => f k + g k) n = ru_sm f n + ru_sm g n := by
  induction n with
  | zero => rfl
  | succ n ih => rw [ru_sm_s, ru_sm_s, ru_sm_s, ih]; omega
theorem ru_sm_swap (f : Nat → Nat → Nat) (m n : Nat) : ru_sm (fun a => ru_sm (fun b => f a b) m) n = ru_sm (fun b => ru_sm (fun a => f a b) n) m := by
  induction n with
  | zero => rw [ru_sm_0 (n := m) (f := fun b => ru_sm (fun a => f a b) 0) (fun _ _ => rfl)]; rfl
  | succ n ih =>
    rw [ru_sm_s, ih, ← ru_sm_add]
    exact ru_sm_congr fun k _ => rfl
theorem ru_sm_one {f : Nat → Nat} {n : Nat} (k0 : Nat) (h0 : k0 < n) (h : ∀ k, k < n → k ≠ k0 → f k = 0) : ru_sm f n = f k0 := by
  induction n with
  | zero => omega
  | succ n ih =>
    rw [ru_sm_s]
    by_cases e : k0 = n
    · subst e
      rw [ru_sm_0 (fun k hk => h k (by omega) (by omega))]
      omega
    · rw [ih (by omega) (fun k hk => h k (by omega)), h n (by omega) (fun z => e z.symm)]
      omega
noncomputable def ru_in (P : Prop) : Nat := @ite Nat P (Classical.propDecidable P) 1 0
theorem ru_in_t {P : Prop} (h : P) : ru_in P = 1 := by
  unfold ru_in
  exact if_pos h
theorem ru_in_f {P : Prop} (h : ¬ P) : ru_in P = 0 := by
  unfold ru_in
  exact if_neg h
theorem ru_in_congr {P Q : Prop} (h : P ↔ Q) : ru_in P = ru_in Q := by
  rw [propext h]
theorem ru_sm_rng (a b c : Nat) : ∀ n, ru_sm (fun i => ru_in (a ≤ i ∧ i + c ≤ b)) n = min n (b + 1 - c) - a := by
  intro n
  induction n with
  | zero => simp [ru_sm]
  | succ n ih =>
    rw [ru_sm_s, ih]
    by_cases h : a ≤ n ∧ n + c ≤ b
    · rw [ru_in_t h]; omega
    · rw [ru_in_f h]; omega
/-! ranks -/
noncomputable def ru_cnt (S : Nat → Prop) (x : Nat) : Nat := ru_sm (fun y => ru_in (S y)) x
theorem ru_cnt_0 (S : Nat → Prop) : ru_cnt S 0 = 0 := rfl
theorem ru_cnt_t {S : Nat → Prop} {x : Nat} (h : S x) : ru_cnt S (x + 1) = ru_cnt S x + 1 := by
  unfold ru_cnt
  rw [ru_sm_s, ru_in_t h]
theorem ru_cnt_f {S : Nat → Prop} {x : Nat} (h : ¬ S x) : ru_cnt S (x + 1) = ru_cnt S x := by
  unfold ru_cnt
  rw [ru_sm_s, ru_in_f h]
  rfl
theorem ru_cnt_c {S : Nat → Prop} {a b : Nat} (hab : a ≤ b) (h : ∀ x, a ≤ x → x < b → ¬ S x) : ru_cnt S b = ru_cnt S a := by
  induction b with
  | zero => rw [show a = 0 by omega]
  | succ b ih =>
    by_cases e : a = b + 1
    · rw [e]
    · rw [ru_cnt_f (h b (by omega) (by omega)), ih (by omega) (fun x h1 h2 => h x h1 (by omega))]
theorem ru_rank {S : Nat → Prop} {m : Nat} {f : Nat → Nat} (hm : ∀ a b, a < b → b < m → f a < f b) (hS : ∀ k, k < m → S (f k)) (hc : ∀ x, S x → ∃ k, k < m ∧ f k = x) : (∀ k, k < m → ru_cnt S (f k) = k) ∧ ∀ N, (∀ x, S x → x < N) → ru_cnt S N = m := by
  have P : ∀ x, ru_cnt S x ≤ m ∧ (∀ k, k < ru_cnt S x → f k < x) ∧ ∀ k, ru_cnt S x ≤ k → k < m → x ≤ f k := by
    intro x
    induction x with
    | zero => rw [ru_cnt_0]; exact ⟨by omega, fun k h => by omega, fun k _ _ => by omega⟩
    | succ x ih =>
      obtain ⟨i1, i2, i3⟩ := ih
      by_cases h : S x
      · rw [ru_cnt_t h]
        obtain ⟨k, k1, k2⟩ := hc x h
        have e : k = ru_cnt S x := by
          rcases Nat.lt_trichotomy k (ru_cnt S x) with q | q | q
          · have := i2 k q; omega
          · exact q
          · have h1 := i3 (ru_cnt S x) (Nat.le_refl _) (by omega)
            have h2 := hm _ _ q k1
            omega
        rw [← e] at i1 i2 i3 ⊢
        refine ⟨by omega, fun j hj => ?_, fun j h1 h2 => ?_⟩
        · rcases Nat.lt_or_ge j k with q | q
          · have := i2 j q; omega
          · rw [show j = k by omega, k2]; omega
        · have := hm k j (by omega) h2
          omega
      · rw [ru_cnt_f h]
        refine ⟨i1, fun j hj => by have := i2 j hj; omega, fun j h1 h2 => ?_⟩
        have h3 := i3 j h1 h2
        rcases Nat.lt_or_ge x (f j) with q | q
        · exact q
        · exact absurd (by rw [show x = f j by omega]; exact hS j h2) h
  refine ⟨fun k hk => ?_, fun N hN => ?_⟩
  · obtain ⟨i1, i2, i3⟩ := P (f k)
    rcases Nat.lt_trichotomy (ru_cnt S (f k)) k with q | q | q
    · have h1 := i3 _ (Nat.le_refl _) (by omega)
      have h2 := hm _ _ q hk
      omega
    · exact q
    · have := i2 k q; omega
  · obtain ⟨i1, i2, i3⟩ := P N
    rcases Nat.lt_or_ge (ru_cnt S N) m with q | q
    · have h1 := i3 _ (Nat.le_refl _) q
      have h2 := hN _ (hS _ q)
      omega
    · omega
/-- the keys of the runs, in their order -/
def ru_S (t : Nat → Nat) (n x : Nat) : Prop := ∃ j, ru_Run t n (x / 32) j (x % 32)
theorem ru_S_key {t : Nat → Nat} {n i p : Nat} (hp : p < 32) : ru_S t n (i * 32 + p) ↔ ∃ j, ru_Run t n i j p := by
  unfold ru_S
  rw [show (i * 32 + p) / 32 = i by omega, show (i * 32 + p) % 32 = p by omega]
theorem ru_S_lt {t : Nat → Nat} {n x : Nat} (h : ru_S t n x) : x < n * 32 := by
  obtain ⟨j, h1, h2, h3, -⟩ := h
  omega
theorem ru_S_p {t : Nat → Nat} {n x : Nat} (hn : n ≤ 32) (h : ru_S t n x) : 1 ≤ x % 32 ∧ x % 32 ≤ 16 := by
  obtain ⟨j, h1, h2, h3, -⟩ := h
  omega
def ru_Srt (fd : Nat) (fr st : Nat → Nat) : Prop := ∀ a b, a < b → b < fd → fr a < fr b ∨ (fr a = fr b ∧ st a < st b)
/-- the three arrays hold the runs, all of them, in their order -/
def ru_All (t : Nat → Nat) (n fd : Nat) (fr to st : Nat → Nat) : Prop := (∀ k, k < fd → ru_Run t n (fr k) (to k) (st k)) ∧ ru_Srt fd fr st ∧ ∀ i j p, ru_Run t n i j p → ∃ k, k < fd ∧ fr k = i ∧ to k = j ∧ st k = p
theorem ru_All_rank {t : Nat → Nat} {n fd : Nat} {fr to st : Nat → Nat} (hn : n ≤ 32) (h : ru_All t n fd fr to st) : (∀ k, k < fd → ru_cnt (ru_S t n) (fr k * 32 + st k) = k) ∧ ru_cnt (ru_S t n) (n * 32) = fd := by
  obtain ⟨h1, h2, h3⟩ := h
  have hst : ∀ k, k < fd → st k < 32 := fun k hk => by
    obtain ⟨a1, a2, a3, -⟩ := h1 k hk
    omega
  have := ru_rank (S := ru_S t n) (m := fd) (f := fun k => fr k * 32 + st k) (fun a b hab hb => by
    have := hst a (by omega)
    rcases h2 a b hab hb with q | q <;> omega) (fun k hk => (ru_S_key (hst k hk)).mpr ⟨_, h1 k hk⟩) (fun x hx => by
    obtain ⟨j, hj⟩ := hx
    obtain ⟨k, k1, k2, -, k3⟩ := h3 _ _ _ hj
    exact ⟨k, k1, by omega⟩)
  exact ⟨this.1, this.2 _ fun x hx => ru_S_lt hx⟩
theorem ru_All_le {t : Nat → Nat} {n fd : Nat} {fr to st : Nat → Nat} (h : ru_All t n fd fr to st) {k : Nat} (hk : k < fd) : 1 ≤ st k ∧ fr k + 2 * st k ≤ to k ∧ to k ≤ n := by
  obtain ⟨a1, a2, a3, -⟩ := h.1 k hk
  exact ⟨a1, a2, a3⟩
/-! squares -/
def ru_Sq (t : Nat → Nat) (n i q : Nat) : Prop := 1 ≤ q ∧ i + 2 * q ≤ n ∧ ru_Per t i (i + 2 * q) q
theorem ru_Per_sub {t : Nat → Nat} {i j i' j' p : Nat} (h : ru_Per t i j p) (h1 : i ≤ i') (h2 : j' ≤ j) : ru_Per t i' j' p := fun k a b => h k (by omega) (by omega)
theorem ru_Per_minus {t : Nat → Nat} {i j p q : Nat} (hp : ru_Per t i j p) (hq : ru_Per t i j q) (hpq : p ≤ q) (hl : i + p + q ≤ j) : ru_Per t i j (q - p) := by
  intro k h1 h2
  rcases Nat.lt_or_ge (k + q) j with z | z
  · rw [hq k h1 z, hp (k + (q - p)) (by omega) (by omega)]
    congr 1
    omega
  · have a := hp (k - p) (by omega) (by omega)
    have b := hq (k - p) (by omega) (by omega)
    rw [show k - p + p = k by omega] at a
    rw [show k - p + q = k + (q - p) by omega] at b
    rw [← a, b]
theorem ru_Per_dvd {t : Nat → Nat} {i j p : Nat} (h1 : 1 ≤ p) (hp : ru_Per t i j p) (hm : ∀ r, 1 ≤ r → r < p → ¬ ru_Per t i j r) : ∀ q, ru_Per t i j q → i + p + q ≤ j → ∃ x, q = x * p := by
  intro q
  induction q using Nat.strongRecOn with
  | ind q ih =>
    intro hq hl
    rcases Nat.eq_zero_or_pos q with e | e
    · exact ⟨0, by omega⟩
    · rcases Nat.lt_or_ge q p with z | z
      · exact absurd hq (hm q e z)
      · obtain ⟨x, hx⟩ := ih (q - p) (by omega) (ru_Per_minus hp hq z hl) (by omega)
        exact ⟨x + 1, by rw [Nat.succ_mul]; omega⟩
/-- a stretch's period r < p on two turns of a period p is a period all over -/
theorem ru_Per_win {t : Nat → Nat} {a b i p r : Nat} (h1 : 1 ≤ p) (hp : ru_Per t a b p) (ha : a ≤ i) (hb : i + 2 * p ≤ b) (hr : ru_Per t i (i + 2 * p) r) (hrp : r < p) : ru_Per t a b r := by
  have right : ∀ k, i ≤ k → k + r < b → t k = t (k + r) := by
    intro k
    induction k using Nat.strongRecOn with
    | ind k ih =>
      intro h2 h3
      rcases Nat.lt_or_ge (k + r) (i + 2 * p) with z | z
      · exact hr k h2 z
      · have a1 := hp (k - p) (by omega) (by omega)
        have a2 := hp (k + r - p) (by omega) (by omega)
        have a3 := ih (k - p) (by omega) (by omega) (by omega)
        rw [show k - p + p = k by omega] at a1
        rw [show k + r - p + p = k + r by omega] at a2
        rw [show k - p + r = k + r - p by omega] at a3
        rw [← a1, a3, a2]
  have left : ∀ d k, i - k ≤ d → a ≤ k → k + r < b → t k = t (k + r) := by
    intro d
    induction d with
    | zero => intro k h2 h3 h4; exact right k (by omega) h4
    | succ d ih =>
      intro k h2 h3 h4
      rcases Nat.lt_or_ge k i with z | z
      · have a1 := hp k h3 (by omega)
        have a2 := hp (k + r) (by omega) (by omega)
        have a3 := ih (k + p) (by omega) (by omega) (by omega)
        rw [show k + p + r = k + r + p by omega] at a3
        rw [a1, a3, a2]
      · exact right k z h4
  intro k h2 h3
  exact left (i - k) k (Nat.le_refl _) h2 h3
theorem ru_ext {t : Nat → Nat} {n i p : Nat} (hp : 1 ≤ p) (hn : i + p ≤ n) : ru_Per t (i - ru_lft t i (i + p)) (i + p + ru_lce t n i (i + p)) p ∧ (i - ru_lft t i (i + p) = 0 ∨ t (i - ru_lft t i (i + p) - 1) ≠ t (i - ru_lft t i (i + p) - 1 + p)) ∧ (i + p + ru_lce t n i (i + p) = n ∨ t (i + p + ru_lce t n i (i + p)) ≠ t (i + p + ru_lce t n i (i + p) - p)) := by
  obtain ⟨e, he⟩ : ∃ e, e = i + p := ⟨_, rfl⟩
  rw [← he]
  have hle := ru_lft_le t i e
  obtain ⟨-, hr2⟩ := ru_lce_le (t := t) (n := n) (i := i) (j := e) (by omega) (by omega)
  have hin : ∀ m, m < ru_lft t i e → t (i - 1 - m) = t (e - 1 - m) := by
    intro m hm
    unfold ru_lft at hm
    by_cases h : 0 < i
    · rw [if_pos h] at hm
      exact (ru_lcb_spec t (i - 1) (e - 1)).2.2.1 m hm
    · rw [if_neg h] at hm; omega
  have hst : ru_lft t i e < i → t (i - 1 - ru_lft t i e) ≠ t (e - 1 - ru_lft t i e) := by
    intro h
    have h0 : 0 < i := by omega
    have e1 : ru_lft t i e = ru_lcb t (i - 1) (e - 1) := by unfold ru_lft; rw [if_pos h0]
    rw [e1] at h ⊢
    exact (ru_lcb_spec t (i - 1) (e - 1)).2.2.2 (by omega) (by omega)
  refine ⟨?_, ?_, ?_⟩
  · intro k h1 h2
    rcases Nat.lt_or_ge k i with q | q
    · have := hin (i - 1 - k) (by omega)
      rw [show i - 1 - (i - 1 - k) = k by omega, show e - 1 - (i - 1 - k) = k + p by omega] at this
      exact this
    · have := (ru_lce_in (t := t) (n := n) (i := i) (j := e) (m := k - i) (by omega)).1
      rw [show i + (k - i) = k by omega, show e + (k - i) = k + p by omega] at this
      exact this
  · rcases Nat.lt_or_ge (ru_lft t i e) i with q | q
    · right
      have := hst q
      rw [show i - 1 - ru_lft t i e = i - ru_lft t i e - 1 by omega, show e - 1 - ru_lft t i e = i - ru_lft t i e - 1 + p by omega] at this
      exact this
    · left; omega
  · rcases Nat.lt_or_ge (e + ru_lce t n i e) n with q | q
    · right
      have := ru_lce_out (t := t) (n := n) (i := i) (j := e) (by omega) q
      rw [show e + ru_lce t n i e - p = i + ru_lce t n i e by omega]
      exact fun z => this z.symm
    · left; omega
/-- a square lies in a run -/
theorem ru_Sq_run {t : Nat → Nat} {n i q : Nat} (h : ru_Sq t n i q) : ∃ a b p x, ru_Run t n a b p ∧ q = (x + 1) * p ∧ a ≤ i ∧ i + 2 * q ≤ b := by
  obtain ⟨h1, h2, h3⟩ := h
  obtain ⟨p, ⟨p1, p2⟩, p3⟩ := pk_least (fun p => 1 ≤ p ∧ ru_Per t i (i + 2 * q) p) ⟨q, h1, h3⟩
  have hpm : ∀ r, 1 ≤ r → r < p → ¬ ru_Per t i (i + 2 * q) r := fun r r1 r2 r3 => p3 r r2 ⟨r1, r3⟩
  have hpq : p ≤ q := by
    rcases Nat.lt_or_ge q p with z | z
    · exact absurd h3 (hpm q h1 z)
    · exact z
  obtain ⟨x, hx⟩ := ru_Per_dvd p1 p2 hpm q h3 (by omega)
  have hx0 : x ≠ 0 := by
    intro e
    rw [e] at hx
    omega
  obtain ⟨e1, e2, e3⟩ := ru_ext (t := t) (n := n) (i := i) (p := p) p1 (by omega)
  obtain ⟨-, hr⟩ := ru_lce_le (t := t) (n := n) (i := i) (j := i + p) (by omega) (by omega)
  have hlen : 2 * q - p ≤ ru_lce t n i (i + p) := by
    rcases Nat.lt_or_ge (ru_lce t n i (i + p)) (2 * q - p) with z | z
    · exfalso
      have h5 := ru_lce_out (t := t) (n := n) (i := i) (j := i + p) (by omega) (by omega)
      have h6 := p2 (i + ru_lce t n i (i + p)) (by omega) (by omega)
      rw [show i + ru_lce t n i (i + p) + p = i + p + ru_lce t n i (i + p) by omega] at h6
      exact h5 h6
    · exact z
  refine ⟨i - ru_lft t i (i + p), i + p + ru_lce t n i (i + p), p, x - 1, ⟨p1, by omega, hr, e1, e2, e3, fun r r1 r2 r3 => ?_⟩, ?_, by omega, by omega⟩
  · exact hpm r r1 r2 (ru_Per_sub r3 (by omega) (by omega))
  · rw [show x - 1 + 1 = x by omega]; exact hx
theorem ru_Per_mul {t : Nat → Nat} {a b p : Nat} (h : ru_Per t a b p) : ∀ x, ru_Per t a b (x * p) := by
  intro x
  induction x with
  | zero => intro k _ _; simp
  | succ x ih =>
    intro k h1 h2
    rw [Nat.succ_mul] at h2 ⊢
    rw [ih k h1 (by omega), h (k + x * p) (by omega) (by omega)]
    congr 1
    omega
theorem ru_run_Sq {t : Nat → Nat} {n a b p i x : Nat} (h : ru_Run t n a b p) (h1 : a ≤ i) (h2 : i + 2 * ((x + 1) * p) ≤ b) : ru_Sq t n i ((x + 1) * p) := by
  obtain ⟨g1, g2, g3, g4, -⟩ := h
  refine ⟨Nat.mul_pos (by omega) g1, by omega, ru_Per_sub (ru_Per_mul g4 (x + 1)) h1 h2⟩
theorem ru_Sq_uniq {t : Nat → Nat} {n a b p a' b' p' i q x x' : Nat} (h : ru_Run t n a b p) (h' : ru_Run t n a' b' p') (hq : q = (x + 1) * p) (hq' : q = (x' + 1) * p') (h1 : a ≤ i) (h2 : i + 2 * q ≤ b) (h1' : a' ≤ i) (h2' : i + 2 * q ≤ b') : a = a' ∧ b = b' ∧ p = p' := by
  have hle : ∀ {x p : Nat}, p ≤ (x + 1) * p := fun {x p} => Nat.le_mul_of_pos_left p (by omega)
  have hpq : p ≤ q := by rw [hq]; exact hle
  have hpq' : p' ≤ q := by rw [hq']; exact hle
  have key : ∀ {a b p a' b' p' : Nat}, ru_Run t n a b p → ru_Run t n a' b' p' → p ≤ q → p' ≤ q → a ≤ i → i + 2 * q ≤ b → a' ≤ i → i + 2 * q ≤ b' → ¬ p' < p := by
    intro a b p a' b' p' g g' u u' v1 v2 v1' v2' hlt
    obtain ⟨g1, g2, g3, g4, g5, g6, g7⟩ := g
    exact g7 p' g'.1 hlt (ru_Per_win g1 g4 v1 (by omega) (ru_Per_sub g'.2.2.2.1 v1' (by omega)) hlt)
  have e : p = p' := by
    have k1 := key h h' hpq hpq' h1 h2 h1' h2'
    have k2 := key h' h hpq' hpq h1' h2' h1 h2
    omega
  subst e
  have key2 : ∀ {a b a' b' : Nat}, ru_Run t n a b p → ru_Run t n a' b' p → a ≤ i → i + 2 * q ≤ b → a' ≤ i → i + 2 * q ≤ b' → ¬ a < a' := by
    intro a b a' b' g g' v1 v2 v1' v2' hlt
    obtain ⟨g1, g2, g3, g4, g5, g6, g7⟩ := g
    rcases g'.2.2.2.2.1 with z | z
    · omega
    · exact z (g4 (a' - 1) (by omega) (by omega))
  have ea : a = a' := by
    have k1 := key2 h h' h1 h2 h1' h2'
    have k2 := key2 h' h h1' h2' h1 h2
    omega
  subst ea
  exact ⟨rfl, ru_Run_uniq h h', rfl⟩
theorem ru_squares {t : Nat → Nat} {n fd : Nat} {fr to st : Nat → Nat} (hn : n ≤ 32) (h : ru_All t n fd fr to st) : ru_sm (fun k => ru_sm (fun x => to k - fr k + 1 - 2 * ((x + 1) * st k)) 16) fd = ru_sm (fun i => ru_sm (fun q => ru_in (ru_Sq t n i q)) 17) n := by
  have hsort : ∀ a b, a < fd → b < fd → fr a = fr b → st a = st b → a = b := by
    intro a b ha hb e1 e2
    rcases Nat.lt_trichotomy a b with z | z | z
    · have := h.2.1 a b z hb; omega
    · exact z
    · have := h.2.1 b a z ha; omega
  -- each square, by its run
  have hone : ∀ i q, ru_in (ru_Sq t n i q) = ru_sm (fun k => ru_sm (fun x => ru_in (q = (x + 1) * st k ∧ fr k ≤ i ∧ i + 2 * q ≤ to k)) 16) fd := by
    intro i q
    by_cases hs : ru_Sq t n i q
    · rw [ru_in_t hs]
      obtain ⟨a, b, p, x, hr, hx, ha, hb⟩ := ru_Sq_run hs
      obtain ⟨k0, hk0, ea, eb, ep⟩ := h.2.2 a b p hr
      have hp1 := hr.1
      have hx16 : x < 16 := by
        have h9 : x + 1 ≤ (x + 1) * p := Nat.le_mul_of_pos_right _ hp1
        have h8 := hs.2.1
        omega
      rw [ru_sm_one k0 hk0 (fun k hk hne => ru_sm_0 fun x' hx' => ru_in_f fun z => ?_)]
      · rw [ru_sm_one x hx16 (fun x' hx' hne => ru_in_f fun z => ?_)]
        · rw [ru_in_t ⟨by rw [ep]; exact hx, by omega, by omega⟩]
        · rw [ep] at z
          have := Nat.eq_of_mul_eq_mul_right (by omega) (hx.symm.trans z.1)
          omega
      · obtain ⟨u1, u2, u3⟩ := ru_Sq_uniq hr (h.1 k hk) hx z.1 ha hb z.2.1 z.2.2
        exact hne (hsort k k0 hk hk0 (by omega) (by omega))
    · rw [ru_in_f hs, ru_sm_0 fun k hk => ru_sm_0 fun x hx => ru_in_f fun z => hs ?_]
      rw [z.1]
      refine ru_run_Sq (h.1 k hk) z.2.1 ?_
      rw [← z.1]
      exact z.2.2
  have e1 : ru_sm (fun i => ru_sm (fun q => ru_in (ru_Sq t n i q)) 17) n = ru_sm (fun i => ru_sm (fun k => ru_sm (fun x => ru_in (fr k ≤ i ∧ i + 2 * ((x + 1) * st k) ≤ to k)) 16) fd) n := by
    refine ru_sm_congr fun i hi => ?_
    rw [ru_sm_congr (fun q _ => hone i q), ru_sm_swap]
    refine ru_sm_congr fun k hk => ?_
    rw [ru_sm_swap]
    refine ru_sm_congr fun x hx => ?_
    have hk3 := ru_All_le h hk
    by_cases hB : fr k ≤ i ∧ i + 2 * ((x + 1) * st k) ≤ to k
    · rw [ru_in_t hB, ru_sm_one ((x + 1) * st k) (by omega) (fun q _ hne => ru_in_f fun z => hne z.1), ru_in_t ⟨rfl, hB⟩]
    · rw [ru_in_f hB, ru_sm_0 fun q _ => ru_in_f fun z => hB ?_]
      rw [← z.1]
      exact z.2
  rw [e1, ru_sm_swap (fun i k => ru_sm (fun x => ru_in (fr k ≤ i ∧ i + 2 * ((x + 1) * st k) ≤ to k)) 16) fd n]
  refine ru_sm_congr fun k hk => ?_
  rw [ru_sm_swap (fun i x => ru_in (fr k ≤ i ∧ i + 2 * ((x + 1) * st k) ≤ to k)) 16 n]
  refine ru_sm_congr fun x hx => ?_
  rw [ru_sm_rng]
  have hk3 := ru_All_le h hk
  have h9 : st k ≤ (x + 1) * st k := Nat.le_mul_of_pos_left _ (by omega)
  omega
end
section
/-! PURE 4: the smallest end, factors, the smallest turn, whole periods, the ordered list of runs -/
def ru_M (t : Nat → Nat) (e x : Nat) : Prop := x < e ∧ ∀ y, y < e → y ≠ x → ru_L (ru_sq 0 t e) x y
theorem ru_M_uniq {t : Nat → Nat} {e x x' : Nat} (h : ru_M t e x) (h' : ru_M t e x') : x = x' := by
  by_cases q : x = x'
  · exact q
  · exact (ru_L_asymm (h.2 x' h'.1 (fun z => q z.symm)) (h'.2 x h.1 q)).elim
noncomputable def ru_mn (t : Nat → Nat) (e : Nat) : Nat := Classical.epsilon (fun x => ru_M t e x)
theorem ru_mn_eq {t : Nat → Nat} {e x : Nat} (h : ru_M t e x) : ru_mn t e = x := ru_M_uniq (Classical.epsilon_spec (p := fun x => ru_M t e x) ⟨x, h⟩) h
/-- what follows i is smaller than what follows any earlier place -/
def ru_pm (s : Nat → Nat) (i : Nat) : Prop := ∀ y, y < i → ru_L s i y
theorem ru_pm_step {s : Nat → Nat} {n i e : Nat} (h : ru_pm s i) (hN : ru_N s n i e) : ru_pm s e := by
  intro y hy
  rcases Nat.lt_trichotomy y i with q | q | q
  · exact ru_L_trans hN.2.2.2 (h y q)
  · rw [q]; exact hN.2.2.2
  · exact ru_L_trans hN.2.2.2 (hN.2.2.1 y q hy)
theorem ru_pm_end {t : Nat → Nat} {n i : Nat} (h : ru_pm (ru_sq 0 t n) i) (hN : ru_N (ru_sq 0 t n) n i n) : ru_M t n i := by
  refine ⟨hN.1, fun y h1 h2 => ?_⟩
  rcases Nat.lt_or_gt_of_ne h2 with q | q
  · exact h y q
  · exact hN.2.2.1 y q h1
theorem ru_sq_cut {o : Nat} {t : Nat → Nat} {e n m : Nat} (h : m < e) (hn : e ≤ n) : ru_sq o t e m = ru_sq o t n m := by
  rw [ru_sq_in h, ru_sq_in (by omega)]
/-- the last factor of the text up to e -/
theorem ru_factor {t : Nat → Nat} (ht : ∀ k, t k < 4) {n x e : Nat} (h : ru_pm (ru_sq 0 t n) x) (hN : ru_N (ru_sq 0 t n) n x e) : ru_M t e x := by
  have hw := ru_N_word hN
  obtain ⟨hxe, hen, -, -⟩ := hN
  refine ⟨hxe, fun y h1 h2 => ?_⟩
  rcases Nat.lt_or_gt_of_ne h2 with q | q
  · obtain ⟨k, hk, lk⟩ := h y q
    rcases Nat.lt_or_ge (x + k) e with z | z
    · refine ⟨k, fun m hm => ?_, ?_⟩
      · rw [ru_sq_cut (by omega) hen, ru_sq_cut (by omega) hen]; exact hk m hm
      · rw [ru_sq_cut (by omega) hen, ru_sq_cut (by omega) hen]; exact lk
    · refine ⟨e - x, fun m hm => ?_, ?_⟩
      · rw [ru_sq_cut (by omega) hen, ru_sq_cut (by omega) hen]; exact hk m (by omega)
      · rw [ru_sq_out (m := x + (e - x)) (by omega)]
        exact ru_tx_p (ru_sq_tx ht 0 e) (by omega)
  · obtain ⟨k, k1, k2, k3⟩ := hw y q h1
    refine ⟨k, fun m hm => ?_, ?_⟩
    · rw [ru_sq_cut (by omega) hen, ru_sq_cut (by omega) hen]; exact k2 m hm
    · rw [ru_sq_cut (by omega) hen, ru_sq_cut (by omega) hen]; exact k3
def ru_it (f : Nat → Nat) : Nat → Nat
  | 0 => 0
  | c + 1 => f (ru_it f c)
noncomputable def ru_fc (t : Nat → Nat) : Nat → Nat → Nat
  | 0, _ => 0
  | k + 1, e => if 0 < e then ru_fc t k (ru_mn t e) + 1 else 0
theorem ru_fc_t {t : Nat → Nat} {k e : Nat} (h : 0 < e) : ru_fc t (k + 1) e = ru_fc t k (ru_mn t e) + 1 := by
  simp only [ru_fc]; rw [if_pos h]
theorem ru_fc_0 (t : Nat → Nat) (k : Nat) : ru_fc t k 0 = 0 := by
  cases k with
  | zero => rfl
  | succ k => simp only [ru_fc]; rw [if_neg (by omega)]
theorem ru_factors {t : Nat → Nat} (ht : ∀ k, t k < 4) {n K : Nat} {f : Nat → Nat} (hn : n ≤ 32) (hf : ∀ i, i < n → ru_N (ru_sq 0 t n) n i (f i)) (hK : ∀ c, c < K → ru_it f c < n) (hK2 : ru_it f K = n) : ru_fc t 32 n = K := by
  have hge : ∀ c, c ≤ K → c ≤ ru_it f c := by
    intro c
    induction c with
    | zero => intro _; omega
    | succ c ih =>
      intro hc
      have h1 := ih (by omega)
      have h2 := (hf _ (hK c (by omega))).1
      simp only [ru_it]
      omega
  have hpm : ∀ c, c ≤ K → ru_pm (ru_sq 0 t n) (ru_it f c) := by
    intro c
    induction c with
    | zero => intro _ y hy; simp only [ru_it] at hy; omega
    | succ c ih =>
      intro hc
      simp only [ru_it]
      exact ru_pm_step (ih (by omega)) (hf _ (hK c (by omega)))
  have key : ∀ c, c ≤ K → ∀ k, c ≤ k → ru_fc t k (ru_it f c) = c := by
    intro c
    induction c with
    | zero => intro _ k _; simp only [ru_it]; exact ru_fc_0 t k
    | succ c ih =>
      intro hc k hk
      obtain ⟨k', rfl⟩ : ∃ k', k = k' + 1 := ⟨k - 1, by omega⟩
      have hN := hf _ (hK c (by omega))
      simp only [ru_it]
      rw [ru_fc_t (by have := hN.1; omega), ru_mn_eq (ru_factor ht (hpm c (by omega)) hN), ih (by omega) k' (by omega)]
  have h1 := hge K (Nat.le_refl _)
  rw [hK2] at h1
  have h2 := key K (Nat.le_refl _) 32 (by omega)
  rw [hK2] at h2
  exact h2
/-- two ends compared letter by letter -/
theorem ru_L_at1 {t : Nat → Nat} {e a b k : Nat} (h : ∀ m, m < k → t (a + m) = t (b + m)) (ha : a + k < e) (hb : b + k < e) (hlt : t (a + k) < t (b + k)) : ru_L (ru_sq 0 t e) a b := by
  refine ⟨k, fun m hm => ?_, (ru_sq_lt0 ha hb).mpr hlt⟩
  rw [ru_sq_in (by omega), ru_sq_in (by omega), h m hm]
theorem ru_L_at2 {t : Nat → Nat} (ht : ∀ k, t k < 4) {e a b k : Nat} (h : ∀ m, m < k → t (a + m) = t (b + m)) (ha : a + k = e) (hb : b + k < e) : ru_L (ru_sq 0 t e) a b := by
  refine ⟨k, fun m hm => ?_, ?_⟩
  · rw [ru_sq_in (by omega), ru_sq_in (by omega), h m hm]
  · rw [ru_sq_out (m := a + k) (by omega)]
    exact ru_tx_p (ru_sq_tx ht 0 e) hb
/-! turns -/
def ru_c (t : Nat → Nat) (n : Nat) : Nat → Nat := fun m => t (m % n)
theorem ru_c_1 {t : Nat → Nat} {n m : Nat} (h : m < n) : ru_c t n m = t m := by
  unfold ru_c; rw [Nat.mod_eq_of_lt h]
theorem ru_c_2 {t : Nat → Nat} {n m : Nat} (h : n ≤ m) (h2 : m < n + n) : ru_c t n m = t (m - n) := by
  unfold ru_c; rw [Nat.mod_eq_sub_mod h, Nat.mod_eq_of_lt (by omega)]
theorem ru_c_a (t : Nat → Nat) (n a m : Nat) : ru_c t n (a + m % n) = ru_c t n (a + m) := by
  unfold ru_c; simp
theorem ru_c_b (t : Nat → Nat) (n a m : Nat) : ru_c t n (a % n + m) = ru_c t n (a + m) := by
  unfold ru_c; simp
theorem ru_c_all {t : Nat → Nat} {n a b : Nat} (hn : 0 < n) (h : ru_ag (ru_c t n) a b n) : ∀ m, ru_c t n (a + m) = ru_c t n (b + m) := by
  intro m
  rw [← ru_c_a t n a m, ← ru_c_a t n b m]
  exact h (m % n) (Nat.mod_lt _ hn)
def ru_T (t : Nat → Nat) (n x : Nat) : Prop := x < n ∧ (∀ y, y < n → ¬ ru_L (ru_c t n) y x) ∧ ∀ y, y < x → ru_L (ru_c t n) x y
theorem ru_T_uniq {t : Nat → Nat} {n x x' : Nat} (h : ru_T t n x) (h' : ru_T t n x') : x = x' := by
  rcases Nat.lt_trichotomy x x' with q | q | q
  · exact (h.2.1 x' h'.1 (h'.2.2 x q)).elim
  · exact q
  · exact (h'.2.1 x h.1 (h.2.2 x' q)).elim
theorem ru_L_ne {s : Nat → Nat} {a b : Nat} (h : ru_L s a b) (e : ∀ m, s (a + m) = s (b + m)) : False := by
  obtain ⟨k, -, lk⟩ := h
  rw [e] at lk
  omega
theorem ru_T_ex {t : Nat → Nat} {n : Nat} (hn : 0 < n) : ∃ x, ru_T t n x := by
  obtain ⟨x1, h1, h2⟩ := ru_min (ru_c t n) n hn
  obtain ⟨x, ⟨hx, hm⟩, hl⟩ := pk_least (fun x => x < n ∧ ∀ y, y < n → ¬ ru_L (ru_c t n) y x) ⟨x1, h1, h2⟩
  refine ⟨x, hx, hm, fun y hy => ?_⟩
  rcases ru_L_tri (ru_c t n) x y with q | q | q
  · exfalso
    refine hl y hy ⟨by omega, fun z hz hL => ?_⟩
    exact hm z hz (ru_L_congr hL (fun _ => rfl) q)
  · exact q
  · exact (hm y (by omega) q).elim
theorem ru_T_all {t : Nat → Nat} {n x : Nat} (h : ru_T t n x) (z : Nat) : ¬ ru_L (ru_c t n) z x := by
  intro hL
  have hx := h.1
  exact h.2.1 (z % n) (Nat.mod_lt _ (by omega)) (ru_L_congr hL (fun m => ru_c_b t n z m) (fun _ => rfl))
/-- one more candidate in the reference's search -/
theorem ru_T_step {s : Nat → Nat} {i b : Nat} (hb : b < i) (h1 : ∀ y, y < i → ¬ ru_L s y b) : (ru_L s i b → (∀ y, y < i + 1 → ¬ ru_L s y i) ∧ ∀ y, y < i → ru_L s i y) ∧ (¬ ru_L s i b → ∀ y, y < i + 1 → ¬ ru_L s y b) := by
  refine ⟨fun hL => ⟨fun y hy q => ?_, fun y hy => ?_⟩, fun hL y hy => ?_⟩
  · by_cases e : y = i
    · rw [e] at q; exact ru_L_irr q
    · exact h1 y (by omega) (ru_L_trans q hL)
  · rcases ru_L_tri s b y with q | q | q
    · exact ru_L_congr hL (fun _ => rfl) (fun m => (q m).symm)
    · exact ru_L_trans hL q
    · exact (h1 y hy q).elim
  · by_cases e : y = i
    · rw [e]; exact hL
    · exact h1 y (by omega)
/-- the class's search: the candidates i and j, k letters the same, all others so far out -/
def ru_TI (s : Nat → Nat) (i j k : Nat) : Prop := i ≠ j ∧ ru_ag s i j k ∧ ∀ y, (y < i ∨ y < j) → y ≠ i → y ≠ j → ∃ z, ru_L s z y
theorem ru_TI_0 (s : Nat → Nat) : ru_TI s 0 1 0 := ⟨by omega, fun m hm => by omega, fun y h h1 h2 => by omega⟩
theorem ru_TI_k {s : Nat → Nat} {i j k : Nat} (h : ru_TI s i j k) (he : s (i + k) = s (j + k)) : ru_TI s i j (k + 1) := by
  refine ⟨h.1, fun m hm => ?_, h.2.2⟩
  by_cases e : m = k
  · rw [e]; exact he
  · exact h.2.1 m (by omega)
theorem ru_out {s : Nat → Nat} {i j k : Nat} (ha : ru_ag s i j k) (hl : s (i + k) < s (j + k)) : ∀ y, j ≤ y → y ≤ j + k → ∃ z, ru_L s z y := by
  intro y h1 h2
  have hs := ru_L_shift (s := s) ⟨k, ha, hl⟩ (r := y - j) (ru_ag_mono ha (by omega))
  rw [show j + (y - j) = y by omega] at hs
  exact ⟨_, hs⟩
theorem ru_TI_i {s : Nat → Nat} {i j k : Nat} (h : ru_TI s i j k) (hl : s (j + k) < s (i + k)) : (i + k + 1 ≠ j → ru_TI s (i + k + 1) j 0) ∧ (i + k + 1 = j → ru_TI s (i + k + 1) (j + 1) 0) := by
  have ho := ru_out (ru_ag_symm h.2.1) hl
  refine ⟨fun e => ⟨e, fun m hm => by omega, fun y hy h1 h2 => ?_⟩, fun e => ⟨by omega, fun m hm => by omega, fun y hy h1 h2 => ?_⟩⟩
  · by_cases q : i ≤ y ∧ y ≤ i + k
    · exact ho y q.1 q.2
    · exact h.2.2 y (by omega) (by omega) h2
  · by_cases q : i ≤ y ∧ y ≤ i + k
    · exact ho y q.1 q.2
    · exact h.2.2 y (by omega) (by omega) (by omega)
theorem ru_TI_j {s : Nat → Nat} {i j k : Nat} (h : ru_TI s i j k) (hl : s (i + k) < s (j + k)) : (i ≠ j + k + 1 → ru_TI s i (j + k + 1) 0) ∧ (i = j + k + 1 → ru_TI s i (j + k + 1 + 1) 0) := by
  have ho := ru_out h.2.1 hl
  refine ⟨fun e => ⟨e, fun m hm => by omega, fun y hy h1 h2 => ?_⟩, fun e => ⟨by omega, fun m hm => by omega, fun y hy h1 h2 => ?_⟩⟩
  · by_cases q : j ≤ y ∧ y ≤ j + k
    · exact ho y q.1 q.2
    · exact h.2.2 y (by omega) h1 (by omega)
  · by_cases q : j ≤ y ∧ y ≤ j + k
    · exact ho y q.1 q.2
    · exact h.2.2 y (by omega) h1 (by omega)
theorem ru_TI_end {t : Nat → Nat} {n i j k : Nat} (hn : 0 < n) (h : ru_TI (ru_c t n) i j k) (he : n ≤ i ∨ n ≤ j ∨ n ≤ k) : ru_T t n (min i j) := by
  obtain ⟨x, hx⟩ := ru_T_ex (t := t) hn
  have hno : ∀ y, (∃ z, ru_L (ru_c t n) z y) → y ≠ x := fun y ⟨z, hz⟩ e => ru_T_all hx z (by rw [← e]; exact hz)
  have hxij : (x < i ∨ x < j) → x = i ∨ x = j := by
    intro q
    by_cases e1 : x = i
    · exact Or.inl e1
    · by_cases e2 : x = j
      · exact Or.inr e2
      · exact (hno x (h.2.2 x q e1 e2) rfl).elim
  have hxn := hx.1
  have hij := h.1
  have e : x = min i j := by
    rcases Nat.lt_or_ge i n with qi | qi
    · rcases Nat.lt_or_ge j n with qj | qj
      · have hk : n ≤ k := by omega
        have hall := ru_c_all hn (ru_ag_mono h.2.1 hk)
        rcases Nat.lt_trichotomy x (min i j) with z | z | z
        · have := hxij (by omega); omega
        · exact z
        · exfalso
          rcases Nat.lt_or_gt_of_ne hij with w | w
          · -- i < j
            have hge : j ≤ x := by
              rcases Nat.lt_or_ge x j with v | v
              · have := hxij (by omega); omega
              · exact v
            refine ru_L_ne (hx.2.2 (x - (j - i)) (by omega)) fun m => ?_
            have := hall (x - j + m)
            rw [show i + (x - j + m) = x - (j - i) + m by omega, show j + (x - j + m) = x + m by omega] at this
            exact this.symm
          · have hge : i ≤ x := by
              rcases Nat.lt_or_ge x i with v | v
              · have := hxij (by omega); omega
              · exact v
            refine ru_L_ne (hx.2.2 (x - (i - j)) (by omega)) fun m => ?_
            have := hall (x - i + m)
            rw [show j + (x - i + m) = x - (i - j) + m by omega, show i + (x - i + m) = x + m by omega] at this
            exact this
      · have := hxij (by omega); omega
    · have := hxij (by omega); omega
  rw [← e]
  exact hx
/-! periods -/
def ru_LP (t : Nat → Nat) (i j p : Nat) : Prop := 1 ≤ p ∧ i + p ≤ j ∧ ru_Per t i j p ∧ ∀ q, 1 ≤ q → q < p → ¬ ru_Per t i j q
theorem ru_LP_uniq {t : Nat → Nat} {i j p p' : Nat} (h : ru_LP t i j p) (h' : ru_LP t i j p') : p = p' := by
  rcases Nat.lt_trichotomy p p' with q | q | q
  · exact (h'.2.2.2 p h.1 q h.2.2.1).elim
  · exact q
  · exact (h.2.2.2 p' h'.1 q h'.2.2.1).elim
theorem ru_Per_lce {t : Nat → Nat} {n p : Nat} (hp : p ≤ n) : ru_Per t 0 n p ↔ n - p ≤ ru_lce t n 0 p := by
  obtain ⟨h1, h2⟩ := ru_lce_le (t := t) (n := n) (i := 0) (j := p) (by omega) hp
  constructor
  · intro h
    rcases Nat.lt_or_ge (ru_lce t n 0 p) (n - p) with q | q
    · have a := ru_lce_out (t := t) (n := n) (i := 0) (j := p) (by omega) (by omega)
      have b := h (0 + ru_lce t n 0 p) (by omega) (by omega)
      rw [show 0 + ru_lce t n 0 p + p = p + ru_lce t n 0 p by omega] at b
      exact (a b).elim
    · exact q
  · intro h k _ hk
    have := (ru_lce_in (t := t) (n := n) (i := 0) (j := p) (m := k) (by omega)).1
    rw [show 0 + k = k by omega, show p + k = k + p by omega] at this
    exact this
/-! the ordered list of runs: one more kept -/
def ru_lx (a p a' p' : Nat) : Prop := a < a' ∨ (a = a' ∧ p < p')
def ru_K (fd : Nat) (fr to st : Nat → Nat) (a b p fd' : Nat) (fr' to' st' : Nat → Nat) : Prop := fd ≤ fd' ∧ fd' ≤ fd + 1 ∧ ru_Srt fd' fr' st' ∧ (∀ k, k < fd' → (∃ k0, k0 < fd ∧ fr' k = fr k0 ∧ to' k = to k0 ∧ st' k = st k0) ∨ (fr' k = a ∧ to' k = b ∧ st' k = p)) ∧ (∀ k, k < fd → ∃ k', k' < fd' ∧ fr' k' = fr k ∧ to' k' = to k ∧ st' k' = st k) ∧ ∃ k, k < fd' ∧ fr' k = a ∧ st' k = p
theorem ru_K_no {fd : Nat} {fr to st : Nat → Nat} {a b p r : Nat} (hs : ru_Srt fd fr st) (hr : r < fd) (h1 : fr r = a) (h2 : st r = p) : ru_K fd fr to st a b p fd fr to st := ⟨Nat.le_refl _, by omega, hs, fun k hk => Or.inl ⟨k, hk, rfl, rfl, rfl⟩, fun k hk => ⟨k, hk, rfl, rfl, rfl⟩, r, hr, h1, h2⟩
theorem ru_K_ins {fd : Nat} {fr to st fr' to' st' : Nat → Nat} {a b p w : Nat} (hs : ru_Srt fd fr st) (hw : w ≤ fd) (h1 : ∀ k, k < w → ru_lx (fr k) (st k) a p) (h2 : ∀ k, w ≤ k → k < fd → ru_lx a p (fr k) (st k)) (g1 : ∀ k, k < w → fr' k = fr k ∧ to' k = to k ∧ st' k = st k) (g2 : fr' w = a ∧ to' w = b ∧ st' w = p) (g3 : ∀ k, w < k → k ≤ fd → fr' k = fr (k - 1) ∧ to' k = to (k - 1) ∧ st' k = st (k - 1)) : ru_K fd fr to st a b p (fd + 1) fr' to' st' := by
  refine ⟨by omega, Nat.le_refl _, ?_, ?_, ?_, w, by omega, g2.1, g2.2.2⟩
  · intro x y hxy hy
    rcases Nat.lt_trichotomy x w with q | q | q
    · obtain ⟨a1, -, a2⟩ := g1 x q
      rw [a1, a2]
      rcases Nat.lt_trichotomy y w with z | z | z
      · obtain ⟨b1, -, b2⟩ := g1 y z
        rw [b1, b2]
        exact hs x y hxy (by omega)
      · rw [z, g2.1, g2.2.2]
        exact h1 x q
      · obtain ⟨b1, -, b2⟩ := g3 y z (by omega)
        rw [b1, b2]
        exact hs x (y - 1) (by omega) (by omega)
    · rw [q, g2.1, g2.2.2]
      obtain ⟨b1, -, b2⟩ := g3 y (by omega) (by omega)
      rw [b1, b2]
      exact h2 (y - 1) (by omega) (by omega)
    · obtain ⟨a1, -, a2⟩ := g3 x q (by omega)
      obtain ⟨b1, -, b2⟩ := g3 y (by omega) (by omega)
      rw [a1, a2, b1, b2]
      exact hs (x - 1) (y - 1) (by omega) (by omega)
  · intro k hk
    rcases Nat.lt_trichotomy k w with q | q | q
    · exact Or.inl ⟨k, by omega, g1 k q⟩
    · rw [q]; exact Or.inr g2
    · exact Or.inl ⟨k - 1, by omega, g3 k q (by omega)⟩
  · intro k hk
    rcases Nat.lt_or_ge k w with q | q
    · exact ⟨k, by omega, g1 k q⟩
    · have := g3 (k + 1) (by omega) (by omega)
      rw [show k + 1 - 1 = k by omega] at this
      exact ⟨k + 1, by omega, this⟩
/-- what stands in the list while the words of an order are stretched: only runs, in order, those of the places before i among them -/
def ru_Cov (t : Nat → Nat) (n o i fd : Nat) (fr st : Nat → Nat) : Prop := ∀ x e, x < i → ru_N (ru_sq o t n) n x e → x - ru_lft t x e + 2 * (e - x) ≤ e + ru_lce t n x e → ∃ k, k < fd ∧ fr k = x - ru_lft t x e ∧ st k = e - x
def ru_Lst (t : Nat → Nat) (n fd : Nat) (fr to st : Nat → Nat) : Prop := (∀ k, k < fd → ru_Run t n (fr k) (to k) (st k)) ∧ ru_Srt fd fr st
theorem ru_Lst_K {t : Nat → Nat} {n fd : Nat} {fr to st fr' to' st' : Nat → Nat} {a b p fd' : Nat} (h : ru_Lst t n fd fr to st) (hr : ru_Run t n a b p) (hK : ru_K fd fr to st a b p fd' fr' to' st') : ru_Lst t n fd' fr' to' st' := by
  refine ⟨fun k hk => ?_, hK.2.2.1⟩
  rcases hK.2.2.2.1 k hk with ⟨k0, h0, h1, h2, h3⟩ | ⟨h1, h2, h3⟩
  · rw [h1, h2, h3]; exact h.1 k0 h0
  · rw [h1, h2, h3]; exact hr
theorem ru_Cov_K {t : Nat → Nat} {n o i fd : Nat} {fr to st fr' to' st' : Nat → Nat} {a b p fd' : Nat} (h : ru_Cov t n o i fd fr st) (hK : ru_K fd fr to st a b p fd' fr' to' st') : ru_Cov t n o i fd' fr' st' := by
  intro x e h1 h2 h3
  obtain ⟨k, k1, k2, k3⟩ := h x e h1 h2 h3
  obtain ⟨k', a1, a2, -, a3⟩ := hK.2.2.2.2.1 k k1
  exact ⟨k', a1, by omega, by omega⟩
/-- the place i is done: its run is in the list, or it has none -/
theorem ru_Cov_s {t : Nat → Nat} {n o i e fd : Nat} {fr st : Nat → Nat} (h : ru_Cov t n o i fd fr st) (hN : ru_N (ru_sq o t n) n i e) (hd : i - ru_lft t i e + 2 * (e - i) ≤ e + ru_lce t n i e → ∃ k, k < fd ∧ fr k = i - ru_lft t i e ∧ st k = e - i) : ru_Cov t n o (i + 1) fd fr st := by
  intro x e' h1 h2 h3
  by_cases q : x = i
  · subst q
    have := ru_N_uniq hN h2
    subst this
    exact hd h3
  · exact h x e' (by omega) h2 h3
theorem ru_N_last {t : Nat → Nat} (ht : ∀ k, t k < 4) {o n : Nat} (hn : 0 < n) : ru_N (ru_sq o t n) n (n - 1) n := ⟨by omega, by omega, fun y h1 h2 => by omega, ru_L_end (ru_sq_tx ht o n) (by omega)⟩
theorem ru_All_of {t : Nat → Nat} (ht : ∀ k, t k < 4) {n fd : Nat} {fr to st : Nat → Nat} (h : ru_Lst t n fd fr to st) (h0 : ru_Cov t n 0 n fd fr st) (h1 : ru_Cov t n 1 n fd fr st) : ru_All t n fd fr to st := by
  refine ⟨h.1, h.2, fun i j p hr => ?_⟩
  obtain ⟨o, ho, x, hx, hN, e1, e2⟩ := ru_run_found ht hr
  have hc : ru_Cov t n o n fd fr st := by
    rcases ho with q | q
    · rw [q]; exact h0
    · rw [q]; exact h1
  have h3 := hr.2.1
  have hp := hr.1
  obtain ⟨k, k1, k2, k3⟩ := hc x (x + p) hx hN (by omega)
  have hi : fr k = i := by omega
  have hp2 : st k = p := by omega
  refine ⟨k, k1, hi, ?_, hp2⟩
  have := h.1 k k1
  rw [hi, hp2] at this
  exact ru_Run_uniq this hr
end
section
/-! ROWS for walking: numbers that are natural numbers, worlds of the two classes, contracts, calls, loops -/
set_option maxRecDepth 100000
abbrev vwCl : List vw_C := [(RX0, TX0, 11), (RX1, TX1, 2)]
abbrev ru_ar (d : ClassId) (N : Nat) (f : Nat → Nat) : va_E := .inl (d, N, .inl (fun k => nI (f k)))
/-- a RunFinder at h, its arrays at a 0 .. a 7 -/
abbrev ru_X (d : ClassId) (h : Nat) (a : Nat → Nat) (n : Nat) (t : Nat → Nat) (rd : Nat) (o b e f : Nat → Nat) (fd : Nat) (fr to st : Nat → Nat) : va_W := [(h, .inr (0, [.int (nI n), .ref (a 0), .int (nI rd), .ref (a 1), .ref (a 2), .ref (a 3), .ref (a 4), .int (nI fd), .ref (a 5), .ref (a 6), .ref (a 7)])), (a 0, ru_ar d 32 t), (a 1, ru_ar d 1089 o), (a 2, ru_ar d 1089 b), (a 3, ru_ar d 33 e), (a 4, ru_ar d 33 f), (a 5, ru_ar d 64 fr), (a 6, ru_ar d 64 to), (a 7, ru_ar d 64 st)]
/-- a RunFinderModel at h, its array at g -/
abbrev ru_Y (d : ClassId) (h g n : Nat) (t : Nat → Nat) : va_W := [(h, .inr (1, [.int (nI n), .ref g])), (g, ru_ar d 32 t)]
/-- the world w stands in the heap H; since H0 nothing outside A was written -/
def ru_V (D : va_G) (d : ClassId) (A : Nat → Prop) (s : State) (H0 H : Heap) (locs : List Loc) (w : va_W) : Prop := va_K D vwCl [(d, .int)] s ∧ va_P D vwCl w H ∧ va_D A w ∧ va_S A H0 H locs ∧ ∀ q : Nat, H0.size ≤ q → A q
def ru_Pre (D : va_G) (d : ClassId) (w : va_W) (sz : Nat) (U : State) : Prop := U.heap.size = sz ∧ va_P D vwCl w U.heap ∧ va_K D vwCl [(d, .int)] U ∧ va_D (fun _ => True) w
def ru_Post (D : va_G) (d : ClassId) (A : Nat → Prop) (w : va_W) (t : State) : Prop := va_P D vwCl w t.heap ∧ va_K D vwCl [(d, .int)] t ∧ va_D A w
def ru_QI {S : Type} (D : va_G) (d : ClassId) (post : Int32 → S → Prop) (w' : S → va_W) (A : Nat → Prop) : Array Value → State → Outcome → State → Prop := va_Qi post (fun u t => ru_Post D d A (w' u) t) A
def ru_QV {S : Type} (D : va_G) (d : ClassId) (post : S → Prop) (w' : S → va_W) (A : Nat → Prop) : Array Value → State → Outcome → State → Prop := va_Qv post (fun u t => ru_Post D d A (w' u) t) A
def ru_R (f L : Nat) : Room := { frames := f, cells := 0, slots := 0, locals := L }
/-- a contract that makes no cells: in the world w, with the arguments av, the method answers r and leaves the world w' u, with post r u -/
def ru_MI {S : Type} (l : Launch) (y : MethodName) (cc : ByteArray) (maxL : Nat) (ret : Option FieldType) (rm : Room) (D : va_G) (d : ClassId) (av : List Value) (w : va_W) (post : Int32 → S → Prop) (w' : S → va_W) : Prop := ∀ sz : Nat, Met l y (ws_ y cc maxL ret) rm (va_Pc av (ru_Pre D d w sz)) (ru_QI D d post w' (va_A w sz)) 0 0 (va_A w sz)
def ru_MV {S : Type} (l : Launch) (y : MethodName) (cc : ByteArray) (maxL : Nat) (rm : Room) (D : va_G) (d : ClassId) (av : List Value) (w : va_W) (post : S → Prop) (w' : S → va_W) : Prop := ∀ sz : Nat, Met l y (ws_ y cc maxL none) rm (va_Pc av (ru_Pre D d w sz)) (ru_QV D d post w' (va_A w sz)) 0 0 (va_A w sz)
section RUR
variable {p : Program} {l : Launch} {e : Env} {R : Room} {s : State} {m : MethodId} {args : Array Value} {below : List Frame} {meth : Method} {c : Code} {H : Heap} {locs : List Loc} {cells slots : Nat} {Q : State → Prop}
variable {cc : ByteArray} {pc : Nat} {ls : Array Slot} {rest : List Value} {D : va_G} {d : ClassId} {A : Nat → Prop} {a : Nat} {w : va_W} {H0 : Heap}
/-- the number on top by another word -/
theorem ru_top {x y : Nat} (h : x = y) (kk : W p l e R s m args below meth c H locs cells slots Q (F0 m pc ls (.int (nI y) :: rest))) : W p l e R s m args below meth c H locs cells slots Q (F0 m pc ls (.int (nI x) :: rest)) := by
  rw [h]; exact kk
theorem ru_topr {x y : Int32} (h : x = y) (kk : W p l e R s m args below meth c H locs cells slots Q (F0 m pc ls (.int y :: rest))) : W p l e R s m args below meth c H locs cells slots Q (F0 m pc ls (.int x :: rest)) := by
  rw [h]; exact kk
theorem ru_iadd (hexec : p.tables.exec = Jvm.exec) (hb : c.code = cc) {x y : Nat} (hdg : decode cc pc = .ok (.iadd, 1)) (kk : W p l e R s m args below meth c H locs cells slots Q (F0 m (pc + 1) ls (.int (nI (x + y)) :: rest))) : W p l e R s m args below meth c H locs cells slots Q (F0 m pc ls (.int (nI y) :: .int (nI x) :: rest)) := by
  refine lv_iadd hexec hb hdg ?_
  rw [nI_add]; exact kk
theorem ru_imul (hexec : p.tables.exec = Jvm.exec) (hb : c.code = cc) {x y : Nat} (hdg : decode cc pc = .ok (.imul, 1)) (kk : W p l e R s m args below meth c H locs cells slots Q (F0 m (pc + 1) ls (.int (nI (x * y)) :: rest))) : W p l e R s m args below meth c H locs cells slots Q (F0 m pc ls (.int (nI y) :: .int (nI x) :: rest)) := by
  refine lv_imul hexec hb hdg ?_
  rw [pk_mul]; exact kk
theorem ru_isub (hexec : p.tables.exec = Jvm.exec) (hb : c.code = cc) {x y : Nat} (h : y ≤ x) (hdg : decode cc pc = .ok (.isub, 1)) (kk : W p l e R s m args below meth c H locs cells slots Q (F0 m (pc + 1) ls (.int (nI (x - y)) :: rest))) : W p l e R s m args below meth c H locs cells slots Q (F0 m pc ls (.int (nI y) :: .int (nI x) :: rest)) := by
  refine lv_isub hexec hb hdg ?_
  rw [pk_sub h]; exact kk
theorem ru_idiv (hexec : p.tables.exec = Jvm.exec) (hb : c.code = cc) {x y : Nat} (hx : x < 2147483648) (h0 : 0 < y) (hy : y < 2147483648) (hdg : decode cc pc = .ok (.idiv, 1)) (kk : W p l e R s m args below meth c H locs cells slots Q (F0 m (pc + 1) ls (.int (nI (x / y)) :: rest))) : W p l e R s m args below meth c H locs cells slots Q (F0 m pc ls (.int (nI y) :: .int (nI x) :: rest)) := by
  refine lv_idiv hexec hb hdg (nI_ne0 h0 hy) ?_
  rw [pk_div hx h0 hy]; exact kk
theorem ru_irem (hexec : p.tables.exec = Jvm.exec) (hb : c.code = cc) {x y : Nat} (hx : x < 2147483648) (h0 : 0 < y) (hy : y < 2147483648) (hdg : decode cc pc = .ok (.irem, 1)) (kk : W p l e R s m args below meth c H locs cells slots Q (F0 m (pc + 1) ls (.int (nI (x % y)) :: rest))) : W p l e R s m args below meth c H locs cells slots Q (F0 m pc ls (.int (nI y) :: .int (nI x) :: rest)) := by
  refine lv_irem hexec hb hdg (nI_ne0 h0 hy) ?_
  rw [pk_rem hx h0 hy]; exact kk
theorem ru_icmp_eq (hexec : p.tables.exec = Jvm.exec) (hb : c.code = cc) {x y : Nat} {off : Int} {tgt : Nat} (hdg : decode cc pc = .ok (.if_icmp .eq off, 3)) (ht : (pc : Int) + off = (tgt : Int)) (hx : x < 2147483648) (hy : y < 2147483648) (kt : x = y → W p l e R s m args below meth c H locs cells slots Q (F0 m tgt ls rest)) (kf : x ≠ y → W p l e R s m args below meth c H locs cells slots Q (F0 m (pc + 3) ls rest)) : W p l e R s m args below meth c H locs cells slots Q (F0 m pc ls (.int (nI y) :: .int (nI x) :: rest)) := lv_icmp_eq hexec hb hdg ht (fun h => kt ((nI_eq hx hy).mp h)) (fun h => kf (fun z => h ((nI_eq hx hy).mpr z)))
theorem ru_icmp_ne (hexec : p.tables.exec = Jvm.exec) (hb : c.code = cc) {x y : Nat} {off : Int} {tgt : Nat} (hdg : decode cc pc = .ok (.if_icmp .ne off, 3)) (ht : (pc : Int) + off = (tgt : Int)) (hx : x < 2147483648) (hy : y < 2147483648) (kt : x ≠ y → W p l e R s m args below meth c H locs cells slots Q (F0 m tgt ls rest)) (kf : x = y → W p l e R s m args below meth c H locs cells slots Q (F0 m (pc + 3) ls rest)) : W p l e R s m args below meth c H locs cells slots Q (F0 m pc ls (.int (nI y) :: .int (nI x) :: rest)) := lv_icmp_ne hexec hb hdg ht (fun h => kt (fun z => h ((nI_eq hx hy).mpr z))) (fun h => kf ((nI_eq hx hy).mp h))
theorem ru_icmp_lt (hexec : p.tables.exec = Jvm.exec) (hb : c.code = cc) {x y : Nat} {off : Int} {tgt : Nat} (hdg : decode cc pc = .ok (.if_icmp .lt off, 3)) (ht : (pc : Int) + off = (tgt : Int)) (hx : x < 2147483648) (hy : y < 2147483648) (kt : x < y → W p l e R s m args below meth c H locs cells slots Q (F0 m tgt ls rest)) (kf : y ≤ x → W p l e R s m args below meth c H locs cells slots Q (F0 m (pc + 3) ls rest)) : W p l e R s m args below meth c H locs cells slots Q (F0 m pc ls (.int (nI y) :: .int (nI x) :: rest)) := lv_icmp_lt hexec hb hdg ht (fun h => kt ((nI_ltI hx hy).mp h)) (fun h => kf (Nat.not_lt.mp (fun z => h ((nI_ltI hx hy).mpr z))))
theorem ru_icmp_ge (hexec : p.tables.exec = Jvm.exec) (hb : c.code = cc) {x y : Nat} {off : Int} {tgt : Nat} (hdg : decode cc pc = .ok (.if_icmp .ge off, 3)) (ht : (pc : Int) + off = (tgt : Int)) (hx : x < 2147483648) (hy : y < 2147483648) (kt : y ≤ x → W p l e R s m args below meth c H locs cells slots Q (F0 m tgt ls rest)) (kf : x < y → W p l e R s m args below meth c H locs cells slots Q (F0 m (pc + 3) ls rest)) : W p l e R s m args below meth c H locs cells slots Q (F0 m pc ls (.int (nI y) :: .int (nI x) :: rest)) := lv_icmp_ge hexec hb hdg ht (fun h => kt ((nI_leI hy hx).mp h)) (fun h => kf (Nat.not_le.mp (fun z => h ((nI_leI hy hx).mpr z))))
theorem ru_icmp_gt (hexec : p.tables.exec = Jvm.exec) (hb : c.code = cc) {x y : Nat} {off : Int} {tgt : Nat} (hdg : decode cc pc = .ok (.if_icmp .gt off, 3)) (ht : (pc : Int) + off = (tgt : Int)) (hx : x < 2147483648) (hy : y < 2147483648) (kt : y < x → W p l e R s m args below meth c H locs cells slots Q (F0 m tgt ls rest)) (kf : x ≤ y → W p l e R s m args below meth c H locs cells slots Q (F0 m (pc + 3) ls rest)) : W p l e R s m args below meth c H locs cells slots Q (F0 m pc ls (.int (nI y) :: .int (nI x) :: rest)) := lv_icmp_gt hexec hb hdg ht (fun h => kt ((nI_ltI hy hx).mp h)) (fun h => kf (Nat.not_lt.mp (fun z => h ((nI_ltI hy hx).mpr z))))
theorem ru_icmp_le (hexec : p.tables.exec = Jvm.exec) (hb : c.code = cc) {x y : Nat} {off : Int} {tgt : Nat} (hdg : decode cc pc = .ok (.if_icmp .le off, 3)) (ht : (pc : Int) + off = (tgt : Int)) (hx : x < 2147483648) (hy : y < 2147483648) (kt : x ≤ y → W p l e R s m args below meth c H locs cells slots Q (F0 m tgt ls rest)) (kf : y < x → W p l e R s m args below meth c H locs cells slots Q (F0 m (pc + 3) ls rest)) : W p l e R s m args below meth c H locs cells slots Q (F0 m pc ls (.int (nI y) :: .int (nI x) :: rest)) := lv_icmp_le hexec hb hdg ht (fun h => kt ((nI_leI hx hy).mp h)) (fun h => kf (Nat.not_le.mp (fun z => h ((nI_leI hx hy).mpr z))))
theorem ru_if_eq (hexec : p.tables.exec = Jvm.exec) (hb : c.code = cc) {x : Nat} {off : Int} {tgt : Nat} (hdg : decode cc pc = .ok (.ifCond .eq off, 3)) (ht : (pc : Int) + off = (tgt : Int)) (hx : x < 2147483648) (kt : x = 0 → W p l e R s m args below meth c H locs cells slots Q (F0 m tgt ls rest)) (kf : x ≠ 0 → W p l e R s m args below meth c H locs cells slots Q (F0 m (pc + 3) ls rest)) : W p l e R s m args below meth c H locs cells slots Q (F0 m pc ls (.int (nI x) :: rest)) := by
  have hy : (0 : Nat) < 2147483648 := by omega
  have e : ∀ z : Int32, (z = 0) = (z = nI 0) := fun z => by rw [nI_0]
  refine lv_if_eq hexec hb hdg ht (fun h => kt ((nI_eq hx hy).mp h)) (fun h => kf (fun z => h ((nI_eq hx hy).mpr z)))
theorem ru_if_ne (hexec : p.tables.exec = Jvm.exec) (hb : c.code = cc) {x : Nat} {off : Int} {tgt : Nat} (hdg : decode cc pc = .ok (.ifCond .ne off, 3)) (ht : (pc : Int) + off = (tgt : Int)) (hx : x < 2147483648) (kt : x ≠ 0 → W p l e R s m args below meth c H locs cells slots Q (F0 m tgt ls rest)) (kf : x = 0 → W p l e R s m args below meth c H locs cells slots Q (F0 m (pc + 3) ls rest)) : W p l e R s m args below meth c H locs cells slots Q (F0 m pc ls (.int (nI x) :: rest)) := by
  have hy : (0 : Nat) < 2147483648 := by omega
  have e : ∀ z : Int32, (z = 0) = (z = nI 0) := fun z => by rw [nI_0]
  refine lv_if_ne hexec hb hdg ht (fun h => kt (fun z => h ((nI_eq hx hy).mpr z))) (fun h => kf ((nI_eq hx hy).mp h))
theorem ru_if_gt (hexec : p.tables.exec = Jvm.exec) (hb : c.code = cc) {x : Nat} {off : Int} {tgt : Nat} (hdg : decode cc pc = .ok (.ifCond .gt off, 3)) (ht : (pc : Int) + off = (tgt : Int)) (hx : x < 2147483648) (kt : 0 < x → W p l e R s m args below meth c H locs cells slots Q (F0 m tgt ls rest)) (kf : x = 0 → W p l e R s m args below meth c H locs cells slots Q (F0 m (pc + 3) ls rest)) : W p l e R s m args below meth c H locs cells slots Q (F0 m pc ls (.int (nI x) :: rest)) := by
  have hy : (0 : Nat) < 2147483648 := by omega
  exact lv_if_gt hexec hb hdg ht (fun h => kt ((nI_ltI hy hx).mp (nI_0 ▸ h))) (fun h => kf (Nat.eq_zero_of_not_pos (fun z => h (by have := (nI_ltI hy hx).mpr z; rwa [nI_0] at this))))
theorem ru_if_le (hexec : p.tables.exec = Jvm.exec) (hb : c.code = cc) {x : Nat} {off : Int} {tgt : Nat} (hdg : decode cc pc = .ok (.ifCond .le off, 3)) (ht : (pc : Int) + off = (tgt : Int)) (hx : x < 2147483648) (kt : x = 0 → W p l e R s m args below meth c H locs cells slots Q (F0 m tgt ls rest)) (kf : 0 < x → W p l e R s m args below meth c H locs cells slots Q (F0 m (pc + 3) ls rest)) : W p l e R s m args below meth c H locs cells slots Q (F0 m pc ls (.int (nI x) :: rest)) := by
  have hy : (0 : Nat) < 2147483648 := by omega
  exact lv_if_le hexec hb hdg ht (fun h => kt (Nat.eq_zero_of_not_pos (fun z => nI_nle z hx h))) (fun h => kf (Nat.pos_of_ne_zero (fun z => h (by rw [z, nI_0]; decide))))
/-- a natural number isn't negative -/
theorem ru_if_ge (hexec : p.tables.exec = Jvm.exec) (hb : c.code = cc) {x : Nat} {off : Int} {tgt : Nat} (hdg : decode cc pc = .ok (.ifCond .ge off, 3)) (ht : (pc : Int) + off = (tgt : Int)) (hx : x < 2147483648) (kt : W p l e R s m args below meth c H locs cells slots Q (F0 m tgt ls rest)) : W p l e R s m args below meth c H locs cells slots Q (F0 m pc ls (.int (nI x) :: rest)) := lv_if_ge hexec hb hdg ht (fun _ => kt) (fun h => absurd (nI_pos' hx) h)
theorem ru_if_lt (hexec : p.tables.exec = Jvm.exec) (hb : c.code = cc) {x : Nat} {off : Int} {tgt : Nat} (hdg : decode cc pc = .ok (.ifCond .lt off, 3)) (ht : (pc : Int) + off = (tgt : Int)) (hx : x < 2147483648) (kf : W p l e R s m args below meth c H locs cells slots Q (F0 m (pc + 3) ls rest)) : W p l e R s m args below meth c H locs cells slots Q (F0 m pc ls (.int (nI x) :: rest)) := lv_if_lt hexec hb hdg ht (fun h => absurd h (nI_pos hx)) (fun _ => kf)
theorem ru_dec {x : Nat} (h : 0 < x) : nI x + Int32.ofInt (-1) = nI (x - 1) := sb_m1 h
theorem ru_inc (x : Nat) : nI x + Int32.ofInt 1 = nI (x + 1) := nI_1 x
/-- fields -/
theorem ru_get0 (hexec : p.tables.exec = Jvm.exec) (hb : c.code = cc) {own : String} {index : Nat} (hts : ∀ w ∈ lw_all, w.before args s = true) (hown : s.vm.findClass own = some m.cls) (V : ru_V D d A s H0 H locs w) (q0 : Nat) {fs : List Value} (he : w[q0]? = some (a, .inr (0, fs))) (k : Nat) (hk : k < 11) (hlink : (Cond.fieldLink own index (TX0 k).1 (TX0 k).2.1 (TX0 k).2.2.1).before args s = true) {v : Value} (hv : fs[k]? = some v) (hdg : decode cc pc = .ok (.getfield index, 3)) (kk : W p l e R s m args below meth c H locs cells slots Q (F0 m (pc + 3) ls (v :: rest))) : W p l e R s m args below meth c H locs cells slots Q (F0 m pc ls (.ref a :: rest)) := va_get (D := D) (ci := 0) (v := v) (C := RX0) (T := TX0) (N := 11) hexec hb hts in_X0 hown V.1 V.2.1 q0 he rfl k hk hlink (fun _ h9 => h9) hv hdg kk
theorem ru_get1 (hexec : p.tables.exec = Jvm.exec) (hb : c.code = cc) {own : String} {index : Nat} (hts : ∀ w ∈ lw_all, w.before args s = true) (hown : s.vm.findClass own = some m.cls) (V : ru_V D d A s H0 H locs w) (q0 : Nat) {fs : List Value} (he : w[q0]? = some (a, .inr (1, fs))) (k : Nat) (hk : k < 2) (hlink : (Cond.fieldLink own index (TX1 k).1 (TX1 k).2.1 (TX1 k).2.2.1).before args s = true) {v : Value} (hv : fs[k]? = some v) (hdg : decode cc pc = .ok (.getfield index, 3)) (kk : W p l e R s m args below meth c H locs cells slots Q (F0 m (pc + 3) ls (v :: rest))) : W p l e R s m args below meth c H locs cells slots Q (F0 m pc ls (.ref a :: rest)) := va_get (D := D) (ci := 1) (v := v) (C := RX1) (T := TX1) (N := 2) hexec hb hts in_X1 hown V.1 V.2.1 q0 he rfl k hk hlink (fun _ h9 => h9) hv hdg kk
theorem ru_put0 (hexec : p.tables.exec = Jvm.exec) (hb : c.code = cc) {own : String} {index : Nat} (hts : ∀ w ∈ lw_all, w.before args s = true) (hown : s.vm.findClass own = some m.cls) (V : ru_V D d A s H0 H locs w) (q0 : Nat) {fs : List Value} (he : w[q0]? = some (a, .inr (0, fs))) (k : Nat) (hk : k < 11) (hlink : (Cond.fieldLink own index (TX0 k).1 (TX0 k).2.1 (TX0 k).2.2.1).before args s = true) (hfin : (TX0 k).2.2.2 = false) {ty : FieldType} {v : Value} (hd : parseFieldDescriptor (TX0 k).2.2.1 = some ty) (hn : narrow ty v = v) (hfit : fits ty v = true) (hl : k < fs.length) (hdg : decode cc pc = .ok (.putfield index, 3)) (kk : ∀ (H1 : Heap) (locs1 : List Loc), ru_V D d A s H0 H1 locs1 (w.set q0 (a, .inr (0, fs.set k v))) → W p l e R s m args below meth c H1 locs1 cells slots Q (F0 m (pc + 3) ls rest)) : W p l e R s m args below meth c H locs cells slots Q (F0 m pc ls (v :: .ref a :: rest)) := va_put (D := D) (ci := 0) (v := v) (ty := ty) (C := RX0) (T := TX0) (N := 11) hexec hb hts in_X0 tyX0 tyX0_ok nmX0 hown V.1 V.2.1 V.2.2.1 V.2.2.2.1 q0 he rfl k hk hlink (fun _ h9 => h9) hfin hd hn hfit hl hdg (fun H1 locs1 h1 h2 h3 => kk H1 locs1 ⟨V.1, h1, h2, h3, V.2.2.2.2⟩)
theorem ru_putF0 (hexec : p.tables.exec = Jvm.exec) (hb : c.code = cc) {own : String} {index : Nat} (hts : ∀ w ∈ lw_all, w.before args s = true) (hown : s.vm.findClass own = some m.cls) (V : ru_V D d A s H0 H locs w) (q0 : Nat) {fs : List Value} (he : w[q0]? = some (a, .inr (0, fs))) (k : Nat) (hk : k < 11) (hlink : (Cond.fieldLink own index (TX0 k).1 (TX0 k).2.1 (TX0 k).2.2.1).before args s = true) (hfin : (TX0 k).2.2.2 = true) (hin2 : meth.name = "<init>") (hdecl : (TX0 k).1 = own) {ty : FieldType} {v : Value} (hd : parseFieldDescriptor (TX0 k).2.2.1 = some ty) (hn : narrow ty v = v) (hfit : fits ty v = true) (hl : k < fs.length) (hdg : decode cc pc = .ok (.putfield index, 3)) (kk : ∀ (H1 : Heap) (locs1 : List Loc), ru_V D d A s H0 H1 locs1 (w.set q0 (a, .inr (0, fs.set k v))) → W p l e R s m args below meth c H1 locs1 cells slots Q (F0 m (pc + 3) ls rest)) : W p l e R s m args below meth c H locs cells slots Q (F0 m pc ls (v :: .ref a :: rest)) := va_putF (D := D) (ci := 0) (v := v) (ty := ty) (C := RX0) (T := TX0) (N := 11) hexec hb hts in_X0 tyX0 tyX0_ok nmX0 hown V.1 V.2.1 V.2.2.1 V.2.2.2.1 q0 he rfl k hk hlink (fun _ h9 => h9) hfin hin2 hdecl hd hn hfit hl hdg (fun H1 locs1 h1 h2 h3 => kk H1 locs1 ⟨V.1, h1, h2, h3, V.2.2.2.2⟩)
theorem ru_put1 (hexec : p.tables.exec = Jvm.exec) (hb : c.code = cc) {own : String} {index : Nat} (hts : ∀ w ∈ lw_all, w.before args s = true) (hown : s.vm.findClass own = some m.cls) (V : ru_V D d A s H0 H locs w) (q0 : Nat) {fs : List Value} (he : w[q0]? = some (a, .inr (1, fs))) (k : Nat) (hk : k < 2) (hlink : (Cond.fieldLink own index (TX1 k).1 (TX1 k).2.1 (TX1 k).2.2.1).before args s = true) (hfin : (TX1 k).2.2.2 = false) {ty : FieldType} {v : Value} (hd : parseFieldDescriptor (TX1 k).2.2.1 = some ty) (hn : narrow ty v = v) (hfit : fits ty v = true) (hl : k < fs.length) (hdg : decode cc pc = .ok (.putfield index, 3)) (kk : ∀ (H1 : Heap) (locs1 : List Loc), ru_V D d A s H0 H1 locs1 (w.set q0 (a, .inr (1, fs.set k v))) → W p l e R s m args below meth c H1 locs1 cells slots Q (F0 m (pc + 3) ls rest)) : W p l e R s m args below meth c H locs cells slots Q (F0 m pc ls (v :: .ref a :: rest)) := va_put (D := D) (ci := 1) (v := v) (ty := ty) (C := RX1) (T := TX1) (N := 2) hexec hb hts in_X1 tyX1 tyX1_ok nmX1 hown V.1 V.2.1 V.2.2.1 V.2.2.2.1 q0 he rfl k hk hlink (fun _ h9 => h9) hfin hd hn hfit hl hdg (fun H1 locs1 h1 h2 h3 => kk H1 locs1 ⟨V.1, h1, h2, h3, V.2.2.2.2⟩)
theorem ru_putF1 (hexec : p.tables.exec = Jvm.exec) (hb : c.code = cc) {own : String} {index : Nat} (hts : ∀ w ∈ lw_all, w.before args s = true) (hown : s.vm.findClass own = some m.cls) (V : ru_V D d A s H0 H locs w) (q0 : Nat) {fs : List Value} (he : w[q0]? = some (a, .inr (1, fs))) (k : Nat) (hk : k < 2) (hlink : (Cond.fieldLink own index (TX1 k).1 (TX1 k).2.1 (TX1 k).2.2.1).before args s = true) (hfin : (TX1 k).2.2.2 = true) (hin2 : meth.name = "<init>") (hdecl : (TX1 k).1 = own) {ty : FieldType} {v : Value} (hd : parseFieldDescriptor (TX1 k).2.2.1 = some ty) (hn : narrow ty v = v) (hfit : fits ty v = true) (hl : k < fs.length) (hdg : decode cc pc = .ok (.putfield index, 3)) (kk : ∀ (H1 : Heap) (locs1 : List Loc), ru_V D d A s H0 H1 locs1 (w.set q0 (a, .inr (1, fs.set k v))) → W p l e R s m args below meth c H1 locs1 cells slots Q (F0 m (pc + 3) ls rest)) : W p l e R s m args below meth c H locs cells slots Q (F0 m pc ls (v :: .ref a :: rest)) := va_putF (D := D) (ci := 1) (v := v) (ty := ty) (C := RX1) (T := TX1) (N := 2) hexec hb hts in_X1 tyX1 tyX1_ok nmX1 hown V.1 V.2.1 V.2.2.1 V.2.2.2.1 q0 he rfl k hk hlink (fun _ h9 => h9) hfin hin2 hdecl hd hn hfit hl hdg (fun H1 locs1 h1 h2 h3 => kk H1 locs1 ⟨V.1, h1, h2, h3, V.2.2.2.2⟩)
/-- arrays -/
theorem ru_ald (hexec : p.tables.exec = Jvm.exec) (hb : c.code = cc) (V : ru_V D d A s H0 H locs w) (q0 : Nat) {N k : Nat} {f : Nat → Nat} (ha : w[q0]? = some (a, ru_ar d N f)) (hN : N < 2147483648) (hk : k < N) (hdg : decode cc pc = .ok (.iaload, 1)) (kk : W p l e R s m args below meth c H locs cells slots Q (F0 m (pc + 1) ls (.int (nI (f k)) :: rest))) : W p l e R s m args below meth c H locs cells slots Q (F0 m pc ls (.int (nI k) :: .ref a :: rest)) := by
  refine va_iald hexec hb V.1 V.2.1 q0 0 ha rfl (vp_in_nI hk hN) hdg ?_
  rw [nI_clamp (by omega)]
  exact kk
theorem ru_up_eq (f : Nat → Nat) {k : Nat} (x : Nat) (hk : k < 2147483648) : upd (fun j => nI (f j)) (nI k).toNatClampNeg (nI x) = fun j => nI (va_up f k x j) := by
  rw [nI_clamp (by omega)]
  funext j
  unfold upd va_up
  by_cases h : j = k
  · rw [if_pos h, if_pos h]
  · rw [if_neg h, if_neg h]
theorem ru_ast (hexec : p.tables.exec = Jvm.exec) (hb : c.code = cc) (V : ru_V D d A s H0 H locs w) (q0 : Nat) {N k x : Nat} {f : Nat → Nat} (ha : w[q0]? = some (a, ru_ar d N f)) (hN : N < 2147483648) (hk : k < N) (hdg : decode cc pc = .ok (.iastore, 1)) (kk : ∀ (H1 : Heap) (locs1 : List Loc), ru_V D d A s H0 H1 locs1 (w.set q0 (a, ru_ar d N (va_up f k x))) → W p l e R s m args below meth c H1 locs1 cells slots Q (F0 m (pc + 1) ls rest)) : W p l e R s m args below meth c H locs cells slots Q (F0 m pc ls (.int (nI x) :: .int (nI k) :: .ref a :: rest)) := by
  refine va_iast hexec hb V.1 V.2.1 V.2.2.1 V.2.2.2.1 q0 0 ha rfl (vp_in_nI hk hN) hdg fun H1 locs1 h1 h2 h3 => ?_
  rw [ru_up_eq f x (by omega)] at h1 h2
  exact kk H1 locs1 ⟨V.1, h1, h2, h3, V.2.2.2.2⟩
theorem ru_newa (hexec : p.tables.exec = Jvm.exec) (hb : c.code = cc) (hts : ∀ w ∈ lw_all, w.before args s = true) (V : ru_V D d A s H0 H locs w) {N : Nat} (hN : N < 2000) (hcells : cells + 1 ≤ R.cells) (hslots : slots + N ≤ R.slots) (hdg : decode cc pc = .ok (.newarray .int, 2)) (kk : ∀ (q : Nat) (H1 : Heap), ru_V D d A s H0 H1 locs (w ++ [(q, ru_ar d N (fun _ => 0))]) → W p l e R s m args below meth c H1 locs (cells + 1) (slots + N) Q (F0 m (pc + 2) ls (.ref q :: rest))) : W p l e R s m args below meth c H locs cells slots Q (F0 m pc ls (.int (nI N) :: rest)) := by
  refine va_newa hexec hb (atype := .int) (ty := .int) (hts _ q63) rfl V.1 V.2.1 V.2.2.1 V.2.2.2.1 V.2.2.2.2 (N' := N) (a0 := (N, .inl (fun _ => nI 0))) (fun cA => rfl) (nI_pos (by omega)) (nI_clamp (by omega)) (by show N * 4 ≤ _; omega) hcells hslots hdg (fun q cA H1 h0 h1 h2 h3 => ?_)
  have e1 : s.vm.findClass ("[" ++ FieldType.int.toString) = some d := (V.1.2 0 (d, .int) rfl).2
  have e2 : s.vm.findClass ("[" ++ FieldType.int.toString) = some cA := (h0.2 1 (cA, .int) rfl).2
  have e : cA = d := Option.some.inj (e2.symm.trans e1)
  subst e
  exact kk q H1 ⟨V.1, h1, h2, h3, V.2.2.2.2⟩
/-- answers -/
theorem ru_iret {S : Type} {post : Int32 → S → Prop} {w' : S → va_W} {v : Int32} (hexec : p.tables.exec = Jvm.exec) (hb : c.code = cc) (hr : meth.sig.returnType = some .int) (hlocks : meth.locks = false) (u : S) (V : ru_V D d A s s.heap H locs (w' u)) (hp : post v u) (hdg : decode cc pc = .ok (.ireturn, 1)) : W p l e R s m args below meth c H locs cells slots (MQ below (ru_QI D d post w' A) args s cells slots A) (F0 m pc ls [.int v]) := W.iret hexec hb hr (fun t ht hW => ⟨⟨v, u, rfl, hp, by rw [ht]; exact V.2.1, va_K.moved hW.alike V.1, V.2.2.1⟩, V.2.2.2.1.F ht⟩) V.2.2.2.1.2.2 hdg hlocks
theorem ru_zret {S : Type} {post : Int32 → S → Prop} {w' : S → va_W} {v : Nat} (hexec : p.tables.exec = Jvm.exec) (hb : c.code = cc) (hr : meth.sig.returnType = some .boolean) (hlocks : meth.locks = false) (u : S) (V : ru_V D d A s s.heap H locs (w' u)) (hv : v = 0 ∨ v = 1) (hp : post (nI v) u) (hdg : decode cc pc = .ok (.ireturn, 1)) : W p l e R s m args below meth c H locs cells slots (MQ below (ru_QI D d post w' A) args s cells slots A) (F0 m pc ls [.int (nI v)]) := W.zret hexec hb hr (by rcases hv with q | q <;> rw [q] <;> rfl) (fun t ht hW => ⟨⟨nI v, u, rfl, hp, by rw [ht]; exact V.2.1, va_K.moved hW.alike V.1, V.2.2.1⟩, V.2.2.2.1.F ht⟩) V.2.2.2.1.2.2 hdg hlocks
theorem ru_vret {S : Type} {post : S → Prop} {w' : S → va_W} (hexec : p.tables.exec = Jvm.exec) (hb : c.code = cc) (hr : meth.sig.returnType = none) (hlocks : meth.locks = false) (u : S) (V : ru_V D d A s s.heap H locs (w' u)) (hp : post u) (hdg : decode cc pc = .ok (.return_, 1)) : W p l e R s m args below meth c H locs cells slots (MQ below (ru_QV D d post w' A) args s cells slots A) (F0 m pc ls []) := W.vret hexec hb hr (fun t ht hW => ⟨⟨u, rfl, hp, by rw [ht]; exact V.2.1, va_K.moved hW.alike V.1, V.2.2.1⟩, V.2.2.2.1.F ht⟩) V.2.2.2.1.2.2 hdg hlocks
/-- the call's own cells, cut out of the caller's, and back -/
theorem ru_at1 (w1 w2 : va_W) : (List.range w1.length).map (fun i => (w1 ++ w2)[i]?) = w1.map some := by
  apply List.ext_getElem?
  intro i
  rw [List.getElem?_map, List.getElem?_map]
  by_cases h : i < w1.length
  · rw [List.getElem?_range h]
    simp [List.getElem?_append_left h, h]
  · rw [List.getElem?_eq_none (by simp; omega), List.getElem?_eq_none (by omega)]
    rfl
theorem ru_at2 (w1 w2 : va_W) : ((List.range w2.length).map (fun i => w1.length + i)).map (fun i => (w1 ++ w2)[i]?) = w2.map some := by
  apply List.ext_getElem?
  intro i
  rw [List.getElem?_map, List.getElem?_map, List.getElem?_map]
  by_cases h : i < w2.length
  · rw [List.getElem?_range h]
    simp [h]
  · rw [List.getElem?_eq_none (by simp; omega), List.getElem?_eq_none (by omega)]
    rfl
theorem ru_nd : ∀ (l : List Nat), l.Nodup → va_nd l = true
  | [], _ => rfl
  | x :: l, h => by
    rw [List.nodup_cons] at h
    simp only [va_nd, Bool.and_eq_true, decide_eq_true_eq]
    exact ⟨h.1, ru_nd l h.2⟩
theorem ru_nd2 (k n : Nat) : va_nd ((List.range n).map (fun i => k + i)) = true := by
  refine ru_nd _ ?_
  rw [List.nodup_iff_pairwise_ne, List.pairwise_map]
  exact List.Pairwise.imp (fun h => by omega) List.pairwise_lt_range
theorem ru_split {w1 w2 : va_W} (V : ru_V D d A s H0 H locs (w1 ++ w2)) : (∀ q, va_A w1 H.size q → A q) ∧ va_P D vwCl w1 H ∧ va_D (fun _ => True) w1 := by
  obtain ⟨hK, hP, hD, hS, hA⟩ := V
  refine ⟨va_free hD hS hA (List.range w1.length) (ru_at1 w1 w2), fun k q hk => hP k q (by rw [List.getElem?_append_left (List.getElem?_eq_some_iff.mp hk).1]; exact hk), ?_⟩
  exact ((hD.sub (List.range w1.length) (ru_nd _ List.nodup_range) (ru_at1 w1 w2)).weaken (fun _ _ _ _ => trivial))
theorem ru_unite {w1 w2 w1' : va_W} {t : State} {H1 : Heap} {locs1 : List Loc} (V : ru_V D d A s H0 H locs (w1 ++ w2)) (ht : t.heap = H1) (hk : ∀ q : Nat, q < H.size → ¬ va_A w1 H.size q → H1[q]? = H[q]?) (hS : va_S A H0 H1 locs1) (hB : ru_Post D d (va_A w1 H.size) w1' t) : ru_V D d A s H0 H1 locs1 (w2 ++ w1') := by
  have hF := (ru_split V).1
  obtain ⟨hK, hP, hD, -, hA⟩ := V
  obtain ⟨b1, b2, b3⟩ := hB
  rw [ht] at b1
  obtain ⟨g1, g2⟩ := va_join hP hD (List.range w1.length) ((List.range w2.length).map (fun i => w1.length + i)) (ru_at1 w1 w2) (ru_at2 w1 w2) (ru_nd2 _ _) (fun i hi hj => by
    obtain ⟨j, -, rfl⟩ := List.mem_map.mp hi
    have := List.mem_range.mp hj
    omega) hk hF b1 b3
  exact ⟨hK, g1, g2, hS, hA⟩
theorem ru_blind {D : va_G} {d : ClassId} {av : List Value} {w : va_W} {sz : Nat} : FrameBlind (va_Pc av (ru_Pre D d w sz)) := fun a U g mk q => by
  obtain ⟨q0, q1, qP, qK, qD⟩ := q
  exact ⟨q0, q1, qP, va_K.moved (u := U) (U := U.calling g mk a) (Vm.Alike.refl U.vm) qK, qD⟩
theorem ru_callVI {S : Type} {y : MethodName} {bytes : ByteArray} {maxL nL n index : Nat} {ret : Option FieldType} {rm : Room} {post : Int32 → S → Prop} {w' : S → va_W} {own C : String} {T : u_T} {N ci b : Nat} {As fs : List Value} {w1 w2 : va_W} {st0 : List Value} (S0 : CallFix p m c cc nL s args lw_all own) (V : ru_V D d A s H0 H locs (w1 ++ w2)) (hM : ru_MI l y bytes maxL ret rm D d (.ref b :: As) w1 post w') (cw : CallW R s args own C index y bytes maxL ret (ws_ y bytes maxL ret) rm 0 0 n) (q0 : Nat) (hq : w1[q0]? = some (b, .inr (ci, fs))) (hc : vwCl[ci]? = some (C, T, N)) (hn : As.length = n) (hsize : ls.size = nL) (hst : st0 = As.reverse ++ .ref b :: rest) (hW : (rest.map fun v => v.category).sum ≤ 8) (hdg : decode cc pc = .ok (.invokevirtual index, 3)) (hR : cells ≤ R.cells ∧ slots ≤ R.slots)
    (kk : ∀ (r : Int32) (u : S) (H1 : Heap) (locs1 : List Loc), post r u → ru_V D d A s H0 H1 locs1 (w2 ++ w' u) → W p l e R s m args below meth c H1 locs1 cells slots Q (F0 m (pc + 3) ls (.int r :: rest))) : W p l e R s m args below meth c H locs cells slots Q (F0 m pc ls st0) := by
  obtain ⟨hF, hP1, hD1⟩ := ru_split V
  refine va_calli (va_runV (As := As) (rest := rest) S0 (hM H.size) cw ⟨ru_blind, va_recv V.1 hP1 hc hq, fun U hU hW => ⟨rfl, by rw [hU], by rw [hU]; exact hP1, va_K.moved hW.alike V.1, hD1⟩⟩ rfl hn hsize hst (lv_room hW) hdg hR) V.2.2.2.1 (fun q _ h => hF q h) hF (fun r u t H1 locs1 ht hvm hpost hB hz1 hk1 hS => ?_)
  exact kk r u H1 locs1 hpost (ru_unite V ht hk1 hS hB)
theorem ru_callSI {S : Type} {y : MethodName} {bytes : ByteArray} {maxL nL n index : Nat} {ret : Option FieldType} {rm : Room} {post : Int32 → S → Prop} {w' : S → va_W} {own : String} {As : List Value} {w1 w2 : va_W} {st0 : List Value} (S0 : CallFix p m c cc nL s args lw_all own) (V : ru_V D d A s H0 H locs (w1 ++ w2)) (hM : ru_MI l y bytes maxL ret rm D d As w1 post w') (cw : CallB R s args own index y bytes maxL ret (ws_ y bytes maxL ret) rm 0 0 n ∧ (Cond.static y).before args s = true) (hn : As.length = n) (hsize : ls.size = nL) (hst : st0 = As.reverse ++ rest) (hW : (rest.map fun v => v.category).sum ≤ 8) (hdg : decode cc pc = .ok (.invokestatic index, 3)) (hR : cells ≤ R.cells ∧ slots ≤ R.slots)
    (kk : ∀ (r : Int32) (u : S) (H1 : Heap) (locs1 : List Loc), post r u → ru_V D d A s H0 H1 locs1 (w2 ++ w' u) → W p l e R s m args below meth c H1 locs1 cells slots Q (F0 m (pc + 3) ls (.int r :: rest))) : W p l e R s m args below meth c H locs cells slots Q (F0 m pc ls st0) := by
  obtain ⟨hF, hP1, hD1⟩ := ru_split V
  refine va_calli (va_runS (As := As) (rest := rest) S0 (hM H.size) cw ⟨ru_blind, fun U hU hW => ⟨rfl, by rw [hU], by rw [hU]; exact hP1, va_K.moved hW.alike V.1, hD1⟩⟩ rfl hn hsize hst (lv_room hW) hdg hR) V.2.2.2.1 (fun q _ h => hF q h) hF (fun r u t H1 locs1 ht hvm hpost hB hz1 hk1 hS => ?_)
  exact kk r u H1 locs1 hpost (ru_unite V ht hk1 hS hB)
theorem ru_callVV {S : Type} {y : MethodName} {bytes : ByteArray} {maxL nL n index : Nat} {rm : Room} {post : S → Prop} {w' : S → va_W} {own C : String} {T : u_T} {N ci b : Nat} {As fs : List Value} {w1 w2 : va_W} {st0 : List Value} (S0 : CallFix p m c cc nL s args lw_all own) (V : ru_V D d A s H0 H locs (w1 ++ w2)) (hM : ru_MV l y bytes maxL rm D d (.ref b :: As) w1 post w') (cw : CallW R s args own C index y bytes maxL none (ws_ y bytes maxL none) rm 0 0 n) (q0 : Nat) (hq : w1[q0]? = some (b, .inr (ci, fs))) (hc : vwCl[ci]? = some (C, T, N)) (hn : As.length = n) (hsize : ls.size = nL) (hst : st0 = As.reverse ++ .ref b :: rest) (hW : (rest.map fun v => v.category).sum ≤ 8) (hdg : decode cc pc = .ok (.invokevirtual index, 3)) (hR : cells ≤ R.cells ∧ slots ≤ R.slots)
    (kk : ∀ (u : S) (H1 : Heap) (locs1 : List Loc), post u → ru_V D d A s H0 H1 locs1 (w2 ++ w' u) → W p l e R s m args below meth c H1 locs1 cells slots Q (F0 m (pc + 3) ls rest)) : W p l e R s m args below meth c H locs cells slots Q (F0 m pc ls st0) := by
  obtain ⟨hF, hP1, hD1⟩ := ru_split V
  refine va_callv (va_runV (As := As) (rest := rest) S0 (hM H.size) cw ⟨ru_blind, va_recv V.1 hP1 hc hq, fun U hU hW => ⟨rfl, by rw [hU], by rw [hU]; exact hP1, va_K.moved hW.alike V.1, hD1⟩⟩ rfl hn hsize hst (lv_room hW) hdg hR) V.2.2.2.1 (fun q _ h => hF q h) hF (fun u t H1 locs1 ht hvm hpost hB hz1 hk1 hS => ?_)
  exact kk u H1 locs1 hpost (ru_unite V ht hk1 hS hB)
theorem ru_callSV {S : Type} {y : MethodName} {bytes : ByteArray} {maxL nL n index : Nat} {rm : Room} {post : S → Prop} {w' : S → va_W} {own : String} {As : List Value} {w1 w2 : va_W} {st0 : List Value} (S0 : CallFix p m c cc nL s args lw_all own) (V : ru_V D d A s H0 H locs (w1 ++ w2)) (hM : ru_MV l y bytes maxL rm D d As w1 post w') (cw : CallB R s args own index y bytes maxL none (ws_ y bytes maxL none) rm 0 0 n ∧ (Cond.static y).before args s = true) (hn : As.length = n) (hsize : ls.size = nL) (hst : st0 = As.reverse ++ rest) (hW : (rest.map fun v => v.category).sum ≤ 8) (hdg : decode cc pc = .ok (.invokestatic index, 3)) (hR : cells ≤ R.cells ∧ slots ≤ R.slots)
    (kk : ∀ (u : S) (H1 : Heap) (locs1 : List Loc), post u → ru_V D d A s H0 H1 locs1 (w2 ++ w' u) → W p l e R s m args below meth c H1 locs1 cells slots Q (F0 m (pc + 3) ls rest)) : W p l e R s m args below meth c H locs cells slots Q (F0 m pc ls st0) := by
  obtain ⟨hF, hP1, hD1⟩ := ru_split V
  refine va_callv (va_runS (As := As) (rest := rest) S0 (hM H.size) cw ⟨ru_blind, fun U hU hW => ⟨rfl, by rw [hU], by rw [hU]; exact hP1, va_K.moved hW.alike V.1, hD1⟩⟩ rfl hn hsize hst (lv_room hW) hdg hR) V.2.2.2.1 (fun q _ h => hF q h) hF (fun u t H1 locs1 ht hvm hpost hB hz1 hk1 hS => ?_)
  exact kk u H1 locs1 hpost (ru_unite V ht hk1 hS hB)
theorem ru_loop1 {I1 : Type} {nL head : Nat} (lv : I1 → List (Nat × Value)) (wd : I1 → va_W) (P : I1 → Prop) (μ : I1 → Nat)
    (body : ∀ (x1 : I1) (H : Heap) (locs : List Loc) (ls : Array Slot), P x1 → lv_has ls nL (lv x1) → ru_V D d A s H0 H locs (wd x1) → (∀ (y1 : I1) (H : Heap) (locs : List Loc) (ls : Array Slot), μ y1 < μ x1 → P y1 → lv_has ls nL (lv y1) → ru_V D d A s H0 H locs (wd y1) → W p l e R s m args below meth c H locs cells slots Q (F0 m head ls [])) → W p l e R s m args below meth c H locs cells slots Q (F0 m head ls [])) :
    ∀ (x1 : I1) (H : Heap) (locs : List Loc) (ls : Array Slot), P x1 → lv_has ls nL (lv x1) → ru_V D d A s H0 H locs (wd x1) → W p l e R s m args below meth c H locs cells slots Q (F0 m head ls []) := by
  have key : ∀ (n : Nat) (x1 : I1) (H : Heap) (locs : List Loc) (ls : Array Slot), μ x1 ≤ n → P x1 → lv_has ls nL (lv x1) → ru_V D d A s H0 H locs (wd x1) → W p l e R s m args below meth c H locs cells slots Q (F0 m head ls []) := by
    intro n
    induction n with
    | zero =>
      intro x1 H locs ls h0 h1 h2 h3
      exact body x1 H locs ls h1 h2 h3 (fun y1 H locs ls h4 => absurd h4 (by omega))
    | succ n ih =>
      intro x1 H locs ls h0 h1 h2 h3
      exact body x1 H locs ls h1 h2 h3 (fun y1 H locs ls h4 h5 h6 h7 => ih y1 H locs ls (by omega) h5 h6 h7)
  intro x1 H locs ls h1 h2 h3
  exact key _ x1 H locs ls (Nat.le_refl _) h1 h2 h3
theorem ru_loop2 {I1 I2 : Type} {nL head : Nat} (lv : I1 → I2 → List (Nat × Value)) (wd : I1 → I2 → va_W) (P : I1 → I2 → Prop) (μ : I1 → I2 → Nat)
    (body : ∀ (x1 : I1) (x2 : I2) (H : Heap) (locs : List Loc) (ls : Array Slot), P x1 x2 → lv_has ls nL (lv x1 x2) → ru_V D d A s H0 H locs (wd x1 x2) → (∀ (y1 : I1) (y2 : I2) (H : Heap) (locs : List Loc) (ls : Array Slot), μ y1 y2 < μ x1 x2 → P y1 y2 → lv_has ls nL (lv y1 y2) → ru_V D d A s H0 H locs (wd y1 y2) → W p l e R s m args below meth c H locs cells slots Q (F0 m head ls [])) → W p l e R s m args below meth c H locs cells slots Q (F0 m head ls [])) :
    ∀ (x1 : I1) (x2 : I2) (H : Heap) (locs : List Loc) (ls : Array Slot), P x1 x2 → lv_has ls nL (lv x1 x2) → ru_V D d A s H0 H locs (wd x1 x2) → W p l e R s m args below meth c H locs cells slots Q (F0 m head ls []) := by
  have key : ∀ (n : Nat) (x1 : I1) (x2 : I2) (H : Heap) (locs : List Loc) (ls : Array Slot), μ x1 x2 ≤ n → P x1 x2 → lv_has ls nL (lv x1 x2) → ru_V D d A s H0 H locs (wd x1 x2) → W p l e R s m args below meth c H locs cells slots Q (F0 m head ls []) := by
    intro n
    induction n with
    | zero =>
      intro x1 x2 H locs ls h0 h1 h2 h3
      exact body x1 x2 H locs ls h1 h2 h3 (fun y1 y2 H locs ls h4 => absurd h4 (by omega))
    | succ n ih =>
      intro x1 x2 H locs ls h0 h1 h2 h3
      exact body x1 x2 H locs ls h1 h2 h3 (fun y1 y2 H locs ls h4 h5 h6 h7 => ih y1 y2 H locs ls (by omega) h5 h6 h7)
  intro x1 x2 H locs ls h1 h2 h3
  exact key _ x1 x2 H locs ls (Nat.le_refl _) h1 h2 h3
theorem ru_loop3 {I1 I2 I3 : Type} {nL head : Nat} (lv : I1 → I2 → I3 → List (Nat × Value)) (wd : I1 → I2 → I3 → va_W) (P : I1 → I2 → I3 → Prop) (μ : I1 → I2 → I3 → Nat)
    (body : ∀ (x1 : I1) (x2 : I2) (x3 : I3) (H : Heap) (locs : List Loc) (ls : Array Slot), P x1 x2 x3 → lv_has ls nL (lv x1 x2 x3) → ru_V D d A s H0 H locs (wd x1 x2 x3) → (∀ (y1 : I1) (y2 : I2) (y3 : I3) (H : Heap) (locs : List Loc) (ls : Array Slot), μ y1 y2 y3 < μ x1 x2 x3 → P y1 y2 y3 → lv_has ls nL (lv y1 y2 y3) → ru_V D d A s H0 H locs (wd y1 y2 y3) → W p l e R s m args below meth c H locs cells slots Q (F0 m head ls [])) → W p l e R s m args below meth c H locs cells slots Q (F0 m head ls [])) :
    ∀ (x1 : I1) (x2 : I2) (x3 : I3) (H : Heap) (locs : List Loc) (ls : Array Slot), P x1 x2 x3 → lv_has ls nL (lv x1 x2 x3) → ru_V D d A s H0 H locs (wd x1 x2 x3) → W p l e R s m args below meth c H locs cells slots Q (F0 m head ls []) := by
  have key : ∀ (n : Nat) (x1 : I1) (x2 : I2) (x3 : I3) (H : Heap) (locs : List Loc) (ls : Array Slot), μ x1 x2 x3 ≤ n → P x1 x2 x3 → lv_has ls nL (lv x1 x2 x3) → ru_V D d A s H0 H locs (wd x1 x2 x3) → W p l e R s m args below meth c H locs cells slots Q (F0 m head ls []) := by
    intro n
    induction n with
    | zero =>
      intro x1 x2 x3 H locs ls h0 h1 h2 h3
      exact body x1 x2 x3 H locs ls h1 h2 h3 (fun y1 y2 y3 H locs ls h4 => absurd h4 (by omega))
    | succ n ih =>
      intro x1 x2 x3 H locs ls h0 h1 h2 h3
      exact body x1 x2 x3 H locs ls h1 h2 h3 (fun y1 y2 y3 H locs ls h4 h5 h6 h7 => ih y1 y2 y3 H locs ls (by omega) h5 h6 h7)
  intro x1 x2 x3 H locs ls h1 h2 h3
  exact key _ x1 x2 x3 H locs ls (Nat.le_refl _) h1 h2 h3
theorem ru_loop4 {I1 I2 I3 I4 : Type} {nL head : Nat} (lv : I1 → I2 → I3 → I4 → List (Nat × Value)) (wd : I1 → I2 → I3 → I4 → va_W) (P : I1 → I2 → I3 → I4 → Prop) (μ : I1 → I2 → I3 → I4 → Nat)
    (body : ∀ (x1 : I1) (x2 : I2) (x3 : I3) (x4 : I4) (H : Heap) (locs : List Loc) (ls : Array Slot), P x1 x2 x3 x4 → lv_has ls nL (lv x1 x2 x3 x4) → ru_V D d A s H0 H locs (wd x1 x2 x3 x4) → (∀ (y1 : I1) (y2 : I2) (y3 : I3) (y4 : I4) (H : Heap) (locs : List Loc) (ls : Array Slot), μ y1 y2 y3 y4 < μ x1 x2 x3 x4 → P y1 y2 y3 y4 → lv_has ls nL (lv y1 y2 y3 y4) → ru_V D d A s H0 H locs (wd y1 y2 y3 y4) → W p l e R s m args below meth c H locs cells slots Q (F0 m head ls [])) → W p l e R s m args below meth c H locs cells slots Q (F0 m head ls [])) :
    ∀ (x1 : I1) (x2 : I2) (x3 : I3) (x4 : I4) (H : Heap) (locs : List Loc) (ls : Array Slot), P x1 x2 x3 x4 → lv_has ls nL (lv x1 x2 x3 x4) → ru_V D d A s H0 H locs (wd x1 x2 x3 x4) → W p l e R s m args below meth c H locs cells slots Q (F0 m head ls []) := by
  have key : ∀ (n : Nat) (x1 : I1) (x2 : I2) (x3 : I3) (x4 : I4) (H : Heap) (locs : List Loc) (ls : Array Slot), μ x1 x2 x3 x4 ≤ n → P x1 x2 x3 x4 → lv_has ls nL (lv x1 x2 x3 x4) → ru_V D d A s H0 H locs (wd x1 x2 x3 x4) → W p l e R s m args below meth c H locs cells slots Q (F0 m head ls []) := by
    intro n
    induction n with
    | zero =>
      intro x1 x2 x3 x4 H locs ls h0 h1 h2 h3
      exact body x1 x2 x3 x4 H locs ls h1 h2 h3 (fun y1 y2 y3 y4 H locs ls h4 => absurd h4 (by omega))
    | succ n ih =>
      intro x1 x2 x3 x4 H locs ls h0 h1 h2 h3
      exact body x1 x2 x3 x4 H locs ls h1 h2 h3 (fun y1 y2 y3 y4 H locs ls h4 h5 h6 h7 => ih y1 y2 y3 y4 H locs ls (by omega) h5 h6 h7)
  intro x1 x2 x3 x4 H locs ls h1 h2 h3
  exact key _ x1 x2 x3 x4 H locs ls (Nat.le_refl _) h1 h2 h3
theorem ru_loop5 {I1 I2 I3 I4 I5 : Type} {nL head : Nat} (lv : I1 → I2 → I3 → I4 → I5 → List (Nat × Value)) (wd : I1 → I2 → I3 → I4 → I5 → va_W) (P : I1 → I2 → I3 → I4 → I5 → Prop) (μ : I1 → I2 → I3 → I4 → I5 → Nat)
    (body : ∀ (x1 : I1) (x2 : I2) (x3 : I3) (x4 : I4) (x5 : I5) (H : Heap) (locs : List Loc) (ls : Array Slot), P x1 x2 x3 x4 x5 → lv_has ls nL (lv x1 x2 x3 x4 x5) → ru_V D d A s H0 H locs (wd x1 x2 x3 x4 x5) → (∀ (y1 : I1) (y2 : I2) (y3 : I3) (y4 : I4) (y5 : I5) (H : Heap) (locs : List Loc) (ls : Array Slot), μ y1 y2 y3 y4 y5 < μ x1 x2 x3 x4 x5 → P y1 y2 y3 y4 y5 → lv_has ls nL (lv y1 y2 y3 y4 y5) → ru_V D d A s H0 H locs (wd y1 y2 y3 y4 y5) → W p l e R s m args below meth c H locs cells slots Q (F0 m head ls [])) → W p l e R s m args below meth c H locs cells slots Q (F0 m head ls [])) :
    ∀ (x1 : I1) (x2 : I2) (x3 : I3) (x4 : I4) (x5 : I5) (H : Heap) (locs : List Loc) (ls : Array Slot), P x1 x2 x3 x4 x5 → lv_has ls nL (lv x1 x2 x3 x4 x5) → ru_V D d A s H0 H locs (wd x1 x2 x3 x4 x5) → W p l e R s m args below meth c H locs cells slots Q (F0 m head ls []) := by
  have key : ∀ (n : Nat) (x1 : I1) (x2 : I2) (x3 : I3) (x4 : I4) (x5 : I5) (H : Heap) (locs : List Loc) (ls : Array Slot), μ x1 x2 x3 x4 x5 ≤ n → P x1 x2 x3 x4 x5 → lv_has ls nL (lv x1 x2 x3 x4 x5) → ru_V D d A s H0 H locs (wd x1 x2 x3 x4 x5) → W p l e R s m args below meth c H locs cells slots Q (F0 m head ls []) := by
    intro n
    induction n with
    | zero =>
      intro x1 x2 x3 x4 x5 H locs ls h0 h1 h2 h3
      exact body x1 x2 x3 x4 x5 H locs ls h1 h2 h3 (fun y1 y2 y3 y4 y5 H locs ls h4 => absurd h4 (by omega))
    | succ n ih =>
      intro x1 x2 x3 x4 x5 H locs ls h0 h1 h2 h3
      exact body x1 x2 x3 x4 x5 H locs ls h1 h2 h3 (fun y1 y2 y3 y4 y5 H locs ls h4 h5 h6 h7 => ih y1 y2 y3 y4 y5 H locs ls (by omega) h5 h6 h7)
  intro x1 x2 x3 x4 x5 H locs ls h1 h2 h3
  exact key _ x1 x2 x3 x4 x5 H locs ls (Nat.le_refl _) h1 h2 h3
theorem ru_loop6 {I1 I2 I3 I4 I5 I6 : Type} {nL head : Nat} (lv : I1 → I2 → I3 → I4 → I5 → I6 → List (Nat × Value)) (wd : I1 → I2 → I3 → I4 → I5 → I6 → va_W) (P : I1 → I2 → I3 → I4 → I5 → I6 → Prop) (μ : I1 → I2 → I3 → I4 → I5 → I6 → Nat)
    (body : ∀ (x1 : I1) (x2 : I2) (x3 : I3) (x4 : I4) (x5 : I5) (x6 : I6) (H : Heap) (locs : List Loc) (ls : Array Slot), P x1 x2 x3 x4 x5 x6 → lv_has ls nL (lv x1 x2 x3 x4 x5 x6) → ru_V D d A s H0 H locs (wd x1 x2 x3 x4 x5 x6) → (∀ (y1 : I1) (y2 : I2) (y3 : I3) (y4 : I4) (y5 : I5) (y6 : I6) (H : Heap) (locs : List Loc) (ls : Array Slot), μ y1 y2 y3 y4 y5 y6 < μ x1 x2 x3 x4 x5 x6 → P y1 y2 y3 y4 y5 y6 → lv_has ls nL (lv y1 y2 y3 y4 y5 y6) → ru_V D d A s H0 H locs (wd y1 y2 y3 y4 y5 y6) → W p l e R s m args below meth c H locs cells slots Q (F0 m head ls [])) → W p l e R s m args below meth c H locs cells slots Q (F0 m head ls [])) :
    ∀ (x1 : I1) (x2 : I2) (x3 : I3) (x4 : I4) (x5 : I5) (x6 : I6) (H : Heap) (locs : List Loc) (ls : Array Slot), P x1 x2 x3 x4 x5 x6 → lv_has ls nL (lv x1 x2 x3 x4 x5 x6) → ru_V D d A s H0 H locs (wd x1 x2 x3 x4 x5 x6) → W p l e R s m args below meth c H locs cells slots Q (F0 m head ls []) := by
  have key : ∀ (n : Nat) (x1 : I1) (x2 : I2) (x3 : I3) (x4 : I4) (x5 : I5) (x6 : I6) (H : Heap) (locs : List Loc) (ls : Array Slot), μ x1 x2 x3 x4 x5 x6 ≤ n → P x1 x2 x3 x4 x5 x6 → lv_has ls nL (lv x1 x2 x3 x4 x5 x6) → ru_V D d A s H0 H locs (wd x1 x2 x3 x4 x5 x6) → W p l e R s m args below meth c H locs cells slots Q (F0 m head ls []) := by
    intro n
    induction n with
    | zero =>
      intro x1 x2 x3 x4 x5 x6 H locs ls h0 h1 h2 h3
      exact body x1 x2 x3 x4 x5 x6 H locs ls h1 h2 h3 (fun y1 y2 y3 y4 y5 y6 H locs ls h4 => absurd h4 (by omega))
    | succ n ih =>
      intro x1 x2 x3 x4 x5 x6 H locs ls h0 h1 h2 h3
      exact body x1 x2 x3 x4 x5 x6 H locs ls h1 h2 h3 (fun y1 y2 y3 y4 y5 y6 H locs ls h4 h5 h6 h7 => ih y1 y2 y3 y4 y5 y6 H locs ls (by omega) h5 h6 h7)
  intro x1 x2 x3 x4 x5 x6 H locs ls h1 h2 h3
  exact key _ x1 x2 x3 x4 x5 x6 H locs ls (Nat.le_refl _) h1 h2 h3
end RUR
theorem ru_MI.of {S : Type} {l : Launch} {y : MethodName} {cc : ByteArray} {maxL : Nat} {ret : Option FieldType} {rm : Room} {D : va_G} {d : ClassId} {av : List Value} {w : va_W} {post : Int32 → S → Prop} {w' : S → va_W} (hy : plainName y.cls = true) (hle : (lg_sl av).length ≤ maxL)
    (body : ∀ (p : Program) (e : Env) (s : State) (m : MethodId) (below : List Frame) (meth : Method) (c : Code) (A : Nat → Prop) (ls : Array Slot), p.tables.exec = Jvm.exec → c.code = cc → meth.sig.returnType = ret → meth.locks = false → CallFix p m c cc maxL s av.toArray lw_all y.cls → lv_has ls maxL (lv_args 0 av) → ru_V D d A s s.heap s.heap [] w → W p l e rm s m av.toArray below meth c s.heap [] 0 0 (MQ below (ru_QI D d post w' A) av.toArray s 0 0 A) (F0 m 0 ls [])) : ru_MI l y cc maxL ret rm D d av w post w' := by
  intro sz
  refine Met.ofW (cc := cc) (maxL := maxL) (ret := ret) hy rfl ?_
  intro p e s m args below meth c s₁ B hml hv
  obtain ⟨rfl, hsz, hP, hK, hD0⟩ := hv
  have hts := atoms_spec (ws := ws_ y cc maxL ret) B.pre
  have hts : ∀ w ∈ lw_all, w.before _ s = true := fun w h => hts w (List.mem_cons_of_mem _ h)
  subst hsz
  rw [lg_entry_eq]
  exact body p e s m below meth c (va_A w s.heap.size) _ B.exec B.bytes B.returns B.notSynchronized ⟨B.exec, B.bytes, hml, findClass_of_methodNamed B.named, hts⟩ (lv_entry av hle) ⟨hK, hP, hD0.self, va_S.rf, fun q h => Or.inr h⟩
theorem ru_MV.of {S : Type} {l : Launch} {y : MethodName} {cc : ByteArray} {maxL : Nat} {rm : Room} {D : va_G} {d : ClassId} {av : List Value} {w : va_W} {post : S → Prop} {w' : S → va_W} (hy : plainName y.cls = true) (hle : (lg_sl av).length ≤ maxL)
    (body : ∀ (p : Program) (e : Env) (s : State) (m : MethodId) (below : List Frame) (meth : Method) (c : Code) (A : Nat → Prop) (ls : Array Slot), p.tables.exec = Jvm.exec → c.code = cc → meth.sig.returnType = none → meth.locks = false → CallFix p m c cc maxL s av.toArray lw_all y.cls → lv_has ls maxL (lv_args 0 av) → ru_V D d A s s.heap s.heap [] w → W p l e rm s m av.toArray below meth c s.heap [] 0 0 (MQ below (ru_QV D d post w' A) av.toArray s 0 0 A) (F0 m 0 ls [])) : ru_MV l y cc maxL rm D d av w post w' := by
  intro sz
  refine Met.ofW (cc := cc) (maxL := maxL) (ret := none) hy rfl ?_
  intro p e s m args below meth c s₁ B hml hv
  obtain ⟨rfl, hsz, hP, hK, hD0⟩ := hv
  have hts := atoms_spec (ws := ws_ y cc maxL none) B.pre
  have hts : ∀ w ∈ lw_all, w.before _ s = true := fun w h => hts w (List.mem_cons_of_mem _ h)
  subst hsz
  rw [lg_entry_eq]
  exact body p e s m below meth c (va_A w s.heap.size) _ B.exec B.bytes B.returns B.notSynchronized ⟨B.exec, B.bytes, hml, findClass_of_methodNamed B.named, hts⟩ (lv_entry av hle) ⟨hK, hP, hD0.self, va_S.rf, fun q h => Or.inr h⟩
end
section
/-! what the methods of both classes answer, in plain words -/
/-- a letter that is none -/
def ru_bad (x : Int32) : Prop := x < 0 ∨ ¬ x ≤ nI 3
theorem ru_good {x : Int32} (h : ¬ ru_bad x) : ∃ k : Nat, k ≤ 3 ∧ x = nI k := nI_of2 (M := nI 3) (n := 3) (by decide) (fun q => h (Or.inl q)) (Classical.not_not.mp (fun q => h (Or.inr q)))
theorem ru_letter {x : Int32} (h1 : ¬ x < 0) (h2 : x ≤ nI 3) : ∃ k : Nat, k ≤ 3 ∧ x = nI k := nI_of2 (M := nI 3) (n := 3) (by decide) h1 h2
theorem ru_nbad {k : Nat} (h : k ≤ 3) : ¬ ru_bad (nI k) := by
  rintro (q | q)
  · exact nI_pos (by omega) q
  · exact q (nI_le h (by omega))
/-- a place of the text -/
theorem ru_place {x : Int32} {n : Nat} (hn : n < 2147483648) (h1 : ¬ x < 0) (h2 : x < nI n) : ∃ k : Nat, k < n ∧ x = nI k := by
  rcases pk_ix x (n := n) hn with q | q | q
  · exact absurd q h1
  · exact absurd (Int32.not_le.mpr h2) (fun z => z q)
  · exact q
def ru_Ap (n : Nat) (t : Nat → Nat) (x r : Int32) (n' : Nat) (t' : Nat → Nat) : Prop := (ru_bad x ∧ r = -1 ∧ n' = n ∧ t' = t) ∨ (¬ ru_bad x ∧ n = 32 ∧ r = -2 ∧ n' = n ∧ t' = t) ∨ ∃ k, k ≤ 3 ∧ x = nI k ∧ n ≠ 32 ∧ r = nI (n + 1) ∧ n' = n + 1 ∧ t' = va_up t n k
def ru_np (n : Nat) (x : Int32) : Prop := x < 0 ∨ ¬ x < nI n
def ru_St (n : Nat) (t : Nat → Nat) (x y r : Int32) (t' : Nat → Nat) : Prop := (ru_np n x ∧ r = -3 ∧ t' = t) ∨ (¬ ru_np n x ∧ ru_bad y ∧ r = -1 ∧ t' = t) ∨ ∃ k c, k < n ∧ c ≤ 3 ∧ x = nI k ∧ y = nI c ∧ r = nI (t k) ∧ t' = va_up t k c
/-- j letters from a on copied behind the first n -/
def ru_cp (t : Nat → Nat) (a n : Nat) : Nat → (Nat → Nat)
  | 0 => t
  | j + 1 => va_up (ru_cp t a n j) (n + j) (ru_cp t a n j (a + j))
def ru_nr (n : Nat) (x : Int32) : Prop := x < nI 1 ∨ ¬ x ≤ nI n
def ru_Rp (n : Nat) (t : Nat → Nat) (x r : Int32) (n' : Nat) (t' : Nat → Nat) : Prop := (ru_nr n x ∧ r = -3 ∧ n' = n ∧ t' = t) ∨ ∃ k, 1 ≤ k ∧ k ≤ n ∧ x = nI k ∧ r = nI (n + min k (32 - n)) ∧ n' = n + min k (32 - n) ∧ t' = ru_cp t (n - k) n (min k (32 - n))
theorem ru_count {x : Int32} {n : Nat} (hn : n < 2147483648) (h1 : ¬ x < nI 1) (h2 : x ≤ nI n) : ∃ k : Nat, 1 ≤ k ∧ k ≤ n ∧ x = nI k := by
  have h0 : ¬ x < 0 := fun q => h1 (Int32.lt_trans q (by decide))
  obtain ⟨k, hk, rfl⟩ := nI_of h0
  refine ⟨k, ?_, (nI_leI (by omega) hn).mp h2, rfl⟩
  rcases Nat.lt_or_ge k 1 with q | q
  · exact absurd (nI_lt q (by omega)) h1
  · exact q
theorem ru_np_n {n k : Nat} (hn : n < 2147483648) (h : k < n) : ¬ ru_np n (nI k) := by
  rintro (q | q)
  · exact nI_pos (by omega) q
  · exact q (nI_lt h (by omega))
theorem ru_nr_n {n k : Nat} (hn : n < 2147483648) (h1 : 1 ≤ k) (h : k ≤ n) : ¬ ru_nr n (nI k) := by
  rintro (q | q)
  · exact nI_nlt h1 (by omega) q
  · exact q (nI_le h (by omega))
theorem ru_inj {a b : Nat} (ha : a < 2147483648) (hb : b < 2147483648) (h : nI a = nI b) : a = b := (nI_eq ha hb).mp h
theorem ru_Ap_uniq {n : Nat} {t : Nat → Nat} {x r1 r2 : Int32} {n1 n2 : Nat} {t1 t2 : Nat → Nat} (h1 : ru_Ap n t x r1 n1 t1) (h2 : ru_Ap n t x r2 n2 t2) : r1 = r2 ∧ n1 = n2 ∧ t1 = t2 := by
  rcases h1 with ⟨a1, rfl, rfl, rfl⟩ | ⟨a1, a2, rfl, rfl, rfl⟩ | ⟨k, a1, rfl, a3, rfl, rfl, rfl⟩
  · rcases h2 with ⟨b1, rfl, rfl, rfl⟩ | ⟨b1, b2, rfl, rfl, rfl⟩ | ⟨k, b1, rfl, b3, rfl, rfl, rfl⟩
    · exact ⟨rfl, rfl, rfl⟩
    · exact absurd a1 b1
    · exact absurd a1 (ru_nbad b1)
  · rcases h2 with ⟨b1, rfl, rfl, rfl⟩ | ⟨b1, b2, rfl, rfl, rfl⟩ | ⟨k, b1, rfl, b3, rfl, rfl, rfl⟩
    · exact absurd b1 a1
    · exact ⟨rfl, rfl, rfl⟩
    · exact absurd a2 b3
  · rcases h2 with ⟨b1, rfl, rfl, rfl⟩ | ⟨b1, b2, rfl, rfl, rfl⟩ | ⟨k', b1, b2, b3, rfl, rfl, rfl⟩
    · exact absurd b1 (ru_nbad a1)
    · exact absurd b2 a3
    · have := ru_inj (by omega) (by omega) b2
      subst this
      exact ⟨rfl, rfl, rfl⟩
theorem ru_St_uniq {n : Nat} {t : Nat → Nat} {x y r1 r2 : Int32} {t1 t2 : Nat → Nat} (hn : n ≤ 32) (h1 : ru_St n t x y r1 t1) (h2 : ru_St n t x y r2 t2) : r1 = r2 ∧ t1 = t2 := by
  rcases h1 with ⟨a1, rfl, rfl⟩ | ⟨a1, a2, rfl, rfl⟩ | ⟨k, c, a1, a2, rfl, rfl, rfl, rfl⟩
  · rcases h2 with ⟨b1, rfl, rfl⟩ | ⟨b1, b2, rfl, rfl⟩ | ⟨k', c', b1, b2, rfl, rfl, rfl, rfl⟩
    · exact ⟨rfl, rfl⟩
    · exact absurd a1 b1
    · exact absurd a1 (ru_np_n (by omega) b1)
  · rcases h2 with ⟨b1, rfl, rfl⟩ | ⟨b1, b2, rfl, rfl⟩ | ⟨k', c', b1, b2, rfl, rfl, rfl, rfl⟩
    · exact absurd b1 a1
    · exact ⟨rfl, rfl⟩
    · exact absurd a2 (ru_nbad b2)
  · rcases h2 with ⟨b1, rfl, rfl⟩ | ⟨b1, b2, rfl, rfl⟩ | ⟨k', c', b1, b2, b3, b4, rfl, rfl⟩
    · exact absurd b1 (ru_np_n (by omega) a1)
    · exact absurd b2 (ru_nbad a2)
    · have e1 := ru_inj (by omega) (by omega) b3
      have e2 := ru_inj (by omega) (by omega) b4
      subst e1
      subst e2
      exact ⟨rfl, rfl⟩
theorem ru_Rp_uniq {n : Nat} {t : Nat → Nat} {x r1 r2 : Int32} {n1 n2 : Nat} {t1 t2 : Nat → Nat} (hn : n ≤ 32) (h1 : ru_Rp n t x r1 n1 t1) (h2 : ru_Rp n t x r2 n2 t2) : r1 = r2 ∧ n1 = n2 ∧ t1 = t2 := by
  rcases h1 with ⟨a1, rfl, rfl, rfl⟩ | ⟨k, a1, a2, rfl, rfl, rfl, rfl⟩
  · rcases h2 with ⟨b1, rfl, rfl, rfl⟩ | ⟨k', b1, b2, rfl, rfl, rfl, rfl⟩
    · exact ⟨rfl, rfl, rfl⟩
    · exact absurd a1 (ru_nr_n (by omega) b1 b2)
  · rcases h2 with ⟨b1, rfl, rfl, rfl⟩ | ⟨k', b1, b2, b3, rfl, rfl, rfl⟩
    · exact absurd b1 (ru_nr_n (by omega) a1 a2)
    · have e1 := ru_inj (by omega) (by omega) b3
      subst e1
      exact ⟨rfl, rfl, rfl⟩
/-- texts: short, of letters -/
def ru_tn (n : Nat) (t : Nat → Nat) : Prop := n ≤ 32 ∧ ∀ k, t k < 4
theorem ru_tn_up {n k v : Nat} {t : Nat → Nat} (ht : ∀ k, t k < 4) (hv : v ≤ 3) : ∀ j, va_up t k v j < 4 := by
  intro j
  unfold va_up
  by_cases h : j = k
  · rw [if_pos h]; omega
  · rw [if_neg h]; exact ht j
theorem ru_cp_4 {t : Nat → Nat} (ht : ∀ k, t k < 4) (a n : Nat) : ∀ j k, ru_cp t a n j k < 4 := by
  intro j
  induction j with
  | zero => exact ht
  | succ j ih =>
    simp only [ru_cp]
    exact ru_tn_up (n := 0) ih (by have := ih (a + j); omega)
theorem ru_Ap_tn {n : Nat} {t : Nat → Nat} {x r : Int32} {n' : Nat} {t' : Nat → Nat} (h : ru_tn n t) (h1 : ru_Ap n t x r n' t') : ru_tn n' t' := by
  obtain ⟨ha, hb⟩ := h
  rcases h1 with ⟨a1, rfl, rfl, rfl⟩ | ⟨a1, a2, rfl, rfl, rfl⟩ | ⟨k, a1, rfl, a3, rfl, rfl, rfl⟩
  · exact ⟨ha, hb⟩
  · exact ⟨ha, hb⟩
  · exact ⟨by omega, ru_tn_up (n := 0) hb a1⟩
theorem ru_St_tn {n : Nat} {t : Nat → Nat} {x y r : Int32} {t' : Nat → Nat} (h : ru_tn n t) (h1 : ru_St n t x y r t') : ru_tn n t' := by
  obtain ⟨ha, hb⟩ := h
  rcases h1 with ⟨a1, rfl, rfl⟩ | ⟨a1, a2, rfl, rfl⟩ | ⟨k, c, a1, a2, rfl, rfl, rfl, rfl⟩
  · exact ⟨ha, hb⟩
  · exact ⟨ha, hb⟩
  · exact ⟨ha, ru_tn_up (n := 0) hb a2⟩
theorem ru_Rp_tn {n : Nat} {t : Nat → Nat} {x r : Int32} {n' : Nat} {t' : Nat → Nat} (h : ru_tn n t) (h1 : ru_Rp n t x r n' t') : ru_tn n' t' := by
  obtain ⟨ha, hb⟩ := h
  rcases h1 with ⟨a1, rfl, rfl, rfl⟩ | ⟨k, a1, a2, rfl, rfl, rfl, rfl⟩
  · exact ⟨ha, hb⟩
  · exact ⟨by omega, ru_cp_4 hb _ _ _⟩
end
section
/-! what the questions of the model answer, in plain words -/
theorem ru_ext_uniq {t : Nat → Nat} {n i j j' p : Nat} (h1 : ru_Per t i j p) (h2 : i + p ≤ j) (h3 : j ≤ n) (h4 : j = n ∨ t j ≠ t (j - p)) (g1 : ru_Per t i j' p) (g2 : i + p ≤ j') (g3 : j' ≤ n) (g4 : j' = n ∨ t j' ≠ t (j' - p)) : j = j' := by
  have key : ∀ {j j' : Nat}, (j = n ∨ t j ≠ t (j - p)) → i + p ≤ j → ru_Per t i j' p → j' ≤ n → ¬ j < j' := by
    intro j j' a1 a2 a3 a4 hlt
    rcases a1 with q | q
    · omega
    · have := a3 (j - p) (by omega) (by omega)
      rw [show j - p + p = j by omega] at this
      exact q this.symm
  have k1 := key h4 h2 g1 g3
  have k2 := key g4 g2 h1 h3
  omega
theorem ru_Run_LP {t : Nat → Nat} {n i j p : Nat} (h : ru_Run t n i j p) : ru_LP t i j p := ⟨h.1, by have := h.2.1; omega, h.2.2.2.1, h.2.2.2.2.2.2⟩
/-- no run begins at i with period p whose maximal stretch [i, j) is too short or has a smaller period -/
theorem ru_norun {t : Nat → Nat} {n i j p : Nat} (h1 : ru_Per t i j p) (h2 : i + p ≤ j) (h3 : j ≤ n) (h4 : j = n ∨ t j ≠ t (j - p)) (h : ¬ ru_Run t n i j p) : ¬ ∃ j, ru_Run t n i j p := by
  rintro ⟨j', hr⟩
  have e := ru_ext_uniq h1 h2 h3 h4 hr.2.2.2.1 (by have := hr.2.1; omega) hr.2.2.1 hr.2.2.2.2.2.1
  subst e
  exact h hr
def ru_Mr (t : Nat → Nat) (n : Nat) (v : Int32) (f : Nat → Nat → Nat → Nat) (no r : Int32) : Prop := (∃ i j p, ru_Run t n i j p ∧ v = nI (ru_cnt (ru_S t n) (i * 32 + p)) ∧ r = nI (f i j p)) ∨ (r = no ∧ ∀ x, ru_S t n x → v ≠ nI (ru_cnt (ru_S t n) x))
theorem ru_cnt_row {t : Nat → Nat} {n i p : Nat} (hn : n ≤ 32) (hp : 16 < p) (hp2 : p ≤ 17) : ru_cnt (ru_S t n) ((i + 1) * 32 + 1) = ru_cnt (ru_S t n) (i * 32 + p) := by
  refine ru_cnt_c (by omega) fun x h1 h2 hS => ?_
  have := ru_S_p hn hS
  omega
/-- the sums over the squares -/
theorem ru_sq1 (t : Nat → Nat) (n i : Nat) : ru_sm (fun q => ru_in (ru_Sq t n i q)) 1 = 0 := by
  rw [ru_sm_s, ru_in_f (fun z => by have := z.1; omega)]
  rfl
theorem ru_sqs {t : Nat → Nat} {n i q : Nat} (h : ru_Sq t n i q) : ru_sm (fun q => ru_in (ru_Sq t n i q)) (q + 1) = ru_sm (fun q => ru_in (ru_Sq t n i q)) q + 1 := by
  rw [ru_sm_s, ru_in_t h]
theorem ru_sqn {t : Nat → Nat} {n i q : Nat} (h : ¬ ru_Sq t n i q) : ru_sm (fun q => ru_in (ru_Sq t n i q)) (q + 1) = ru_sm (fun q => ru_in (ru_Sq t n i q)) q := by
  rw [ru_sm_s, ru_in_f h]
  rfl
theorem ru_fc_k {t : Nat → Nat} {k e : Nat} (hk : k < 32) : ru_fc t (32 - k) e = if 0 < e then ru_fc t (32 - (k + 1)) (ru_mn t e) + 1 else 0 := by
  rw [show 32 - k = 32 - (k + 1) + 1 by omega]
  rfl
end
section
/-! plain rows for the walks of RunFinder -/
theorem ru_ups {f : Nat → Nat} {k v : Nat} : va_up f k v k = v := by unfold va_up; rw [if_pos rfl]
theorem ru_upn {f : Nat → Nat} {j k v : Nat} (h : j ≠ k) : va_up f k v j = f j := by unfold va_up; rw [if_neg h]
/-- one less, down to -1 -/
def ru_m1 : Nat → Int32
  | 0 => -1
  | k + 1 => nI k
theorem ru_dec1 (i : Nat) : nI i + Int32.ofInt (-1) = ru_m1 i := by
  cases i with
  | zero => decide
  | succ i => exact pk_m1 i
theorem ru_sub1 (i : Nat) : nI i - nI 1 = ru_m1 i := by
  cases i with
  | zero => decide
  | succ i => exact nI_pred i
def ru_On (t : Nat → Nat) (n : Nat) (ow : Nat → Nat) : Prop := ∀ x y, x ≤ n → y ≤ n → ow (x * 33 + y) = ru_lce t n x y
def ru_Bw (t : Nat → Nat) (n : Nat) (bw : Nat → Nat) : Prop := ∀ x y, x < n → y < n → bw (x * 33 + y) = ru_lcb t x y
def ru_We (t : Nat → Nat) (n o : Nat) (we : Nat → Nat) : Prop := ∀ x, x < n → ru_N (ru_sq o t n) n x (we x)
theorem ru_lcb_p {t : Nat → Nat} {i j : Nat} (hi : 0 < i) (hj : 0 < j) (h : t i = t j) : ru_lcb t i j = ru_lcb t (i - 1) (j - 1) + 1 := by
  obtain ⟨a, rfl⟩ : ∃ a, i = a + 1 := ⟨i - 1, by omega⟩
  obtain ⟨b, rfl⟩ : ∃ b, j = b + 1 := ⟨j - 1, by omega⟩
  exact ru_lcb_t h
theorem ru_sf_no {t : Nat → Nat} (ht : ∀ k, t k < 4) {o n i j : Nat} (hi : i ≤ n) (hj : j ≤ n) (h : n ≤ j + ru_lce t n i j) : ¬ ru_L (ru_sq o t n) i j := fun q => by
  have := (ru_L_lce ht hi hj).mp q
  omega
theorem ru_sf_end {t : Nat → Nat} (ht : ∀ k, t k < 4) {o n i j : Nat} (hi : i ≤ n) (hj : j ≤ n) (h1 : j + ru_lce t n i j < n) (h2 : n ≤ i + ru_lce t n i j) : ru_L (ru_sq o t n) i j := (ru_L_lce ht hi hj).mpr ⟨h1, Or.inl h2⟩
theorem ru_sf0 {t : Nat → Nat} (ht : ∀ k, t k < 4) {n i j : Nat} (hi : i ≤ n) (hj : j ≤ n) (h1 : j + ru_lce t n i j < n) (h2 : i + ru_lce t n i j < n) : ru_L (ru_sq 0 t n) i j ↔ t (i + ru_lce t n i j) < t (j + ru_lce t n i j) := by
  rw [ru_L_lce ht hi hj, ru_sq_lt0 h2 h1]
  exact ⟨fun q => q.2.resolve_left (by omega), fun q => ⟨h1, Or.inr q⟩⟩
theorem ru_sf1 {t : Nat → Nat} (ht : ∀ k, t k < 4) {n i j : Nat} (hi : i ≤ n) (hj : j ≤ n) (h1 : j + ru_lce t n i j < n) (h2 : i + ru_lce t n i j < n) : ru_L (ru_sq 1 t n) i j ↔ t (j + ru_lce t n i j) < t (i + ru_lce t n i j) := by
  rw [ru_L_lce ht hi hj, ru_sq_lt1 ht h2 h1]
  exact ⟨fun q => q.2.resolve_left (by omega), fun q => ⟨h1, Or.inr q⟩⟩
theorem ru_N_of {t : Nat → Nat} (ht : ∀ k, t k < 4) {o n i j : Nat} (h1 : i < j) (h2 : j ≤ n) (h : ∀ y, i < y → y < j → ru_L (ru_sq o t n) i y) (he : n ≤ j ∨ ¬ ru_L (ru_sq o t n) i j) : ru_N (ru_sq o t n) n i j := by
  refine ⟨h1, h2, h, ?_⟩
  rcases he with q | q
  · rw [show j = n by omega]
    exact ru_L_end (ru_sq_tx ht o n) (by omega)
  · exact (ru_tx_tri (ru_sq_tx ht o n) (by omega) h1).resolve_left q
/-- keep: the shifted arrays -/
def ru_sh (f f1 : Nat → Nat) (w fd : Nat) : Prop := (∀ k, k < w → f1 k = f k) ∧ ∀ k, w < k → k ≤ fd → f1 k = f (k - 1)
theorem ru_sh_0 (f : Nat → Nat) (fd : Nat) : ru_sh f f fd fd := ⟨fun _ _ => rfl, fun k h1 h2 => by omega⟩
theorem ru_sh_s {f f1 : Nat → Nat} {w fd : Nat} (h : ru_sh f f1 w fd) (h0 : 0 < w) : ru_sh f (va_up f1 w (f1 (w - 1))) (w - 1) fd := by
  refine ⟨fun k hk => by rw [ru_upn (by omega)]; exact h.1 k (by omega), fun k h1 h2 => ?_⟩
  by_cases e : k = w
  · rw [e, ru_ups]; exact h.1 _ (by omega)
  · rw [ru_upn e]; exact h.2 k (by omega) h2
theorem ru_sh_e {f f1 : Nat → Nat} {w fd v : Nat} (h : ru_sh f f1 w fd) : (∀ k, k < w → va_up f1 w v k = f k) ∧ va_up f1 w v w = v ∧ ∀ k, w < k → k ≤ fd → va_up f1 w v k = f (k - 1) := ⟨fun k hk => by rw [ru_upn (by omega)]; exact h.1 k hk, ru_ups, fun k h1 h2 => by rw [ru_upn (by omega)]; exact h.2 k h1 h2⟩
theorem ru_K_low {fd w x z : Nat} {fr st : Nat → Nat} (hs : ru_Srt fd fr st) (hw : w ≤ fd) (h : w = 0 ∨ ru_lx (fr (w - 1)) (st (w - 1)) x z) : ∀ k, k < w → ru_lx (fr k) (st k) x z := by
  intro k hk
  rcases h with q | q
  · omega
  · by_cases e : k = w - 1
    · rw [e]; exact q
    · have := hs k (w - 1) (by omega) (by omega)
      unfold ru_lx at q ⊢
      omega
theorem ru_K_fin {fd w x y z : Nat} {fr to st fr1 to1 st1 : Nat → Nat} (hs : ru_Srt fd fr st) (hw : w ≤ fd) (h : w = 0 ∨ ru_lx (fr (w - 1)) (st (w - 1)) x z) (h2 : ∀ k, w ≤ k → k < fd → ru_lx x z (fr k) (st k)) (s1 : ru_sh fr fr1 w fd) (s2 : ru_sh to to1 w fd) (s3 : ru_sh st st1 w fd) : ru_K fd fr to st x y z (fd + 1) (va_up fr1 w x) (va_up to1 w y) (va_up st1 w z) := by
  obtain ⟨a1, a2, a3⟩ := ru_sh_e (v := x) s1
  obtain ⟨b1, b2, b3⟩ := ru_sh_e (v := y) s2
  obtain ⟨c1, c2, c3⟩ := ru_sh_e (v := z) s3
  exact ru_K_ins hs hw (ru_K_low hs hw h) h2 (fun k hk => ⟨a1 k hk, b1 k hk, c1 k hk⟩) ⟨a2, b2, c2⟩ (fun k h3 h4 => ⟨a3 k h3 h4, b3 k h3 h4, c3 k h3 h4⟩)
/-- the list is full only where its last run is in it already -/
theorem ru_guard {t : Nat → Nat} (ht : ∀ k, t k < 4) {o n i e fd : Nat} {fr st : Nat → Nat} (hN : ru_N (ru_sq o t n) n i e) (hi : i + 1 = n) (hc : ru_Cov t n 0 n fd fr st) (hl : i - ru_lft t i e + 2 * (e - i) ≤ e + ru_lce t n i e) : ∃ k, k < fd ∧ fr k = i - ru_lft t i e ∧ st k = e - i := by
  have h1 := ru_N_last ht (o := o) (n := n) (by omega)
  have e1 : i = n - 1 := by omega
  subst e1
  have e2 := ru_N_uniq hN h1
  subst e2
  exact hc (e - 1) e (by omega) (ru_N_last ht (o := 0) (n := e) (by omega)) hl
/-- what is ready: common beginnings, the words in the plain order, the runs -/
def ru_PR (t : Nat → Nat) (n : Nat) (ow fo : Nat → Nat) (fd : Nat) (fr to st : Nat → Nat) : Prop := ru_On t n ow ∧ ru_We t n 0 fo ∧ ru_All t n fd fr to st ∧ fd ≤ 64
theorem ru_sm_tail {f : Nat → Nat} {m N : Nat} (h : m ≤ N) (hz : ∀ x, m ≤ x → x < N → f x = 0) : ru_sm f N = ru_sm f m := by
  induction N with
  | zero => rw [show m = 0 by omega]
  | succ N ih =>
    by_cases e : m = N + 1
    · rw [e]
    · rw [ru_sm_s, hz N (by omega) (by omega), ih (by omega) (fun x h1 h2 => hz x h1 (by omega))]
      rfl
/-- the list of runs, asked by number -/
def ru_Cr (fd : Nat) (f : Nat → Nat) (v r : Int32) : Prop := (∃ k, k < fd ∧ v = nI k ∧ r = nI (f k)) ∨ ((∀ k, k < fd → v ≠ nI k) ∧ r = -4)
theorem ru_ask {t : Nat → Nat} {n fd : Nat} {fr to st : Nat → Nat} {g : Nat → Nat → Nat → Nat} {v r1 r2 : Int32} (hn : n ≤ 32) (hfd : fd ≤ 64) (h : ru_All t n fd fr to st) (h1 : ru_Cr fd (fun k => g (fr k) (to k) (st k)) v r1) (h2 : ru_Mr t n v g (-4) r2) : r1 = r2 := by
  obtain ⟨hr, htot⟩ := ru_All_rank hn h
  rcases h1 with ⟨k, hk, rfl, rfl⟩ | ⟨hno, rfl⟩
  · rcases h2 with ⟨i, j, p, hR, hv, rfl⟩ | ⟨rfl, hno⟩
    · obtain ⟨k', hk', e1, e2, e3⟩ := h.2.2 i j p hR
      subst e1; subst e2; subst e3
      rw [hr k' hk'] at hv
      have := ru_inj (by omega) (by omega) hv
      subst this
      rfl
    · exfalso
      have hS : ru_S t n (fr k * 32 + st k) := (ru_S_key (by have := h.1 k hk; have h3 := this.2.1; have h4 := this.2.2.1; omega)).mpr ⟨_, h.1 k hk⟩
      refine hno _ hS ?_
      rw [hr k hk]
  · rcases h2 with ⟨i, j, p, hR, hv, rfl⟩ | ⟨rfl, hno2⟩
    · exfalso
      obtain ⟨k', hk', e1, e2, e3⟩ := h.2.2 i j p hR
      subst e1; subst e2; subst e3
      rw [hr k' hk'] at hv
      exact hno k' hk' hv
    · rfl
end
section
/-! contracts of RunFinderModel: the text, periods -/

set_option maxHeartbeats 4000000 in
set_option maxRecDepth 100000 in
theorem met_X1_append (l : Launch) (D : va_G) (d : ClassId) (h g n : Nat) (t : Nat → Nat) (hn : n ≤ 32) (x : Int32) : ru_MI l yX1_append cX1_append 2 (some .int) (ru_R 0 0) D d [.ref h, .int x] (ru_Y d h g n t) (fun (r : Int32) (u : Nat × (Nat → Nat)) => ru_Ap n t x r u.1 u.2) (fun u => ru_Y d h g u.1 u.2) := by
  refine ru_MI.of (by decide) (Nat.le_of_ble_eq_true rfl) ?_
  intro pr ev s mi below me co A ls hx hb hr hlocks S0 hl V
  have hts := S0.2.2.2.2
  have hown := S0.2.2.2.1
  have hl : lv_has ls 2 [(0, .ref h), (1, .int x)] := hl
  refine lv_iload_n hx hb dX1_append_0 rfl (lv_at hl 1 rfl) ?_
  refine lv_if_lt (tgt := 9) hx hb dX1_append_1 (by decide) (fun c_1 => ?_) (fun c_1 => ?_)
  · refine lv_iconst (v := (-1)) hx hb dX1_append_9 (by decide) ?_
    exact ru_iret hx hb hr hlocks (n, t) V (Or.inl ⟨by first | exact Or.inl c_1 | exact Or.inr c_6, rfl, rfl, rfl⟩) dX1_append_10
  · refine lv_iload_n hx hb dX1_append_4 rfl (lv_at hl 1 rfl) ?_
    refine lv_iconst (v := nI 3) hx hb dX1_append_5 (by decide) ?_
    refine lv_icmp_le (tgt := 11) hx hb dX1_append_6 (by decide) (fun c_6 => ?_) (fun c_6 => ?_)
    · obtain ⟨k, hk, rfl⟩ := ru_letter c_1 c_6
      refine lv_aload_n hx hb dX1_append_11 rfl (lv_at hl 0 rfl) ?_
      refine ru_get1 hx hb hts hown V 0 rfl 0 (by decide) (hts _ q173) rfl dX1_append_12 ?_
      refine lv_bipush (v := nI 32) hx hb dX1_append_15 (by decide) ?_
      refine ru_icmp_ne (tgt := 23) hx hb dX1_append_17 (by decide) (by omega) (by omega) (fun c_17 => ?_) (fun c_17 => ?_)
      · refine lv_aload_n hx hb dX1_append_23 rfl (lv_at hl 0 rfl) ?_
        refine ru_get1 hx hb hts hown V 0 rfl 1 (by decide) (hts _ q174) rfl dX1_append_24 ?_
        refine lv_aload_n hx hb dX1_append_27 rfl (lv_at hl 0 rfl) ?_
        refine ru_get1 hx hb hts hown V 0 rfl 0 (by decide) (hts _ q173) rfl dX1_append_28 ?_
        refine lv_iload_n hx hb dX1_append_31 rfl (lv_at hl 1 rfl) ?_
        refine ru_ast hx hb V 1 rfl (by decide) (by omega) dX1_append_32 (fun H locs V => ?_)
        have V : ru_V D d A s s.heap H locs (ru_Y d h g n (va_up t n k)) := V
        refine lv_aload_n hx hb dX1_append_33 rfl (lv_at hl 0 rfl) ?_
        refine lv_aload_n hx hb dX1_append_34 rfl (lv_at hl 0 rfl) ?_
        refine ru_get1 hx hb hts hown V 0 rfl 0 (by decide) (hts _ q173) rfl dX1_append_35 ?_
        refine lv_iconst (v := nI 1) hx hb dX1_append_38 (by decide) ?_
        refine ru_iadd hx hb dX1_append_39 ?_
        refine ru_put1 hx hb hts hown V 0 rfl 0 (by decide) (hts _ q173) rfl (ty := .int) (by decide +kernel) rfl rfl (Nat.le_of_ble_eq_true rfl) dX1_append_40 (fun H locs V => ?_)
        have V : ru_V D d A s s.heap H locs (ru_Y d h g (n + 1) (va_up t n k)) := V
        refine lv_aload_n hx hb dX1_append_43 rfl (lv_at hl 0 rfl) ?_
        refine ru_get1 hx hb hts hown V 0 rfl 0 (by decide) (hts _ q173) rfl dX1_append_44 ?_
        exact ru_iret hx hb hr hlocks (n + 1, va_up t n k) V (Or.inr (Or.inr ⟨k, hk, rfl, c_17, rfl, rfl, rfl⟩)) dX1_append_47
      · refine lv_bipush (v := (-2)) hx hb dX1_append_20 (by decide) ?_
        exact ru_iret hx hb hr hlocks (n, t) V (Or.inr (Or.inl ⟨ru_nbad hk, c_17, rfl, rfl, rfl⟩)) dX1_append_22
    · refine lv_iconst (v := (-1)) hx hb dX1_append_9 (by decide) ?_
      exact ru_iret hx hb hr hlocks (n, t) V (Or.inl ⟨by first | exact Or.inl c_1 | exact Or.inr c_6, rfl, rfl, rfl⟩) dX1_append_10

set_option maxHeartbeats 4000000 in
set_option maxRecDepth 100000 in
theorem met_X1_set (l : Launch) (D : va_G) (d : ClassId) (h g n : Nat) (t : Nat → Nat) (hn : n ≤ 32) (x y : Int32) : ru_MI l yX1_set cX1_set 4 (some .int) (ru_R 0 0) D d [.ref h, .int x, .int y] (ru_Y d h g n t) (fun (r : Int32) (u : Nat → Nat) => ru_St n t x y r u) (fun u => ru_Y d h g n u) := by
  refine ru_MI.of (by decide) (Nat.le_of_ble_eq_true rfl) ?_
  intro pr ev s mi below me co A ls hx hb hr hlocks S0 hl V
  have hts := S0.2.2.2.2
  have hown := S0.2.2.2.1
  have hl : lv_has ls 4 [(0, .ref h), (1, .int x), (2, .int y)] := hl
  refine lv_iload_n hx hb dX1_set_0 rfl (lv_at hl 1 rfl) ?_
  refine lv_if_lt (tgt := 12) hx hb dX1_set_1 (by decide) (fun c_1 => ?_) (fun c_1 => ?_)
  · refine lv_bipush (v := (-3)) hx hb dX1_set_12 (by decide) ?_
    exact ru_iret hx hb hr hlocks t V (Or.inl ⟨by first | exact Or.inl c_1 | exact Or.inr c_9, rfl, rfl⟩) dX1_set_14
  · refine lv_iload_n hx hb dX1_set_4 rfl (lv_at hl 1 rfl) ?_
    refine lv_aload_n hx hb dX1_set_5 rfl (lv_at hl 0 rfl) ?_
    refine ru_get1 hx hb hts hown V 0 rfl 0 (by decide) (hts _ q173) rfl dX1_set_6 ?_
    refine lv_icmp_lt (tgt := 15) hx hb dX1_set_9 (by decide) (fun c_9 => ?_) (fun c_9 => ?_)
    · obtain ⟨k, hk, rfl⟩ := ru_place (n := n) (by omega) c_1 c_9
      refine lv_iload_n hx hb dX1_set_15 rfl (lv_at hl 2 rfl) ?_
      refine lv_if_lt (tgt := 24) hx hb dX1_set_16 (by decide) (fun c_16 => ?_) (fun c_16 => ?_)
      · refine lv_iconst (v := (-1)) hx hb dX1_set_24 (by decide) ?_
        exact ru_iret hx hb hr hlocks t V (Or.inr (Or.inl ⟨ru_np_n (by omega) hk, by first | exact Or.inl c_16 | exact Or.inr c_21, rfl, rfl⟩)) dX1_set_25
      · refine lv_iload_n hx hb dX1_set_19 rfl (lv_at hl 2 rfl) ?_
        refine lv_iconst (v := nI 3) hx hb dX1_set_20 (by decide) ?_
        refine lv_icmp_le (tgt := 26) hx hb dX1_set_21 (by decide) (fun c_21 => ?_) (fun c_21 => ?_)
        · obtain ⟨b, hb2, rfl⟩ := ru_letter c_16 c_21
          refine lv_aload_n hx hb dX1_set_26 rfl (lv_at hl 0 rfl) ?_
          refine ru_get1 hx hb hts hown V 0 rfl 1 (by decide) (hts _ q174) rfl dX1_set_27 ?_
          refine lv_iload_n hx hb dX1_set_30 rfl (lv_at hl 1 rfl) ?_
          refine ru_ald hx hb V 1 rfl (by decide) (by omega) dX1_set_31 ?_
          refine lv_istore_n (lv' := [(3, .int (nI (t k))), (0, .ref h), (1, .int (nI k)), (2, .int (nI b))]) hx hb dX1_set_32 rfl hl (by decide) rfl (fun ls hl => ?_)
          refine lv_aload_n hx hb dX1_set_33 rfl (lv_at hl 1 rfl) ?_
          refine ru_get1 hx hb hts hown V 0 rfl 1 (by decide) (hts _ q174) rfl dX1_set_34 ?_
          refine lv_iload_n hx hb dX1_set_37 rfl (lv_at hl 2 rfl) ?_
          refine lv_iload_n hx hb dX1_set_38 rfl (lv_at hl 3 rfl) ?_
          refine ru_ast hx hb V 1 rfl (by decide) (by omega) dX1_set_39 (fun H locs V => ?_)
          have V : ru_V D d A s s.heap H locs (ru_Y d h g n (va_up t k b)) := V
          refine lv_iload_n hx hb dX1_set_40 rfl (lv_at hl 0 rfl) ?_
          exact ru_iret hx hb hr hlocks (va_up t k b) V (Or.inr (Or.inr ⟨k, b, hk, hb2, rfl, rfl, rfl, rfl⟩)) dX1_set_41
        · refine lv_iconst (v := (-1)) hx hb dX1_set_24 (by decide) ?_
          exact ru_iret hx hb hr hlocks t V (Or.inr (Or.inl ⟨ru_np_n (by omega) hk, by first | exact Or.inl c_16 | exact Or.inr c_21, rfl, rfl⟩)) dX1_set_25
    · refine lv_bipush (v := (-3)) hx hb dX1_set_12 (by decide) ?_
      exact ru_iret hx hb hr hlocks t V (Or.inl ⟨by first | exact Or.inl c_1 | exact Or.inr c_9, rfl, rfl⟩) dX1_set_14

set_option maxHeartbeats 4000000 in
set_option maxRecDepth 100000 in
theorem met_X1_repeat (l : Launch) (D : va_G) (d : ClassId) (h g n : Nat) (t : Nat → Nat) (hn : n ≤ 32) (x : Int32) : ru_MI l yX1_repeat cX1_repeat 4 (some .int) (ru_R 0 0) D d [.ref h, .int x] (ru_Y d h g n t) (fun (r : Int32) (u : Nat × (Nat → Nat)) => ru_Rp n t x r u.1 u.2) (fun u => ru_Y d h g u.1 u.2) := by
  refine ru_MI.of (by decide) (Nat.le_of_ble_eq_true rfl) ?_
  intro pr ev s mi below me co A ls hx hb hr hlocks S0 hl V
  have hts := S0.2.2.2.2
  have hown := S0.2.2.2.1
  have hl : lv_has ls 4 [(0, .ref h), (1, .int x)] := hl
  refine lv_iload_n hx hb dX1_repeat_0 rfl (lv_at hl 1 rfl) ?_
  refine lv_iconst (v := nI 1) hx hb dX1_repeat_1 (by decide) ?_
  refine lv_icmp_lt (tgt := 13) hx hb dX1_repeat_2 (by decide) (fun c_2 => ?_) (fun c_2 => ?_)
  · refine lv_bipush (v := (-3)) hx hb dX1_repeat_13 (by decide) ?_
    exact ru_iret hx hb hr hlocks (n, t) V (Or.inl ⟨by first | exact Or.inl c_2 | exact Or.inr c_10, rfl, rfl, rfl⟩) dX1_repeat_15
  · refine lv_iload_n hx hb dX1_repeat_5 rfl (lv_at hl 1 rfl) ?_
    refine lv_aload_n hx hb dX1_repeat_6 rfl (lv_at hl 0 rfl) ?_
    refine ru_get1 hx hb hts hown V 0 rfl 0 (by decide) (hts _ q173) rfl dX1_repeat_7 ?_
    refine lv_icmp_le (tgt := 16) hx hb dX1_repeat_10 (by decide) (fun c_10 => ?_) (fun c_10 => ?_)
    · obtain ⟨k, hk1, hk2, rfl⟩ := ru_count (n := n) (by omega) c_2 c_10
      refine lv_aload_n hx hb dX1_repeat_16 rfl (lv_at hl 0 rfl) ?_
      refine ru_get1 hx hb hts hown V 0 rfl 0 (by decide) (hts _ q173) rfl dX1_repeat_17 ?_
      refine lv_iload_n hx hb dX1_repeat_20 rfl (lv_at hl 1 rfl) ?_
      refine ru_isub hx hb (by omega) dX1_repeat_21 ?_
      refine lv_istore_n (lv' := [(2, .int (nI (n - k))), (0, .ref h), (1, .int (nI k))]) hx hb dX1_repeat_22 rfl hl (by decide) rfl (fun ls hl => ?_)
      refine lv_iconst (v := nI 0) hx hb dX1_repeat_23 (by decide) ?_
      refine lv_istore_n (lv' := [(3, .int (nI 0)), (2, .int (nI (n - k))), (0, .ref h), (1, .int (nI k))]) hx hb dX1_repeat_24 rfl hl (by decide) rfl (fun ls hl => ?_)
      refine ru_loop3 (nL := 4) (head := 25) (fun (i : Nat) (n1 : Nat) (t1 : Nat → Nat) => [(0, .ref h), (1, .int (nI k)), (2, .int (nI (n - k))), (3, .int (nI i))]) (fun (i : Nat) (n1 : Nat) (t1 : Nat → Nat) => ru_Y d h g n1 t1) (fun (i : Nat) (n1 : Nat) (t1 : Nat → Nat) => i ≤ k ∧ n1 = n + min i (32 - n) ∧ t1 = ru_cp t (n - k) n (min i (32 - n))) (fun (i : Nat) (n1 : Nat) (t1 : Nat → Nat) => k - i) ?_ 0 n t _ _ _ ⟨by omega, by omega, by rw [Nat.zero_min]; rfl⟩ (lv_sub hl [2, 3, 1, 0] rfl) V
      intro i n1 t1 H locs ls hP_25 hl V ih_25
      have hl : lv_has ls 4 [(0, .ref h), (1, .int (nI k)), (2, .int (nI (n - k))), (3, .int (nI i))] := hl
      have V : ru_V D d A s s.heap H locs (ru_Y d h g n1 t1) := V
      obtain ⟨hi, en, et⟩ := hP_25
      refine lv_iload_n hx hb dX1_repeat_25 rfl (lv_at hl 3 rfl) ?_
      refine lv_iload_n hx hb dX1_repeat_26 rfl (lv_at hl 1 rfl) ?_
      refine ru_icmp_ge (tgt := 72) hx hb dX1_repeat_27 (by decide) (by omega) (by omega) (fun c_27 => ?_) (fun c_27 => ?_)
      · refine lv_aload_n hx hb dX1_repeat_72 rfl (lv_at hl 0 rfl) ?_
        refine ru_get1 hx hb hts hown V 0 rfl 0 (by decide) (hts _ q173) rfl dX1_repeat_73 ?_
        exact ru_iret hx hb hr hlocks (n1, t1) V (Or.inr ⟨k, hk1, hk2, rfl, by rw [en, show i = k by omega], by rw [en, show i = k by omega], by rw [et, show i = k by omega]⟩) dX1_repeat_76
      · refine lv_aload_n hx hb dX1_repeat_30 rfl (lv_at hl 0 rfl) ?_
        refine ru_get1 hx hb hts hown V 0 rfl 0 (by decide) (hts _ q173) rfl dX1_repeat_31 ?_
        refine lv_bipush (v := nI 32) hx hb dX1_repeat_34 (by decide) ?_
        refine ru_icmp_ge (tgt := 66) hx hb dX1_repeat_36 (by decide) (by omega) (by omega) (fun c_36 => ?_) (fun c_36 => ?_)
        · refine lv_iinc (v := nI (i + 1)) (lv' := [(3, .int (nI (i + 1))), (0, .ref h), (1, .int (nI k)), (2, .int (nI (n - k)))]) hx hb dX1_repeat_66 hl (k := 3) rfl (ru_inc _) (by decide) rfl (fun ls hl => ?_)
          refine lv_goto (tgt := 25) hx hb dX1_repeat_69 (by decide) ?_
          exact ih_25 (i + 1) n1 t1 _ _ _ (by omega) ⟨by omega, by omega, by rw [show min (i + 1) (32 - n) = min i (32 - n) by omega]; exact et⟩ (lv_sub hl [1, 2, 3, 0] rfl) V
        · refine lv_aload_n hx hb dX1_repeat_39 rfl (lv_at hl 0 rfl) ?_
          refine ru_get1 hx hb hts hown V 0 rfl 1 (by decide) (hts _ q174) rfl dX1_repeat_40 ?_
          refine lv_aload_n hx hb dX1_repeat_43 rfl (lv_at hl 0 rfl) ?_
          refine ru_get1 hx hb hts hown V 0 rfl 0 (by decide) (hts _ q173) rfl dX1_repeat_44 ?_
          refine lv_aload_n hx hb dX1_repeat_47 rfl (lv_at hl 0 rfl) ?_
          refine ru_get1 hx hb hts hown V 0 rfl 1 (by decide) (hts _ q174) rfl dX1_repeat_48 ?_
          refine lv_iload_n hx hb dX1_repeat_51 rfl (lv_at hl 2 rfl) ?_
          refine lv_iload_n hx hb dX1_repeat_52 rfl (lv_at hl 3 rfl) ?_
          refine ru_iadd hx hb dX1_repeat_53 ?_
          refine ru_ald hx hb V 1 rfl (by decide) (by omega) dX1_repeat_54 ?_
          refine ru_ast hx hb V 1 rfl (by decide) (by omega) dX1_repeat_55 (fun H locs V => ?_)
          have V : ru_V D d A s s.heap H locs (ru_Y d h g n1 (va_up t1 n1 (t1 (n - k + i)))) := V
          refine lv_aload_n hx hb dX1_repeat_56 rfl (lv_at hl 0 rfl) ?_
          refine lv_aload_n hx hb dX1_repeat_57 rfl (lv_at hl 0 rfl) ?_
          refine ru_get1 hx hb hts hown V 0 rfl 0 (by decide) (hts _ q173) rfl dX1_repeat_58 ?_
          refine lv_iconst (v := nI 1) hx hb dX1_repeat_61 (by decide) ?_
          refine ru_iadd hx hb dX1_repeat_62 ?_
          refine ru_put1 hx hb hts hown V 0 rfl 0 (by decide) (hts _ q173) rfl (ty := .int) (by decide +kernel) rfl rfl (Nat.le_of_ble_eq_true rfl) dX1_repeat_63 (fun H locs V => ?_)
          have V : ru_V D d A s s.heap H locs (ru_Y d h g (n1 + 1) (va_up t1 n1 (t1 (n - k + i)))) := V
          refine lv_iinc (v := nI (i + 1)) (lv' := [(3, .int (nI (i + 1))), (0, .ref h), (1, .int (nI k)), (2, .int (nI (n - k)))]) hx hb dX1_repeat_66 hl (k := 3) rfl (ru_inc _) (by decide) rfl (fun ls hl => ?_)
          refine lv_goto (tgt := 25) hx hb dX1_repeat_69 (by decide) ?_
          exact ih_25 (i + 1) (n1 + 1) (va_up t1 n1 (t1 (n - k + i))) _ _ _ (by omega) ⟨by omega, by omega, by rw [show min (i + 1) (32 - n) = i + 1 by omega, et, en, show min i (32 - n) = i by omega]; rfl⟩ (lv_sub hl [1, 2, 3, 0] rfl) V
    · refine lv_bipush (v := (-3)) hx hb dX1_repeat_13 (by decide) ?_
      exact ru_iret hx hb hr hlocks (n, t) V (Or.inl ⟨by first | exact Or.inl c_2 | exact Or.inr c_10, rfl, rfl, rfl⟩) dX1_repeat_15

set_option maxHeartbeats 4000000 in
set_option maxRecDepth 100000 in
theorem met_X1_drop (l : Launch) (D : va_G) (d : ClassId) (h g n : Nat) (t : Nat → Nat) (hn : n ≤ 32) : ru_MI l yX1_drop cX1_drop 1 (some .int) (ru_R 0 0) D d [.ref h] (ru_Y d h g n t) (fun (r : Int32) (u : Nat) => u = n - 1 ∧ r = (if n = 0 then -4 else nI (n - 1))) (fun u => ru_Y d h g u t) := by
  refine ru_MI.of (by decide) (Nat.le_of_ble_eq_true rfl) ?_
  intro pr ev s mi below me co A ls hx hb hr hlocks S0 hl V
  have hts := S0.2.2.2.2
  have hown := S0.2.2.2.1
  have hl : lv_has ls 1 [(0, .ref h)] := hl
  refine lv_aload_n hx hb dX1_drop_0 rfl (lv_at hl 0 rfl) ?_
  refine ru_get1 hx hb hts hown V 0 rfl 0 (by decide) (hts _ q173) rfl dX1_drop_1 ?_
  refine ru_if_ne (tgt := 10) hx hb dX1_drop_4 (by decide) (by omega) (fun c_4 => ?_) (fun c_4 => ?_)
  · refine lv_aload_n hx hb dX1_drop_10 rfl (lv_at hl 0 rfl) ?_
    refine lv_aload_n hx hb dX1_drop_11 rfl (lv_at hl 0 rfl) ?_
    refine ru_get1 hx hb hts hown V 0 rfl 0 (by decide) (hts _ q173) rfl dX1_drop_12 ?_
    refine lv_iconst (v := nI 1) hx hb dX1_drop_15 (by decide) ?_
    refine ru_isub hx hb (by omega) dX1_drop_16 ?_
    refine ru_put1 hx hb hts hown V 0 rfl 0 (by decide) (hts _ q173) rfl (ty := .int) (by decide +kernel) rfl rfl (Nat.le_of_ble_eq_true rfl) dX1_drop_17 (fun H locs V => ?_)
    have V : ru_V D d A s s.heap H locs (ru_Y d h g (n - 1) t) := V
    refine lv_aload_n hx hb dX1_drop_20 rfl (lv_at hl 0 rfl) ?_
    refine ru_get1 hx hb hts hown V 0 rfl 0 (by decide) (hts _ q173) rfl dX1_drop_21 ?_
    exact ru_iret hx hb hr hlocks (n - 1) V ⟨rfl, by rw [if_neg c_4]⟩ dX1_drop_24
  · refine lv_bipush (v := (-4)) hx hb dX1_drop_7 (by decide) ?_
    exact ru_iret hx hb hr hlocks n V ⟨by omega, by rw [if_pos c_4]⟩ dX1_drop_9

set_option maxHeartbeats 4000000 in
set_option maxRecDepth 100000 in
theorem met_X1_clear (l : Launch) (D : va_G) (d : ClassId) (h g n : Nat) (t : Nat → Nat) : ru_MV l yX1_clear cX1_clear 1 (ru_R 0 0) D d [.ref h] (ru_Y d h g n t) (fun _ : Unit => True) (fun _ => ru_Y d h g 0 t) := by
  refine ru_MV.of (by decide) (Nat.le_of_ble_eq_true rfl) ?_
  intro pr ev s mi below me co A ls hx hb hr hlocks S0 hl V
  have hts := S0.2.2.2.2
  have hown := S0.2.2.2.1
  have hl : lv_has ls 1 [(0, .ref h)] := hl
  refine lv_aload_n hx hb dX1_clear_0 rfl (lv_at hl 0 rfl) ?_
  refine lv_iconst (v := nI 0) hx hb dX1_clear_1 (by decide) ?_
  refine ru_put1 hx hb hts hown V 0 rfl 0 (by decide) (hts _ q173) rfl (ty := .int) (by decide +kernel) rfl rfl (Nat.le_of_ble_eq_true rfl) dX1_clear_2 (fun H locs V => ?_)
  have V : ru_V D d A s s.heap H locs (ru_Y d h g 0 t) := V
  exact ru_vret hx hb hr hlocks () V trivial dX1_clear_5

set_option maxHeartbeats 4000000 in
set_option maxRecDepth 100000 in
theorem met_X1_hasPeriod (l : Launch) (D : va_G) (d : ClassId) (h g n : Nat) (t : Nat → Nat) (ht : ∀ k, t k < 4) (i j p : Nat) (hi : i ≤ 32) (hj : j ≤ 32) (hp : p ≤ 32) : ru_MI l yX1_hasPeriod cX1_hasPeriod 5 (some .boolean) (ru_R 0 0) D d [.ref h, .int (nI i), .int (nI j), .int (nI p)] (ru_Y d h g n t) (fun (r : Int32) (_ : Unit) => (r = nI 1 ∧ ru_Per t i j p) ∨ (r = nI 0 ∧ ¬ ru_Per t i j p)) (fun _ : Unit => ru_Y d h g n t) := by
  refine ru_MI.of (by decide) (Nat.le_of_ble_eq_true rfl) ?_
  intro pr ev s mi below me co A ls hx hb hr hlocks S0 hl V
  have hts := S0.2.2.2.2
  have hown := S0.2.2.2.1
  have hl : lv_has ls 5 [(0, .ref h), (1, .int (nI i)), (2, .int (nI j)), (3, .int (nI p))] := hl
  refine lv_iload_n hx hb dX1_hasPeriod_0 rfl (lv_at hl 1 rfl) ?_
  refine lv_istore (lv' := [(4, .int (nI i)), (0, .ref h), (1, .int (nI i)), (2, .int (nI j)), (3, .int (nI p))]) hx hb dX1_hasPeriod_1 hl (by decide) rfl (fun ls hl => ?_)
  refine ru_loop1 (nL := 5) (head := 3) (fun (k : Nat) => [(0, .ref h), (2, .int (nI j)), (3, .int (nI p)), (4, .int (nI k))]) (fun (k : Nat) => ru_Y d h g n t) (fun (k : Nat) => k ≤ 32 ∧ i ≤ k ∧ ∀ m, i ≤ m → m < k → t m = t (m + p)) (fun (k : Nat) => 40 - k) ?_ i _ _ _ ⟨hi, Nat.le_refl _, fun m h1 h2 => by omega⟩ (lv_sub hl [1, 3, 4, 0] rfl) V
  intro k H locs ls hP_3 hl V ih_3
  have hl : lv_has ls 5 [(0, .ref h), (2, .int (nI j)), (3, .int (nI p)), (4, .int (nI k))] := hl
  have V : ru_V D d A s s.heap H locs (ru_Y d h g n t) := V
  obtain ⟨hk, hik, hall⟩ := hP_3
  refine lv_iload hx hb dX1_hasPeriod_3 (lv_at hl 3 rfl) ?_
  refine lv_iload_n hx hb dX1_hasPeriod_5 rfl (lv_at hl 2 rfl) ?_
  refine ru_iadd hx hb dX1_hasPeriod_6 ?_
  refine lv_iload_n hx hb dX1_hasPeriod_7 rfl (lv_at hl 1 rfl) ?_
  refine ru_icmp_ge (tgt := 38) hx hb dX1_hasPeriod_8 (by decide) (by omega) (by omega) (fun c_8 => ?_) (fun c_8 => ?_)
  · refine lv_iconst (v := nI 1) hx hb dX1_hasPeriod_38 (by decide) ?_
    exact ru_zret (v := 1) hx hb hr hlocks () V (by omega) (Or.inl ⟨rfl, fun m h1 h2 => hall m h1 (by omega)⟩) dX1_hasPeriod_39
  · refine lv_aload_n hx hb dX1_hasPeriod_11 rfl (lv_at hl 0 rfl) ?_
    refine ru_get1 hx hb hts hown V 0 rfl 1 (by decide) (hts _ q174) rfl dX1_hasPeriod_12 ?_
    refine lv_iload hx hb dX1_hasPeriod_15 (lv_at hl 3 rfl) ?_
    refine ru_ald hx hb V 1 rfl (by decide) (by omega) dX1_hasPeriod_17 ?_
    have h9 := ht k
    refine lv_aload_n hx hb dX1_hasPeriod_18 rfl (lv_at hl 0 rfl) ?_
    refine ru_get1 hx hb hts hown V 0 rfl 1 (by decide) (hts _ q174) rfl dX1_hasPeriod_19 ?_
    refine lv_iload hx hb dX1_hasPeriod_22 (lv_at hl 3 rfl) ?_
    refine lv_iload_n hx hb dX1_hasPeriod_24 rfl (lv_at hl 2 rfl) ?_
    refine ru_iadd hx hb dX1_hasPeriod_25 ?_
    refine ru_ald hx hb V 1 rfl (by decide) (by omega) dX1_hasPeriod_26 ?_
    have h8 := ht (k + p)
    refine ru_icmp_eq (tgt := 32) hx hb dX1_hasPeriod_27 (by decide) (by omega) (by omega) (fun c_27 => ?_) (fun c_27 => ?_)
    · refine lv_iinc (v := nI (k + 1)) (lv' := [(4, .int (nI (k + 1))), (0, .ref h), (2, .int (nI j)), (3, .int (nI p))]) hx hb dX1_hasPeriod_32 hl (k := 3) rfl (ru_inc _) (by decide) rfl (fun ls hl => ?_)
      refine lv_goto (tgt := 3) hx hb dX1_hasPeriod_35 (by decide) ?_
      exact ih_3 (k + 1) _ _ _ (by omega) ⟨by omega, by omega, fun m h1 h2 => by by_cases q : m = k; (· rw [q]; exact c_27); (· exact hall m h1 (by omega))⟩ (lv_sub hl [1, 2, 3, 0] rfl) V
    · refine lv_iconst (v := nI 0) hx hb dX1_hasPeriod_30 (by decide) ?_
      exact ru_zret (v := 0) hx hb hr hlocks () V (by omega) (Or.inr ⟨rfl, fun q => c_27 (q k hik (by omega))⟩) dX1_hasPeriod_31

set_option maxHeartbeats 4000000 in
set_option maxRecDepth 100000 in
theorem met_X1_leastPeriod (l : Launch) (D : va_G) (d : ClassId) (h g n : Nat) (t : Nat → Nat) (ht : ∀ k, t k < 4) (i j : Nat) (hij : i < j) (hj : j ≤ 32) : ru_MI l yX1_leastPeriod cX1_leastPeriod 4 (some .int) (ru_R 1 24) D d [.ref h, .int (nI i), .int (nI j)] (ru_Y d h g n t) (fun (r : Int32) (_ : Unit) => ∃ p, r = nI p ∧ ru_LP t i j p) (fun _ : Unit => ru_Y d h g n t) := by
  refine ru_MI.of (by decide) (Nat.le_of_ble_eq_true rfl) ?_
  intro pr ev s mi below me co A ls hx hb hr hlocks S0 hl V
  have hts := S0.2.2.2.2
  have hown := S0.2.2.2.1
  have hl : lv_has ls 4 [(0, .ref h), (1, .int (nI i)), (2, .int (nI j))] := hl
  refine lv_iconst (v := nI 1) hx hb dX1_leastPeriod_0 (by decide) ?_
  refine lv_istore_n (lv' := [(3, .int (nI 1)), (0, .ref h), (1, .int (nI i)), (2, .int (nI j))]) hx hb dX1_leastPeriod_1 rfl hl (by decide) rfl (fun ls hl => ?_)
  refine ru_loop1 (nL := 4) (head := 2) (fun (p : Nat) => [(0, .ref h), (1, .int (nI i)), (2, .int (nI j)), (3, .int (nI p))]) (fun (p : Nat) => ru_Y d h g n t) (fun (p : Nat) => 1 ≤ p ∧ i + p ≤ j ∧ ∀ q, 1 ≤ q → q < p → ¬ ru_Per t i j q) (fun (p : Nat) => 40 - p) ?_ 1 _ _ _ ⟨by omega, by omega, fun q h1 h2 => by omega⟩ (lv_sub hl [1, 2, 3, 0] rfl) V
  intro p H locs ls hP_2 hl V ih_2
  have hl : lv_has ls 4 [(0, .ref h), (1, .int (nI i)), (2, .int (nI j)), (3, .int (nI p))] := hl
  have V : ru_V D d A s s.heap H locs (ru_Y d h g n t) := V
  obtain ⟨hp1, hp2, hall⟩ := hP_2
  refine lv_iload_n hx hb dX1_leastPeriod_2 rfl (lv_at hl 3 rfl) ?_
  refine lv_iload_n hx hb dX1_leastPeriod_3 rfl (lv_at hl 2 rfl) ?_
  refine lv_iload_n hx hb dX1_leastPeriod_4 rfl (lv_at hl 1 rfl) ?_
  refine ru_isub hx hb (by omega) dX1_leastPeriod_5 ?_
  refine ru_icmp_ge (tgt := 27) hx hb dX1_leastPeriod_6 (by decide) (by omega) (by omega) (fun c_6 => ?_) (fun c_6 => ?_)
  · refine lv_iload_n hx hb dX1_leastPeriod_27 rfl (lv_at hl 2 rfl) ?_
    refine lv_iload_n hx hb dX1_leastPeriod_28 rfl (lv_at hl 1 rfl) ?_
    refine ru_isub hx hb (by omega) dX1_leastPeriod_29 ?_
    exact ru_iret hx hb hr hlocks () V ⟨j - i, rfl, by omega, by omega, fun k h1 h2 => by omega, fun q h1 h2 => hall q h1 (by omega)⟩ dX1_leastPeriod_30
  · refine lv_aload_n hx hb dX1_leastPeriod_9 rfl (lv_at hl 0 rfl) ?_
    refine lv_iload_n hx hb dX1_leastPeriod_10 rfl (lv_at hl 1 rfl) ?_
    refine lv_iload_n hx hb dX1_leastPeriod_11 rfl (lv_at hl 2 rfl) ?_
    refine lv_iload_n hx hb dX1_leastPeriod_12 rfl (lv_at hl 3 rfl) ?_
    refine ru_callVI (w1 := ru_Y d h g n t) (w2 := []) (As := [.int (nI i), .int (nI j), .int (nI p)]) (rest := []) S0 V (met_X1_hasPeriod l D d h g n t ht i j p (by omega) hj (by omega)) (cwV 3 hts (lw_V q212 q214 qs13 q20 q215) rfl rfl rfl (by decide +kernel) ⟨Nat.le_of_ble_eq_true rfl, Nat.le_of_ble_eq_true rfl⟩) 0 rfl rfl rfl hl.1 rfl (Nat.le_of_ble_eq_true rfl) dX1_leastPeriod_13 ⟨Nat.zero_le _, Nat.zero_le _⟩ (fun r u H locs hp V => ?_)
    have V : ru_V D d A s s.heap H locs (ru_Y d h g n t) := V
    rcases hp with ⟨rfl, hpp⟩ | ⟨rfl, hnp⟩
    · refine ru_if_eq (tgt := 21) hx hb dX1_leastPeriod_16 (by decide) (by omega) (fun c_16 => ?_) (fun c_16 => ?_)
      · exact absurd c_16 (by omega)
      · refine lv_iload_n hx hb dX1_leastPeriod_19 rfl (lv_at hl 3 rfl) ?_
        exact ru_iret hx hb hr hlocks () V ⟨p, rfl, hp1, hp2, hpp, hall⟩ dX1_leastPeriod_20
    · refine ru_if_eq (tgt := 21) hx hb dX1_leastPeriod_16 (by decide) (by omega) (fun c_16 => ?_) (fun c_16 => ?_)
      · refine lv_iinc (v := nI (p + 1)) (lv' := [(3, .int (nI (p + 1))), (0, .ref h), (1, .int (nI i)), (2, .int (nI j))]) hx hb dX1_leastPeriod_21 hl (k := 3) rfl (ru_inc _) (by decide) rfl (fun ls hl => ?_)
        refine lv_goto (tgt := 2) hx hb dX1_leastPeriod_24 (by decide) ?_
        exact ih_2 (p + 1) _ _ _ (by omega) ⟨by omega, by omega, fun q h1 h2 => by by_cases z : q = p; (· rw [z]; exact hnp); (· exact hall q h1 (by omega))⟩ (lv_sub hl [1, 2, 3, 0] rfl) V
      · exact absurd c_16 (by omega)
end
section
/-! contracts of RunFinderModel: runs, squares, ends, turns -/

set_option maxHeartbeats 4000000 in
set_option maxRecDepth 100000 in
theorem met_X1_runEnd (l : Launch) (D : va_G) (d : ClassId) (h g n : Nat) (t : Nat → Nat) (hn : n ≤ 32) (ht : ∀ k, t k < 4) (i p : Nat) (hi : i < n) (hp1 : 1 ≤ p) (hp2 : p ≤ 16) : ru_MI l yX1_runEnd cX1_runEnd 5 (some .int) (ru_R 2 47) D d [.ref h, .int (nI i), .int (nI p)] (ru_Y d h g n t) (fun (r : Int32) (_ : Unit) => (∃ j, r = nI j ∧ ru_Run t n i j p) ∨ (r = -1 ∧ ¬ ∃ j, ru_Run t n i j p)) (fun _ : Unit => ru_Y d h g n t) := by
  refine ru_MI.of (by decide) (Nat.le_of_ble_eq_true rfl) ?_
  intro pr ev s mi below me co A ls hx hb hr hlocks S0 hl V
  have hts := S0.2.2.2.2
  have hown := S0.2.2.2.1
  have hl : lv_has ls 5 [(0, .ref h), (1, .int (nI i)), (2, .int (nI p))] := hl
  have hmin : ∀ j, ru_Run t n i j p → i + p < n ∧ (i = 0 ∨ t (i - 1) ≠ t (i - 1 + p)) := fun j q => ⟨by have := q.1; have := q.2.1; have := q.2.2.1; omega, q.2.2.2.2.1⟩
  refine lv_iload_n hx hb dX1_runEnd_0 rfl (lv_at hl 1 rfl) ?_
  refine lv_iload_n hx hb dX1_runEnd_1 rfl (lv_at hl 2 rfl) ?_
  refine ru_iadd hx hb dX1_runEnd_2 ?_
  refine lv_aload_n hx hb dX1_runEnd_3 rfl (lv_at hl 0 rfl) ?_
  refine ru_get1 hx hb hts hown V 0 rfl 0 (by decide) (hts _ q173) rfl dX1_runEnd_4 ?_
  refine ru_icmp_ge (tgt := 35) hx hb dX1_runEnd_7 (by decide) (by omega) (by omega) (fun c_7 => ?_) (fun c_7 => ?_)
  · refine lv_iconst (v := (-1)) hx hb dX1_runEnd_35 (by decide) ?_
    exact ru_iret hx hb hr hlocks () V (Or.inr ⟨rfl, fun ⟨j, q⟩ => by first | (have := (hmin j q).1; omega) | exact ((hmin j q).2.resolve_left (by omega)) c_32⟩) dX1_runEnd_36
  · refine lv_iload_n hx hb dX1_runEnd_10 rfl (lv_at hl 1 rfl) ?_
    refine ru_if_le (tgt := 37) hx hb dX1_runEnd_11 (by decide) (by omega) (fun c_11 => ?_) (fun c_11 => ?_)
    · have hmx : i = 0 ∨ t (i - 1) ≠ t (i - 1 + p) := by first | exact Or.inl c_11 | exact Or.inr c_32
      refine lv_iload_n hx hb dX1_runEnd_37 rfl (lv_at hl 1 rfl) ?_
      refine lv_iload_n hx hb dX1_runEnd_38 rfl (lv_at hl 2 rfl) ?_
      refine ru_iadd hx hb dX1_runEnd_39 ?_
      refine lv_istore_n (lv' := [(3, .int (nI (i + p))), (0, .ref h), (1, .int (nI i)), (2, .int (nI p))]) hx hb dX1_runEnd_40 rfl hl (by decide) rfl (fun ls hl => ?_)
      refine lv_iload_n hx hb dX1_runEnd_41 rfl (lv_at hl 2 rfl) ?_
      refine lv_iload_n hx hb dX1_runEnd_42 rfl (lv_at hl 3 rfl) ?_
      refine ru_iadd hx hb dX1_runEnd_43 ?_
      refine lv_istore (lv' := [(4, .int (nI (i + p))), (3, .int (nI (i + p))), (0, .ref h), (1, .int (nI i)), (2, .int (nI p))]) hx hb dX1_runEnd_44 hl (by decide) rfl (fun ls hl => ?_)
      refine ru_loop2 (nL := 5) (head := 46) (fun (j : Nat) (k : Nat) => [(0, .ref h), (1, .int (nI i)), (2, .int (nI p)), (3, .int (nI j)), (4, .int (nI k))]) (fun (j : Nat) (k : Nat) => ru_Y d h g n t) (fun (j : Nat) (k : Nat) => i + p ≤ j ∧ j ≤ k ∧ k ≤ n ∧ ru_Per t i j p ∧ (j = k ∨ t j ≠ t (j - p))) (fun (j : Nat) (k : Nat) => 40 - k) ?_ (i + p) (i + p) _ _ _ ⟨by omega, by omega, by omega, fun m h1 h2 => by omega, Or.inl rfl⟩ (lv_sub hl [2, 3, 4, 1, 0] rfl) V
      intro j k H locs ls hP_46 hl V ih_46
      have hl : lv_has ls 5 [(0, .ref h), (1, .int (nI i)), (2, .int (nI p)), (3, .int (nI j)), (4, .int (nI k))] := hl
      have V : ru_V D d A s s.heap H locs (ru_Y d h g n t) := V
      obtain ⟨hj1, hj2, hk, hper, hjk⟩ := hP_46
      refine lv_iload hx hb dX1_runEnd_46 (lv_at hl 4 rfl) ?_
      refine lv_aload_n hx hb dX1_runEnd_48 rfl (lv_at hl 0 rfl) ?_
      refine ru_get1 hx hb hts hown V 0 rfl 0 (by decide) (hts _ q173) rfl dX1_runEnd_49 ?_
      refine ru_icmp_ge (tgt := 91) hx hb dX1_runEnd_52 (by decide) (by omega) (by omega) (fun c_52 => ?_) (fun c_52 => ?_)
      · have hjn : j = n ∨ t j ≠ t (j - p) := by rcases hjk with q | q; (· exact Or.inl (by omega)); (· exact Or.inr q)
        refine lv_iload_n hx hb dX1_runEnd_91 rfl (lv_at hl 3 rfl) ?_
        refine lv_iload_n hx hb dX1_runEnd_92 rfl (lv_at hl 1 rfl) ?_
        refine ru_isub hx hb (by omega) dX1_runEnd_93 ?_
        refine lv_iconst (v := nI 2) hx hb dX1_runEnd_94 (by decide) ?_
        refine lv_iload_n hx hb dX1_runEnd_95 rfl (lv_at hl 2 rfl) ?_
        refine ru_imul hx hb dX1_runEnd_96 ?_
        refine ru_icmp_lt (tgt := 114) hx hb dX1_runEnd_97 (by decide) (by omega) (by omega) (fun c_97 => ?_) (fun c_97 => ?_)
        · refine lv_iconst (v := (-1)) hx hb dX1_runEnd_114 (by decide) ?_
          exact ru_iret hx hb hr hlocks () V (Or.inr ⟨rfl, ru_norun hper hj1 (by omega) hjn (fun q => by first | (have := q.2.1; omega) | exact c_107 (ru_LP_uniq hq (ru_Run_LP q)))⟩) dX1_runEnd_115
        · refine lv_aload_n hx hb dX1_runEnd_100 rfl (lv_at hl 0 rfl) ?_
          refine lv_iload_n hx hb dX1_runEnd_101 rfl (lv_at hl 1 rfl) ?_
          refine lv_iload_n hx hb dX1_runEnd_102 rfl (lv_at hl 3 rfl) ?_
          refine ru_callVI (w1 := ru_Y d h g n t) (w2 := []) (As := [.int (nI i), .int (nI j)]) (rest := []) S0 V (met_X1_leastPeriod l D d h g n t ht i j (by omega) (by omega)) (cwV 2 hts (lw_V q208 q210 qs12 q20 q211) rfl rfl rfl (by decide +kernel) ⟨Nat.le_of_ble_eq_true rfl, Nat.le_of_ble_eq_true rfl⟩) 0 rfl rfl rfl hl.1 rfl (Nat.le_of_ble_eq_true rfl) dX1_runEnd_103 ⟨Nat.zero_le _, Nat.zero_le _⟩ (fun r u H locs hp V => ?_)
          have V : ru_V D d A s s.heap H locs (ru_Y d h g n t) := V
          rcases hp with ⟨q, rfl, hq⟩
          · refine lv_iload_n hx hb dX1_runEnd_106 rfl (lv_at hl 2 rfl) ?_
            refine ru_icmp_ne (tgt := 114) hx hb dX1_runEnd_107 (by decide) (by have := hq.2.1; omega) (by omega) (fun c_107 => ?_) (fun c_107 => ?_)
            · refine lv_iconst (v := (-1)) hx hb dX1_runEnd_114 (by decide) ?_
              exact ru_iret hx hb hr hlocks () V (Or.inr ⟨rfl, ru_norun hper hj1 (by omega) hjn (fun q => by first | (have := q.2.1; omega) | exact c_107 (ru_LP_uniq hq (ru_Run_LP q)))⟩) dX1_runEnd_115
            · refine lv_iload_n hx hb dX1_runEnd_110 rfl (lv_at hl 3 rfl) ?_
              refine lv_goto (tgt := 115) hx hb dX1_runEnd_111 (by decide) ?_
              exact ru_iret hx hb hr hlocks () V (Or.inl ⟨j, rfl, hp1, by omega, by omega, hper, hmx, hjn, by rw [← c_107]; exact hq.2.2.2⟩) dX1_runEnd_115
      · refine lv_iload_n hx hb dX1_runEnd_55 rfl (lv_at hl 3 rfl) ?_
        refine lv_iload hx hb dX1_runEnd_56 (lv_at hl 4 rfl) ?_
        refine ru_icmp_ne (tgt := 85) hx hb dX1_runEnd_58 (by decide) (by omega) (by omega) (fun c_58 => ?_) (fun c_58 => ?_)
        · refine lv_iinc (v := nI (k + 1)) (lv' := [(4, .int (nI (k + 1))), (0, .ref h), (1, .int (nI i)), (2, .int (nI p)), (3, .int (nI j))]) hx hb dX1_runEnd_85 hl (k := 4) rfl (ru_inc _) (by decide) rfl (fun ls hl => ?_)
          refine lv_goto (tgt := 46) hx hb dX1_runEnd_88 (by decide) ?_
          exact ih_46 j (k + 1) _ _ _ (by omega) ⟨by omega, by omega, by omega, hper, Or.inr (by first | exact hjk.resolve_left c_58 | (rw [c_58]; exact c_77))⟩ (lv_sub hl [1, 2, 3, 4, 0] rfl) V
        · refine lv_aload_n hx hb dX1_runEnd_61 rfl (lv_at hl 0 rfl) ?_
          refine ru_get1 hx hb hts hown V 0 rfl 1 (by decide) (hts _ q174) rfl dX1_runEnd_62 ?_
          refine lv_iload hx hb dX1_runEnd_65 (lv_at hl 4 rfl) ?_
          refine ru_ald hx hb V 1 rfl (by decide) (by omega) dX1_runEnd_67 ?_
          refine lv_aload_n hx hb dX1_runEnd_68 rfl (lv_at hl 0 rfl) ?_
          refine ru_get1 hx hb hts hown V 0 rfl 1 (by decide) (hts _ q174) rfl dX1_runEnd_69 ?_
          refine lv_iload hx hb dX1_runEnd_72 (lv_at hl 4 rfl) ?_
          refine lv_iload_n hx hb dX1_runEnd_74 rfl (lv_at hl 2 rfl) ?_
          refine ru_isub hx hb (by omega) dX1_runEnd_75 ?_
          refine ru_ald hx hb V 1 rfl (by decide) (by omega) dX1_runEnd_76 ?_
          refine ru_icmp_ne (tgt := 85) hx hb dX1_runEnd_77 (by decide) (by have := ht k; omega) (by have := ht (k - p); omega) (fun c_77 => ?_) (fun c_77 => ?_)
          · refine lv_iinc (v := nI (k + 1)) (lv' := [(4, .int (nI (k + 1))), (0, .ref h), (1, .int (nI i)), (2, .int (nI p)), (3, .int (nI j))]) hx hb dX1_runEnd_85 hl (k := 4) rfl (ru_inc _) (by decide) rfl (fun ls hl => ?_)
            refine lv_goto (tgt := 46) hx hb dX1_runEnd_88 (by decide) ?_
            exact ih_46 j (k + 1) _ _ _ (by omega) ⟨by omega, by omega, by omega, hper, Or.inr (by first | exact hjk.resolve_left c_58 | (rw [c_58]; exact c_77))⟩ (lv_sub hl [1, 2, 3, 4, 0] rfl) V
          · refine lv_iload hx hb dX1_runEnd_80 (lv_at hl 4 rfl) ?_
            refine lv_iconst (v := nI 1) hx hb dX1_runEnd_82 (by decide) ?_
            refine ru_iadd hx hb dX1_runEnd_83 ?_
            refine lv_istore_n (lv' := [(3, .int (nI (k + 1))), (0, .ref h), (1, .int (nI i)), (2, .int (nI p)), (4, .int (nI k))]) hx hb dX1_runEnd_84 rfl hl (by decide) rfl (fun ls hl => ?_)
            refine lv_iinc (v := nI (k + 1)) (lv' := [(4, .int (nI (k + 1))), (3, .int (nI (k + 1))), (0, .ref h), (1, .int (nI i)), (2, .int (nI p))]) hx hb dX1_runEnd_85 hl (k := 4) rfl (ru_inc _) (by decide) rfl (fun ls hl => ?_)
            refine lv_goto (tgt := 46) hx hb dX1_runEnd_88 (by decide) ?_
            exact ih_46 (k + 1) (k + 1) _ _ _ (by omega) ⟨by omega, by omega, by omega, fun m h1 h2 => by by_cases q : m + p < j; (· exact hper m h1 q); (· have e : m = k - p := (by omega); rw [e, show k - p + p = k by omega]; exact c_77.symm), Or.inl rfl⟩ (lv_sub hl [2, 3, 4, 1, 0] rfl) V
    · refine lv_aload_n hx hb dX1_runEnd_14 rfl (lv_at hl 0 rfl) ?_
      refine ru_get1 hx hb hts hown V 0 rfl 1 (by decide) (hts _ q174) rfl dX1_runEnd_15 ?_
      refine lv_iload_n hx hb dX1_runEnd_18 rfl (lv_at hl 1 rfl) ?_
      refine lv_iconst (v := nI 1) hx hb dX1_runEnd_19 (by decide) ?_
      refine ru_isub hx hb (by omega) dX1_runEnd_20 ?_
      refine ru_ald hx hb V 1 rfl (by decide) (by omega) dX1_runEnd_21 ?_
      refine lv_aload_n hx hb dX1_runEnd_22 rfl (lv_at hl 0 rfl) ?_
      refine ru_get1 hx hb hts hown V 0 rfl 1 (by decide) (hts _ q174) rfl dX1_runEnd_23 ?_
      refine lv_iload_n hx hb dX1_runEnd_26 rfl (lv_at hl 1 rfl) ?_
      refine lv_iconst (v := nI 1) hx hb dX1_runEnd_27 (by decide) ?_
      refine ru_isub hx hb (by omega) dX1_runEnd_28 ?_
      refine lv_iload_n hx hb dX1_runEnd_29 rfl (lv_at hl 2 rfl) ?_
      refine ru_iadd hx hb dX1_runEnd_30 ?_
      refine ru_ald hx hb V 1 rfl (by decide) (by omega) dX1_runEnd_31 ?_
      refine ru_icmp_ne (tgt := 37) hx hb dX1_runEnd_32 (by decide) (by have := ht (i - 1); omega) (by have := ht (i - 1 + p); omega) (fun c_32 => ?_) (fun c_32 => ?_)
      · have hmx : i = 0 ∨ t (i - 1) ≠ t (i - 1 + p) := by first | exact Or.inl c_11 | exact Or.inr c_32
        refine lv_iload_n hx hb dX1_runEnd_37 rfl (lv_at hl 1 rfl) ?_
        refine lv_iload_n hx hb dX1_runEnd_38 rfl (lv_at hl 2 rfl) ?_
        refine ru_iadd hx hb dX1_runEnd_39 ?_
        refine lv_istore_n (lv' := [(3, .int (nI (i + p))), (0, .ref h), (1, .int (nI i)), (2, .int (nI p))]) hx hb dX1_runEnd_40 rfl hl (by decide) rfl (fun ls hl => ?_)
        refine lv_iload_n hx hb dX1_runEnd_41 rfl (lv_at hl 2 rfl) ?_
        refine lv_iload_n hx hb dX1_runEnd_42 rfl (lv_at hl 3 rfl) ?_
        refine ru_iadd hx hb dX1_runEnd_43 ?_
        refine lv_istore (lv' := [(4, .int (nI (i + p))), (3, .int (nI (i + p))), (0, .ref h), (1, .int (nI i)), (2, .int (nI p))]) hx hb dX1_runEnd_44 hl (by decide) rfl (fun ls hl => ?_)
        refine ru_loop2 (nL := 5) (head := 46) (fun (j : Nat) (k : Nat) => [(0, .ref h), (1, .int (nI i)), (2, .int (nI p)), (3, .int (nI j)), (4, .int (nI k))]) (fun (j : Nat) (k : Nat) => ru_Y d h g n t) (fun (j : Nat) (k : Nat) => i + p ≤ j ∧ j ≤ k ∧ k ≤ n ∧ ru_Per t i j p ∧ (j = k ∨ t j ≠ t (j - p))) (fun (j : Nat) (k : Nat) => 40 - k) ?_ (i + p) (i + p) _ _ _ ⟨by omega, by omega, by omega, fun m h1 h2 => by omega, Or.inl rfl⟩ (lv_sub hl [2, 3, 4, 1, 0] rfl) V
        intro j k H locs ls hP_46 hl V ih_46
        have hl : lv_has ls 5 [(0, .ref h), (1, .int (nI i)), (2, .int (nI p)), (3, .int (nI j)), (4, .int (nI k))] := hl
        have V : ru_V D d A s s.heap H locs (ru_Y d h g n t) := V
        obtain ⟨hj1, hj2, hk, hper, hjk⟩ := hP_46
        refine lv_iload hx hb dX1_runEnd_46 (lv_at hl 4 rfl) ?_
        refine lv_aload_n hx hb dX1_runEnd_48 rfl (lv_at hl 0 rfl) ?_
        refine ru_get1 hx hb hts hown V 0 rfl 0 (by decide) (hts _ q173) rfl dX1_runEnd_49 ?_
        refine ru_icmp_ge (tgt := 91) hx hb dX1_runEnd_52 (by decide) (by omega) (by omega) (fun c_52 => ?_) (fun c_52 => ?_)
        · have hjn : j = n ∨ t j ≠ t (j - p) := by rcases hjk with q | q; (· exact Or.inl (by omega)); (· exact Or.inr q)
          refine lv_iload_n hx hb dX1_runEnd_91 rfl (lv_at hl 3 rfl) ?_
          refine lv_iload_n hx hb dX1_runEnd_92 rfl (lv_at hl 1 rfl) ?_
          refine ru_isub hx hb (by omega) dX1_runEnd_93 ?_
          refine lv_iconst (v := nI 2) hx hb dX1_runEnd_94 (by decide) ?_
          refine lv_iload_n hx hb dX1_runEnd_95 rfl (lv_at hl 2 rfl) ?_
          refine ru_imul hx hb dX1_runEnd_96 ?_
          refine ru_icmp_lt (tgt := 114) hx hb dX1_runEnd_97 (by decide) (by omega) (by omega) (fun c_97 => ?_) (fun c_97 => ?_)
          · refine lv_iconst (v := (-1)) hx hb dX1_runEnd_114 (by decide) ?_
            exact ru_iret hx hb hr hlocks () V (Or.inr ⟨rfl, ru_norun hper hj1 (by omega) hjn (fun q => by first | (have := q.2.1; omega) | exact c_107 (ru_LP_uniq hq (ru_Run_LP q)))⟩) dX1_runEnd_115
          · refine lv_aload_n hx hb dX1_runEnd_100 rfl (lv_at hl 0 rfl) ?_
            refine lv_iload_n hx hb dX1_runEnd_101 rfl (lv_at hl 1 rfl) ?_
            refine lv_iload_n hx hb dX1_runEnd_102 rfl (lv_at hl 3 rfl) ?_
            refine ru_callVI (w1 := ru_Y d h g n t) (w2 := []) (As := [.int (nI i), .int (nI j)]) (rest := []) S0 V (met_X1_leastPeriod l D d h g n t ht i j (by omega) (by omega)) (cwV 2 hts (lw_V q208 q210 qs12 q20 q211) rfl rfl rfl (by decide +kernel) ⟨Nat.le_of_ble_eq_true rfl, Nat.le_of_ble_eq_true rfl⟩) 0 rfl rfl rfl hl.1 rfl (Nat.le_of_ble_eq_true rfl) dX1_runEnd_103 ⟨Nat.zero_le _, Nat.zero_le _⟩ (fun r u H locs hp V => ?_)
            have V : ru_V D d A s s.heap H locs (ru_Y d h g n t) := V
            rcases hp with ⟨q, rfl, hq⟩
            · refine lv_iload_n hx hb dX1_runEnd_106 rfl (lv_at hl 2 rfl) ?_
              refine ru_icmp_ne (tgt := 114) hx hb dX1_runEnd_107 (by decide) (by have := hq.2.1; omega) (by omega) (fun c_107 => ?_) (fun c_107 => ?_)
              · refine lv_iconst (v := (-1)) hx hb dX1_runEnd_114 (by decide) ?_
                exact ru_iret hx hb hr hlocks () V (Or.inr ⟨rfl, ru_norun hper hj1 (by omega) hjn (fun q => by first | (have := q.2.1; omega) | exact c_107 (ru_LP_uniq hq (ru_Run_LP q)))⟩) dX1_runEnd_115
              · refine lv_iload_n hx hb dX1_runEnd_110 rfl (lv_at hl 3 rfl) ?_
                refine lv_goto (tgt := 115) hx hb dX1_runEnd_111 (by decide) ?_
                exact ru_iret hx hb hr hlocks () V (Or.inl ⟨j, rfl, hp1, by omega, by omega, hper, hmx, hjn, by rw [← c_107]; exact hq.2.2.2⟩) dX1_runEnd_115
        · refine lv_iload_n hx hb dX1_runEnd_55 rfl (lv_at hl 3 rfl) ?_
          refine lv_iload hx hb dX1_runEnd_56 (lv_at hl 4 rfl) ?_
          refine ru_icmp_ne (tgt := 85) hx hb dX1_runEnd_58 (by decide) (by omega) (by omega) (fun c_58 => ?_) (fun c_58 => ?_)
          · refine lv_iinc (v := nI (k + 1)) (lv' := [(4, .int (nI (k + 1))), (0, .ref h), (1, .int (nI i)), (2, .int (nI p)), (3, .int (nI j))]) hx hb dX1_runEnd_85 hl (k := 4) rfl (ru_inc _) (by decide) rfl (fun ls hl => ?_)
            refine lv_goto (tgt := 46) hx hb dX1_runEnd_88 (by decide) ?_
            exact ih_46 j (k + 1) _ _ _ (by omega) ⟨by omega, by omega, by omega, hper, Or.inr (by first | exact hjk.resolve_left c_58 | (rw [c_58]; exact c_77))⟩ (lv_sub hl [1, 2, 3, 4, 0] rfl) V
          · refine lv_aload_n hx hb dX1_runEnd_61 rfl (lv_at hl 0 rfl) ?_
            refine ru_get1 hx hb hts hown V 0 rfl 1 (by decide) (hts _ q174) rfl dX1_runEnd_62 ?_
            refine lv_iload hx hb dX1_runEnd_65 (lv_at hl 4 rfl) ?_
            refine ru_ald hx hb V 1 rfl (by decide) (by omega) dX1_runEnd_67 ?_
            refine lv_aload_n hx hb dX1_runEnd_68 rfl (lv_at hl 0 rfl) ?_
            refine ru_get1 hx hb hts hown V 0 rfl 1 (by decide) (hts _ q174) rfl dX1_runEnd_69 ?_
            refine lv_iload hx hb dX1_runEnd_72 (lv_at hl 4 rfl) ?_
            refine lv_iload_n hx hb dX1_runEnd_74 rfl (lv_at hl 2 rfl) ?_
            refine ru_isub hx hb (by omega) dX1_runEnd_75 ?_
            refine ru_ald hx hb V 1 rfl (by decide) (by omega) dX1_runEnd_76 ?_
            refine ru_icmp_ne (tgt := 85) hx hb dX1_runEnd_77 (by decide) (by have := ht k; omega) (by have := ht (k - p); omega) (fun c_77 => ?_) (fun c_77 => ?_)
            · refine lv_iinc (v := nI (k + 1)) (lv' := [(4, .int (nI (k + 1))), (0, .ref h), (1, .int (nI i)), (2, .int (nI p)), (3, .int (nI j))]) hx hb dX1_runEnd_85 hl (k := 4) rfl (ru_inc _) (by decide) rfl (fun ls hl => ?_)
              refine lv_goto (tgt := 46) hx hb dX1_runEnd_88 (by decide) ?_
              exact ih_46 j (k + 1) _ _ _ (by omega) ⟨by omega, by omega, by omega, hper, Or.inr (by first | exact hjk.resolve_left c_58 | (rw [c_58]; exact c_77))⟩ (lv_sub hl [1, 2, 3, 4, 0] rfl) V
            · refine lv_iload hx hb dX1_runEnd_80 (lv_at hl 4 rfl) ?_
              refine lv_iconst (v := nI 1) hx hb dX1_runEnd_82 (by decide) ?_
              refine ru_iadd hx hb dX1_runEnd_83 ?_
              refine lv_istore_n (lv' := [(3, .int (nI (k + 1))), (0, .ref h), (1, .int (nI i)), (2, .int (nI p)), (4, .int (nI k))]) hx hb dX1_runEnd_84 rfl hl (by decide) rfl (fun ls hl => ?_)
              refine lv_iinc (v := nI (k + 1)) (lv' := [(4, .int (nI (k + 1))), (3, .int (nI (k + 1))), (0, .ref h), (1, .int (nI i)), (2, .int (nI p))]) hx hb dX1_runEnd_85 hl (k := 4) rfl (ru_inc _) (by decide) rfl (fun ls hl => ?_)
              refine lv_goto (tgt := 46) hx hb dX1_runEnd_88 (by decide) ?_
              exact ih_46 (k + 1) (k + 1) _ _ _ (by omega) ⟨by omega, by omega, by omega, fun m h1 h2 => by by_cases q : m + p < j; (· exact hper m h1 q); (· have e : m = k - p := (by omega); rw [e, show k - p + p = k by omega]; exact c_77.symm), Or.inl rfl⟩ (lv_sub hl [2, 3, 4, 1, 0] rfl) V
      · refine lv_iconst (v := (-1)) hx hb dX1_runEnd_35 (by decide) ?_
        exact ru_iret hx hb hr hlocks () V (Or.inr ⟨rfl, fun ⟨j, q⟩ => by first | (have := (hmin j q).1; omega) | exact ((hmin j q).2.resolve_left (by omega)) c_32⟩) dX1_runEnd_36

set_option maxHeartbeats 4000000 in
set_option maxRecDepth 100000 in
theorem met_X1_run (l : Launch) (D : va_G) (d : ClassId) (h g n : Nat) (t : Nat → Nat) (hn : n ≤ 32) (ht : ∀ k, t k < 4) (v : Int32) : ru_MI l yX1_run cX1_run 6 (some .int) (ru_R 3 71) D d [.ref h, .int v] (ru_Y d h g n t) (fun (r : Int32) (_ : Unit) => ru_Mr t n v (fun i j p => i * 1024 + p * 32 + j - 1) (-1) r) (fun _ : Unit => ru_Y d h g n t) := by
  refine ru_MI.of (by decide) (Nat.le_of_ble_eq_true rfl) ?_
  intro pr ev s mi below me co A ls hx hb hr hlocks S0 hl V
  have hts := S0.2.2.2.2
  have hown := S0.2.2.2.1
  have hl : lv_has ls 6 [(0, .ref h), (1, .int v)] := hl
  refine lv_iconst (v := nI 0) hx hb dX1_run_0 (by decide) ?_
  refine lv_istore_n (lv' := [(2, .int (nI 0)), (0, .ref h), (1, .int v)]) hx hb dX1_run_1 rfl hl (by decide) rfl (fun ls hl => ?_)
  refine lv_iconst (v := nI 0) hx hb dX1_run_2 (by decide) ?_
  refine lv_istore_n (lv' := [(3, .int (nI 0)), (2, .int (nI 0)), (0, .ref h), (1, .int v)]) hx hb dX1_run_3 rfl hl (by decide) rfl (fun ls hl => ?_)
  refine ru_loop2 (nL := 6) (head := 4) (fun (i : Nat) (c : Nat) => [(0, .ref h), (1, .int v), (2, .int (nI c)), (3, .int (nI i))]) (fun (i : Nat) (c : Nat) => ru_Y d h g n t) (fun (i : Nat) (c : Nat) => i ≤ n ∧ c = ru_cnt (ru_S t n) (i * 32 + 1) ∧ ∀ x, x < i * 32 + 1 → ru_S t n x → v ≠ nI (ru_cnt (ru_S t n) x)) (fun (i : Nat) (c : Nat) => 40 - i) ?_ 0 0 _ _ _ ⟨by omega, by rw [ru_cnt_f (fun q => by have := ru_S_p hn q; omega)]; rfl, fun x h1 h2 => by have := ru_S_p hn h2; omega⟩ (lv_sub hl [2, 3, 1, 0] rfl) V
  intro i c H locs ls hP_4 hl V ih_4
  have hl : lv_has ls 6 [(0, .ref h), (1, .int v), (2, .int (nI c)), (3, .int (nI i))] := hl
  have V : ru_V D d A s s.heap H locs (ru_Y d h g n t) := V
  obtain ⟨hi, hc0, hno0⟩ := hP_4
  refine lv_iload_n hx hb dX1_run_4 rfl (lv_at hl 3 rfl) ?_
  refine lv_aload_n hx hb dX1_run_5 rfl (lv_at hl 0 rfl) ?_
  refine ru_get1 hx hb hts hown V 0 rfl 0 (by decide) (hts _ q173) rfl dX1_run_6 ?_
  refine ru_icmp_ge (tgt := 73) hx hb dX1_run_9 (by decide) (by omega) (by omega) (fun c_9 => ?_) (fun c_9 => ?_)
  · refine lv_iconst (v := (-1)) hx hb dX1_run_73 (by decide) ?_
    exact ru_iret hx hb hr hlocks () V (Or.inr ⟨rfl, fun x hx => hno0 x (by have := ru_S_lt hx; omega) hx⟩) dX1_run_74
  · refine lv_iconst (v := nI 1) hx hb dX1_run_12 (by decide) ?_
    refine lv_istore (lv' := [(4, .int (nI 1)), (0, .ref h), (1, .int v), (2, .int (nI c)), (3, .int (nI i))]) hx hb dX1_run_13 hl (by decide) rfl (fun ls hl => ?_)
    refine ru_loop2 (nL := 6) (head := 15) (fun (p : Nat) (c : Nat) => [(0, .ref h), (1, .int v), (2, .int (nI c)), (3, .int (nI i)), (4, .int (nI p))]) (fun (p : Nat) (c : Nat) => ru_Y d h g n t) (fun (p : Nat) (c : Nat) => 1 ≤ p ∧ p ≤ 17 ∧ c = ru_cnt (ru_S t n) (i * 32 + p) ∧ ∀ x, x < i * 32 + p → ru_S t n x → v ≠ nI (ru_cnt (ru_S t n) x)) (fun (p : Nat) (c : Nat) => 40 - p) ?_ 1 c _ _ _ ⟨by omega, by omega, hc0, hno0⟩ (lv_sub hl [1, 2, 3, 4, 0] rfl) V
    intro p c H locs ls hP_15 hl V ih_15
    have hl : lv_has ls 6 [(0, .ref h), (1, .int v), (2, .int (nI c)), (3, .int (nI i)), (4, .int (nI p))] := hl
    have V : ru_V D d A s s.heap H locs (ru_Y d h g n t) := V
    obtain ⟨hp1, hp2, hc, hno⟩ := hP_15
    refine lv_iload hx hb dX1_run_15 (lv_at hl 4 rfl) ?_
    refine lv_bipush (v := nI 16) hx hb dX1_run_17 (by decide) ?_
    refine ru_icmp_gt (tgt := 67) hx hb dX1_run_19 (by decide) (by omega) (by omega) (fun c_19 => ?_) (fun c_19 => ?_)
    · refine lv_iinc (v := nI (i + 1)) (lv' := [(3, .int (nI (i + 1))), (0, .ref h), (1, .int v), (2, .int (nI c)), (4, .int (nI p))]) hx hb dX1_run_67 hl (k := 3) rfl (ru_inc _) (by decide) rfl (fun ls hl => ?_)
      refine lv_goto (tgt := 4) hx hb dX1_run_70 (by decide) ?_
      exact ih_4 (i + 1) c _ _ _ (by omega) ⟨by omega, by rw [ru_cnt_row hn c_19 hp2]; exact hc, fun x h1 h2 => by by_cases q : x < i * 32 + p; (· exact hno x q h2); (· have := ru_S_p hn h2; omega)⟩ (lv_sub hl [1, 2, 3, 0] rfl) V
    · refine lv_aload_n hx hb dX1_run_22 rfl (lv_at hl 0 rfl) ?_
      refine lv_iload_n hx hb dX1_run_23 rfl (lv_at hl 3 rfl) ?_
      refine lv_iload hx hb dX1_run_24 (lv_at hl 4 rfl) ?_
      refine ru_callVI (w1 := ru_Y d h g n t) (w2 := []) (As := [.int (nI i), .int (nI p)]) (rest := []) S0 V (met_X1_runEnd l D d h g n t hn ht i p (by omega) hp1 (by omega)) (cwV 2 hts (lw_V q204 q206 qs11 q20 q207) rfl rfl rfl (by decide +kernel) ⟨Nat.le_of_ble_eq_true rfl, Nat.le_of_ble_eq_true rfl⟩) 0 rfl rfl rfl hl.1 rfl (Nat.le_of_ble_eq_true rfl) dX1_run_26 ⟨Nat.zero_le _, Nat.zero_le _⟩ (fun r u H locs hp V => ?_)
      have V : ru_V D d A s s.heap H locs (ru_Y d h g n t) := V
      rcases hp with ⟨j, rfl, hj⟩ | ⟨rfl, hj⟩
      · have hS : ru_S t n (i * 32 + p) := (ru_S_key (by omega)).mpr ⟨j, hj⟩
        have hjb := hj.2.2.1
        refine lv_istore (lv' := [(5, .int (nI j)), (0, .ref h), (1, .int v), (2, .int (nI c)), (3, .int (nI i)), (4, .int (nI p))]) hx hb dX1_run_29 hl (by decide) rfl (fun ls hl => ?_)
        refine lv_iload hx hb dX1_run_31 (lv_at hl 0 rfl) ?_
        refine ru_if_lt (tgt := 61) hx hb dX1_run_33 (by decide) (by omega) ?_
        refine lv_iload_n hx hb dX1_run_36 rfl (lv_at hl 3 rfl) ?_
        refine lv_iload_n hx hb dX1_run_37 rfl (lv_at hl 2 rfl) ?_
        refine lv_icmp_ne (tgt := 58) hx hb dX1_run_38 (by decide) (fun c_38 => ?_) (fun c_38 => ?_)
        · refine lv_iinc (v := nI (c + 1)) (lv' := [(2, .int (nI (c + 1))), (5, .int (nI j)), (0, .ref h), (1, .int v), (3, .int (nI i)), (4, .int (nI p))]) hx hb dX1_run_58 hl (k := 3) rfl (ru_inc _) (by decide) rfl (fun ls hl => ?_)
          refine lv_iinc (v := nI (p + 1)) (lv' := [(4, .int (nI (p + 1))), (2, .int (nI (c + 1))), (5, .int (nI j)), (0, .ref h), (1, .int v), (3, .int (nI i))]) hx hb dX1_run_61 hl (k := 5) rfl (ru_inc _) (by decide) rfl (fun ls hl => ?_)
          refine lv_goto (tgt := 15) hx hb dX1_run_64 (by decide) ?_
          exact ih_15 (p + 1) (c + 1) _ _ _ (by omega) ⟨by omega, by omega, by rw [show i * 32 + (p + 1) = i * 32 + p + 1 by omega, ru_cnt_t hS, hc], fun x h1 h2 => by by_cases q : x < i * 32 + p; (· exact hno x q h2); (· have e : x = i * 32 + p := (by omega); rw [e] at h2 ⊢; rw [← hc]; exact fun z => c_38 z.symm)⟩ (lv_sub hl [3, 4, 1, 5, 0] rfl) V
        · refine lv_iload_n hx hb dX1_run_41 rfl (lv_at hl 4 rfl) ?_
          refine lv_sipush (v := nI 1024) hx hb dX1_run_42 (by decide) ?_
          refine ru_imul hx hb dX1_run_45 ?_
          refine lv_iload hx hb dX1_run_46 (lv_at hl 5 rfl) ?_
          refine lv_bipush (v := nI 32) hx hb dX1_run_48 (by decide) ?_
          refine ru_imul hx hb dX1_run_50 ?_
          refine ru_iadd hx hb dX1_run_51 ?_
          refine lv_iload hx hb dX1_run_52 (lv_at hl 0 rfl) ?_
          refine ru_iadd hx hb dX1_run_54 ?_
          refine lv_iconst (v := nI 1) hx hb dX1_run_55 (by decide) ?_
          refine ru_isub hx hb (by omega) dX1_run_56 ?_
          exact ru_iret hx hb hr hlocks () V (Or.inl ⟨i, j, p, hj, by rw [← hc]; exact c_38.symm, rfl⟩) dX1_run_57
      · have hS : ¬ ru_S t n (i * 32 + p) := fun q => hj ((ru_S_key (by omega)).mp q)
        refine lv_istore (lv' := [(5, .int (-1)), (0, .ref h), (1, .int v), (2, .int (nI c)), (3, .int (nI i)), (4, .int (nI p))]) hx hb dX1_run_29 hl (by decide) rfl (fun ls hl => ?_)
        refine lv_iload hx hb dX1_run_31 (lv_at hl 0 rfl) ?_
        refine lv_if_lt (tgt := 61) hx hb dX1_run_33 (by decide) (fun c_33 => ?_) (fun c_33 => ?_)
        · refine lv_iinc (v := nI (p + 1)) (lv' := [(4, .int (nI (p + 1))), (5, .int (-1)), (0, .ref h), (1, .int v), (2, .int (nI c)), (3, .int (nI i))]) hx hb dX1_run_61 hl (k := 5) rfl (ru_inc _) (by decide) rfl (fun ls hl => ?_)
          refine lv_goto (tgt := 15) hx hb dX1_run_64 (by decide) ?_
          exact ih_15 (p + 1) c _ _ _ (by omega) ⟨by omega, by omega, by rw [show i * 32 + (p + 1) = i * 32 + p + 1 by omega, ru_cnt_f hS, hc], fun x h1 h2 => by by_cases q : x < i * 32 + p; (· exact hno x q h2); (· have e : x = i * 32 + p := (by omega); rw [e] at h2 ⊢; exact absurd h2 hS)⟩ (lv_sub hl [2, 3, 4, 5, 0] rfl) V
        · exact absurd c_33 (by decide)

set_option maxHeartbeats 4000000 in
set_option maxRecDepth 100000 in
theorem met_X1_runs (l : Launch) (D : va_G) (d : ClassId) (h g n : Nat) (t : Nat → Nat) (hn : n ≤ 32) (ht : ∀ k, t k < 4) : ru_MI l yX1_runs cX1_runs 4 (some .int) (ru_R 3 71) D d [.ref h] (ru_Y d h g n t) (fun (r : Int32) (_ : Unit) => r = nI (ru_cnt (ru_S t n) (n * 32))) (fun _ : Unit => ru_Y d h g n t) := by
  refine ru_MI.of (by decide) (Nat.le_of_ble_eq_true rfl) ?_
  intro pr ev s mi below me co A ls hx hb hr hlocks S0 hl V
  have hts := S0.2.2.2.2
  have hown := S0.2.2.2.1
  have hl : lv_has ls 4 [(0, .ref h)] := hl
  refine lv_iconst (v := nI 0) hx hb dX1_runs_0 (by decide) ?_
  refine lv_istore_n (lv' := [(1, .int (nI 0)), (0, .ref h)]) hx hb dX1_runs_1 rfl hl (by decide) rfl (fun ls hl => ?_)
  refine lv_iconst (v := nI 0) hx hb dX1_runs_2 (by decide) ?_
  refine lv_istore_n (lv' := [(2, .int (nI 0)), (1, .int (nI 0)), (0, .ref h)]) hx hb dX1_runs_3 rfl hl (by decide) rfl (fun ls hl => ?_)
  refine ru_loop2 (nL := 4) (head := 4) (fun (i : Nat) (c : Nat) => [(0, .ref h), (1, .int (nI c)), (2, .int (nI i))]) (fun (i : Nat) (c : Nat) => ru_Y d h g n t) (fun (i : Nat) (c : Nat) => i ≤ n ∧ c = ru_cnt (ru_S t n) (i * 32 + 1)) (fun (i : Nat) (c : Nat) => 40 - i) ?_ 0 0 _ _ _ ⟨by omega, by rw [ru_cnt_f (fun q => by have := ru_S_p hn q; omega)]; rfl⟩ (lv_sub hl [2, 1, 0] rfl) V
  intro i c H locs ls hP_4 hl V ih_4
  have hl : lv_has ls 4 [(0, .ref h), (1, .int (nI c)), (2, .int (nI i))] := hl
  have V : ru_V D d A s s.heap H locs (ru_Y d h g n t) := V
  obtain ⟨hi, hc0⟩ := hP_4
  refine lv_iload_n hx hb dX1_runs_4 rfl (lv_at hl 2 rfl) ?_
  refine lv_aload_n hx hb dX1_runs_5 rfl (lv_at hl 0 rfl) ?_
  refine ru_get1 hx hb hts hown V 0 rfl 0 (by decide) (hts _ q173) rfl dX1_runs_6 ?_
  refine ru_icmp_ge (tgt := 44) hx hb dX1_runs_9 (by decide) (by omega) (by omega) (fun c_9 => ?_) (fun c_9 => ?_)
  · refine lv_iload_n hx hb dX1_runs_44 rfl (lv_at hl 1 rfl) ?_
    exact ru_iret hx hb hr hlocks () V (by rw [hc0, show i = n by omega, ru_cnt_f (fun q => by have := ru_S_lt q; omega)]) dX1_runs_45
  · refine lv_iconst (v := nI 1) hx hb dX1_runs_12 (by decide) ?_
    refine lv_istore_n (lv' := [(3, .int (nI 1)), (0, .ref h), (1, .int (nI c)), (2, .int (nI i))]) hx hb dX1_runs_13 rfl hl (by decide) rfl (fun ls hl => ?_)
    refine ru_loop2 (nL := 4) (head := 14) (fun (p : Nat) (c : Nat) => [(0, .ref h), (1, .int (nI c)), (2, .int (nI i)), (3, .int (nI p))]) (fun (p : Nat) (c : Nat) => ru_Y d h g n t) (fun (p : Nat) (c : Nat) => 1 ≤ p ∧ p ≤ 17 ∧ c = ru_cnt (ru_S t n) (i * 32 + p)) (fun (p : Nat) (c : Nat) => 40 - p) ?_ 1 c _ _ _ ⟨by omega, by omega, hc0⟩ (lv_sub hl [1, 2, 3, 0] rfl) V
    intro p c H locs ls hP_14 hl V ih_14
    have hl : lv_has ls 4 [(0, .ref h), (1, .int (nI c)), (2, .int (nI i)), (3, .int (nI p))] := hl
    have V : ru_V D d A s s.heap H locs (ru_Y d h g n t) := V
    obtain ⟨hp1, hp2, hc⟩ := hP_14
    refine lv_iload_n hx hb dX1_runs_14 rfl (lv_at hl 3 rfl) ?_
    refine lv_bipush (v := nI 16) hx hb dX1_runs_15 (by decide) ?_
    refine ru_icmp_gt (tgt := 38) hx hb dX1_runs_17 (by decide) (by omega) (by omega) (fun c_17 => ?_) (fun c_17 => ?_)
    · refine lv_iinc (v := nI (i + 1)) (lv' := [(2, .int (nI (i + 1))), (0, .ref h), (1, .int (nI c)), (3, .int (nI p))]) hx hb dX1_runs_38 hl (k := 2) rfl (ru_inc _) (by decide) rfl (fun ls hl => ?_)
      refine lv_goto (tgt := 4) hx hb dX1_runs_41 (by decide) ?_
      exact ih_4 (i + 1) c _ _ _ (by omega) ⟨by omega, by rw [ru_cnt_row hn c_17 hp2]; exact hc⟩ (lv_sub hl [1, 2, 0] rfl) V
    · refine lv_aload_n hx hb dX1_runs_20 rfl (lv_at hl 0 rfl) ?_
      refine lv_iload_n hx hb dX1_runs_21 rfl (lv_at hl 2 rfl) ?_
      refine lv_iload_n hx hb dX1_runs_22 rfl (lv_at hl 3 rfl) ?_
      refine ru_callVI (w1 := ru_Y d h g n t) (w2 := []) (As := [.int (nI i), .int (nI p)]) (rest := []) S0 V (met_X1_runEnd l D d h g n t hn ht i p (by omega) hp1 (by omega)) (cwV 2 hts (lw_V q204 q206 qs11 q20 q207) rfl rfl rfl (by decide +kernel) ⟨Nat.le_of_ble_eq_true rfl, Nat.le_of_ble_eq_true rfl⟩) 0 rfl rfl rfl hl.1 rfl (Nat.le_of_ble_eq_true rfl) dX1_runs_23 ⟨Nat.zero_le _, Nat.zero_le _⟩ (fun r u H locs hp V => ?_)
      have V : ru_V D d A s s.heap H locs (ru_Y d h g n t) := V
      rcases hp with ⟨j, rfl, hj⟩ | ⟨rfl, hj⟩
      · have hS : ru_S t n (i * 32 + p) := (ru_S_key (by omega)).mpr ⟨j, hj⟩
        have hjb := hj.2.2.1
        refine ru_if_lt (tgt := 32) hx hb dX1_runs_26 (by decide) (by omega) ?_
        refine lv_iinc (v := nI (c + 1)) (lv' := [(1, .int (nI (c + 1))), (0, .ref h), (2, .int (nI i)), (3, .int (nI p))]) hx hb dX1_runs_29 hl (k := 1) rfl (ru_inc _) (by decide) rfl (fun ls hl => ?_)
        refine lv_iinc (v := nI (p + 1)) (lv' := [(3, .int (nI (p + 1))), (1, .int (nI (c + 1))), (0, .ref h), (2, .int (nI i))]) hx hb dX1_runs_32 hl (k := 3) rfl (ru_inc _) (by decide) rfl (fun ls hl => ?_)
        refine lv_goto (tgt := 14) hx hb dX1_runs_35 (by decide) ?_
        exact ih_14 (p + 1) (c + 1) _ _ _ (by omega) ⟨by omega, by omega, by rw [show i * 32 + (p + 1) = i * 32 + p + 1 by omega, ru_cnt_t hS, hc]⟩ (lv_sub hl [2, 1, 3, 0] rfl) V
      · have hS : ¬ ru_S t n (i * 32 + p) := fun q => hj ((ru_S_key (by omega)).mp q)
        refine lv_if_lt (tgt := 32) hx hb dX1_runs_26 (by decide) (fun c_26 => ?_) (fun c_26 => ?_)
        · refine lv_iinc (v := nI (p + 1)) (lv' := [(3, .int (nI (p + 1))), (0, .ref h), (1, .int (nI c)), (2, .int (nI i))]) hx hb dX1_runs_32 hl (k := 3) rfl (ru_inc _) (by decide) rfl (fun ls hl => ?_)
          refine lv_goto (tgt := 14) hx hb dX1_runs_35 (by decide) ?_
          exact ih_14 (p + 1) c _ _ _ (by omega) ⟨by omega, by omega, by rw [show i * 32 + (p + 1) = i * 32 + p + 1 by omega, ru_cnt_f hS, hc]⟩ (lv_sub hl [1, 2, 3, 0] rfl) V
        · exact absurd c_26 (by decide)

set_option maxHeartbeats 4000000 in
set_option maxRecDepth 100000 in
theorem met_X1_begin (l : Launch) (D : va_G) (d : ClassId) (h g n : Nat) (t : Nat → Nat) (hn : n ≤ 32) (ht : ∀ k, t k < 4) (v : Int32) : ru_MI l yX1_begin cX1_begin 3 (some .int) (ru_R 4 96) D d [.ref h, .int v] (ru_Y d h g n t) (fun (r : Int32) (_ : Unit) => ru_Mr t n v (fun i j p => i) (-4) r) (fun _ : Unit => ru_Y d h g n t) := by
  refine ru_MI.of (by decide) (Nat.le_of_ble_eq_true rfl) ?_
  intro pr ev s mi below me co A ls hx hb hr hlocks S0 hl V
  have hts := S0.2.2.2.2
  have hown := S0.2.2.2.1
  have hl : lv_has ls 3 [(0, .ref h), (1, .int v)] := hl
  refine lv_aload_n hx hb dX1_begin_0 rfl (lv_at hl 0 rfl) ?_
  refine lv_iload_n hx hb dX1_begin_1 rfl (lv_at hl 1 rfl) ?_
  refine ru_callVI (w1 := ru_Y d h g n t) (w2 := []) (As := [.int v]) (rest := []) S0 V (met_X1_run l D d h g n t hn ht v) (cwV 1 hts (lw_V q220 q222 qs14 q20 q223) rfl rfl rfl (by decide +kernel) ⟨Nat.le_of_ble_eq_true rfl, Nat.le_of_ble_eq_true rfl⟩) 0 rfl rfl rfl hl.1 rfl (Nat.le_of_ble_eq_true rfl) dX1_begin_2 ⟨Nat.zero_le _, Nat.zero_le _⟩ (fun r u H locs hp V => ?_)
  have V : ru_V D d A s s.heap H locs (ru_Y d h g n t) := V
  rcases hp with ⟨i, j, p, hR, hv, rfl⟩ | ⟨rfl, hno⟩
  · obtain ⟨g1, g2, g3, -⟩ := id hR
    refine lv_istore_n (lv' := [(2, .int (nI (i * 1024 + p * 32 + j - 1))), (0, .ref h), (1, .int v)]) hx hb dX1_begin_5 rfl hl (by decide) rfl (fun ls hl => ?_)
    refine lv_iload_n hx hb dX1_begin_6 rfl (lv_at hl 0 rfl) ?_
    refine ru_if_ge (tgt := 15) hx hb dX1_begin_7 (by decide) (by omega) ?_
    refine lv_iload_n hx hb dX1_begin_15 rfl (lv_at hl 0 rfl) ?_
    refine lv_sipush (v := nI 1024) hx hb dX1_begin_16 (by decide) ?_
    refine ru_idiv hx hb (by omega) (by omega) (by omega) dX1_begin_19 ?_
    refine ru_top (y := i) (by omega) ?_
    exact ru_iret hx hb hr hlocks () V (Or.inl ⟨i, j, p, hR, hv, rfl⟩) dX1_begin_20
  · refine lv_istore_n (lv' := [(2, .int (-1)), (0, .ref h), (1, .int v)]) hx hb dX1_begin_5 rfl hl (by decide) rfl (fun ls hl => ?_)
    refine lv_iload_n hx hb dX1_begin_6 rfl (lv_at hl 0 rfl) ?_
    refine lv_if_ge (tgt := 15) hx hb dX1_begin_7 (by decide) (fun c_7 => ?_) (fun c_7 => ?_)
    · exact absurd c_7 (by decide)
    · refine lv_bipush (v := (-4)) hx hb dX1_begin_10 (by decide) ?_
      refine lv_goto (tgt := 20) hx hb dX1_begin_12 (by decide) ?_
      exact ru_iret hx hb hr hlocks () V (Or.inr ⟨rfl, hno⟩) dX1_begin_20

set_option maxHeartbeats 4000000 in
set_option maxRecDepth 100000 in
theorem met_X1_end (l : Launch) (D : va_G) (d : ClassId) (h g n : Nat) (t : Nat → Nat) (hn : n ≤ 32) (ht : ∀ k, t k < 4) (v : Int32) : ru_MI l yX1_end cX1_end 3 (some .int) (ru_R 4 96) D d [.ref h, .int v] (ru_Y d h g n t) (fun (r : Int32) (_ : Unit) => ru_Mr t n v (fun i j p => j) (-4) r) (fun _ : Unit => ru_Y d h g n t) := by
  refine ru_MI.of (by decide) (Nat.le_of_ble_eq_true rfl) ?_
  intro pr ev s mi below me co A ls hx hb hr hlocks S0 hl V
  have hts := S0.2.2.2.2
  have hown := S0.2.2.2.1
  have hl : lv_has ls 3 [(0, .ref h), (1, .int v)] := hl
  refine lv_aload_n hx hb dX1_end_0 rfl (lv_at hl 0 rfl) ?_
  refine lv_iload_n hx hb dX1_end_1 rfl (lv_at hl 1 rfl) ?_
  refine ru_callVI (w1 := ru_Y d h g n t) (w2 := []) (As := [.int v]) (rest := []) S0 V (met_X1_run l D d h g n t hn ht v) (cwV 1 hts (lw_V q220 q222 qs14 q20 q223) rfl rfl rfl (by decide +kernel) ⟨Nat.le_of_ble_eq_true rfl, Nat.le_of_ble_eq_true rfl⟩) 0 rfl rfl rfl hl.1 rfl (Nat.le_of_ble_eq_true rfl) dX1_end_2 ⟨Nat.zero_le _, Nat.zero_le _⟩ (fun r u H locs hp V => ?_)
  have V : ru_V D d A s s.heap H locs (ru_Y d h g n t) := V
  rcases hp with ⟨i, j, p, hR, hv, rfl⟩ | ⟨rfl, hno⟩
  · obtain ⟨g1, g2, g3, -⟩ := id hR
    refine lv_istore_n (lv' := [(2, .int (nI (i * 1024 + p * 32 + j - 1))), (0, .ref h), (1, .int v)]) hx hb dX1_end_5 rfl hl (by decide) rfl (fun ls hl => ?_)
    refine lv_iload_n hx hb dX1_end_6 rfl (lv_at hl 0 rfl) ?_
    refine ru_if_ge (tgt := 15) hx hb dX1_end_7 (by decide) (by omega) ?_
    refine lv_iload_n hx hb dX1_end_15 rfl (lv_at hl 0 rfl) ?_
    refine lv_bipush (v := nI 32) hx hb dX1_end_16 (by decide) ?_
    refine ru_irem hx hb (by omega) (by omega) (by omega) dX1_end_18 ?_
    refine lv_iconst (v := nI 1) hx hb dX1_end_19 (by decide) ?_
    refine ru_iadd hx hb dX1_end_20 ?_
    refine ru_top (y := j) (by omega) ?_
    exact ru_iret hx hb hr hlocks () V (Or.inl ⟨i, j, p, hR, hv, rfl⟩) dX1_end_21
  · refine lv_istore_n (lv' := [(2, .int (-1)), (0, .ref h), (1, .int v)]) hx hb dX1_end_5 rfl hl (by decide) rfl (fun ls hl => ?_)
    refine lv_iload_n hx hb dX1_end_6 rfl (lv_at hl 0 rfl) ?_
    refine lv_if_ge (tgt := 15) hx hb dX1_end_7 (by decide) (fun c_7 => ?_) (fun c_7 => ?_)
    · exact absurd c_7 (by decide)
    · refine lv_bipush (v := (-4)) hx hb dX1_end_10 (by decide) ?_
      refine lv_goto (tgt := 21) hx hb dX1_end_12 (by decide) ?_
      exact ru_iret hx hb hr hlocks () V (Or.inr ⟨rfl, hno⟩) dX1_end_21

set_option maxHeartbeats 4000000 in
set_option maxRecDepth 100000 in
theorem met_X1_period (l : Launch) (D : va_G) (d : ClassId) (h g n : Nat) (t : Nat → Nat) (hn : n ≤ 32) (ht : ∀ k, t k < 4) (v : Int32) : ru_MI l yX1_period cX1_period 3 (some .int) (ru_R 4 96) D d [.ref h, .int v] (ru_Y d h g n t) (fun (r : Int32) (_ : Unit) => ru_Mr t n v (fun i j p => p) (-4) r) (fun _ : Unit => ru_Y d h g n t) := by
  refine ru_MI.of (by decide) (Nat.le_of_ble_eq_true rfl) ?_
  intro pr ev s mi below me co A ls hx hb hr hlocks S0 hl V
  have hts := S0.2.2.2.2
  have hown := S0.2.2.2.1
  have hl : lv_has ls 3 [(0, .ref h), (1, .int v)] := hl
  refine lv_aload_n hx hb dX1_period_0 rfl (lv_at hl 0 rfl) ?_
  refine lv_iload_n hx hb dX1_period_1 rfl (lv_at hl 1 rfl) ?_
  refine ru_callVI (w1 := ru_Y d h g n t) (w2 := []) (As := [.int v]) (rest := []) S0 V (met_X1_run l D d h g n t hn ht v) (cwV 1 hts (lw_V q220 q222 qs14 q20 q223) rfl rfl rfl (by decide +kernel) ⟨Nat.le_of_ble_eq_true rfl, Nat.le_of_ble_eq_true rfl⟩) 0 rfl rfl rfl hl.1 rfl (Nat.le_of_ble_eq_true rfl) dX1_period_2 ⟨Nat.zero_le _, Nat.zero_le _⟩ (fun r u H locs hp V => ?_)
  have V : ru_V D d A s s.heap H locs (ru_Y d h g n t) := V
  rcases hp with ⟨i, j, p, hR, hv, rfl⟩ | ⟨rfl, hno⟩
  · obtain ⟨g1, g2, g3, -⟩ := id hR
    refine lv_istore_n (lv' := [(2, .int (nI (i * 1024 + p * 32 + j - 1))), (0, .ref h), (1, .int v)]) hx hb dX1_period_5 rfl hl (by decide) rfl (fun ls hl => ?_)
    refine lv_iload_n hx hb dX1_period_6 rfl (lv_at hl 0 rfl) ?_
    refine ru_if_ge (tgt := 15) hx hb dX1_period_7 (by decide) (by omega) ?_
    refine lv_iload_n hx hb dX1_period_15 rfl (lv_at hl 0 rfl) ?_
    refine lv_bipush (v := nI 32) hx hb dX1_period_16 (by decide) ?_
    refine ru_idiv hx hb (by omega) (by omega) (by omega) dX1_period_18 ?_
    refine ru_top (y := (i * 32 + p)) (by omega) ?_
    refine lv_bipush (v := nI 32) hx hb dX1_period_19 (by decide) ?_
    refine ru_irem hx hb (by omega) (by omega) (by omega) dX1_period_21 ?_
    refine ru_top (y := p) (by omega) ?_
    exact ru_iret hx hb hr hlocks () V (Or.inl ⟨i, j, p, hR, hv, rfl⟩) dX1_period_22
  · refine lv_istore_n (lv' := [(2, .int (-1)), (0, .ref h), (1, .int v)]) hx hb dX1_period_5 rfl hl (by decide) rfl (fun ls hl => ?_)
    refine lv_iload_n hx hb dX1_period_6 rfl (lv_at hl 0 rfl) ?_
    refine lv_if_ge (tgt := 15) hx hb dX1_period_7 (by decide) (fun c_7 => ?_) (fun c_7 => ?_)
    · exact absurd c_7 (by decide)
    · refine lv_bipush (v := (-4)) hx hb dX1_period_10 (by decide) ?_
      refine lv_goto (tgt := 22) hx hb dX1_period_12 (by decide) ?_
      exact ru_iret hx hb hr hlocks () V (Or.inr ⟨rfl, hno⟩) dX1_period_22

set_option maxHeartbeats 4000000 in
set_option maxRecDepth 100000 in
theorem met_X1_squares (l : Launch) (D : va_G) (d : ClassId) (h g n : Nat) (t : Nat → Nat) (hn : n ≤ 32) (ht : ∀ k, t k < 4) : ru_MI l yX1_squares cX1_squares 4 (some .int) (ru_R 1 24) D d [.ref h] (ru_Y d h g n t) (fun (r : Int32) (_ : Unit) => r = nI (ru_sm (fun i => ru_sm (fun q => ru_in (ru_Sq t n i q)) 17) n)) (fun _ : Unit => ru_Y d h g n t) := by
  refine ru_MI.of (by decide) (Nat.le_of_ble_eq_true rfl) ?_
  intro pr ev s mi below me co A ls hx hb hr hlocks S0 hl V
  have hts := S0.2.2.2.2
  have hown := S0.2.2.2.1
  have hl : lv_has ls 4 [(0, .ref h)] := hl
  refine lv_iconst (v := nI 0) hx hb dX1_squares_0 (by decide) ?_
  refine lv_istore_n (lv' := [(1, .int (nI 0)), (0, .ref h)]) hx hb dX1_squares_1 rfl hl (by decide) rfl (fun ls hl => ?_)
  refine lv_iconst (v := nI 0) hx hb dX1_squares_2 (by decide) ?_
  refine lv_istore_n (lv' := [(2, .int (nI 0)), (1, .int (nI 0)), (0, .ref h)]) hx hb dX1_squares_3 rfl hl (by decide) rfl (fun ls hl => ?_)
  refine ru_loop2 (nL := 4) (head := 4) (fun (i : Nat) (c : Nat) => [(0, .ref h), (1, .int (nI c)), (2, .int (nI i))]) (fun (i : Nat) (c : Nat) => ru_Y d h g n t) (fun (i : Nat) (c : Nat) => i ≤ n ∧ c = ru_sm (fun i => ru_sm (fun q => ru_in (ru_Sq t n i q)) 17) i) (fun (i : Nat) (c : Nat) => 40 - i) ?_ 0 0 _ _ _ ⟨by omega, rfl⟩ (lv_sub hl [2, 1, 0] rfl) V
  intro i c H locs ls hP_4 hl V ih_4
  have hl : lv_has ls 4 [(0, .ref h), (1, .int (nI c)), (2, .int (nI i))] := hl
  have V : ru_V D d A s s.heap H locs (ru_Y d h g n t) := V
  obtain ⟨hi, hc0⟩ := hP_4
  refine lv_iload_n hx hb dX1_squares_4 rfl (lv_at hl 2 rfl) ?_
  refine lv_aload_n hx hb dX1_squares_5 rfl (lv_at hl 0 rfl) ?_
  refine ru_get1 hx hb hts hown V 0 rfl 0 (by decide) (hts _ q173) rfl dX1_squares_6 ?_
  refine ru_icmp_ge (tgt := 61) hx hb dX1_squares_9 (by decide) (by omega) (by omega) (fun c_9 => ?_) (fun c_9 => ?_)
  · refine lv_iload_n hx hb dX1_squares_61 rfl (lv_at hl 1 rfl) ?_
    exact ru_iret hx hb hr hlocks () V (by rw [hc0, show i = n by omega]) dX1_squares_62
  · refine lv_iconst (v := nI 1) hx hb dX1_squares_12 (by decide) ?_
    refine lv_istore_n (lv' := [(3, .int (nI 1)), (0, .ref h), (1, .int (nI c)), (2, .int (nI i))]) hx hb dX1_squares_13 rfl hl (by decide) rfl (fun ls hl => ?_)
    refine ru_loop2 (nL := 4) (head := 14) (fun (q : Nat) (c : Nat) => [(0, .ref h), (1, .int (nI c)), (2, .int (nI i)), (3, .int (nI q))]) (fun (q : Nat) (c : Nat) => ru_Y d h g n t) (fun (q : Nat) (c : Nat) => 1 ≤ q ∧ q ≤ 17 ∧ c = ru_sm (fun i => ru_sm (fun q => ru_in (ru_Sq t n i q)) 17) i + ru_sm (fun q => ru_in (ru_Sq t n i q)) q) (fun (q : Nat) (c : Nat) => 40 - q) ?_ 1 c _ _ _ ⟨by omega, by omega, by rw [ru_sq1, hc0]; rfl⟩ (lv_sub hl [1, 2, 3, 0] rfl) V
    intro q c H locs ls hP_14 hl V ih_14
    have hl : lv_has ls 4 [(0, .ref h), (1, .int (nI c)), (2, .int (nI i)), (3, .int (nI q))] := hl
    have V : ru_V D d A s s.heap H locs (ru_Y d h g n t) := V
    obtain ⟨hq1, hq2, hc⟩ := hP_14
    refine lv_iload_n hx hb dX1_squares_14 rfl (lv_at hl 3 rfl) ?_
    refine lv_bipush (v := nI 16) hx hb dX1_squares_15 (by decide) ?_
    refine ru_icmp_gt (tgt := 55) hx hb dX1_squares_17 (by decide) (by omega) (by omega) (fun c_17 => ?_) (fun c_17 => ?_)
    · refine lv_iinc (v := nI (i + 1)) (lv' := [(2, .int (nI (i + 1))), (0, .ref h), (1, .int (nI c)), (3, .int (nI q))]) hx hb dX1_squares_55 hl (k := 2) rfl (ru_inc _) (by decide) rfl (fun ls hl => ?_)
      refine lv_goto (tgt := 4) hx hb dX1_squares_58 (by decide) ?_
      exact ih_4 (i + 1) c _ _ _ (by omega) ⟨by omega, by rw [ru_sm_s, hc, show q = 17 by omega]⟩ (lv_sub hl [1, 2, 0] rfl) V
    · refine lv_iload_n hx hb dX1_squares_20 rfl (lv_at hl 2 rfl) ?_
      refine lv_iconst (v := nI 2) hx hb dX1_squares_21 (by decide) ?_
      refine lv_iload_n hx hb dX1_squares_22 rfl (lv_at hl 3 rfl) ?_
      refine ru_imul hx hb dX1_squares_23 ?_
      refine ru_iadd hx hb dX1_squares_24 ?_
      refine lv_aload_n hx hb dX1_squares_25 rfl (lv_at hl 0 rfl) ?_
      refine ru_get1 hx hb hts hown V 0 rfl 0 (by decide) (hts _ q173) rfl dX1_squares_26 ?_
      refine ru_icmp_gt (tgt := 49) hx hb dX1_squares_29 (by decide) (by omega) (by omega) (fun c_29 => ?_) (fun c_29 => ?_)
      · refine lv_iinc (v := nI (q + 1)) (lv' := [(3, .int (nI (q + 1))), (0, .ref h), (1, .int (nI c)), (2, .int (nI i))]) hx hb dX1_squares_49 hl (k := 3) rfl (ru_inc _) (by decide) rfl (fun ls hl => ?_)
        refine lv_goto (tgt := 14) hx hb dX1_squares_52 (by decide) ?_
        exact ih_14 (q + 1) c _ _ _ (by omega) ⟨by omega, by omega, by rw [ru_sqn (fun z => by first | (have := z.2.1; omega) | exact hper z.2.2), hc]⟩ (lv_sub hl [1, 2, 3, 0] rfl) V
      · refine lv_aload_n hx hb dX1_squares_32 rfl (lv_at hl 0 rfl) ?_
        refine lv_iload_n hx hb dX1_squares_33 rfl (lv_at hl 2 rfl) ?_
        refine lv_iload_n hx hb dX1_squares_34 rfl (lv_at hl 2 rfl) ?_
        refine lv_iconst (v := nI 2) hx hb dX1_squares_35 (by decide) ?_
        refine lv_iload_n hx hb dX1_squares_36 rfl (lv_at hl 3 rfl) ?_
        refine ru_imul hx hb dX1_squares_37 ?_
        refine ru_iadd hx hb dX1_squares_38 ?_
        refine lv_iload_n hx hb dX1_squares_39 rfl (lv_at hl 3 rfl) ?_
        refine ru_callVI (w1 := ru_Y d h g n t) (w2 := []) (As := [.int (nI i), .int (nI (i + 2 * q)), .int (nI q)]) (rest := []) S0 V (met_X1_hasPeriod l D d h g n t ht i (i + 2 * q) q (by omega) (by omega) (by omega)) (cwV 3 hts (lw_V q212 q214 qs13 q20 q215) rfl rfl rfl (by decide +kernel) ⟨Nat.le_of_ble_eq_true rfl, Nat.le_of_ble_eq_true rfl⟩) 0 rfl rfl rfl hl.1 rfl (Nat.le_of_ble_eq_true rfl) dX1_squares_40 ⟨Nat.zero_le _, Nat.zero_le _⟩ (fun r u H locs hp V => ?_)
        have V : ru_V D d A s s.heap H locs (ru_Y d h g n t) := V
        rcases hp with ⟨rfl, hper⟩ | ⟨rfl, hper⟩
        · refine ru_if_eq (tgt := 49) hx hb dX1_squares_43 (by decide) (by omega) (fun c_43 => ?_) (fun c_43 => ?_)
          · exact absurd c_43 (by omega)
          · refine lv_iinc (v := nI (c + 1)) (lv' := [(1, .int (nI (c + 1))), (0, .ref h), (2, .int (nI i)), (3, .int (nI q))]) hx hb dX1_squares_46 hl (k := 1) rfl (ru_inc _) (by decide) rfl (fun ls hl => ?_)
            refine lv_iinc (v := nI (q + 1)) (lv' := [(3, .int (nI (q + 1))), (1, .int (nI (c + 1))), (0, .ref h), (2, .int (nI i))]) hx hb dX1_squares_49 hl (k := 3) rfl (ru_inc _) (by decide) rfl (fun ls hl => ?_)
            refine lv_goto (tgt := 14) hx hb dX1_squares_52 (by decide) ?_
            exact ih_14 (q + 1) (c + 1) _ _ _ (by omega) ⟨by omega, by omega, by rw [ru_sqs ⟨hq1, by omega, hper⟩, hc]; omega⟩ (lv_sub hl [2, 1, 3, 0] rfl) V
        · refine ru_if_eq (tgt := 49) hx hb dX1_squares_43 (by decide) (by omega) (fun c_43 => ?_) (fun c_43 => ?_)
          · refine lv_iinc (v := nI (q + 1)) (lv' := [(3, .int (nI (q + 1))), (0, .ref h), (1, .int (nI c)), (2, .int (nI i))]) hx hb dX1_squares_49 hl (k := 3) rfl (ru_inc _) (by decide) rfl (fun ls hl => ?_)
            refine lv_goto (tgt := 14) hx hb dX1_squares_52 (by decide) ?_
            exact ih_14 (q + 1) c _ _ _ (by omega) ⟨by omega, by omega, by rw [ru_sqn (fun z => by first | (have := z.2.1; omega) | exact hper z.2.2), hc]⟩ (lv_sub hl [1, 2, 3, 0] rfl) V
          · exact absurd c_43 (by omega)

set_option maxHeartbeats 4000000 in
set_option maxRecDepth 100000 in
theorem met_X1_wholePeriod (l : Launch) (D : va_G) (d : ClassId) (h g n : Nat) (t : Nat → Nat) (hn : n ≤ 32) (ht : ∀ k, t k < 4) : ru_MI l yX1_wholePeriod cX1_wholePeriod 1 (some .int) (ru_R 2 47) D d [.ref h] (ru_Y d h g n t) (fun (r : Int32) (_ : Unit) => (n = 0 ∧ r = nI 0) ∨ (n ≠ 0 ∧ ∃ p, r = nI p ∧ ru_LP t 0 n p)) (fun _ : Unit => ru_Y d h g n t) := by
  refine ru_MI.of (by decide) (Nat.le_of_ble_eq_true rfl) ?_
  intro pr ev s mi below me co A ls hx hb hr hlocks S0 hl V
  have hts := S0.2.2.2.2
  have hown := S0.2.2.2.1
  have hl : lv_has ls 1 [(0, .ref h)] := hl
  refine lv_aload_n hx hb dX1_wholePeriod_0 rfl (lv_at hl 0 rfl) ?_
  refine ru_get1 hx hb hts hown V 0 rfl 0 (by decide) (hts _ q173) rfl dX1_wholePeriod_1 ?_
  refine ru_if_ne (tgt := 11) hx hb dX1_wholePeriod_4 (by decide) (by omega) (fun c_4 => ?_) (fun c_4 => ?_)
  · refine lv_aload_n hx hb dX1_wholePeriod_11 rfl (lv_at hl 0 rfl) ?_
    refine lv_iconst (v := nI 0) hx hb dX1_wholePeriod_12 (by decide) ?_
    refine lv_aload_n hx hb dX1_wholePeriod_13 rfl (lv_at hl 0 rfl) ?_
    refine ru_get1 hx hb hts hown V 0 rfl 0 (by decide) (hts _ q173) rfl dX1_wholePeriod_14 ?_
    refine ru_callVI (w1 := ru_Y d h g n t) (w2 := []) (As := [.int (nI 0), .int (nI n)]) (rest := []) S0 V (met_X1_leastPeriod l D d h g n t ht 0 n (by omega) (by omega)) (cwV 2 hts (lw_V q208 q210 qs12 q20 q211) rfl rfl rfl (by decide +kernel) ⟨Nat.le_of_ble_eq_true rfl, Nat.le_of_ble_eq_true rfl⟩) 0 rfl rfl rfl hl.1 rfl (Nat.le_of_ble_eq_true rfl) dX1_wholePeriod_17 ⟨Nat.zero_le _, Nat.zero_le _⟩ (fun r u H locs hp V => ?_)
    have V : ru_V D d A s s.heap H locs (ru_Y d h g n t) := V
    rcases hp with ⟨q, rfl, hq⟩
    · exact ru_iret hx hb hr hlocks () V (Or.inr ⟨c_4, q, rfl, hq⟩) dX1_wholePeriod_20
  · refine lv_iconst (v := nI 0) hx hb dX1_wholePeriod_7 (by decide) ?_
    refine lv_goto (tgt := 20) hx hb dX1_wholePeriod_8 (by decide) ?_
    exact ru_iret hx hb hr hlocks () V (Or.inl ⟨c_4, rfl⟩) dX1_wholePeriod_20

set_option maxHeartbeats 4000000 in
set_option maxRecDepth 100000 in
theorem met_X1_smaller (l : Launch) (D : va_G) (d : ClassId) (h g n : Nat) (t : Nat → Nat) (hn : n ≤ 32) (ht : ∀ k, t k < 4) (a b e : Nat) (ha : a < e) (hb0 : b < e) (hab : a ≠ b) (he : e ≤ 32) : ru_MI l yX1_smaller cX1_smaller 5 (some .boolean) (ru_R 0 0) D d [.ref h, .int (nI a), .int (nI b), .int (nI e)] (ru_Y d h g n t) (fun (r : Int32) (_ : Unit) => (r = nI 1 ∧ ru_L (ru_sq 0 t e) a b) ∨ (r = nI 0 ∧ ru_L (ru_sq 0 t e) b a)) (fun _ : Unit => ru_Y d h g n t) := by
  refine ru_MI.of (by decide) (Nat.le_of_ble_eq_true rfl) ?_
  intro pr ev s mi below me co A ls hx hb hr hlocks S0 hl V
  have hts := S0.2.2.2.2
  have hown := S0.2.2.2.1
  have hl : lv_has ls 5 [(0, .ref h), (1, .int (nI a)), (2, .int (nI b)), (3, .int (nI e))] := hl
  refine lv_iconst (v := nI 0) hx hb dX1_smaller_0 (by decide) ?_
  refine lv_istore (lv' := [(4, .int (nI 0)), (0, .ref h), (1, .int (nI a)), (2, .int (nI b)), (3, .int (nI e))]) hx hb dX1_smaller_1 hl (by decide) rfl (fun ls hl => ?_)
  refine ru_loop1 (nL := 5) (head := 3) (fun (k : Nat) => [(0, .ref h), (1, .int (nI a)), (2, .int (nI b)), (3, .int (nI e)), (4, .int (nI k))]) (fun (k : Nat) => ru_Y d h g n t) (fun (k : Nat) => a + k ≤ e ∧ b + k ≤ e ∧ ∀ m, m < k → t (a + m) = t (b + m)) (fun (k : Nat) => 40 - k) ?_ 0 _ _ _ ⟨by omega, by omega, fun m hm => by omega⟩ (lv_sub hl [1, 2, 3, 4, 0] rfl) V
  intro k H locs ls hP_3 hl V ih_3
  have hl : lv_has ls 5 [(0, .ref h), (1, .int (nI a)), (2, .int (nI b)), (3, .int (nI e)), (4, .int (nI k))] := hl
  have V : ru_V D d A s s.heap H locs (ru_Y d h g n t) := V
  obtain ⟨hk1, hk2, hall⟩ := hP_3
  refine lv_iload hx hb dX1_smaller_3 (lv_at hl 4 rfl) ?_
  refine lv_bipush (v := nI 32) hx hb dX1_smaller_5 (by decide) ?_
  refine ru_icmp_ge (tgt := 91) hx hb dX1_smaller_7 (by decide) (by omega) (by omega) (fun c_7 => ?_) (fun c_7 => ?_)
  · exact absurd c_7 (by omega)
  · refine lv_iload_n hx hb dX1_smaller_10 rfl (lv_at hl 1 rfl) ?_
    refine lv_iload hx hb dX1_smaller_11 (lv_at hl 4 rfl) ?_
    refine ru_iadd hx hb dX1_smaller_13 ?_
    refine lv_iload_n hx hb dX1_smaller_14 rfl (lv_at hl 3 rfl) ?_
    refine ru_icmp_ge (tgt := 26) hx hb dX1_smaller_15 (by decide) (by omega) (by omega) (fun c_15 => ?_) (fun c_15 => ?_)
    · refine lv_iload_n hx hb dX1_smaller_26 rfl (lv_at hl 1 rfl) ?_
      refine lv_iload_n hx hb dX1_smaller_27 rfl (lv_at hl 2 rfl) ?_
      refine ru_icmp_le (tgt := 35) hx hb dX1_smaller_28 (by decide) (by omega) (by omega) (fun c_28 => ?_) (fun c_28 => ?_)
      · refine lv_iconst (v := nI 0) hx hb dX1_smaller_35 (by decide) ?_
        exact ru_zret (v := 0) hx hb hr hlocks () V (by omega) (Or.inr ⟨rfl, ru_L_at2 ht (fun m hm => (hall m hm).symm) (k := k) (by omega) (by omega)⟩) dX1_smaller_36
      · refine lv_iconst (v := nI 1) hx hb dX1_smaller_31 (by decide) ?_
        refine lv_goto (tgt := 36) hx hb dX1_smaller_32 (by decide) ?_
        exact ru_zret (v := 1) hx hb hr hlocks () V (by omega) (Or.inl ⟨rfl, ru_L_at2 ht hall (by omega) (by omega)⟩) dX1_smaller_36
    · refine lv_iload_n hx hb dX1_smaller_18 rfl (lv_at hl 2 rfl) ?_
      refine lv_iload hx hb dX1_smaller_19 (lv_at hl 4 rfl) ?_
      refine ru_iadd hx hb dX1_smaller_21 ?_
      refine lv_iload_n hx hb dX1_smaller_22 rfl (lv_at hl 3 rfl) ?_
      refine ru_icmp_lt (tgt := 37) hx hb dX1_smaller_23 (by decide) (by omega) (by omega) (fun c_23 => ?_) (fun c_23 => ?_)
      · refine lv_aload_n hx hb dX1_smaller_37 rfl (lv_at hl 0 rfl) ?_
        refine ru_get1 hx hb hts hown V 0 rfl 1 (by decide) (hts _ q174) rfl dX1_smaller_38 ?_
        refine lv_iload_n hx hb dX1_smaller_41 rfl (lv_at hl 1 rfl) ?_
        refine lv_iload hx hb dX1_smaller_42 (lv_at hl 4 rfl) ?_
        refine ru_iadd hx hb dX1_smaller_44 ?_
        refine ru_ald hx hb V 1 rfl (by decide) (by omega) dX1_smaller_45 ?_
        refine lv_aload_n hx hb dX1_smaller_46 rfl (lv_at hl 0 rfl) ?_
        refine ru_get1 hx hb hts hown V 0 rfl 1 (by decide) (hts _ q174) rfl dX1_smaller_47 ?_
        refine lv_iload_n hx hb dX1_smaller_50 rfl (lv_at hl 2 rfl) ?_
        refine lv_iload hx hb dX1_smaller_51 (lv_at hl 4 rfl) ?_
        refine ru_iadd hx hb dX1_smaller_53 ?_
        refine ru_ald hx hb V 1 rfl (by decide) (by omega) dX1_smaller_54 ?_
        refine ru_icmp_eq (tgt := 85) hx hb dX1_smaller_55 (by decide) (by have := ht (a + k); omega) (by have := ht (b + k); omega) (fun c_55 => ?_) (fun c_55 => ?_)
        · refine lv_iinc (v := nI (k + 1)) (lv' := [(4, .int (nI (k + 1))), (0, .ref h), (1, .int (nI a)), (2, .int (nI b)), (3, .int (nI e))]) hx hb dX1_smaller_85 hl (k := 4) rfl (ru_inc _) (by decide) rfl (fun ls hl => ?_)
          refine lv_goto (tgt := 3) hx hb dX1_smaller_88 (by decide) ?_
          exact ih_3 (k + 1) _ _ _ (by omega) ⟨by omega, by omega, fun m hm => by by_cases q : m = k; (· rw [q]; exact c_55); (· exact hall m (by omega))⟩ (lv_sub hl [1, 2, 3, 4, 0] rfl) V
        · refine lv_aload_n hx hb dX1_smaller_58 rfl (lv_at hl 0 rfl) ?_
          refine ru_get1 hx hb hts hown V 0 rfl 1 (by decide) (hts _ q174) rfl dX1_smaller_59 ?_
          refine lv_iload_n hx hb dX1_smaller_62 rfl (lv_at hl 1 rfl) ?_
          refine lv_iload hx hb dX1_smaller_63 (lv_at hl 4 rfl) ?_
          refine ru_iadd hx hb dX1_smaller_65 ?_
          refine ru_ald hx hb V 1 rfl (by decide) (by omega) dX1_smaller_66 ?_
          refine lv_aload_n hx hb dX1_smaller_67 rfl (lv_at hl 0 rfl) ?_
          refine ru_get1 hx hb hts hown V 0 rfl 1 (by decide) (hts _ q174) rfl dX1_smaller_68 ?_
          refine lv_iload_n hx hb dX1_smaller_71 rfl (lv_at hl 2 rfl) ?_
          refine lv_iload hx hb dX1_smaller_72 (lv_at hl 4 rfl) ?_
          refine ru_iadd hx hb dX1_smaller_74 ?_
          refine ru_ald hx hb V 1 rfl (by decide) (by omega) dX1_smaller_75 ?_
          refine ru_icmp_ge (tgt := 83) hx hb dX1_smaller_76 (by decide) (by have := ht (a + k); omega) (by have := ht (b + k); omega) (fun c_76 => ?_) (fun c_76 => ?_)
          · refine lv_iconst (v := nI 0) hx hb dX1_smaller_83 (by decide) ?_
            exact ru_zret (v := 0) hx hb hr hlocks () V (by omega) (Or.inr ⟨rfl, ru_L_at1 (fun m hm => (hall m hm).symm) (k := k) (by omega) (by omega) (by omega)⟩) dX1_smaller_84
          · refine lv_iconst (v := nI 1) hx hb dX1_smaller_79 (by decide) ?_
            refine lv_goto (tgt := 84) hx hb dX1_smaller_80 (by decide) ?_
            exact ru_zret (v := 1) hx hb hr hlocks () V (by omega) (Or.inl ⟨rfl, ru_L_at1 hall (by omega) (by omega) c_76⟩) dX1_smaller_84
      · refine lv_iload_n hx hb dX1_smaller_26 rfl (lv_at hl 1 rfl) ?_
        refine lv_iload_n hx hb dX1_smaller_27 rfl (lv_at hl 2 rfl) ?_
        refine ru_icmp_le (tgt := 35) hx hb dX1_smaller_28 (by decide) (by omega) (by omega) (fun c_28 => ?_) (fun c_28 => ?_)
        · refine lv_iconst (v := nI 0) hx hb dX1_smaller_35 (by decide) ?_
          exact ru_zret (v := 0) hx hb hr hlocks () V (by omega) (Or.inr ⟨rfl, ru_L_at2 ht (fun m hm => (hall m hm).symm) (k := k) (by omega) (by omega)⟩) dX1_smaller_36
        · refine lv_iconst (v := nI 1) hx hb dX1_smaller_31 (by decide) ?_
          refine lv_goto (tgt := 36) hx hb dX1_smaller_32 (by decide) ?_
          exact ru_zret (v := 1) hx hb hr hlocks () V (by omega) (Or.inl ⟨rfl, ru_L_at2 ht hall (by omega) (by omega)⟩) dX1_smaller_36

set_option maxHeartbeats 4000000 in
set_option maxRecDepth 100000 in
theorem met_X1_smallest (l : Launch) (D : va_G) (d : ClassId) (h g n : Nat) (t : Nat → Nat) (hn : n ≤ 32) (ht : ∀ k, t k < 4) (e : Nat) (he1 : 1 ≤ e) (he : e ≤ 32) : ru_MI l yX1_smallest cX1_smallest 4 (some .int) (ru_R 1 24) D d [.ref h, .int (nI e)] (ru_Y d h g n t) (fun (r : Int32) (_ : Unit) => ∃ x, r = nI x ∧ ru_M t e x) (fun _ : Unit => ru_Y d h g n t) := by
  refine ru_MI.of (by decide) (Nat.le_of_ble_eq_true rfl) ?_
  intro pr ev s mi below me co A ls hx hb hr hlocks S0 hl V
  have hts := S0.2.2.2.2
  have hown := S0.2.2.2.1
  have hl : lv_has ls 4 [(0, .ref h), (1, .int (nI e))] := hl
  refine lv_iconst (v := nI 0) hx hb dX1_smallest_0 (by decide) ?_
  refine lv_istore_n (lv' := [(2, .int (nI 0)), (0, .ref h), (1, .int (nI e))]) hx hb dX1_smallest_1 rfl hl (by decide) rfl (fun ls hl => ?_)
  refine lv_iconst (v := nI 1) hx hb dX1_smallest_2 (by decide) ?_
  refine lv_istore_n (lv' := [(3, .int (nI 1)), (2, .int (nI 0)), (0, .ref h), (1, .int (nI e))]) hx hb dX1_smallest_3 rfl hl (by decide) rfl (fun ls hl => ?_)
  refine ru_loop2 (nL := 4) (head := 4) (fun (b : Nat) (i : Nat) => [(0, .ref h), (1, .int (nI e)), (2, .int (nI b)), (3, .int (nI i))]) (fun (b : Nat) (i : Nat) => ru_Y d h g n t) (fun (b : Nat) (i : Nat) => 1 ≤ i ∧ i ≤ e ∧ b < i ∧ ∀ y, y < i → y ≠ b → ru_L (ru_sq 0 t e) b y) (fun (b : Nat) (i : Nat) => 40 - i) ?_ 0 1 _ _ _ ⟨by omega, by omega, by omega, fun y h1 h2 => by omega⟩ (lv_sub hl [2, 3, 1, 0] rfl) V
  intro b i H locs ls hP_4 hl V ih_4
  have hl : lv_has ls 4 [(0, .ref h), (1, .int (nI e)), (2, .int (nI b)), (3, .int (nI i))] := hl
  have V : ru_V D d A s s.heap H locs (ru_Y d h g n t) := V
  obtain ⟨hi1, hi2, hbi, hall⟩ := hP_4
  refine lv_iload_n hx hb dX1_smallest_4 rfl (lv_at hl 3 rfl) ?_
  refine lv_iload_n hx hb dX1_smallest_5 rfl (lv_at hl 1 rfl) ?_
  refine ru_icmp_ge (tgt := 27) hx hb dX1_smallest_6 (by decide) (by omega) (by omega) (fun c_6 => ?_) (fun c_6 => ?_)
  · refine lv_iload_n hx hb dX1_smallest_27 rfl (lv_at hl 2 rfl) ?_
    exact ru_iret hx hb hr hlocks () V ⟨b, rfl, by omega, fun y h1 h2 => hall y (by omega) h2⟩ dX1_smallest_28
  · refine lv_aload_n hx hb dX1_smallest_9 rfl (lv_at hl 0 rfl) ?_
    refine lv_iload_n hx hb dX1_smallest_10 rfl (lv_at hl 3 rfl) ?_
    refine lv_iload_n hx hb dX1_smallest_11 rfl (lv_at hl 2 rfl) ?_
    refine lv_iload_n hx hb dX1_smallest_12 rfl (lv_at hl 1 rfl) ?_
    refine ru_callVI (w1 := ru_Y d h g n t) (w2 := []) (As := [.int (nI i), .int (nI b), .int (nI e)]) (rest := []) S0 V (met_X1_smaller l D d h g n t hn ht i b e (by omega) (by omega) (by omega) he) (cwV 3 hts (lw_V q248 q250 qs16 q20 q251) rfl rfl rfl (by decide +kernel) ⟨Nat.le_of_ble_eq_true rfl, Nat.le_of_ble_eq_true rfl⟩) 0 rfl rfl rfl hl.1 rfl (Nat.le_of_ble_eq_true rfl) dX1_smallest_13 ⟨Nat.zero_le _, Nat.zero_le _⟩ (fun r u H locs hp V => ?_)
    have V : ru_V D d A s s.heap H locs (ru_Y d h g n t) := V
    rcases hp with ⟨rfl, hL⟩ | ⟨rfl, hL⟩
    · refine ru_if_eq (tgt := 21) hx hb dX1_smallest_16 (by decide) (by omega) (fun c_16 => ?_) (fun c_16 => ?_)
      · exact absurd c_16 (by omega)
      · refine lv_iload_n hx hb dX1_smallest_19 rfl (lv_at hl 3 rfl) ?_
        refine lv_istore_n (lv' := [(2, .int (nI i)), (0, .ref h), (1, .int (nI e)), (3, .int (nI i))]) hx hb dX1_smallest_20 rfl hl (by decide) rfl (fun ls hl => ?_)
        refine lv_iinc (v := nI (i + 1)) (lv' := [(3, .int (nI (i + 1))), (2, .int (nI i)), (0, .ref h), (1, .int (nI e))]) hx hb dX1_smallest_21 hl (k := 3) rfl (ru_inc _) (by decide) rfl (fun ls hl => ?_)
        refine lv_goto (tgt := 4) hx hb dX1_smallest_24 (by decide) ?_
        exact ih_4 i (i + 1) _ _ _ (by omega) ⟨by omega, by omega, by omega, fun y h1 h2 => by by_cases q : y = b; (· rw [q]; exact hL); (· exact ru_L_trans hL (hall y (by omega) q))⟩ (lv_sub hl [2, 3, 1, 0] rfl) V
    · refine ru_if_eq (tgt := 21) hx hb dX1_smallest_16 (by decide) (by omega) (fun c_16 => ?_) (fun c_16 => ?_)
      · refine lv_iinc (v := nI (i + 1)) (lv' := [(3, .int (nI (i + 1))), (0, .ref h), (1, .int (nI e)), (2, .int (nI b))]) hx hb dX1_smallest_21 hl (k := 3) rfl (ru_inc _) (by decide) rfl (fun ls hl => ?_)
        refine lv_goto (tgt := 4) hx hb dX1_smallest_24 (by decide) ?_
        exact ih_4 b (i + 1) _ _ _ (by omega) ⟨by omega, by omega, by omega, fun y h1 h2 => by by_cases q : y = i; (· rw [q]; exact hL); (· exact hall y (by omega) h2)⟩ (lv_sub hl [1, 2, 3, 0] rfl) V
      · exact absurd c_16 (by omega)

set_option maxHeartbeats 4000000 in
set_option maxRecDepth 100000 in
theorem met_X1_smallestEnd (l : Launch) (D : va_G) (d : ClassId) (h g n : Nat) (t : Nat → Nat) (hn : n ≤ 32) (ht : ∀ k, t k < 4) : ru_MI l yX1_smallestEnd cX1_smallestEnd 1 (some .int) (ru_R 2 47) D d [.ref h] (ru_Y d h g n t) (fun (r : Int32) (_ : Unit) => (n = 0 ∧ r = -4) ∨ (n ≠ 0 ∧ ∃ x, r = nI x ∧ ru_M t n x)) (fun _ : Unit => ru_Y d h g n t) := by
  refine ru_MI.of (by decide) (Nat.le_of_ble_eq_true rfl) ?_
  intro pr ev s mi below me co A ls hx hb hr hlocks S0 hl V
  have hts := S0.2.2.2.2
  have hown := S0.2.2.2.1
  have hl : lv_has ls 1 [(0, .ref h)] := hl
  refine lv_aload_n hx hb dX1_smallestEnd_0 rfl (lv_at hl 0 rfl) ?_
  refine ru_get1 hx hb hts hown V 0 rfl 0 (by decide) (hts _ q173) rfl dX1_smallestEnd_1 ?_
  refine ru_if_ne (tgt := 12) hx hb dX1_smallestEnd_4 (by decide) (by omega) (fun c_4 => ?_) (fun c_4 => ?_)
  · refine lv_aload_n hx hb dX1_smallestEnd_12 rfl (lv_at hl 0 rfl) ?_
    refine lv_aload_n hx hb dX1_smallestEnd_13 rfl (lv_at hl 0 rfl) ?_
    refine ru_get1 hx hb hts hown V 0 rfl 0 (by decide) (hts _ q173) rfl dX1_smallestEnd_14 ?_
    refine ru_callVI (w1 := ru_Y d h g n t) (w2 := []) (As := [.int (nI n)]) (rest := []) S0 V (met_X1_smallest l D d h g n t hn ht n (by omega) (by omega)) (cwV 1 hts (lw_V q244 q246 qs15 q20 q247) rfl rfl rfl (by decide +kernel) ⟨Nat.le_of_ble_eq_true rfl, Nat.le_of_ble_eq_true rfl⟩) 0 rfl rfl rfl hl.1 rfl (Nat.le_of_ble_eq_true rfl) dX1_smallestEnd_17 ⟨Nat.zero_le _, Nat.zero_le _⟩ (fun r u H locs hp V => ?_)
    have V : ru_V D d A s s.heap H locs (ru_Y d h g n t) := V
    rcases hp with ⟨x, rfl, hx0⟩
    · exact ru_iret hx hb hr hlocks () V (Or.inr ⟨c_4, x, rfl, hx0⟩) dX1_smallestEnd_20
  · refine lv_bipush (v := (-4)) hx hb dX1_smallestEnd_7 (by decide) ?_
    refine lv_goto (tgt := 20) hx hb dX1_smallestEnd_9 (by decide) ?_
    exact ru_iret hx hb hr hlocks () V (Or.inl ⟨c_4, rfl⟩) dX1_smallestEnd_20

set_option maxHeartbeats 4000000 in
set_option maxRecDepth 100000 in
theorem met_X1_factors (l : Launch) (D : va_G) (d : ClassId) (h g n : Nat) (t : Nat → Nat) (hn : n ≤ 32) (ht : ∀ k, t k < 4) : ru_MI l yX1_factors cX1_factors 4 (some .int) (ru_R 2 47) D d [.ref h] (ru_Y d h g n t) (fun (r : Int32) (_ : Unit) => r = nI (ru_fc t 32 n)) (fun _ : Unit => ru_Y d h g n t) := by
  refine ru_MI.of (by decide) (Nat.le_of_ble_eq_true rfl) ?_
  intro pr ev s mi below me co A ls hx hb hr hlocks S0 hl V
  have hts := S0.2.2.2.2
  have hown := S0.2.2.2.1
  have hl : lv_has ls 4 [(0, .ref h)] := hl
  refine lv_iconst (v := nI 0) hx hb dX1_factors_0 (by decide) ?_
  refine lv_istore_n (lv' := [(1, .int (nI 0)), (0, .ref h)]) hx hb dX1_factors_1 rfl hl (by decide) rfl (fun ls hl => ?_)
  refine lv_aload_n hx hb dX1_factors_2 rfl (lv_at hl 1 rfl) ?_
  refine ru_get1 hx hb hts hown V 0 rfl 0 (by decide) (hts _ q173) rfl dX1_factors_3 ?_
  refine lv_istore_n (lv' := [(2, .int (nI n)), (1, .int (nI 0)), (0, .ref h)]) hx hb dX1_factors_6 rfl hl (by decide) rfl (fun ls hl => ?_)
  refine lv_iconst (v := nI 0) hx hb dX1_factors_7 (by decide) ?_
  refine lv_istore_n (lv' := [(3, .int (nI 0)), (2, .int (nI n)), (1, .int (nI 0)), (0, .ref h)]) hx hb dX1_factors_8 rfl hl (by decide) rfl (fun ls hl => ?_)
  refine ru_loop3 (nL := 4) (head := 9) (fun (c : Nat) (e : Nat) (k : Nat) => [(0, .ref h), (1, .int (nI c)), (2, .int (nI e)), (3, .int (nI k))]) (fun (c : Nat) (e : Nat) (k : Nat) => ru_Y d h g n t) (fun (c : Nat) (e : Nat) (k : Nat) => k ≤ 32 ∧ e ≤ 32 ∧ c + ru_fc t (32 - k) e = ru_fc t 32 n) (fun (c : Nat) (e : Nat) (k : Nat) => 40 - k) ?_ 0 n 0 _ _ _ ⟨by omega, hn, by rw [Nat.zero_add]⟩ (lv_sub hl [3, 2, 1, 0] rfl) V
  intro c e k H locs ls hP_9 hl V ih_9
  have hl : lv_has ls 4 [(0, .ref h), (1, .int (nI c)), (2, .int (nI e)), (3, .int (nI k))] := hl
  have V : ru_V D d A s s.heap H locs (ru_Y d h g n t) := V
  obtain ⟨hk, he, hf⟩ := hP_9
  refine lv_iload_n hx hb dX1_factors_9 rfl (lv_at hl 3 rfl) ?_
  refine lv_bipush (v := nI 32) hx hb dX1_factors_10 (by decide) ?_
  refine ru_icmp_ge (tgt := 34) hx hb dX1_factors_12 (by decide) (by omega) (by omega) (fun c_12 => ?_) (fun c_12 => ?_)
  · refine lv_iload_n hx hb dX1_factors_34 rfl (lv_at hl 1 rfl) ?_
    exact ru_iret hx hb hr hlocks () V (by rw [← hf, show 32 - k = 0 by omega]; rfl) dX1_factors_35
  · refine lv_iload_n hx hb dX1_factors_15 rfl (lv_at hl 2 rfl) ?_
    refine ru_if_le (tgt := 28) hx hb dX1_factors_16 (by decide) (by omega) (fun c_16 => ?_) (fun c_16 => ?_)
    · refine lv_iinc (v := nI (k + 1)) (lv' := [(3, .int (nI (k + 1))), (0, .ref h), (1, .int (nI c)), (2, .int (nI e))]) hx hb dX1_factors_28 hl (k := 3) rfl (ru_inc _) (by decide) rfl (fun ls hl => ?_)
      refine lv_goto (tgt := 9) hx hb dX1_factors_31 (by decide) ?_
      exact ih_9 c e (k + 1) _ _ _ (by omega) ⟨by omega, by omega, by rw [ru_fc_k (by omega), if_neg (by omega)] at hf; rw [c_16, ru_fc_0]; exact hf⟩ (lv_sub hl [1, 2, 3, 0] rfl) V
    · refine lv_aload_n hx hb dX1_factors_19 rfl (lv_at hl 0 rfl) ?_
      refine lv_iload_n hx hb dX1_factors_20 rfl (lv_at hl 2 rfl) ?_
      refine ru_callVI (w1 := ru_Y d h g n t) (w2 := []) (As := [.int (nI e)]) (rest := []) S0 V (met_X1_smallest l D d h g n t hn ht e (by omega) (by omega)) (cwV 1 hts (lw_V q244 q246 qs15 q20 q247) rfl rfl rfl (by decide +kernel) ⟨Nat.le_of_ble_eq_true rfl, Nat.le_of_ble_eq_true rfl⟩) 0 rfl rfl rfl hl.1 rfl (Nat.le_of_ble_eq_true rfl) dX1_factors_21 ⟨Nat.zero_le _, Nat.zero_le _⟩ (fun r u H locs hp V => ?_)
      have V : ru_V D d A s s.heap H locs (ru_Y d h g n t) := V
      rcases hp with ⟨x, rfl, hx0⟩
      · refine lv_istore_n (lv' := [(2, .int (nI x)), (0, .ref h), (1, .int (nI c)), (3, .int (nI k))]) hx hb dX1_factors_24 rfl hl (by decide) rfl (fun ls hl => ?_)
        refine lv_iinc (v := nI (c + 1)) (lv' := [(1, .int (nI (c + 1))), (2, .int (nI x)), (0, .ref h), (3, .int (nI k))]) hx hb dX1_factors_25 hl (k := 2) rfl (ru_inc _) (by decide) rfl (fun ls hl => ?_)
        refine lv_iinc (v := nI (k + 1)) (lv' := [(3, .int (nI (k + 1))), (1, .int (nI (c + 1))), (2, .int (nI x)), (0, .ref h)]) hx hb dX1_factors_28 hl (k := 3) rfl (ru_inc _) (by decide) rfl (fun ls hl => ?_)
        refine lv_goto (tgt := 9) hx hb dX1_factors_31 (by decide) ?_
        exact ih_9 (c + 1) x (k + 1) _ _ _ (by omega) ⟨by omega, by have := hx0.1; omega, by rw [ru_fc_k (by omega), if_pos c_16, ru_mn_eq hx0] at hf; omega⟩ (lv_sub hl [3, 1, 2, 0] rfl) V

set_option maxHeartbeats 4000000 in
set_option maxRecDepth 100000 in
theorem met_X1_turnSmaller (l : Launch) (D : va_G) (d : ClassId) (h g n : Nat) (t : Nat → Nat) (hn : n ≤ 32) (ht : ∀ k, t k < 4) (a b : Nat) (ha : a < n) (hb0 : b < n) : ru_MI l yX1_turnSmaller cX1_turnSmaller 6 (some .boolean) (ru_R 0 0) D d [.ref h, .int (nI a), .int (nI b)] (ru_Y d h g n t) (fun (r : Int32) (_ : Unit) => (r = nI 1 ∧ ru_L (ru_c t n) a b) ∨ (r = nI 0 ∧ ¬ ru_L (ru_c t n) a b)) (fun _ : Unit => ru_Y d h g n t) := by
  refine ru_MI.of (by decide) (Nat.le_of_ble_eq_true rfl) ?_
  intro pr ev s mi below me co A ls hx hb hr hlocks S0 hl V
  have hts := S0.2.2.2.2
  have hown := S0.2.2.2.1
  have hl : lv_has ls 6 [(0, .ref h), (1, .int (nI a)), (2, .int (nI b))] := hl
  refine lv_iconst (v := nI 0) hx hb dX1_turnSmaller_0 (by decide) ?_
  refine lv_istore_n (lv' := [(3, .int (nI 0)), (0, .ref h), (1, .int (nI a)), (2, .int (nI b))]) hx hb dX1_turnSmaller_1 rfl hl (by decide) rfl (fun ls hl => ?_)
  refine ru_loop1 (nL := 6) (head := 2) (fun (k : Nat) => [(0, .ref h), (1, .int (nI a)), (2, .int (nI b)), (3, .int (nI k))]) (fun (k : Nat) => ru_Y d h g n t) (fun (k : Nat) => k ≤ n ∧ ru_ag (ru_c t n) a b k) (fun (k : Nat) => 40 - k) ?_ 0 _ _ _ ⟨by omega, fun m hm => by omega⟩ (lv_sub hl [1, 2, 3, 0] rfl) V
  intro k H locs ls hP_2 hl V ih_2
  have hl : lv_has ls 6 [(0, .ref h), (1, .int (nI a)), (2, .int (nI b)), (3, .int (nI k))] := hl
  have V : ru_V D d A s s.heap H locs (ru_Y d h g n t) := V
  obtain ⟨hk, hag⟩ := hP_2
  refine lv_iload_n hx hb dX1_turnSmaller_2 rfl (lv_at hl 3 rfl) ?_
  refine lv_aload_n hx hb dX1_turnSmaller_3 rfl (lv_at hl 0 rfl) ?_
  refine ru_get1 hx hb hts hown V 0 rfl 0 (by decide) (hts _ q173) rfl dX1_turnSmaller_4 ?_
  refine ru_icmp_ge (tgt := 108) hx hb dX1_turnSmaller_7 (by decide) (by omega) (by omega) (fun c_7 => ?_) (fun c_7 => ?_)
  · refine lv_iconst (v := nI 0) hx hb dX1_turnSmaller_108 (by decide) ?_
    exact ru_zret (v := 0) hx hb hr hlocks () V (by omega) (Or.inr ⟨rfl, fun q => ru_L_ne q (ru_c_all (by omega) (ru_ag_mono hag (by omega)))⟩) dX1_turnSmaller_109
  · refine lv_iload_n hx hb dX1_turnSmaller_10 rfl (lv_at hl 1 rfl) ?_
    refine lv_iload_n hx hb dX1_turnSmaller_11 rfl (lv_at hl 3 rfl) ?_
    refine ru_iadd hx hb dX1_turnSmaller_12 ?_
    refine lv_aload_n hx hb dX1_turnSmaller_13 rfl (lv_at hl 0 rfl) ?_
    refine ru_get1 hx hb hts hown V 0 rfl 0 (by decide) (hts _ q173) rfl dX1_turnSmaller_14 ?_
    refine ru_icmp_ge (tgt := 26) hx hb dX1_turnSmaller_17 (by decide) (by omega) (by omega) (fun c_17 => ?_) (fun c_17 => ?_)
    · refine lv_iload_n hx hb dX1_turnSmaller_26 rfl (lv_at hl 1 rfl) ?_
      refine lv_iload_n hx hb dX1_turnSmaller_27 rfl (lv_at hl 3 rfl) ?_
      refine ru_iadd hx hb dX1_turnSmaller_28 ?_
      refine lv_aload_n hx hb dX1_turnSmaller_29 rfl (lv_at hl 0 rfl) ?_
      refine ru_get1 hx hb hts hown V 0 rfl 0 (by decide) (hts _ q173) rfl dX1_turnSmaller_30 ?_
      refine ru_isub hx hb (by omega) dX1_turnSmaller_33 ?_
      refine lv_istore (lv' := [(4, .int (nI ((a + k) - n))), (0, .ref h), (1, .int (nI a)), (2, .int (nI b)), (3, .int (nI k))]) hx hb dX1_turnSmaller_34 hl (by decide) rfl (fun ls hl => ?_)
      refine lv_iload_n hx hb dX1_turnSmaller_36 rfl (lv_at hl 3 rfl) ?_
      refine lv_iload_n hx hb dX1_turnSmaller_37 rfl (lv_at hl 4 rfl) ?_
      refine ru_iadd hx hb dX1_turnSmaller_38 ?_
      refine lv_aload_n hx hb dX1_turnSmaller_39 rfl (lv_at hl 1 rfl) ?_
      refine ru_get1 hx hb hts hown V 0 rfl 0 (by decide) (hts _ q173) rfl dX1_turnSmaller_40 ?_
      refine ru_icmp_ge (tgt := 52) hx hb dX1_turnSmaller_43 (by decide) (by omega) (by omega) (fun c_43 => ?_) (fun c_43 => ?_)
      · refine lv_iload_n hx hb dX1_turnSmaller_52 rfl (lv_at hl 3 rfl) ?_
        refine lv_iload_n hx hb dX1_turnSmaller_53 rfl (lv_at hl 4 rfl) ?_
        refine ru_iadd hx hb dX1_turnSmaller_54 ?_
        refine lv_aload_n hx hb dX1_turnSmaller_55 rfl (lv_at hl 1 rfl) ?_
        refine ru_get1 hx hb hts hown V 0 rfl 0 (by decide) (hts _ q173) rfl dX1_turnSmaller_56 ?_
        refine ru_isub hx hb (by omega) dX1_turnSmaller_59 ?_
        refine lv_istore (lv' := [(5, .int (nI ((b + k) - n))), (4, .int (nI ((a + k) - n))), (0, .ref h), (1, .int (nI a)), (2, .int (nI b)), (3, .int (nI k))]) hx hb dX1_turnSmaller_60 hl (by decide) rfl (fun ls hl => ?_)
        refine lv_aload_n hx hb dX1_turnSmaller_62 rfl (lv_at hl 2 rfl) ?_
        refine ru_get1 hx hb hts hown V 0 rfl 1 (by decide) (hts _ q174) rfl dX1_turnSmaller_63 ?_
        refine lv_iload hx hb dX1_turnSmaller_66 (lv_at hl 1 rfl) ?_
        refine ru_ald hx hb V 1 rfl (by decide) (by omega) dX1_turnSmaller_68 ?_
        refine ru_top (y := (ru_c t n (a + k))) (ru_c_2 (by omega) (by omega)).symm ?_
        refine lv_aload_n hx hb dX1_turnSmaller_69 rfl (lv_at hl 2 rfl) ?_
        refine ru_get1 hx hb hts hown V 0 rfl 1 (by decide) (hts _ q174) rfl dX1_turnSmaller_70 ?_
        refine lv_iload hx hb dX1_turnSmaller_73 (lv_at hl 0 rfl) ?_
        refine ru_ald hx hb V 1 rfl (by decide) (by omega) dX1_turnSmaller_75 ?_
        refine ru_top (y := (ru_c t n (b + k))) (ru_c_2 (by omega) (by omega)).symm ?_
        refine ru_icmp_eq (tgt := 102) hx hb dX1_turnSmaller_76 (by decide) (by have : ru_c t n (a + k) < 4 := ht _; omega) (by have : ru_c t n (b + k) < 4 := ht _; omega) (fun c_76 => ?_) (fun c_76 => ?_)
        · refine lv_iinc (v := nI (k + 1)) (lv' := [(3, .int (nI (k + 1))), (5, .int (nI ((b + k) - n))), (4, .int (nI ((a + k) - n))), (0, .ref h), (1, .int (nI a)), (2, .int (nI b))]) hx hb dX1_turnSmaller_102 hl (k := 5) rfl (ru_inc _) (by decide) rfl (fun ls hl => ?_)
          refine lv_goto (tgt := 2) hx hb dX1_turnSmaller_105 (by decide) ?_
          exact ih_2 (k + 1) _ _ _ (by omega) ⟨by omega, fun m hm => by by_cases q : m = k; (· rw [q]; exact c_76); (· exact hag m (by omega))⟩ (lv_sub hl [3, 4, 5, 0] rfl) V
        · refine lv_aload_n hx hb dX1_turnSmaller_79 rfl (lv_at hl 2 rfl) ?_
          refine ru_get1 hx hb hts hown V 0 rfl 1 (by decide) (hts _ q174) rfl dX1_turnSmaller_80 ?_
          refine lv_iload hx hb dX1_turnSmaller_83 (lv_at hl 1 rfl) ?_
          refine ru_ald hx hb V 1 rfl (by decide) (by omega) dX1_turnSmaller_85 ?_
          refine ru_top (y := (ru_c t n (a + k))) (ru_c_2 (by omega) (by omega)).symm ?_
          refine lv_aload_n hx hb dX1_turnSmaller_86 rfl (lv_at hl 2 rfl) ?_
          refine ru_get1 hx hb hts hown V 0 rfl 1 (by decide) (hts _ q174) rfl dX1_turnSmaller_87 ?_
          refine lv_iload hx hb dX1_turnSmaller_90 (lv_at hl 0 rfl) ?_
          refine ru_ald hx hb V 1 rfl (by decide) (by omega) dX1_turnSmaller_92 ?_
          refine ru_top (y := (ru_c t n (b + k))) (ru_c_2 (by omega) (by omega)).symm ?_
          refine ru_icmp_ge (tgt := 100) hx hb dX1_turnSmaller_93 (by decide) (by have : ru_c t n (a + k) < 4 := ht _; omega) (by have : ru_c t n (b + k) < 4 := ht _; omega) (fun c_93 => ?_) (fun c_93 => ?_)
          · refine lv_iconst (v := nI 0) hx hb dX1_turnSmaller_100 (by decide) ?_
            exact ru_zret (v := 0) hx hb hr hlocks () V (by omega) (Or.inr ⟨rfl, fun q => ru_L_asymm q ⟨k, ru_ag_symm hag, by omega⟩⟩) dX1_turnSmaller_101
          · refine lv_iconst (v := nI 1) hx hb dX1_turnSmaller_96 (by decide) ?_
            refine lv_goto (tgt := 101) hx hb dX1_turnSmaller_97 (by decide) ?_
            exact ru_zret (v := 1) hx hb hr hlocks () V (by omega) (Or.inl ⟨rfl, k, hag, c_93⟩) dX1_turnSmaller_101
      · refine lv_iload_n hx hb dX1_turnSmaller_46 rfl (lv_at hl 3 rfl) ?_
        refine lv_iload_n hx hb dX1_turnSmaller_47 rfl (lv_at hl 4 rfl) ?_
        refine ru_iadd hx hb dX1_turnSmaller_48 ?_
        refine lv_goto (tgt := 60) hx hb dX1_turnSmaller_49 (by decide) ?_
        refine lv_istore (lv' := [(5, .int (nI (b + k))), (4, .int (nI ((a + k) - n))), (0, .ref h), (1, .int (nI a)), (2, .int (nI b)), (3, .int (nI k))]) hx hb dX1_turnSmaller_60 hl (by decide) rfl (fun ls hl => ?_)
        refine lv_aload_n hx hb dX1_turnSmaller_62 rfl (lv_at hl 2 rfl) ?_
        refine ru_get1 hx hb hts hown V 0 rfl 1 (by decide) (hts _ q174) rfl dX1_turnSmaller_63 ?_
        refine lv_iload hx hb dX1_turnSmaller_66 (lv_at hl 1 rfl) ?_
        refine ru_ald hx hb V 1 rfl (by decide) (by omega) dX1_turnSmaller_68 ?_
        refine ru_top (y := (ru_c t n (a + k))) (ru_c_2 (by omega) (by omega)).symm ?_
        refine lv_aload_n hx hb dX1_turnSmaller_69 rfl (lv_at hl 2 rfl) ?_
        refine ru_get1 hx hb hts hown V 0 rfl 1 (by decide) (hts _ q174) rfl dX1_turnSmaller_70 ?_
        refine lv_iload hx hb dX1_turnSmaller_73 (lv_at hl 0 rfl) ?_
        refine ru_ald hx hb V 1 rfl (by decide) (by omega) dX1_turnSmaller_75 ?_
        refine ru_top (y := (ru_c t n (b + k))) (ru_c_1 (by omega)).symm ?_
        refine ru_icmp_eq (tgt := 102) hx hb dX1_turnSmaller_76 (by decide) (by have : ru_c t n (a + k) < 4 := ht _; omega) (by have : ru_c t n (b + k) < 4 := ht _; omega) (fun c_76 => ?_) (fun c_76 => ?_)
        · refine lv_iinc (v := nI (k + 1)) (lv' := [(3, .int (nI (k + 1))), (5, .int (nI (b + k))), (4, .int (nI ((a + k) - n))), (0, .ref h), (1, .int (nI a)), (2, .int (nI b))]) hx hb dX1_turnSmaller_102 hl (k := 5) rfl (ru_inc _) (by decide) rfl (fun ls hl => ?_)
          refine lv_goto (tgt := 2) hx hb dX1_turnSmaller_105 (by decide) ?_
          exact ih_2 (k + 1) _ _ _ (by omega) ⟨by omega, fun m hm => by by_cases q : m = k; (· rw [q]; exact c_76); (· exact hag m (by omega))⟩ (lv_sub hl [3, 4, 5, 0] rfl) V
        · refine lv_aload_n hx hb dX1_turnSmaller_79 rfl (lv_at hl 2 rfl) ?_
          refine ru_get1 hx hb hts hown V 0 rfl 1 (by decide) (hts _ q174) rfl dX1_turnSmaller_80 ?_
          refine lv_iload hx hb dX1_turnSmaller_83 (lv_at hl 1 rfl) ?_
          refine ru_ald hx hb V 1 rfl (by decide) (by omega) dX1_turnSmaller_85 ?_
          refine ru_top (y := (ru_c t n (a + k))) (ru_c_2 (by omega) (by omega)).symm ?_
          refine lv_aload_n hx hb dX1_turnSmaller_86 rfl (lv_at hl 2 rfl) ?_
          refine ru_get1 hx hb hts hown V 0 rfl 1 (by decide) (hts _ q174) rfl dX1_turnSmaller_87 ?_
          refine lv_iload hx hb dX1_turnSmaller_90 (lv_at hl 0 rfl) ?_
          refine ru_ald hx hb V 1 rfl (by decide) (by omega) dX1_turnSmaller_92 ?_
          refine ru_top (y := (ru_c t n (b + k))) (ru_c_1 (by omega)).symm ?_
          refine ru_icmp_ge (tgt := 100) hx hb dX1_turnSmaller_93 (by decide) (by have : ru_c t n (a + k) < 4 := ht _; omega) (by have : ru_c t n (b + k) < 4 := ht _; omega) (fun c_93 => ?_) (fun c_93 => ?_)
          · refine lv_iconst (v := nI 0) hx hb dX1_turnSmaller_100 (by decide) ?_
            exact ru_zret (v := 0) hx hb hr hlocks () V (by omega) (Or.inr ⟨rfl, fun q => ru_L_asymm q ⟨k, ru_ag_symm hag, by omega⟩⟩) dX1_turnSmaller_101
          · refine lv_iconst (v := nI 1) hx hb dX1_turnSmaller_96 (by decide) ?_
            refine lv_goto (tgt := 101) hx hb dX1_turnSmaller_97 (by decide) ?_
            exact ru_zret (v := 1) hx hb hr hlocks () V (by omega) (Or.inl ⟨rfl, k, hag, c_93⟩) dX1_turnSmaller_101
    · refine lv_iload_n hx hb dX1_turnSmaller_20 rfl (lv_at hl 1 rfl) ?_
      refine lv_iload_n hx hb dX1_turnSmaller_21 rfl (lv_at hl 3 rfl) ?_
      refine ru_iadd hx hb dX1_turnSmaller_22 ?_
      refine lv_goto (tgt := 34) hx hb dX1_turnSmaller_23 (by decide) ?_
      refine lv_istore (lv' := [(4, .int (nI (a + k))), (0, .ref h), (1, .int (nI a)), (2, .int (nI b)), (3, .int (nI k))]) hx hb dX1_turnSmaller_34 hl (by decide) rfl (fun ls hl => ?_)
      refine lv_iload_n hx hb dX1_turnSmaller_36 rfl (lv_at hl 3 rfl) ?_
      refine lv_iload_n hx hb dX1_turnSmaller_37 rfl (lv_at hl 4 rfl) ?_
      refine ru_iadd hx hb dX1_turnSmaller_38 ?_
      refine lv_aload_n hx hb dX1_turnSmaller_39 rfl (lv_at hl 1 rfl) ?_
      refine ru_get1 hx hb hts hown V 0 rfl 0 (by decide) (hts _ q173) rfl dX1_turnSmaller_40 ?_
      refine ru_icmp_ge (tgt := 52) hx hb dX1_turnSmaller_43 (by decide) (by omega) (by omega) (fun c_43 => ?_) (fun c_43 => ?_)
      · refine lv_iload_n hx hb dX1_turnSmaller_52 rfl (lv_at hl 3 rfl) ?_
        refine lv_iload_n hx hb dX1_turnSmaller_53 rfl (lv_at hl 4 rfl) ?_
        refine ru_iadd hx hb dX1_turnSmaller_54 ?_
        refine lv_aload_n hx hb dX1_turnSmaller_55 rfl (lv_at hl 1 rfl) ?_
        refine ru_get1 hx hb hts hown V 0 rfl 0 (by decide) (hts _ q173) rfl dX1_turnSmaller_56 ?_
        refine ru_isub hx hb (by omega) dX1_turnSmaller_59 ?_
        refine lv_istore (lv' := [(5, .int (nI ((b + k) - n))), (4, .int (nI (a + k))), (0, .ref h), (1, .int (nI a)), (2, .int (nI b)), (3, .int (nI k))]) hx hb dX1_turnSmaller_60 hl (by decide) rfl (fun ls hl => ?_)
        refine lv_aload_n hx hb dX1_turnSmaller_62 rfl (lv_at hl 2 rfl) ?_
        refine ru_get1 hx hb hts hown V 0 rfl 1 (by decide) (hts _ q174) rfl dX1_turnSmaller_63 ?_
        refine lv_iload hx hb dX1_turnSmaller_66 (lv_at hl 1 rfl) ?_
        refine ru_ald hx hb V 1 rfl (by decide) (by omega) dX1_turnSmaller_68 ?_
        refine ru_top (y := (ru_c t n (a + k))) (ru_c_1 (by omega)).symm ?_
        refine lv_aload_n hx hb dX1_turnSmaller_69 rfl (lv_at hl 2 rfl) ?_
        refine ru_get1 hx hb hts hown V 0 rfl 1 (by decide) (hts _ q174) rfl dX1_turnSmaller_70 ?_
        refine lv_iload hx hb dX1_turnSmaller_73 (lv_at hl 0 rfl) ?_
        refine ru_ald hx hb V 1 rfl (by decide) (by omega) dX1_turnSmaller_75 ?_
        refine ru_top (y := (ru_c t n (b + k))) (ru_c_2 (by omega) (by omega)).symm ?_
        refine ru_icmp_eq (tgt := 102) hx hb dX1_turnSmaller_76 (by decide) (by have : ru_c t n (a + k) < 4 := ht _; omega) (by have : ru_c t n (b + k) < 4 := ht _; omega) (fun c_76 => ?_) (fun c_76 => ?_)
        · refine lv_iinc (v := nI (k + 1)) (lv' := [(3, .int (nI (k + 1))), (5, .int (nI ((b + k) - n))), (4, .int (nI (a + k))), (0, .ref h), (1, .int (nI a)), (2, .int (nI b))]) hx hb dX1_turnSmaller_102 hl (k := 5) rfl (ru_inc _) (by decide) rfl (fun ls hl => ?_)
          refine lv_goto (tgt := 2) hx hb dX1_turnSmaller_105 (by decide) ?_
          exact ih_2 (k + 1) _ _ _ (by omega) ⟨by omega, fun m hm => by by_cases q : m = k; (· rw [q]; exact c_76); (· exact hag m (by omega))⟩ (lv_sub hl [3, 4, 5, 0] rfl) V
        · refine lv_aload_n hx hb dX1_turnSmaller_79 rfl (lv_at hl 2 rfl) ?_
          refine ru_get1 hx hb hts hown V 0 rfl 1 (by decide) (hts _ q174) rfl dX1_turnSmaller_80 ?_
          refine lv_iload hx hb dX1_turnSmaller_83 (lv_at hl 1 rfl) ?_
          refine ru_ald hx hb V 1 rfl (by decide) (by omega) dX1_turnSmaller_85 ?_
          refine ru_top (y := (ru_c t n (a + k))) (ru_c_1 (by omega)).symm ?_
          refine lv_aload_n hx hb dX1_turnSmaller_86 rfl (lv_at hl 2 rfl) ?_
          refine ru_get1 hx hb hts hown V 0 rfl 1 (by decide) (hts _ q174) rfl dX1_turnSmaller_87 ?_
          refine lv_iload hx hb dX1_turnSmaller_90 (lv_at hl 0 rfl) ?_
          refine ru_ald hx hb V 1 rfl (by decide) (by omega) dX1_turnSmaller_92 ?_
          refine ru_top (y := (ru_c t n (b + k))) (ru_c_2 (by omega) (by omega)).symm ?_
          refine ru_icmp_ge (tgt := 100) hx hb dX1_turnSmaller_93 (by decide) (by have : ru_c t n (a + k) < 4 := ht _; omega) (by have : ru_c t n (b + k) < 4 := ht _; omega) (fun c_93 => ?_) (fun c_93 => ?_)
          · refine lv_iconst (v := nI 0) hx hb dX1_turnSmaller_100 (by decide) ?_
            exact ru_zret (v := 0) hx hb hr hlocks () V (by omega) (Or.inr ⟨rfl, fun q => ru_L_asymm q ⟨k, ru_ag_symm hag, by omega⟩⟩) dX1_turnSmaller_101
          · refine lv_iconst (v := nI 1) hx hb dX1_turnSmaller_96 (by decide) ?_
            refine lv_goto (tgt := 101) hx hb dX1_turnSmaller_97 (by decide) ?_
            exact ru_zret (v := 1) hx hb hr hlocks () V (by omega) (Or.inl ⟨rfl, k, hag, c_93⟩) dX1_turnSmaller_101
      · refine lv_iload_n hx hb dX1_turnSmaller_46 rfl (lv_at hl 3 rfl) ?_
        refine lv_iload_n hx hb dX1_turnSmaller_47 rfl (lv_at hl 4 rfl) ?_
        refine ru_iadd hx hb dX1_turnSmaller_48 ?_
        refine lv_goto (tgt := 60) hx hb dX1_turnSmaller_49 (by decide) ?_
        refine lv_istore (lv' := [(5, .int (nI (b + k))), (4, .int (nI (a + k))), (0, .ref h), (1, .int (nI a)), (2, .int (nI b)), (3, .int (nI k))]) hx hb dX1_turnSmaller_60 hl (by decide) rfl (fun ls hl => ?_)
        refine lv_aload_n hx hb dX1_turnSmaller_62 rfl (lv_at hl 2 rfl) ?_
        refine ru_get1 hx hb hts hown V 0 rfl 1 (by decide) (hts _ q174) rfl dX1_turnSmaller_63 ?_
        refine lv_iload hx hb dX1_turnSmaller_66 (lv_at hl 1 rfl) ?_
        refine ru_ald hx hb V 1 rfl (by decide) (by omega) dX1_turnSmaller_68 ?_
        refine ru_top (y := (ru_c t n (a + k))) (ru_c_1 (by omega)).symm ?_
        refine lv_aload_n hx hb dX1_turnSmaller_69 rfl (lv_at hl 2 rfl) ?_
        refine ru_get1 hx hb hts hown V 0 rfl 1 (by decide) (hts _ q174) rfl dX1_turnSmaller_70 ?_
        refine lv_iload hx hb dX1_turnSmaller_73 (lv_at hl 0 rfl) ?_
        refine ru_ald hx hb V 1 rfl (by decide) (by omega) dX1_turnSmaller_75 ?_
        refine ru_top (y := (ru_c t n (b + k))) (ru_c_1 (by omega)).symm ?_
        refine ru_icmp_eq (tgt := 102) hx hb dX1_turnSmaller_76 (by decide) (by have : ru_c t n (a + k) < 4 := ht _; omega) (by have : ru_c t n (b + k) < 4 := ht _; omega) (fun c_76 => ?_) (fun c_76 => ?_)
        · refine lv_iinc (v := nI (k + 1)) (lv' := [(3, .int (nI (k + 1))), (5, .int (nI (b + k))), (4, .int (nI (a + k))), (0, .ref h), (1, .int (nI a)), (2, .int (nI b))]) hx hb dX1_turnSmaller_102 hl (k := 5) rfl (ru_inc _) (by decide) rfl (fun ls hl => ?_)
          refine lv_goto (tgt := 2) hx hb dX1_turnSmaller_105 (by decide) ?_
          exact ih_2 (k + 1) _ _ _ (by omega) ⟨by omega, fun m hm => by by_cases q : m = k; (· rw [q]; exact c_76); (· exact hag m (by omega))⟩ (lv_sub hl [3, 4, 5, 0] rfl) V
        · refine lv_aload_n hx hb dX1_turnSmaller_79 rfl (lv_at hl 2 rfl) ?_
          refine ru_get1 hx hb hts hown V 0 rfl 1 (by decide) (hts _ q174) rfl dX1_turnSmaller_80 ?_
          refine lv_iload hx hb dX1_turnSmaller_83 (lv_at hl 1 rfl) ?_
          refine ru_ald hx hb V 1 rfl (by decide) (by omega) dX1_turnSmaller_85 ?_
          refine ru_top (y := (ru_c t n (a + k))) (ru_c_1 (by omega)).symm ?_
          refine lv_aload_n hx hb dX1_turnSmaller_86 rfl (lv_at hl 2 rfl) ?_
          refine ru_get1 hx hb hts hown V 0 rfl 1 (by decide) (hts _ q174) rfl dX1_turnSmaller_87 ?_
          refine lv_iload hx hb dX1_turnSmaller_90 (lv_at hl 0 rfl) ?_
          refine ru_ald hx hb V 1 rfl (by decide) (by omega) dX1_turnSmaller_92 ?_
          refine ru_top (y := (ru_c t n (b + k))) (ru_c_1 (by omega)).symm ?_
          refine ru_icmp_ge (tgt := 100) hx hb dX1_turnSmaller_93 (by decide) (by have : ru_c t n (a + k) < 4 := ht _; omega) (by have : ru_c t n (b + k) < 4 := ht _; omega) (fun c_93 => ?_) (fun c_93 => ?_)
          · refine lv_iconst (v := nI 0) hx hb dX1_turnSmaller_100 (by decide) ?_
            exact ru_zret (v := 0) hx hb hr hlocks () V (by omega) (Or.inr ⟨rfl, fun q => ru_L_asymm q ⟨k, ru_ag_symm hag, by omega⟩⟩) dX1_turnSmaller_101
          · refine lv_iconst (v := nI 1) hx hb dX1_turnSmaller_96 (by decide) ?_
            refine lv_goto (tgt := 101) hx hb dX1_turnSmaller_97 (by decide) ?_
            exact ru_zret (v := 1) hx hb hr hlocks () V (by omega) (Or.inl ⟨rfl, k, hag, c_93⟩) dX1_turnSmaller_101

set_option maxHeartbeats 4000000 in
set_option maxRecDepth 100000 in
theorem met_X1_smallestTurn (l : Launch) (D : va_G) (d : ClassId) (h g n : Nat) (t : Nat → Nat) (hn : n ≤ 32) (ht : ∀ k, t k < 4) : ru_MI l yX1_smallestTurn cX1_smallestTurn 3 (some .int) (ru_R 1 25) D d [.ref h] (ru_Y d h g n t) (fun (r : Int32) (_ : Unit) => (n = 0 ∧ r = -4) ∨ (n ≠ 0 ∧ ∃ x, r = nI x ∧ ru_T t n x)) (fun _ : Unit => ru_Y d h g n t) := by
  refine ru_MI.of (by decide) (Nat.le_of_ble_eq_true rfl) ?_
  intro pr ev s mi below me co A ls hx hb hr hlocks S0 hl V
  have hts := S0.2.2.2.2
  have hown := S0.2.2.2.1
  have hl : lv_has ls 3 [(0, .ref h)] := hl
  refine lv_aload_n hx hb dX1_smallestTurn_0 rfl (lv_at hl 0 rfl) ?_
  refine ru_get1 hx hb hts hown V 0 rfl 0 (by decide) (hts _ q173) rfl dX1_smallestTurn_1 ?_
  refine ru_if_ne (tgt := 10) hx hb dX1_smallestTurn_4 (by decide) (by omega) (fun c_4 => ?_) (fun c_4 => ?_)
  · refine lv_iconst (v := nI 0) hx hb dX1_smallestTurn_10 (by decide) ?_
    refine lv_istore_n (lv' := [(1, .int (nI 0)), (0, .ref h)]) hx hb dX1_smallestTurn_11 rfl hl (by decide) rfl (fun ls hl => ?_)
    refine lv_iconst (v := nI 1) hx hb dX1_smallestTurn_12 (by decide) ?_
    refine lv_istore_n (lv' := [(2, .int (nI 1)), (1, .int (nI 0)), (0, .ref h)]) hx hb dX1_smallestTurn_13 rfl hl (by decide) rfl (fun ls hl => ?_)
    refine ru_loop2 (nL := 3) (head := 14) (fun (b : Nat) (i : Nat) => [(0, .ref h), (1, .int (nI b)), (2, .int (nI i))]) (fun (b : Nat) (i : Nat) => ru_Y d h g n t) (fun (b : Nat) (i : Nat) => 1 ≤ i ∧ i ≤ n ∧ b < i ∧ (∀ y, y < i → ¬ ru_L (ru_c t n) y b) ∧ ∀ y, y < b → ru_L (ru_c t n) b y) (fun (b : Nat) (i : Nat) => 40 - i) ?_ 0 1 _ _ _ ⟨by omega, by omega, by omega, fun y h1 h2 => by rw [show y = 0 by omega] at h2; exact ru_L_irr h2, fun y h1 => by omega⟩ (lv_sub hl [2, 1, 0] rfl) V
    intro b i H locs ls hP_14 hl V ih_14
    have hl : lv_has ls 3 [(0, .ref h), (1, .int (nI b)), (2, .int (nI i))] := hl
    have V : ru_V D d A s s.heap H locs (ru_Y d h g n t) := V
    obtain ⟨hi1, hi2, hbi, hno, hall⟩ := hP_14
    refine lv_iload_n hx hb dX1_smallestTurn_14 rfl (lv_at hl 2 rfl) ?_
    refine lv_aload_n hx hb dX1_smallestTurn_15 rfl (lv_at hl 0 rfl) ?_
    refine ru_get1 hx hb hts hown V 0 rfl 0 (by decide) (hts _ q173) rfl dX1_smallestTurn_16 ?_
    refine ru_icmp_ge (tgt := 39) hx hb dX1_smallestTurn_19 (by decide) (by omega) (by omega) (fun c_19 => ?_) (fun c_19 => ?_)
    · refine lv_iload_n hx hb dX1_smallestTurn_39 rfl (lv_at hl 1 rfl) ?_
      exact ru_iret hx hb hr hlocks () V (Or.inr ⟨c_4, b, rfl, by omega, fun y hy => hno y (by omega), hall⟩) dX1_smallestTurn_40
    · refine lv_aload_n hx hb dX1_smallestTurn_22 rfl (lv_at hl 0 rfl) ?_
      refine lv_iload_n hx hb dX1_smallestTurn_23 rfl (lv_at hl 2 rfl) ?_
      refine lv_iload_n hx hb dX1_smallestTurn_24 rfl (lv_at hl 1 rfl) ?_
      refine ru_callVI (w1 := ru_Y d h g n t) (w2 := []) (As := [.int (nI i), .int (nI b)]) (rest := []) S0 V (met_X1_turnSmaller l D d h g n t hn ht i b (by omega) (by omega)) (cwV 2 hts (lw_V q260 q262 qs17 q20 q263) rfl rfl rfl (by decide +kernel) ⟨Nat.le_of_ble_eq_true rfl, Nat.le_of_ble_eq_true rfl⟩) 0 rfl rfl rfl hl.1 rfl (Nat.le_of_ble_eq_true rfl) dX1_smallestTurn_25 ⟨Nat.zero_le _, Nat.zero_le _⟩ (fun r u H locs hp V => ?_)
      have V : ru_V D d A s s.heap H locs (ru_Y d h g n t) := V
      rcases hp with ⟨rfl, hL⟩ | ⟨rfl, hL⟩
      · refine ru_if_eq (tgt := 33) hx hb dX1_smallestTurn_28 (by decide) (by omega) (fun c_28 => ?_) (fun c_28 => ?_)
        · exact absurd c_28 (by omega)
        · refine lv_iload_n hx hb dX1_smallestTurn_31 rfl (lv_at hl 2 rfl) ?_
          refine lv_istore_n (lv' := [(1, .int (nI i)), (0, .ref h), (2, .int (nI i))]) hx hb dX1_smallestTurn_32 rfl hl (by decide) rfl (fun ls hl => ?_)
          refine lv_iinc (v := nI (i + 1)) (lv' := [(2, .int (nI (i + 1))), (1, .int (nI i)), (0, .ref h)]) hx hb dX1_smallestTurn_33 hl (k := 2) rfl (ru_inc _) (by decide) rfl (fun ls hl => ?_)
          refine lv_goto (tgt := 14) hx hb dX1_smallestTurn_36 (by decide) ?_
          exact ih_14 i (i + 1) _ _ _ (by omega) ⟨by omega, by omega, by omega, ((ru_T_step hbi hno).1 hL).1, ((ru_T_step hbi hno).1 hL).2⟩ (lv_sub hl [2, 1, 0] rfl) V
      · refine ru_if_eq (tgt := 33) hx hb dX1_smallestTurn_28 (by decide) (by omega) (fun c_28 => ?_) (fun c_28 => ?_)
        · refine lv_iinc (v := nI (i + 1)) (lv' := [(2, .int (nI (i + 1))), (0, .ref h), (1, .int (nI b))]) hx hb dX1_smallestTurn_33 hl (k := 2) rfl (ru_inc _) (by decide) rfl (fun ls hl => ?_)
          refine lv_goto (tgt := 14) hx hb dX1_smallestTurn_36 (by decide) ?_
          exact ih_14 b (i + 1) _ _ _ (by omega) ⟨by omega, by omega, by omega, (ru_T_step hbi hno).2 hL, hall⟩ (lv_sub hl [1, 2, 0] rfl) V
        · exact absurd c_28 (by omega)
  · refine lv_bipush (v := (-4)) hx hb dX1_smallestTurn_7 (by decide) ?_
    exact ru_iret hx hb hr hlocks () V (Or.inl ⟨c_4, rfl⟩) dX1_smallestTurn_9
end
section
/-! contracts of RunFinder: the text, common beginnings and ends, words -/

set_option maxHeartbeats 4000000 in
set_option maxRecDepth 100000 in
theorem met_X0_badLetter (l : Launch) (D : va_G) (d : ClassId) (x : Int32) : ru_MI l yX0_badLetter cX0_badLetter 1 (some .boolean) (ru_R 0 0) D d [.int x] ([]) (fun (r : Int32) (_ : Unit) => (r = nI 1 ∧ ru_bad x) ∨ (r = nI 0 ∧ ¬ ru_bad x)) (fun _ : Unit => []) := by
  refine ru_MI.of (by decide) (Nat.le_of_ble_eq_true rfl) ?_
  intro pr ev s mi below me co A ls hx hb hr hlocks S0 hl V
  have hts := S0.2.2.2.2
  have hown := S0.2.2.2.1
  have hl : lv_has ls 1 [(0, .int x)] := hl
  refine lv_iload_n hx hb dX0_badLetter_0 rfl (lv_at hl 0 rfl) ?_
  refine lv_if_lt (tgt := 9) hx hb dX0_badLetter_1 (by decide) (fun c_1 => ?_) (fun c_1 => ?_)
  · refine lv_iconst (v := nI 1) hx hb dX0_badLetter_9 (by decide) ?_
    refine lv_goto (tgt := 14) hx hb dX0_badLetter_10 (by decide) ?_
    exact ru_zret (v := 1) hx hb hr hlocks () V (by omega) (Or.inl ⟨rfl, by first | exact Or.inl c_1 | exact Or.inr c_6⟩) dX0_badLetter_14
  · refine lv_iload_n hx hb dX0_badLetter_4 rfl (lv_at hl 0 rfl) ?_
    refine lv_iconst (v := nI 3) hx hb dX0_badLetter_5 (by decide) ?_
    refine lv_icmp_le (tgt := 13) hx hb dX0_badLetter_6 (by decide) (fun c_6 => ?_) (fun c_6 => ?_)
    · refine lv_iconst (v := nI 0) hx hb dX0_badLetter_13 (by decide) ?_
      exact ru_zret (v := 0) hx hb hr hlocks () V (by omega) (Or.inr ⟨rfl, fun q => q.elim c_1 (fun z => z c_6)⟩) dX0_badLetter_14
    · refine lv_iconst (v := nI 1) hx hb dX0_badLetter_9 (by decide) ?_
      refine lv_goto (tgt := 14) hx hb dX0_badLetter_10 (by decide) ?_
      exact ru_zret (v := 1) hx hb hr hlocks () V (by omega) (Or.inl ⟨rfl, by first | exact Or.inl c_1 | exact Or.inr c_6⟩) dX0_badLetter_14

set_option maxHeartbeats 4000000 in
set_option maxRecDepth 100000 in
theorem met_X0_badPlace (l : Launch) (D : va_G) (d : ClassId) (h : Nat) (a : Nat → Nat) (n : Nat) (t : Nat → Nat) (rd : Nat) (ow bw we fo : Nat → Nat) (fd : Nat) (fr to st : Nat → Nat) (x : Int32) : ru_MI l yX0_badPlace cX0_badPlace 2 (some .boolean) (ru_R 0 0) D d [.ref h, .int x] (ru_X d h a n t rd ow bw we fo fd fr to st) (fun (r : Int32) (_ : Unit) => (r = nI 1 ∧ ru_np n x) ∨ (r = nI 0 ∧ ¬ ru_np n x)) (fun _ : Unit => ru_X d h a n t rd ow bw we fo fd fr to st) := by
  refine ru_MI.of (by decide) (Nat.le_of_ble_eq_true rfl) ?_
  intro pr ev s mi below me co A ls hx hb hr hlocks S0 hl V
  have hts := S0.2.2.2.2
  have hown := S0.2.2.2.1
  have hl : lv_has ls 2 [(0, .ref h), (1, .int x)] := hl
  refine lv_iload_n hx hb dX0_badPlace_0 rfl (lv_at hl 1 rfl) ?_
  refine lv_if_lt (tgt := 12) hx hb dX0_badPlace_1 (by decide) (fun c_1 => ?_) (fun c_1 => ?_)
  · refine lv_iconst (v := nI 1) hx hb dX0_badPlace_12 (by decide) ?_
    refine lv_goto (tgt := 17) hx hb dX0_badPlace_13 (by decide) ?_
    exact ru_zret (v := 1) hx hb hr hlocks () V (by omega) (Or.inl ⟨rfl, by first | exact Or.inl c_1 | exact Or.inr c_9⟩) dX0_badPlace_17
  · refine lv_iload_n hx hb dX0_badPlace_4 rfl (lv_at hl 1 rfl) ?_
    refine lv_aload_n hx hb dX0_badPlace_5 rfl (lv_at hl 0 rfl) ?_
    refine ru_get0 hx hb hts hown V 0 rfl 0 (by decide) (hts _ q29) rfl dX0_badPlace_6 ?_
    refine lv_icmp_lt (tgt := 16) hx hb dX0_badPlace_9 (by decide) (fun c_9 => ?_) (fun c_9 => ?_)
    · refine lv_iconst (v := nI 0) hx hb dX0_badPlace_16 (by decide) ?_
      exact ru_zret (v := 0) hx hb hr hlocks () V (by omega) (Or.inr ⟨rfl, fun q => q.elim c_1 (fun z => z c_9)⟩) dX0_badPlace_17
    · refine lv_iconst (v := nI 1) hx hb dX0_badPlace_12 (by decide) ?_
      refine lv_goto (tgt := 17) hx hb dX0_badPlace_13 (by decide) ?_
      exact ru_zret (v := 1) hx hb hr hlocks () V (by omega) (Or.inl ⟨rfl, by first | exact Or.inl c_1 | exact Or.inr c_9⟩) dX0_badPlace_17

set_option maxHeartbeats 4000000 in
set_option maxRecDepth 100000 in
theorem met_X0_add (l : Launch) (D : va_G) (d : ClassId) (h : Nat) (a : Nat → Nat) (n : Nat) (t : Nat → Nat) (rd : Nat) (ow bw we fo : Nat → Nat) (fd : Nat) (fr to st : Nat → Nat) (k : Nat) (hn : n < 32) : ru_MV l yX0_add cX0_add 2 (ru_R 0 0) D d [.ref h, .int (nI k)] (ru_X d h a n t rd ow bw we fo fd fr to st) (fun _ : Unit => True) (fun _ => ru_X d h a (n + 1) (va_up t n k) 0 ow bw we fo fd fr to st) := by
  refine ru_MV.of (by decide) (Nat.le_of_ble_eq_true rfl) ?_
  intro pr ev s mi below me co A ls hx hb hr hlocks S0 hl V
  have hts := S0.2.2.2.2
  have hown := S0.2.2.2.1
  have hl : lv_has ls 2 [(0, .ref h), (1, .int (nI k))] := hl
  refine lv_aload_n hx hb dX0_add_0 rfl (lv_at hl 0 rfl) ?_
  refine ru_get0 hx hb hts hown V 0 rfl 1 (by decide) (hts _ q30) rfl dX0_add_1 ?_
  refine lv_aload_n hx hb dX0_add_4 rfl (lv_at hl 0 rfl) ?_
  refine ru_get0 hx hb hts hown V 0 rfl 0 (by decide) (hts _ q29) rfl dX0_add_5 ?_
  refine lv_iload_n hx hb dX0_add_8 rfl (lv_at hl 1 rfl) ?_
  refine ru_ast hx hb V 1 rfl (by decide) (by omega) dX0_add_9 (fun H locs V => ?_)
  have V : ru_V D d A s s.heap H locs (ru_X d h a n (va_up t n k) rd ow bw we fo fd fr to st) := V
  refine lv_aload_n hx hb dX0_add_10 rfl (lv_at hl 0 rfl) ?_
  refine lv_dup hx hb dX0_add_11 rfl ?_
  refine ru_get0 hx hb hts hown V 0 rfl 0 (by decide) (hts _ q29) rfl dX0_add_12 ?_
  refine lv_iconst (v := nI 1) hx hb dX0_add_15 (by decide) ?_
  refine ru_iadd hx hb dX0_add_16 ?_
  refine ru_put0 hx hb hts hown V 0 rfl 0 (by decide) (hts _ q29) rfl (ty := .int) (by decide +kernel) rfl rfl (Nat.le_of_ble_eq_true rfl) dX0_add_17 (fun H locs V => ?_)
  have V : ru_V D d A s s.heap H locs (ru_X d h a (n + 1) (va_up t n k) rd ow bw we fo fd fr to st) := V
  refine lv_aload_n hx hb dX0_add_20 rfl (lv_at hl 0 rfl) ?_
  refine lv_iconst (v := nI 0) hx hb dX0_add_21 (by decide) ?_
  refine ru_put0 hx hb hts hown V 0 rfl 2 (by decide) (hts _ q31) rfl (ty := .boolean) (by decide +kernel) rfl rfl (Nat.le_of_ble_eq_true rfl) dX0_add_22 (fun H locs V => ?_)
  have V : ru_V D d A s s.heap H locs (ru_X d h a (n + 1) (va_up t n k) 0 ow bw we fo fd fr to st) := V
  exact ru_vret hx hb hr hlocks () V trivial dX0_add_25

set_option maxHeartbeats 4000000 in
set_option maxRecDepth 100000 in
theorem met_X0_append (l : Launch) (D : va_G) (d : ClassId) (h : Nat) (a : Nat → Nat) (n : Nat) (t : Nat → Nat) (rd : Nat) (ow bw we fo : Nat → Nat) (fd : Nat) (fr to st : Nat → Nat) (hn : n ≤ 32) (x : Int32) : ru_MI l yX0_append cX0_append 2 (some .int) (ru_R 1 21) D d [.ref h, .int x] (ru_X d h a n t rd ow bw we fo fd fr to st) (fun (r : Int32) (u : Nat × (Nat → Nat) × Nat) => ru_Ap n t x r u.1 u.2.1 ∧ (u = (n, t, rd) ∨ u.2.2 = 0)) (fun u => ru_X d h a (u.1) (u.2.1) (u.2.2) ow bw we fo fd fr to st) := by
  refine ru_MI.of (by decide) (Nat.le_of_ble_eq_true rfl) ?_
  intro pr ev s mi below me co A ls hx hb hr hlocks S0 hl V
  have hts := S0.2.2.2.2
  have hown := S0.2.2.2.1
  have hl : lv_has ls 2 [(0, .ref h), (1, .int x)] := hl
  refine lv_iload_n hx hb dX0_append_0 rfl (lv_at hl 1 rfl) ?_
  refine ru_callSI (w1 := []) (w2 := ru_X d h a n t rd ow bw we fo fd fr to st) (As := [.int x]) (rest := []) S0 V (met_X0_badLetter l D d x) (va_cwS 1 hts (lw_S q68 q69 q19 q70) rfl rfl rfl (by decide +kernel) ⟨Nat.le_of_ble_eq_true rfl, Nat.le_of_ble_eq_true rfl⟩) rfl hl.1 rfl (Nat.le_of_ble_eq_true rfl) dX0_append_1 ⟨Nat.zero_le _, Nat.zero_le _⟩ (fun r u H locs hp V => ?_)
  have V : ru_V D d A s s.heap H locs (ru_X d h a n t rd ow bw we fo fd fr to st) := V
  rcases hp with ⟨rfl, hbad⟩ | ⟨rfl, hbad⟩
  · refine ru_if_eq (tgt := 9) hx hb dX0_append_4 (by decide) (by omega) (fun c_4 => ?_) (fun c_4 => ?_)
    · exact absurd c_4 (by omega)
    · refine lv_iconst (v := (-1)) hx hb dX0_append_7 (by decide) ?_
      exact ru_iret hx hb hr hlocks (n, t, rd) V ⟨Or.inl ⟨hbad, rfl, rfl, rfl⟩, Or.inl rfl⟩ dX0_append_8
  · refine ru_if_eq (tgt := 9) hx hb dX0_append_4 (by decide) (by omega) (fun c_4 => ?_) (fun c_4 => ?_)
    · obtain ⟨k, hk, rfl⟩ := ru_good hbad
      refine lv_aload_n hx hb dX0_append_9 rfl (lv_at hl 0 rfl) ?_
      refine ru_get0 hx hb hts hown V 0 rfl 0 (by decide) (hts _ q29) rfl dX0_append_10 ?_
      refine lv_bipush (v := nI 32) hx hb dX0_append_13 (by decide) ?_
      refine ru_icmp_lt (tgt := 21) hx hb dX0_append_15 (by decide) (by omega) (by omega) (fun c_15 => ?_) (fun c_15 => ?_)
      · refine lv_aload_n hx hb dX0_append_21 rfl (lv_at hl 0 rfl) ?_
        refine lv_iload_n hx hb dX0_append_22 rfl (lv_at hl 1 rfl) ?_
        refine ru_callVV (w1 := ru_X d h a n t rd ow bw we fo fd fr to st) (w2 := []) (As := [.int (nI k)]) (rest := []) S0 V (met_X0_add l D d h a n t rd ow bw we fo fd fr to st k (by omega)) (cwV 1 hts (lw_V q71 q73 qs0 q19 q74) rfl rfl rfl (by decide +kernel) ⟨Nat.le_of_ble_eq_true rfl, Nat.le_of_ble_eq_true rfl⟩) 0 rfl rfl rfl hl.1 rfl (Nat.le_of_ble_eq_true rfl) dX0_append_23 ⟨Nat.zero_le _, Nat.zero_le _⟩ (fun u H locs hp V => ?_)
        have V : ru_V D d A s s.heap H locs (ru_X d h a (n + 1) (va_up t n k) 0 ow bw we fo fd fr to st) := V
        refine lv_aload_n hx hb dX0_append_26 rfl (lv_at hl 0 rfl) ?_
        refine ru_get0 hx hb hts hown V 0 rfl 0 (by decide) (hts _ q29) rfl dX0_append_27 ?_
        exact ru_iret hx hb hr hlocks (n + 1, va_up t n k, 0) V ⟨Or.inr (Or.inr ⟨k, hk, rfl, by omega, rfl, rfl, rfl⟩), Or.inr rfl⟩ dX0_append_30
      · refine lv_bipush (v := (-2)) hx hb dX0_append_18 (by decide) ?_
        exact ru_iret hx hb hr hlocks (n, t, rd) V ⟨Or.inr (Or.inl ⟨hbad, by omega, rfl, rfl, rfl⟩), Or.inl rfl⟩ dX0_append_20
    · exact absurd c_4 (by omega)

set_option maxHeartbeats 4000000 in
set_option maxRecDepth 100000 in
theorem met_X0_set (l : Launch) (D : va_G) (d : ClassId) (h : Nat) (a : Nat → Nat) (n : Nat) (t : Nat → Nat) (rd : Nat) (ow bw we fo : Nat → Nat) (fd : Nat) (fr to st : Nat → Nat) (hn : n ≤ 32) (x y : Int32) : ru_MI l yX0_set cX0_set 4 (some .int) (ru_R 1 21) D d [.ref h, .int x, .int y] (ru_X d h a n t rd ow bw we fo fd fr to st) (fun (r : Int32) (u : (Nat → Nat) × Nat) => ru_St n t x y r u.1 ∧ (u = (t, rd) ∨ u.2 = 0)) (fun u => ru_X d h a n (u.1) (u.2) ow bw we fo fd fr to st) := by
  refine ru_MI.of (by decide) (Nat.le_of_ble_eq_true rfl) ?_
  intro pr ev s mi below me co A ls hx hb hr hlocks S0 hl V
  have hts := S0.2.2.2.2
  have hown := S0.2.2.2.1
  have hl : lv_has ls 4 [(0, .ref h), (1, .int x), (2, .int y)] := hl
  refine lv_aload_n hx hb dX0_set_0 rfl (lv_at hl 0 rfl) ?_
  refine lv_iload_n hx hb dX0_set_1 rfl (lv_at hl 1 rfl) ?_
  refine ru_callVI (w1 := ru_X d h a n t rd ow bw we fo fd fr to st) (w2 := []) (As := [.int x]) (rest := []) S0 V (met_X0_badPlace l D d h a n t rd ow bw we fo fd fr to st x) (cwV 1 hts (lw_V q79 q81 qs1 q19 q82) rfl rfl rfl (by decide +kernel) ⟨Nat.le_of_ble_eq_true rfl, Nat.le_of_ble_eq_true rfl⟩) 0 rfl rfl rfl hl.1 rfl (Nat.le_of_ble_eq_true rfl) dX0_set_2 ⟨Nat.zero_le _, Nat.zero_le _⟩ (fun r u H locs hp V => ?_)
  have V : ru_V D d A s s.heap H locs (ru_X d h a n t rd ow bw we fo fd fr to st) := V
  rcases hp with ⟨rfl, hnp⟩ | ⟨rfl, hnp⟩
  · refine ru_if_eq (tgt := 11) hx hb dX0_set_5 (by decide) (by omega) (fun c_5 => ?_) (fun c_5 => ?_)
    · exact absurd c_5 (by omega)
    · refine lv_bipush (v := (-3)) hx hb dX0_set_8 (by decide) ?_
      exact ru_iret hx hb hr hlocks (t, rd) V ⟨Or.inl ⟨hnp, rfl, rfl⟩, Or.inl rfl⟩ dX0_set_10
  · refine ru_if_eq (tgt := 11) hx hb dX0_set_5 (by decide) (by omega) (fun c_5 => ?_) (fun c_5 => ?_)
    · refine lv_iload_n hx hb dX0_set_11 rfl (lv_at hl 2 rfl) ?_
      refine ru_callSI (w1 := []) (w2 := ru_X d h a n t rd ow bw we fo fd fr to st) (As := [.int y]) (rest := []) S0 V (met_X0_badLetter l D d y) (va_cwS 1 hts (lw_S q68 q69 q19 q70) rfl rfl rfl (by decide +kernel) ⟨Nat.le_of_ble_eq_true rfl, Nat.le_of_ble_eq_true rfl⟩) rfl hl.1 rfl (Nat.le_of_ble_eq_true rfl) dX0_set_12 ⟨Nat.zero_le _, Nat.zero_le _⟩ (fun r u H locs hp V => ?_)
      have V : ru_V D d A s s.heap H locs (ru_X d h a n t rd ow bw we fo fd fr to st) := V
      rcases hp with ⟨rfl, hbad⟩ | ⟨rfl, hbad⟩
      · refine ru_if_eq (tgt := 20) hx hb dX0_set_15 (by decide) (by omega) (fun c_15 => ?_) (fun c_15 => ?_)
        · exact absurd c_15 (by omega)
        · refine lv_iconst (v := (-1)) hx hb dX0_set_18 (by decide) ?_
          exact ru_iret hx hb hr hlocks (t, rd) V ⟨Or.inr (Or.inl ⟨hnp, hbad, rfl, rfl⟩), Or.inl rfl⟩ dX0_set_19
      · refine ru_if_eq (tgt := 20) hx hb dX0_set_15 (by decide) (by omega) (fun c_15 => ?_) (fun c_15 => ?_)
        · obtain ⟨b, hb2, rfl⟩ := ru_good hbad
          obtain ⟨k, hk, rfl⟩ := ru_place (x := x) (n := n) (by omega) (fun q => hnp (Or.inl q)) (Classical.not_not.mp (fun q => hnp (Or.inr q)))
          refine lv_aload_n hx hb dX0_set_20 rfl (lv_at hl 0 rfl) ?_
          refine ru_get0 hx hb hts hown V 0 rfl 1 (by decide) (hts _ q30) rfl dX0_set_21 ?_
          refine lv_iload_n hx hb dX0_set_24 rfl (lv_at hl 1 rfl) ?_
          refine ru_ald hx hb V 1 rfl (by decide) (by omega) dX0_set_25 ?_
          refine lv_istore_n (lv' := [(3, .int (nI (t k))), (0, .ref h), (1, .int (nI k)), (2, .int (nI b))]) hx hb dX0_set_26 rfl hl (by decide) rfl (fun ls hl => ?_)
          refine lv_aload_n hx hb dX0_set_27 rfl (lv_at hl 1 rfl) ?_
          refine ru_get0 hx hb hts hown V 0 rfl 1 (by decide) (hts _ q30) rfl dX0_set_28 ?_
          refine lv_iload_n hx hb dX0_set_31 rfl (lv_at hl 2 rfl) ?_
          refine lv_iload_n hx hb dX0_set_32 rfl (lv_at hl 3 rfl) ?_
          refine ru_ast hx hb V 1 rfl (by decide) (by omega) dX0_set_33 (fun H locs V => ?_)
          have V : ru_V D d A s s.heap H locs (ru_X d h a n (va_up t k b) rd ow bw we fo fd fr to st) := V
          refine lv_aload_n hx hb dX0_set_34 rfl (lv_at hl 1 rfl) ?_
          refine lv_iconst (v := nI 0) hx hb dX0_set_35 (by decide) ?_
          refine ru_put0 hx hb hts hown V 0 rfl 2 (by decide) (hts _ q31) rfl (ty := .boolean) (by decide +kernel) rfl rfl (Nat.le_of_ble_eq_true rfl) dX0_set_36 (fun H locs V => ?_)
          have V : ru_V D d A s s.heap H locs (ru_X d h a n (va_up t k b) 0 ow bw we fo fd fr to st) := V
          refine lv_iload_n hx hb dX0_set_39 rfl (lv_at hl 0 rfl) ?_
          exact ru_iret hx hb hr hlocks (va_up t k b, 0) V ⟨Or.inr (Or.inr ⟨k, b, hk, hb2, rfl, rfl, rfl, rfl⟩), Or.inr rfl⟩ dX0_set_40
        · exact absurd c_15 (by omega)
    · exact absurd c_5 (by omega)

set_option maxHeartbeats 4000000 in
set_option maxRecDepth 100000 in
theorem met_X0_repeat (l : Launch) (D : va_G) (d : ClassId) (h : Nat) (a : Nat → Nat) (n : Nat) (t : Nat → Nat) (rd : Nat) (ow bw we fo : Nat → Nat) (fd : Nat) (fr to st : Nat → Nat) (hn : n ≤ 32) (x : Int32) : ru_MI l yX0_repeat cX0_repeat 4 (some .int) (ru_R 1 21) D d [.ref h, .int x] (ru_X d h a n t rd ow bw we fo fd fr to st) (fun (r : Int32) (u : Nat × (Nat → Nat) × Nat) => ru_Rp n t x r u.1 u.2.1 ∧ (u = (n, t, rd) ∨ u.2.2 = 0)) (fun u => ru_X d h a (u.1) (u.2.1) (u.2.2) ow bw we fo fd fr to st) := by
  refine ru_MI.of (by decide) (Nat.le_of_ble_eq_true rfl) ?_
  intro pr ev s mi below me co A ls hx hb hr hlocks S0 hl V
  have hts := S0.2.2.2.2
  have hown := S0.2.2.2.1
  have hl : lv_has ls 4 [(0, .ref h), (1, .int x)] := hl
  refine lv_iload_n hx hb dX0_repeat_0 rfl (lv_at hl 1 rfl) ?_
  refine lv_iconst (v := nI 1) hx hb dX0_repeat_1 (by decide) ?_
  refine lv_icmp_lt (tgt := 13) hx hb dX0_repeat_2 (by decide) (fun c_2 => ?_) (fun c_2 => ?_)
  · refine lv_bipush (v := (-3)) hx hb dX0_repeat_13 (by decide) ?_
    exact ru_iret hx hb hr hlocks (n, t, rd) V ⟨Or.inl ⟨by first | exact Or.inl c_2 | exact Or.inr c_10, rfl, rfl, rfl⟩, Or.inl rfl⟩ dX0_repeat_15
  · refine lv_iload_n hx hb dX0_repeat_5 rfl (lv_at hl 1 rfl) ?_
    refine lv_aload_n hx hb dX0_repeat_6 rfl (lv_at hl 0 rfl) ?_
    refine ru_get0 hx hb hts hown V 0 rfl 0 (by decide) (hts _ q29) rfl dX0_repeat_7 ?_
    refine lv_icmp_le (tgt := 16) hx hb dX0_repeat_10 (by decide) (fun c_10 => ?_) (fun c_10 => ?_)
    · obtain ⟨k, hk1, hk2, rfl⟩ := ru_count (n := n) (by omega) c_2 c_10
      refine lv_aload_n hx hb dX0_repeat_16 rfl (lv_at hl 0 rfl) ?_
      refine ru_get0 hx hb hts hown V 0 rfl 0 (by decide) (hts _ q29) rfl dX0_repeat_17 ?_
      refine lv_iload_n hx hb dX0_repeat_20 rfl (lv_at hl 1 rfl) ?_
      refine ru_isub hx hb (by omega) dX0_repeat_21 ?_
      refine lv_istore_n (lv' := [(2, .int (nI (n - k))), (0, .ref h), (1, .int (nI k))]) hx hb dX0_repeat_22 rfl hl (by decide) rfl (fun ls hl => ?_)
      refine lv_iconst (v := nI 0) hx hb dX0_repeat_23 (by decide) ?_
      refine lv_istore_n (lv' := [(3, .int (nI 0)), (2, .int (nI (n - k))), (0, .ref h), (1, .int (nI k))]) hx hb dX0_repeat_24 rfl hl (by decide) rfl (fun ls hl => ?_)
      refine ru_loop4 (nL := 4) (head := 25) (fun (i : Nat) (n1 : Nat) (t1 : Nat → Nat) (rd1 : Nat) => [(0, .ref h), (1, .int (nI k)), (2, .int (nI (n - k))), (3, .int (nI i))]) (fun (i : Nat) (n1 : Nat) (t1 : Nat → Nat) (rd1 : Nat) => ru_X d h a n1 t1 rd1 ow bw we fo fd fr to st) (fun (i : Nat) (n1 : Nat) (t1 : Nat → Nat) (rd1 : Nat) => i ≤ k ∧ i ≤ 32 - n ∧ n1 = n + i ∧ t1 = ru_cp t (n - k) n i ∧ ((i = 0 ∧ rd1 = rd) ∨ rd1 = 0)) (fun (i : Nat) (n1 : Nat) (t1 : Nat → Nat) (rd1 : Nat) => k - i) ?_ 0 n t rd _ _ _ ⟨by omega, by omega, by omega, rfl, Or.inl ⟨rfl, rfl⟩⟩ (lv_sub hl [2, 3, 1, 0] rfl) V
      intro i n1 t1 rd1 H locs ls hP_25 hl V ih_25
      have hl : lv_has ls 4 [(0, .ref h), (1, .int (nI k)), (2, .int (nI (n - k))), (3, .int (nI i))] := hl
      have V : ru_V D d A s s.heap H locs (ru_X d h a n1 t1 rd1 ow bw we fo fd fr to st) := V
      obtain ⟨hi, hi2, en, et, hrd⟩ := hP_25
      refine lv_iload_n hx hb dX0_repeat_25 rfl (lv_at hl 3 rfl) ?_
      refine lv_iload_n hx hb dX0_repeat_26 rfl (lv_at hl 1 rfl) ?_
      refine ru_icmp_ge (tgt := 57) hx hb dX0_repeat_27 (by decide) (by omega) (by omega) (fun c_27 => ?_) (fun c_27 => ?_)
      · refine lv_aload_n hx hb dX0_repeat_57 rfl (lv_at hl 0 rfl) ?_
        refine ru_get0 hx hb hts hown V 0 rfl 0 (by decide) (hts _ q29) rfl dX0_repeat_58 ?_
        exact ru_iret hx hb hr hlocks (n1, t1, rd1) V ⟨Or.inr ⟨k, hk1, hk2, rfl, by rw [en, show i = min k (32 - n) by omega], by rw [en, show i = min k (32 - n) by omega], by rw [et, show i = min k (32 - n) by omega]⟩, by rcases hrd with ⟨q1, q2⟩ | q; (· left; rw [en, et, q1, q2]; rfl); (· exact Or.inr q)⟩ dX0_repeat_61
      · refine lv_aload_n hx hb dX0_repeat_30 rfl (lv_at hl 0 rfl) ?_
        refine ru_get0 hx hb hts hown V 0 rfl 0 (by decide) (hts _ q29) rfl dX0_repeat_31 ?_
        refine lv_bipush (v := nI 32) hx hb dX0_repeat_34 (by decide) ?_
        refine ru_icmp_ge (tgt := 57) hx hb dX0_repeat_36 (by decide) (by omega) (by omega) (fun c_36 => ?_) (fun c_36 => ?_)
        · refine lv_aload_n hx hb dX0_repeat_57 rfl (lv_at hl 0 rfl) ?_
          refine ru_get0 hx hb hts hown V 0 rfl 0 (by decide) (hts _ q29) rfl dX0_repeat_58 ?_
          exact ru_iret hx hb hr hlocks (n1, t1, rd1) V ⟨Or.inr ⟨k, hk1, hk2, rfl, by rw [en, show i = min k (32 - n) by omega], by rw [en, show i = min k (32 - n) by omega], by rw [et, show i = min k (32 - n) by omega]⟩, by rcases hrd with ⟨q1, q2⟩ | q; (· left; rw [en, et, q1, q2]; rfl); (· exact Or.inr q)⟩ dX0_repeat_61
        · refine lv_aload_n hx hb dX0_repeat_39 rfl (lv_at hl 0 rfl) ?_
          refine lv_aload_n hx hb dX0_repeat_40 rfl (lv_at hl 0 rfl) ?_
          refine ru_get0 hx hb hts hown V 0 rfl 1 (by decide) (hts _ q30) rfl dX0_repeat_41 ?_
          refine lv_iload_n hx hb dX0_repeat_44 rfl (lv_at hl 2 rfl) ?_
          refine lv_iload_n hx hb dX0_repeat_45 rfl (lv_at hl 3 rfl) ?_
          refine ru_iadd hx hb dX0_repeat_46 ?_
          refine ru_ald hx hb V 1 rfl (by decide) (by omega) dX0_repeat_47 ?_
          refine ru_callVV (w1 := ru_X d h a n1 t1 rd1 ow bw we fo fd fr to st) (w2 := []) (As := [.int (nI (t1 (n - k + i)))]) (rest := []) S0 V (met_X0_add l D d h a n1 t1 rd1 ow bw we fo fd fr to st (t1 (n - k + i)) (by omega)) (cwV 1 hts (lw_V q71 q73 qs0 q19 q74) rfl rfl rfl (by decide +kernel) ⟨Nat.le_of_ble_eq_true rfl, Nat.le_of_ble_eq_true rfl⟩) 0 rfl rfl rfl hl.1 rfl (Nat.le_of_ble_eq_true rfl) dX0_repeat_48 ⟨Nat.zero_le _, Nat.zero_le _⟩ (fun u H locs hp V => ?_)
          have V : ru_V D d A s s.heap H locs (ru_X d h a (n1 + 1) (va_up t1 n1 (t1 (n - k + i))) 0 ow bw we fo fd fr to st) := V
          refine lv_iinc (v := nI (i + 1)) (lv' := [(3, .int (nI (i + 1))), (0, .ref h), (1, .int (nI k)), (2, .int (nI (n - k)))]) hx hb dX0_repeat_51 hl (k := 3) rfl (ru_inc _) (by decide) rfl (fun ls hl => ?_)
          refine lv_goto (tgt := 25) hx hb dX0_repeat_54 (by decide) ?_
          exact ih_25 (i + 1) (n1 + 1) (va_up t1 n1 (t1 (n - k + i))) 0 _ _ _ (by omega) ⟨by omega, by omega, by omega, by rw [et, en]; rfl, Or.inr rfl⟩ (lv_sub hl [1, 2, 3, 0] rfl) V
    · refine lv_bipush (v := (-3)) hx hb dX0_repeat_13 (by decide) ?_
      exact ru_iret hx hb hr hlocks (n, t, rd) V ⟨Or.inl ⟨by first | exact Or.inl c_2 | exact Or.inr c_10, rfl, rfl, rfl⟩, Or.inl rfl⟩ dX0_repeat_15

set_option maxHeartbeats 4000000 in
set_option maxRecDepth 100000 in
theorem met_X0_drop (l : Launch) (D : va_G) (d : ClassId) (h : Nat) (a : Nat → Nat) (n : Nat) (t : Nat → Nat) (rd : Nat) (ow bw we fo : Nat → Nat) (fd : Nat) (fr to st : Nat → Nat) (hn : n ≤ 32) : ru_MI l yX0_drop cX0_drop 1 (some .int) (ru_R 0 0) D d [.ref h] (ru_X d h a n t rd ow bw we fo fd fr to st) (fun (r : Int32) (u : Nat × Nat) => u.1 = n - 1 ∧ r = (if n = 0 then -4 else nI (n - 1)) ∧ (u = (n, rd) ∨ u.2 = 0)) (fun u => ru_X d h a (u.1) t (u.2) ow bw we fo fd fr to st) := by
  refine ru_MI.of (by decide) (Nat.le_of_ble_eq_true rfl) ?_
  intro pr ev s mi below me co A ls hx hb hr hlocks S0 hl V
  have hts := S0.2.2.2.2
  have hown := S0.2.2.2.1
  have hl : lv_has ls 1 [(0, .ref h)] := hl
  refine lv_aload_n hx hb dX0_drop_0 rfl (lv_at hl 0 rfl) ?_
  refine ru_get0 hx hb hts hown V 0 rfl 0 (by decide) (hts _ q29) rfl dX0_drop_1 ?_
  refine ru_if_ne (tgt := 10) hx hb dX0_drop_4 (by decide) (by omega) (fun c_4 => ?_) (fun c_4 => ?_)
  · refine lv_aload_n hx hb dX0_drop_10 rfl (lv_at hl 0 rfl) ?_
    refine lv_dup hx hb dX0_drop_11 rfl ?_
    refine ru_get0 hx hb hts hown V 0 rfl 0 (by decide) (hts _ q29) rfl dX0_drop_12 ?_
    refine lv_iconst (v := nI 1) hx hb dX0_drop_15 (by decide) ?_
    refine ru_isub hx hb (by omega) dX0_drop_16 ?_
    refine ru_put0 hx hb hts hown V 0 rfl 0 (by decide) (hts _ q29) rfl (ty := .int) (by decide +kernel) rfl rfl (Nat.le_of_ble_eq_true rfl) dX0_drop_17 (fun H locs V => ?_)
    have V : ru_V D d A s s.heap H locs (ru_X d h a (n - 1) t rd ow bw we fo fd fr to st) := V
    refine lv_aload_n hx hb dX0_drop_20 rfl (lv_at hl 0 rfl) ?_
    refine lv_iconst (v := nI 0) hx hb dX0_drop_21 (by decide) ?_
    refine ru_put0 hx hb hts hown V 0 rfl 2 (by decide) (hts _ q31) rfl (ty := .boolean) (by decide +kernel) rfl rfl (Nat.le_of_ble_eq_true rfl) dX0_drop_22 (fun H locs V => ?_)
    have V : ru_V D d A s s.heap H locs (ru_X d h a (n - 1) t 0 ow bw we fo fd fr to st) := V
    refine lv_aload_n hx hb dX0_drop_25 rfl (lv_at hl 0 rfl) ?_
    refine ru_get0 hx hb hts hown V 0 rfl 0 (by decide) (hts _ q29) rfl dX0_drop_26 ?_
    exact ru_iret hx hb hr hlocks (n - 1, 0) V ⟨rfl, by rw [if_neg c_4], Or.inr rfl⟩ dX0_drop_29
  · refine lv_bipush (v := (-4)) hx hb dX0_drop_7 (by decide) ?_
    exact ru_iret hx hb hr hlocks (n, rd) V ⟨by omega, by rw [if_pos c_4], Or.inl rfl⟩ dX0_drop_9

set_option maxHeartbeats 4000000 in
set_option maxRecDepth 100000 in
theorem met_X0_clear (l : Launch) (D : va_G) (d : ClassId) (h : Nat) (a : Nat → Nat) (n : Nat) (t : Nat → Nat) (rd : Nat) (ow bw we fo : Nat → Nat) (fd : Nat) (fr to st : Nat → Nat) : ru_MV l yX0_clear cX0_clear 1 (ru_R 0 0) D d [.ref h] (ru_X d h a n t rd ow bw we fo fd fr to st) (fun _ : Unit => True) (fun _ => ru_X d h a 0 t 0 ow bw we fo fd fr to st) := by
  refine ru_MV.of (by decide) (Nat.le_of_ble_eq_true rfl) ?_
  intro pr ev s mi below me co A ls hx hb hr hlocks S0 hl V
  have hts := S0.2.2.2.2
  have hown := S0.2.2.2.1
  have hl : lv_has ls 1 [(0, .ref h)] := hl
  refine lv_aload_n hx hb dX0_clear_0 rfl (lv_at hl 0 rfl) ?_
  refine lv_iconst (v := nI 0) hx hb dX0_clear_1 (by decide) ?_
  refine ru_put0 hx hb hts hown V 0 rfl 0 (by decide) (hts _ q29) rfl (ty := .int) (by decide +kernel) rfl rfl (Nat.le_of_ble_eq_true rfl) dX0_clear_2 (fun H locs V => ?_)
  have V : ru_V D d A s s.heap H locs (ru_X d h a 0 t rd ow bw we fo fd fr to st) := V
  refine lv_aload_n hx hb dX0_clear_5 rfl (lv_at hl 0 rfl) ?_
  refine lv_iconst (v := nI 0) hx hb dX0_clear_6 (by decide) ?_
  refine ru_put0 hx hb hts hown V 0 rfl 2 (by decide) (hts _ q31) rfl (ty := .boolean) (by decide +kernel) rfl rfl (Nat.le_of_ble_eq_true rfl) dX0_clear_7 (fun H locs V => ?_)
  have V : ru_V D d A s s.heap H locs (ru_X d h a 0 t 0 ow bw we fo fd fr to st) := V
  exact ru_vret hx hb hr hlocks () V trivial dX0_clear_10

set_option maxHeartbeats 4000000 in
set_option maxRecDepth 100000 in
theorem met_X0_fillOnward (l : Launch) (D : va_G) (d : ClassId) (h : Nat) (a : Nat → Nat) (n : Nat) (t : Nat → Nat) (rd : Nat) (ow bw we fo : Nat → Nat) (fd : Nat) (fr to st : Nat → Nat) (hn : n ≤ 32) (ht : ∀ k, t k < 4) : ru_MV l yX0_fillOnward cX0_fillOnward 4 (ru_R 0 0) D d [.ref h] (ru_X d h a n t rd ow bw we fo fd fr to st) (fun u : Nat → Nat => ru_On t n u) (fun u => ru_X d h a n t rd u bw we fo fd fr to st) := by
  refine ru_MV.of (by decide) (Nat.le_of_ble_eq_true rfl) ?_
  intro pr ev s mi below me co A ls hx hb hr hlocks S0 hl V
  have hts := S0.2.2.2.2
  have hown := S0.2.2.2.1
  have hl : lv_has ls 4 [(0, .ref h)] := hl
  refine lv_aload_n hx hb dX0_fillOnward_0 rfl (lv_at hl 0 rfl) ?_
  refine ru_get0 hx hb hts hown V 0 rfl 0 (by decide) (hts _ q29) rfl dX0_fillOnward_1 ?_
  refine lv_istore_n (lv' := [(1, .int (nI n)), (0, .ref h)]) hx hb dX0_fillOnward_4 rfl hl (by decide) rfl (fun ls hl => ?_)
  refine ru_loop2 (nL := 4) (head := 5) (fun (k : Nat) (ow1 : Nat → Nat) => [(0, .ref h), (1, .int (ru_m1 k))]) (fun (k : Nat) (ow1 : Nat → Nat) => ru_X d h a n t rd ow1 bw we fo fd fr to st) (fun (k : Nat) (ow1 : Nat → Nat) => k ≤ n + 1 ∧ ∀ x y, k ≤ x → x ≤ n → y ≤ n → ow1 (x * 33 + y) = ru_lce t n x y) (fun (k : Nat) (ow1 : Nat → Nat) => k) ?_ (n + 1) ow _ _ _ ⟨by omega, fun x y h1 h2 h3 => by omega⟩ (lv_sub hl [1, 0] rfl) V
  intro k ow1 H locs ls hP_5 hl V ih_5
  have hl : lv_has ls 4 [(0, .ref h), (1, .int (ru_m1 k))] := hl
  have V : ru_V D d A s s.heap H locs (ru_X d h a n t rd ow1 bw we fo fd fr to st) := V
  rcases k with _ | i
  · have hl : lv_has ls 4 [(0, .ref h), (1, .int (-1))] := hl
    obtain ⟨hk, hO⟩ := hP_5
    refine lv_iload_n hx hb dX0_fillOnward_5 rfl (lv_at hl 1 rfl) ?_
    refine lv_if_lt (tgt := 103) hx hb dX0_fillOnward_6 (by decide) (fun c_6 => ?_) (fun c_6 => ?_)
    · exact ru_vret hx hb hr hlocks ow1 V (fun x y h1 h2 => hO x y (by omega) h1 h2) dX0_fillOnward_103
    · exact absurd c_6 (by decide)
  · have hl : lv_has ls 4 [(0, .ref h), (1, .int (nI i))] := hl
    obtain ⟨hk, hO⟩ := hP_5
    refine lv_iload_n hx hb dX0_fillOnward_5 rfl (lv_at hl 1 rfl) ?_
    refine ru_if_lt (tgt := 103) hx hb dX0_fillOnward_6 (by decide) (by omega) ?_
    refine lv_aload_n hx hb dX0_fillOnward_9 rfl (lv_at hl 0 rfl) ?_
    refine ru_get0 hx hb hts hown V 0 rfl 0 (by decide) (hts _ q29) rfl dX0_fillOnward_10 ?_
    refine lv_istore_n (lv' := [(2, .int (nI n)), (0, .ref h), (1, .int (nI i))]) hx hb dX0_fillOnward_13 rfl hl (by decide) rfl (fun ls hl => ?_)
    refine ru_loop2 (nL := 4) (head := 14) (fun (q : Nat) (ow2 : Nat → Nat) => [(0, .ref h), (1, .int (nI i)), (2, .int (ru_m1 q))]) (fun (q : Nat) (ow2 : Nat → Nat) => ru_X d h a n t rd ow2 bw we fo fd fr to st) (fun (q : Nat) (ow2 : Nat → Nat) => q ≤ n + 1 ∧ (∀ x y, i + 1 ≤ x → x ≤ n → y ≤ n → ow2 (x * 33 + y) = ru_lce t n x y) ∧ ∀ y, q ≤ y → y ≤ n → ow2 (i * 33 + y) = ru_lce t n i y) (fun (q : Nat) (ow2 : Nat → Nat) => q) ?_ (n + 1) ow1 _ _ _ ⟨by omega, hO, fun y h1 h2 => by omega⟩ (lv_sub hl [1, 2, 0] rfl) V
    intro q ow2 H locs ls hP_14 hl V ih_14
    have hl : lv_has ls 4 [(0, .ref h), (1, .int (nI i)), (2, .int (ru_m1 q))] := hl
    have V : ru_V D d A s s.heap H locs (ru_X d h a n t rd ow2 bw we fo fd fr to st) := V
    rcases q with _ | j
    · have hl : lv_has ls 4 [(0, .ref h), (1, .int (nI i)), (2, .int (-1))] := hl
      obtain ⟨hq, hO2, hO3⟩ := hP_14
      refine lv_iload_n hx hb dX0_fillOnward_14 rfl (lv_at hl 2 rfl) ?_
      refine lv_if_lt (tgt := 97) hx hb dX0_fillOnward_15 (by decide) (fun c_15 => ?_) (fun c_15 => ?_)
      · refine lv_iinc (v := (ru_m1 i)) (lv' := [(1, .int (ru_m1 i)), (0, .ref h), (2, .int (-1))]) hx hb dX0_fillOnward_97 hl (k := 1) rfl (ru_dec1 _) (by decide) rfl (fun ls hl => ?_)
        refine lv_goto (tgt := 5) hx hb dX0_fillOnward_100 (by decide) ?_
        exact ih_5 i ow2 _ _ _ (by omega) ⟨by omega, fun x y h1 h2 h3 => by by_cases e : x = i; (· rw [e]; exact hO3 y (by omega) h3); (· exact hO2 x y (by omega) h2 h3)⟩ (lv_sub hl [1, 0] rfl) V
      · exact absurd c_15 (by decide)
    · have hl : lv_has ls 4 [(0, .ref h), (1, .int (nI i)), (2, .int (nI j))] := hl
      obtain ⟨hq, hO2, hO3⟩ := hP_14
      refine lv_iload_n hx hb dX0_fillOnward_14 rfl (lv_at hl 2 rfl) ?_
      refine ru_if_lt (tgt := 97) hx hb dX0_fillOnward_15 (by decide) (by omega) ?_
      refine lv_iload_n hx hb dX0_fillOnward_18 rfl (lv_at hl 1 rfl) ?_
      refine lv_aload_n hx hb dX0_fillOnward_19 rfl (lv_at hl 0 rfl) ?_
      refine ru_get0 hx hb hts hown V 0 rfl 0 (by decide) (hts _ q29) rfl dX0_fillOnward_20 ?_
      refine ru_icmp_ge (tgt := 53) hx hb dX0_fillOnward_23 (by decide) (by omega) (by omega) (fun c_23 => ?_) (fun c_23 => ?_)
      · refine lv_iconst (v := nI 0) hx hb dX0_fillOnward_53 (by decide) ?_
        refine lv_istore_n (lv' := [(3, .int (nI 0)), (0, .ref h), (1, .int (nI i)), (2, .int (nI j))]) hx hb dX0_fillOnward_54 rfl hl (by decide) rfl (fun ls hl => ?_)
        refine lv_aload_n hx hb dX0_fillOnward_55 rfl (lv_at hl 1 rfl) ?_
        refine ru_get0 hx hb hts hown V 0 rfl 3 (by decide) (hts _ q32) rfl dX0_fillOnward_56 ?_
        refine lv_iload_n hx hb dX0_fillOnward_59 rfl (lv_at hl 2 rfl) ?_
        refine lv_bipush (v := nI 33) hx hb dX0_fillOnward_60 (by decide) ?_
        refine ru_imul hx hb dX0_fillOnward_62 ?_
        refine lv_iload_n hx hb dX0_fillOnward_63 rfl (lv_at hl 3 rfl) ?_
        refine ru_iadd hx hb dX0_fillOnward_64 ?_
        refine lv_iload_n hx hb dX0_fillOnward_65 rfl (lv_at hl 0 rfl) ?_
        refine ru_if_eq (tgt := 89) hx hb dX0_fillOnward_66 (by decide) (by omega) (fun c_66 => ?_) (fun c_66 => ?_)
        · refine lv_iconst (v := nI 0) hx hb dX0_fillOnward_89 (by decide) ?_
          refine ru_top (y := (ru_lce t n i j)) (ru_lce_f (fun z => by first | omega | exact c_46 z.2.2)).symm ?_
          refine ru_ast hx hb V 2 rfl (by decide) (by omega) dX0_fillOnward_90 (fun H locs V => ?_)
          have V : ru_V D d A s s.heap H locs (ru_X d h a n t rd (va_up ow2 (i * 33 + j) (ru_lce t n i j)) bw we fo fd fr to st) := V
          refine lv_iinc (v := (ru_m1 j)) (lv' := [(2, .int (ru_m1 j)), (3, .int (nI 0)), (0, .ref h), (1, .int (nI i))]) hx hb dX0_fillOnward_91 hl (k := 3) rfl (ru_dec1 _) (by decide) rfl (fun ls hl => ?_)
          refine lv_goto (tgt := 14) hx hb dX0_fillOnward_94 (by decide) ?_
          exact ih_14 j (va_up ow2 (i * 33 + j) (ru_lce t n i j)) _ _ _ (by omega) ⟨by omega, fun x y h1 h2 h3 => by rw [ru_upn (by omega)]; exact hO2 x y h1 h2 h3, fun y h1 h2 => by by_cases e : y = j; (· rw [e, ru_ups]); (· rw [ru_upn (by omega)]; exact hO3 y (by omega) h2)⟩ (lv_sub hl [2, 3, 0] rfl) V
        · exact absurd c_66 (by omega)
      · refine lv_iload_n hx hb dX0_fillOnward_26 rfl (lv_at hl 2 rfl) ?_
        refine lv_aload_n hx hb dX0_fillOnward_27 rfl (lv_at hl 0 rfl) ?_
        refine ru_get0 hx hb hts hown V 0 rfl 0 (by decide) (hts _ q29) rfl dX0_fillOnward_28 ?_
        refine ru_icmp_ge (tgt := 53) hx hb dX0_fillOnward_31 (by decide) (by omega) (by omega) (fun c_31 => ?_) (fun c_31 => ?_)
        · refine lv_iconst (v := nI 0) hx hb dX0_fillOnward_53 (by decide) ?_
          refine lv_istore_n (lv' := [(3, .int (nI 0)), (0, .ref h), (1, .int (nI i)), (2, .int (nI j))]) hx hb dX0_fillOnward_54 rfl hl (by decide) rfl (fun ls hl => ?_)
          refine lv_aload_n hx hb dX0_fillOnward_55 rfl (lv_at hl 1 rfl) ?_
          refine ru_get0 hx hb hts hown V 0 rfl 3 (by decide) (hts _ q32) rfl dX0_fillOnward_56 ?_
          refine lv_iload_n hx hb dX0_fillOnward_59 rfl (lv_at hl 2 rfl) ?_
          refine lv_bipush (v := nI 33) hx hb dX0_fillOnward_60 (by decide) ?_
          refine ru_imul hx hb dX0_fillOnward_62 ?_
          refine lv_iload_n hx hb dX0_fillOnward_63 rfl (lv_at hl 3 rfl) ?_
          refine ru_iadd hx hb dX0_fillOnward_64 ?_
          refine lv_iload_n hx hb dX0_fillOnward_65 rfl (lv_at hl 0 rfl) ?_
          refine ru_if_eq (tgt := 89) hx hb dX0_fillOnward_66 (by decide) (by omega) (fun c_66 => ?_) (fun c_66 => ?_)
          · refine lv_iconst (v := nI 0) hx hb dX0_fillOnward_89 (by decide) ?_
            refine ru_top (y := (ru_lce t n i j)) (ru_lce_f (fun z => by first | omega | exact c_46 z.2.2)).symm ?_
            refine ru_ast hx hb V 2 rfl (by decide) (by omega) dX0_fillOnward_90 (fun H locs V => ?_)
            have V : ru_V D d A s s.heap H locs (ru_X d h a n t rd (va_up ow2 (i * 33 + j) (ru_lce t n i j)) bw we fo fd fr to st) := V
            refine lv_iinc (v := (ru_m1 j)) (lv' := [(2, .int (ru_m1 j)), (3, .int (nI 0)), (0, .ref h), (1, .int (nI i))]) hx hb dX0_fillOnward_91 hl (k := 3) rfl (ru_dec1 _) (by decide) rfl (fun ls hl => ?_)
            refine lv_goto (tgt := 14) hx hb dX0_fillOnward_94 (by decide) ?_
            exact ih_14 j (va_up ow2 (i * 33 + j) (ru_lce t n i j)) _ _ _ (by omega) ⟨by omega, fun x y h1 h2 h3 => by rw [ru_upn (by omega)]; exact hO2 x y h1 h2 h3, fun y h1 h2 => by by_cases e : y = j; (· rw [e, ru_ups]); (· rw [ru_upn (by omega)]; exact hO3 y (by omega) h2)⟩ (lv_sub hl [2, 3, 0] rfl) V
          · exact absurd c_66 (by omega)
        · refine lv_aload_n hx hb dX0_fillOnward_34 rfl (lv_at hl 0 rfl) ?_
          refine ru_get0 hx hb hts hown V 0 rfl 1 (by decide) (hts _ q30) rfl dX0_fillOnward_35 ?_
          refine lv_iload_n hx hb dX0_fillOnward_38 rfl (lv_at hl 1 rfl) ?_
          refine ru_ald hx hb V 1 rfl (by decide) (by omega) dX0_fillOnward_39 ?_
          refine lv_aload_n hx hb dX0_fillOnward_40 rfl (lv_at hl 0 rfl) ?_
          refine ru_get0 hx hb hts hown V 0 rfl 1 (by decide) (hts _ q30) rfl dX0_fillOnward_41 ?_
          refine lv_iload_n hx hb dX0_fillOnward_44 rfl (lv_at hl 2 rfl) ?_
          refine ru_ald hx hb V 1 rfl (by decide) (by omega) dX0_fillOnward_45 ?_
          refine ru_icmp_ne (tgt := 53) hx hb dX0_fillOnward_46 (by decide) (by have := ht i; omega) (by have := ht j; omega) (fun c_46 => ?_) (fun c_46 => ?_)
          · refine lv_iconst (v := nI 0) hx hb dX0_fillOnward_53 (by decide) ?_
            refine lv_istore_n (lv' := [(3, .int (nI 0)), (0, .ref h), (1, .int (nI i)), (2, .int (nI j))]) hx hb dX0_fillOnward_54 rfl hl (by decide) rfl (fun ls hl => ?_)
            refine lv_aload_n hx hb dX0_fillOnward_55 rfl (lv_at hl 1 rfl) ?_
            refine ru_get0 hx hb hts hown V 0 rfl 3 (by decide) (hts _ q32) rfl dX0_fillOnward_56 ?_
            refine lv_iload_n hx hb dX0_fillOnward_59 rfl (lv_at hl 2 rfl) ?_
            refine lv_bipush (v := nI 33) hx hb dX0_fillOnward_60 (by decide) ?_
            refine ru_imul hx hb dX0_fillOnward_62 ?_
            refine lv_iload_n hx hb dX0_fillOnward_63 rfl (lv_at hl 3 rfl) ?_
            refine ru_iadd hx hb dX0_fillOnward_64 ?_
            refine lv_iload_n hx hb dX0_fillOnward_65 rfl (lv_at hl 0 rfl) ?_
            refine ru_if_eq (tgt := 89) hx hb dX0_fillOnward_66 (by decide) (by omega) (fun c_66 => ?_) (fun c_66 => ?_)
            · refine lv_iconst (v := nI 0) hx hb dX0_fillOnward_89 (by decide) ?_
              refine ru_top (y := (ru_lce t n i j)) (ru_lce_f (fun z => by first | omega | exact c_46 z.2.2)).symm ?_
              refine ru_ast hx hb V 2 rfl (by decide) (by omega) dX0_fillOnward_90 (fun H locs V => ?_)
              have V : ru_V D d A s s.heap H locs (ru_X d h a n t rd (va_up ow2 (i * 33 + j) (ru_lce t n i j)) bw we fo fd fr to st) := V
              refine lv_iinc (v := (ru_m1 j)) (lv' := [(2, .int (ru_m1 j)), (3, .int (nI 0)), (0, .ref h), (1, .int (nI i))]) hx hb dX0_fillOnward_91 hl (k := 3) rfl (ru_dec1 _) (by decide) rfl (fun ls hl => ?_)
              refine lv_goto (tgt := 14) hx hb dX0_fillOnward_94 (by decide) ?_
              exact ih_14 j (va_up ow2 (i * 33 + j) (ru_lce t n i j)) _ _ _ (by omega) ⟨by omega, fun x y h1 h2 h3 => by rw [ru_upn (by omega)]; exact hO2 x y h1 h2 h3, fun y h1 h2 => by by_cases e : y = j; (· rw [e, ru_ups]); (· rw [ru_upn (by omega)]; exact hO3 y (by omega) h2)⟩ (lv_sub hl [2, 3, 0] rfl) V
            · exact absurd c_66 (by omega)
          · refine lv_iconst (v := nI 1) hx hb dX0_fillOnward_49 (by decide) ?_
            refine lv_goto (tgt := 54) hx hb dX0_fillOnward_50 (by decide) ?_
            refine lv_istore_n (lv' := [(3, .int (nI 1)), (0, .ref h), (1, .int (nI i)), (2, .int (nI j))]) hx hb dX0_fillOnward_54 rfl hl (by decide) rfl (fun ls hl => ?_)
            refine lv_aload_n hx hb dX0_fillOnward_55 rfl (lv_at hl 1 rfl) ?_
            refine ru_get0 hx hb hts hown V 0 rfl 3 (by decide) (hts _ q32) rfl dX0_fillOnward_56 ?_
            refine lv_iload_n hx hb dX0_fillOnward_59 rfl (lv_at hl 2 rfl) ?_
            refine lv_bipush (v := nI 33) hx hb dX0_fillOnward_60 (by decide) ?_
            refine ru_imul hx hb dX0_fillOnward_62 ?_
            refine lv_iload_n hx hb dX0_fillOnward_63 rfl (lv_at hl 3 rfl) ?_
            refine ru_iadd hx hb dX0_fillOnward_64 ?_
            refine lv_iload_n hx hb dX0_fillOnward_65 rfl (lv_at hl 0 rfl) ?_
            refine ru_if_eq (tgt := 89) hx hb dX0_fillOnward_66 (by decide) (by omega) (fun c_66 => ?_) (fun c_66 => ?_)
            · exact absurd c_66 (by omega)
            · refine lv_aload_n hx hb dX0_fillOnward_69 rfl (lv_at hl 1 rfl) ?_
              refine ru_get0 hx hb hts hown V 0 rfl 3 (by decide) (hts _ q32) rfl dX0_fillOnward_70 ?_
              refine lv_iload_n hx hb dX0_fillOnward_73 rfl (lv_at hl 2 rfl) ?_
              refine lv_iconst (v := nI 1) hx hb dX0_fillOnward_74 (by decide) ?_
              refine ru_iadd hx hb dX0_fillOnward_75 ?_
              refine lv_bipush (v := nI 33) hx hb dX0_fillOnward_76 (by decide) ?_
              refine ru_imul hx hb dX0_fillOnward_78 ?_
              refine lv_iload_n hx hb dX0_fillOnward_79 rfl (lv_at hl 3 rfl) ?_
              refine ru_iadd hx hb dX0_fillOnward_80 ?_
              refine lv_iconst (v := nI 1) hx hb dX0_fillOnward_81 (by decide) ?_
              refine ru_iadd hx hb dX0_fillOnward_82 ?_
              refine ru_ald hx hb V 2 rfl (by decide) (by omega) dX0_fillOnward_83 ?_
              refine ru_top (y := (ru_lce t n (i + 1) (j + 1))) (hO2 (i + 1) (j + 1) (by omega) (by omega) (by omega)) ?_
              refine lv_iconst (v := nI 1) hx hb dX0_fillOnward_84 (by decide) ?_
              refine ru_iadd hx hb dX0_fillOnward_85 ?_
              refine ru_top (y := (ru_lce t n i j)) (ru_lce_t (by omega) (by omega) c_46).symm ?_
              refine lv_goto (tgt := 90) hx hb dX0_fillOnward_86 (by decide) ?_
              refine ru_ast hx hb V 2 rfl (by decide) (by omega) dX0_fillOnward_90 (fun H locs V => ?_)
              have V : ru_V D d A s s.heap H locs (ru_X d h a n t rd (va_up ow2 (i * 33 + j) (ru_lce t n i j)) bw we fo fd fr to st) := V
              refine lv_iinc (v := (ru_m1 j)) (lv' := [(2, .int (ru_m1 j)), (3, .int (nI 1)), (0, .ref h), (1, .int (nI i))]) hx hb dX0_fillOnward_91 hl (k := 3) rfl (ru_dec1 _) (by decide) rfl (fun ls hl => ?_)
              refine lv_goto (tgt := 14) hx hb dX0_fillOnward_94 (by decide) ?_
              exact ih_14 j (va_up ow2 (i * 33 + j) (ru_lce t n i j)) _ _ _ (by omega) ⟨by omega, fun x y h1 h2 h3 => by rw [ru_upn (by omega)]; exact hO2 x y h1 h2 h3, fun y h1 h2 => by by_cases e : y = j; (· rw [e, ru_ups]); (· rw [ru_upn (by omega)]; exact hO3 y (by omega) h2)⟩ (lv_sub hl [2, 3, 0] rfl) V

set_option maxHeartbeats 4000000 in
set_option maxRecDepth 100000 in
theorem met_X0_fillBackward (l : Launch) (D : va_G) (d : ClassId) (h : Nat) (a : Nat → Nat) (n : Nat) (t : Nat → Nat) (rd : Nat) (ow bw we fo : Nat → Nat) (fd : Nat) (fr to st : Nat → Nat) (hn : n ≤ 32) (ht : ∀ k, t k < 4) : ru_MV l yX0_fillBackward cX0_fillBackward 4 (ru_R 0 0) D d [.ref h] (ru_X d h a n t rd ow bw we fo fd fr to st) (fun u : Nat → Nat => ru_Bw t n u) (fun u => ru_X d h a n t rd ow u we fo fd fr to st) := by
  refine ru_MV.of (by decide) (Nat.le_of_ble_eq_true rfl) ?_
  intro pr ev s mi below me co A ls hx hb hr hlocks S0 hl V
  have hts := S0.2.2.2.2
  have hown := S0.2.2.2.1
  have hl : lv_has ls 4 [(0, .ref h)] := hl
  refine lv_iconst (v := nI 0) hx hb dX0_fillBackward_0 (by decide) ?_
  refine lv_istore_n (lv' := [(1, .int (nI 0)), (0, .ref h)]) hx hb dX0_fillBackward_1 rfl hl (by decide) rfl (fun ls hl => ?_)
  refine ru_loop2 (nL := 4) (head := 2) (fun (i : Nat) (bw1 : Nat → Nat) => [(0, .ref h), (1, .int (nI i))]) (fun (i : Nat) (bw1 : Nat → Nat) => ru_X d h a n t rd ow bw1 we fo fd fr to st) (fun (i : Nat) (bw1 : Nat → Nat) => i ≤ n ∧ ∀ x y, x < i → y < n → bw1 (x * 33 + y) = ru_lcb t x y) (fun (i : Nat) (bw1 : Nat → Nat) => 40 - i) ?_ 0 bw _ _ _ ⟨by omega, fun x y h1 h2 => by omega⟩ (lv_sub hl [1, 0] rfl) V
  intro i bw1 H locs ls hP_2 hl V ih_2
  have hl : lv_has ls 4 [(0, .ref h), (1, .int (nI i))] := hl
  have V : ru_V D d A s s.heap H locs (ru_X d h a n t rd ow bw1 we fo fd fr to st) := V
  obtain ⟨hi, hB⟩ := hP_2
  refine lv_iload_n hx hb dX0_fillBackward_2 rfl (lv_at hl 1 rfl) ?_
  refine lv_aload_n hx hb dX0_fillBackward_3 rfl (lv_at hl 0 rfl) ?_
  refine ru_get0 hx hb hts hown V 0 rfl 0 (by decide) (hts _ q29) rfl dX0_fillBackward_4 ?_
  refine ru_icmp_ge (tgt := 93) hx hb dX0_fillBackward_7 (by decide) (by omega) (by omega) (fun c_7 => ?_) (fun c_7 => ?_)
  · exact ru_vret hx hb hr hlocks bw1 V (fun x y h1 h2 => hB x y (by omega) h2) dX0_fillBackward_93
  · refine lv_iconst (v := nI 0) hx hb dX0_fillBackward_10 (by decide) ?_
    refine lv_istore_n (lv' := [(2, .int (nI 0)), (0, .ref h), (1, .int (nI i))]) hx hb dX0_fillBackward_11 rfl hl (by decide) rfl (fun ls hl => ?_)
    refine ru_loop2 (nL := 4) (head := 12) (fun (j : Nat) (bw2 : Nat → Nat) => [(0, .ref h), (1, .int (nI i)), (2, .int (nI j))]) (fun (j : Nat) (bw2 : Nat → Nat) => ru_X d h a n t rd ow bw2 we fo fd fr to st) (fun (j : Nat) (bw2 : Nat → Nat) => j ≤ n ∧ (∀ x y, x < i → y < n → bw2 (x * 33 + y) = ru_lcb t x y) ∧ ∀ y, y < j → bw2 (i * 33 + y) = ru_lcb t i y) (fun (j : Nat) (bw2 : Nat → Nat) => 40 - j) ?_ 0 bw1 _ _ _ ⟨by omega, hB, fun y h1 => by omega⟩ (lv_sub hl [1, 2, 0] rfl) V
    intro j bw2 H locs ls hP_12 hl V ih_12
    have hl : lv_has ls 4 [(0, .ref h), (1, .int (nI i)), (2, .int (nI j))] := hl
    have V : ru_V D d A s s.heap H locs (ru_X d h a n t rd ow bw2 we fo fd fr to st) := V
    obtain ⟨hj, hB2, hB3⟩ := hP_12
    refine lv_iload_n hx hb dX0_fillBackward_12 rfl (lv_at hl 2 rfl) ?_
    refine lv_aload_n hx hb dX0_fillBackward_13 rfl (lv_at hl 0 rfl) ?_
    refine ru_get0 hx hb hts hown V 0 rfl 0 (by decide) (hts _ q29) rfl dX0_fillBackward_14 ?_
    refine ru_icmp_ge (tgt := 87) hx hb dX0_fillBackward_17 (by decide) (by omega) (by omega) (fun c_17 => ?_) (fun c_17 => ?_)
    · refine lv_iinc (v := nI (i + 1)) (lv' := [(1, .int (nI (i + 1))), (0, .ref h), (2, .int (nI j))]) hx hb dX0_fillBackward_87 hl (k := 1) rfl (ru_inc _) (by decide) rfl (fun ls hl => ?_)
      refine lv_goto (tgt := 2) hx hb dX0_fillBackward_90 (by decide) ?_
      exact ih_2 (i + 1) bw2 _ _ _ (by omega) ⟨by omega, fun x y h1 h2 => by by_cases e : x = i; (· rw [e]; exact hB3 y (by omega)); (· exact hB2 x y (by omega) h2)⟩ (lv_sub hl [1, 0] rfl) V
    · refine lv_iload_n hx hb dX0_fillBackward_20 rfl (lv_at hl 1 rfl) ?_
      refine ru_if_le (tgt := 46) hx hb dX0_fillBackward_21 (by decide) (by omega) (fun c_21 => ?_) (fun c_21 => ?_)
      · refine lv_iconst (v := nI 0) hx hb dX0_fillBackward_46 (by decide) ?_
        refine lv_istore_n (lv' := [(3, .int (nI 0)), (0, .ref h), (1, .int (nI i)), (2, .int (nI j))]) hx hb dX0_fillBackward_47 rfl hl (by decide) rfl (fun ls hl => ?_)
        refine lv_aload_n hx hb dX0_fillBackward_48 rfl (lv_at hl 1 rfl) ?_
        refine ru_get0 hx hb hts hown V 0 rfl 4 (by decide) (hts _ q33) rfl dX0_fillBackward_49 ?_
        refine lv_iload_n hx hb dX0_fillBackward_52 rfl (lv_at hl 2 rfl) ?_
        refine lv_bipush (v := nI 33) hx hb dX0_fillBackward_53 (by decide) ?_
        refine ru_imul hx hb dX0_fillBackward_55 ?_
        refine lv_iload_n hx hb dX0_fillBackward_56 rfl (lv_at hl 3 rfl) ?_
        refine ru_iadd hx hb dX0_fillBackward_57 ?_
        refine lv_aload_n hx hb dX0_fillBackward_58 rfl (lv_at hl 1 rfl) ?_
        refine ru_get0 hx hb hts hown V 0 rfl 1 (by decide) (hts _ q30) rfl dX0_fillBackward_59 ?_
        refine lv_iload_n hx hb dX0_fillBackward_62 rfl (lv_at hl 2 rfl) ?_
        refine ru_ald hx hb V 1 rfl (by decide) (by omega) dX0_fillBackward_63 ?_
        refine lv_aload_n hx hb dX0_fillBackward_64 rfl (lv_at hl 1 rfl) ?_
        refine ru_get0 hx hb hts hown V 0 rfl 1 (by decide) (hts _ q30) rfl dX0_fillBackward_65 ?_
        refine lv_iload_n hx hb dX0_fillBackward_68 rfl (lv_at hl 3 rfl) ?_
        refine ru_ald hx hb V 1 rfl (by decide) (by omega) dX0_fillBackward_69 ?_
        refine ru_icmp_ne (tgt := 79) hx hb dX0_fillBackward_70 (by decide) (by have := ht i; omega) (by have := ht j; omega) (fun c_70 => ?_) (fun c_70 => ?_)
        · refine lv_iconst (v := nI 0) hx hb dX0_fillBackward_79 (by decide) ?_
          refine ru_top (y := (ru_lcb t i j)) (ru_lcb_f c_70).symm ?_
          refine ru_ast hx hb V 3 rfl (by decide) (by omega) dX0_fillBackward_80 (fun H locs V => ?_)
          have V : ru_V D d A s s.heap H locs (ru_X d h a n t rd ow (va_up bw2 (i * 33 + j) (ru_lcb t i j)) we fo fd fr to st) := V
          refine lv_iinc (v := nI (j + 1)) (lv' := [(2, .int (nI (j + 1))), (3, .int (nI 0)), (0, .ref h), (1, .int (nI i))]) hx hb dX0_fillBackward_81 hl (k := 3) rfl (ru_inc _) (by decide) rfl (fun ls hl => ?_)
          refine lv_goto (tgt := 12) hx hb dX0_fillBackward_84 (by decide) ?_
          exact ih_12 (j + 1) (va_up bw2 (i * 33 + j) (ru_lcb t i j)) _ _ _ (by omega) ⟨by omega, fun x y h1 h2 => by rw [ru_upn (by omega)]; exact hB2 x y h1 h2, fun y h1 => by by_cases e : y = j; (· rw [e, ru_ups]); (· rw [ru_upn (by omega)]; exact hB3 y (by omega))⟩ (lv_sub hl [2, 3, 0] rfl) V
        · refine lv_iload_n hx hb dX0_fillBackward_73 rfl (lv_at hl 0 rfl) ?_
          refine lv_iconst (v := nI 1) hx hb dX0_fillBackward_74 (by decide) ?_
          refine ru_iadd hx hb dX0_fillBackward_75 ?_
          refine ru_top (y := (ru_lcb t i j)) (by first | exact (ru_lcb_p c_21 c_25 c_70).symm | exact (ru_lcb_0 c_70 (by omega)).symm) ?_
          refine lv_goto (tgt := 80) hx hb dX0_fillBackward_76 (by decide) ?_
          refine ru_ast hx hb V 3 rfl (by decide) (by omega) dX0_fillBackward_80 (fun H locs V => ?_)
          have V : ru_V D d A s s.heap H locs (ru_X d h a n t rd ow (va_up bw2 (i * 33 + j) (ru_lcb t i j)) we fo fd fr to st) := V
          refine lv_iinc (v := nI (j + 1)) (lv' := [(2, .int (nI (j + 1))), (3, .int (nI 0)), (0, .ref h), (1, .int (nI i))]) hx hb dX0_fillBackward_81 hl (k := 3) rfl (ru_inc _) (by decide) rfl (fun ls hl => ?_)
          refine lv_goto (tgt := 12) hx hb dX0_fillBackward_84 (by decide) ?_
          exact ih_12 (j + 1) (va_up bw2 (i * 33 + j) (ru_lcb t i j)) _ _ _ (by omega) ⟨by omega, fun x y h1 h2 => by rw [ru_upn (by omega)]; exact hB2 x y h1 h2, fun y h1 => by by_cases e : y = j; (· rw [e, ru_ups]); (· rw [ru_upn (by omega)]; exact hB3 y (by omega))⟩ (lv_sub hl [2, 3, 0] rfl) V
      · refine lv_iload_n hx hb dX0_fillBackward_24 rfl (lv_at hl 2 rfl) ?_
        refine ru_if_le (tgt := 46) hx hb dX0_fillBackward_25 (by decide) (by omega) (fun c_25 => ?_) (fun c_25 => ?_)
        · refine lv_iconst (v := nI 0) hx hb dX0_fillBackward_46 (by decide) ?_
          refine lv_istore_n (lv' := [(3, .int (nI 0)), (0, .ref h), (1, .int (nI i)), (2, .int (nI j))]) hx hb dX0_fillBackward_47 rfl hl (by decide) rfl (fun ls hl => ?_)
          refine lv_aload_n hx hb dX0_fillBackward_48 rfl (lv_at hl 1 rfl) ?_
          refine ru_get0 hx hb hts hown V 0 rfl 4 (by decide) (hts _ q33) rfl dX0_fillBackward_49 ?_
          refine lv_iload_n hx hb dX0_fillBackward_52 rfl (lv_at hl 2 rfl) ?_
          refine lv_bipush (v := nI 33) hx hb dX0_fillBackward_53 (by decide) ?_
          refine ru_imul hx hb dX0_fillBackward_55 ?_
          refine lv_iload_n hx hb dX0_fillBackward_56 rfl (lv_at hl 3 rfl) ?_
          refine ru_iadd hx hb dX0_fillBackward_57 ?_
          refine lv_aload_n hx hb dX0_fillBackward_58 rfl (lv_at hl 1 rfl) ?_
          refine ru_get0 hx hb hts hown V 0 rfl 1 (by decide) (hts _ q30) rfl dX0_fillBackward_59 ?_
          refine lv_iload_n hx hb dX0_fillBackward_62 rfl (lv_at hl 2 rfl) ?_
          refine ru_ald hx hb V 1 rfl (by decide) (by omega) dX0_fillBackward_63 ?_
          refine lv_aload_n hx hb dX0_fillBackward_64 rfl (lv_at hl 1 rfl) ?_
          refine ru_get0 hx hb hts hown V 0 rfl 1 (by decide) (hts _ q30) rfl dX0_fillBackward_65 ?_
          refine lv_iload_n hx hb dX0_fillBackward_68 rfl (lv_at hl 3 rfl) ?_
          refine ru_ald hx hb V 1 rfl (by decide) (by omega) dX0_fillBackward_69 ?_
          refine ru_icmp_ne (tgt := 79) hx hb dX0_fillBackward_70 (by decide) (by have := ht i; omega) (by have := ht j; omega) (fun c_70 => ?_) (fun c_70 => ?_)
          · refine lv_iconst (v := nI 0) hx hb dX0_fillBackward_79 (by decide) ?_
            refine ru_top (y := (ru_lcb t i j)) (ru_lcb_f c_70).symm ?_
            refine ru_ast hx hb V 3 rfl (by decide) (by omega) dX0_fillBackward_80 (fun H locs V => ?_)
            have V : ru_V D d A s s.heap H locs (ru_X d h a n t rd ow (va_up bw2 (i * 33 + j) (ru_lcb t i j)) we fo fd fr to st) := V
            refine lv_iinc (v := nI (j + 1)) (lv' := [(2, .int (nI (j + 1))), (3, .int (nI 0)), (0, .ref h), (1, .int (nI i))]) hx hb dX0_fillBackward_81 hl (k := 3) rfl (ru_inc _) (by decide) rfl (fun ls hl => ?_)
            refine lv_goto (tgt := 12) hx hb dX0_fillBackward_84 (by decide) ?_
            exact ih_12 (j + 1) (va_up bw2 (i * 33 + j) (ru_lcb t i j)) _ _ _ (by omega) ⟨by omega, fun x y h1 h2 => by rw [ru_upn (by omega)]; exact hB2 x y h1 h2, fun y h1 => by by_cases e : y = j; (· rw [e, ru_ups]); (· rw [ru_upn (by omega)]; exact hB3 y (by omega))⟩ (lv_sub hl [2, 3, 0] rfl) V
          · refine lv_iload_n hx hb dX0_fillBackward_73 rfl (lv_at hl 0 rfl) ?_
            refine lv_iconst (v := nI 1) hx hb dX0_fillBackward_74 (by decide) ?_
            refine ru_iadd hx hb dX0_fillBackward_75 ?_
            refine ru_top (y := (ru_lcb t i j)) (by first | exact (ru_lcb_p c_21 c_25 c_70).symm | exact (ru_lcb_0 c_70 (by omega)).symm) ?_
            refine lv_goto (tgt := 80) hx hb dX0_fillBackward_76 (by decide) ?_
            refine ru_ast hx hb V 3 rfl (by decide) (by omega) dX0_fillBackward_80 (fun H locs V => ?_)
            have V : ru_V D d A s s.heap H locs (ru_X d h a n t rd ow (va_up bw2 (i * 33 + j) (ru_lcb t i j)) we fo fd fr to st) := V
            refine lv_iinc (v := nI (j + 1)) (lv' := [(2, .int (nI (j + 1))), (3, .int (nI 0)), (0, .ref h), (1, .int (nI i))]) hx hb dX0_fillBackward_81 hl (k := 3) rfl (ru_inc _) (by decide) rfl (fun ls hl => ?_)
            refine lv_goto (tgt := 12) hx hb dX0_fillBackward_84 (by decide) ?_
            exact ih_12 (j + 1) (va_up bw2 (i * 33 + j) (ru_lcb t i j)) _ _ _ (by omega) ⟨by omega, fun x y h1 h2 => by rw [ru_upn (by omega)]; exact hB2 x y h1 h2, fun y h1 => by by_cases e : y = j; (· rw [e, ru_ups]); (· rw [ru_upn (by omega)]; exact hB3 y (by omega))⟩ (lv_sub hl [2, 3, 0] rfl) V
        · refine lv_aload_n hx hb dX0_fillBackward_28 rfl (lv_at hl 0 rfl) ?_
          refine ru_get0 hx hb hts hown V 0 rfl 4 (by decide) (hts _ q33) rfl dX0_fillBackward_29 ?_
          refine lv_iload_n hx hb dX0_fillBackward_32 rfl (lv_at hl 1 rfl) ?_
          refine lv_iconst (v := nI 1) hx hb dX0_fillBackward_33 (by decide) ?_
          refine ru_isub hx hb (by omega) dX0_fillBackward_34 ?_
          refine lv_bipush (v := nI 33) hx hb dX0_fillBackward_35 (by decide) ?_
          refine ru_imul hx hb dX0_fillBackward_37 ?_
          refine lv_iload_n hx hb dX0_fillBackward_38 rfl (lv_at hl 2 rfl) ?_
          refine ru_iadd hx hb dX0_fillBackward_39 ?_
          refine lv_iconst (v := nI 1) hx hb dX0_fillBackward_40 (by decide) ?_
          refine ru_isub hx hb (by omega) dX0_fillBackward_41 ?_
          refine ru_ald hx hb V 3 rfl (by decide) (by omega) dX0_fillBackward_42 ?_
          refine ru_top (y := (ru_lcb t (i - 1) (j - 1))) (by rw [show (i - 1) * 33 + j - 1 = (i - 1) * 33 + (j - 1) by omega]; exact hB2 _ _ (by omega) (by omega)) ?_
          refine lv_goto (tgt := 47) hx hb dX0_fillBackward_43 (by decide) ?_
          refine lv_istore_n (lv' := [(3, .int (nI (ru_lcb t (i - 1) (j - 1)))), (0, .ref h), (1, .int (nI i)), (2, .int (nI j))]) hx hb dX0_fillBackward_47 rfl hl (by decide) rfl (fun ls hl => ?_)
          refine lv_aload_n hx hb dX0_fillBackward_48 rfl (lv_at hl 1 rfl) ?_
          refine ru_get0 hx hb hts hown V 0 rfl 4 (by decide) (hts _ q33) rfl dX0_fillBackward_49 ?_
          refine lv_iload_n hx hb dX0_fillBackward_52 rfl (lv_at hl 2 rfl) ?_
          refine lv_bipush (v := nI 33) hx hb dX0_fillBackward_53 (by decide) ?_
          refine ru_imul hx hb dX0_fillBackward_55 ?_
          refine lv_iload_n hx hb dX0_fillBackward_56 rfl (lv_at hl 3 rfl) ?_
          refine ru_iadd hx hb dX0_fillBackward_57 ?_
          refine lv_aload_n hx hb dX0_fillBackward_58 rfl (lv_at hl 1 rfl) ?_
          refine ru_get0 hx hb hts hown V 0 rfl 1 (by decide) (hts _ q30) rfl dX0_fillBackward_59 ?_
          refine lv_iload_n hx hb dX0_fillBackward_62 rfl (lv_at hl 2 rfl) ?_
          refine ru_ald hx hb V 1 rfl (by decide) (by omega) dX0_fillBackward_63 ?_
          refine lv_aload_n hx hb dX0_fillBackward_64 rfl (lv_at hl 1 rfl) ?_
          refine ru_get0 hx hb hts hown V 0 rfl 1 (by decide) (hts _ q30) rfl dX0_fillBackward_65 ?_
          refine lv_iload_n hx hb dX0_fillBackward_68 rfl (lv_at hl 3 rfl) ?_
          refine ru_ald hx hb V 1 rfl (by decide) (by omega) dX0_fillBackward_69 ?_
          refine ru_icmp_ne (tgt := 79) hx hb dX0_fillBackward_70 (by decide) (by have := ht i; omega) (by have := ht j; omega) (fun c_70 => ?_) (fun c_70 => ?_)
          · refine lv_iconst (v := nI 0) hx hb dX0_fillBackward_79 (by decide) ?_
            refine ru_top (y := (ru_lcb t i j)) (ru_lcb_f c_70).symm ?_
            refine ru_ast hx hb V 3 rfl (by decide) (by omega) dX0_fillBackward_80 (fun H locs V => ?_)
            have V : ru_V D d A s s.heap H locs (ru_X d h a n t rd ow (va_up bw2 (i * 33 + j) (ru_lcb t i j)) we fo fd fr to st) := V
            refine lv_iinc (v := nI (j + 1)) (lv' := [(2, .int (nI (j + 1))), (3, .int (nI (ru_lcb t (i - 1) (j - 1)))), (0, .ref h), (1, .int (nI i))]) hx hb dX0_fillBackward_81 hl (k := 3) rfl (ru_inc _) (by decide) rfl (fun ls hl => ?_)
            refine lv_goto (tgt := 12) hx hb dX0_fillBackward_84 (by decide) ?_
            exact ih_12 (j + 1) (va_up bw2 (i * 33 + j) (ru_lcb t i j)) _ _ _ (by omega) ⟨by omega, fun x y h1 h2 => by rw [ru_upn (by omega)]; exact hB2 x y h1 h2, fun y h1 => by by_cases e : y = j; (· rw [e, ru_ups]); (· rw [ru_upn (by omega)]; exact hB3 y (by omega))⟩ (lv_sub hl [2, 3, 0] rfl) V
          · refine lv_iload_n hx hb dX0_fillBackward_73 rfl (lv_at hl 0 rfl) ?_
            refine lv_iconst (v := nI 1) hx hb dX0_fillBackward_74 (by decide) ?_
            refine ru_iadd hx hb dX0_fillBackward_75 ?_
            refine ru_top (y := (ru_lcb t i j)) (by first | exact (ru_lcb_p c_21 c_25 c_70).symm | exact (ru_lcb_0 c_70 (by omega)).symm) ?_
            refine lv_goto (tgt := 80) hx hb dX0_fillBackward_76 (by decide) ?_
            refine ru_ast hx hb V 3 rfl (by decide) (by omega) dX0_fillBackward_80 (fun H locs V => ?_)
            have V : ru_V D d A s s.heap H locs (ru_X d h a n t rd ow (va_up bw2 (i * 33 + j) (ru_lcb t i j)) we fo fd fr to st) := V
            refine lv_iinc (v := nI (j + 1)) (lv' := [(2, .int (nI (j + 1))), (3, .int (nI (ru_lcb t (i - 1) (j - 1)))), (0, .ref h), (1, .int (nI i))]) hx hb dX0_fillBackward_81 hl (k := 3) rfl (ru_inc _) (by decide) rfl (fun ls hl => ?_)
            refine lv_goto (tgt := 12) hx hb dX0_fillBackward_84 (by decide) ?_
            exact ih_12 (j + 1) (va_up bw2 (i * 33 + j) (ru_lcb t i j)) _ _ _ (by omega) ⟨by omega, fun x y h1 h2 => by rw [ru_upn (by omega)]; exact hB2 x y h1 h2, fun y h1 => by by_cases e : y = j; (· rw [e, ru_ups]); (· rw [ru_upn (by omega)]; exact hB3 y (by omega))⟩ (lv_sub hl [2, 3, 0] rfl) V

set_option maxHeartbeats 4000000 in
set_option maxRecDepth 100000 in
theorem met_X0_smallerFrom (l : Launch) (D : va_G) (d : ClassId) (h : Nat) (a : Nat → Nat) (n : Nat) (t : Nat → Nat) (rd : Nat) (ow bw we fo : Nat → Nat) (fd : Nat) (fr to st : Nat → Nat) (hn : n ≤ 32) (ht : ∀ k, t k < 4) (hO : ru_On t n ow) (i j o : Nat) (hi : i ≤ n) (hj : j ≤ n) (ho : o = 0 ∨ o = 1) : ru_MI l yX0_smallerFrom cX0_smallerFrom 5 (some .boolean) (ru_R 0 0) D d [.ref h, .int (nI i), .int (nI j), .int (nI o)] (ru_X d h a n t rd ow bw we fo fd fr to st) (fun (r : Int32) (_ : Unit) => (r = nI 1 ∧ ru_L (ru_sq o t n) i j) ∨ (r = nI 0 ∧ ¬ ru_L (ru_sq o t n) i j)) (fun _ : Unit => ru_X d h a n t rd ow bw we fo fd fr to st) := by
  refine ru_MI.of (by decide) (Nat.le_of_ble_eq_true rfl) ?_
  intro pr ev s mi below me co A ls hx hb hr hlocks S0 hl V
  have hts := S0.2.2.2.2
  have hown := S0.2.2.2.1
  have hl : lv_has ls 5 [(0, .ref h), (1, .int (nI i)), (2, .int (nI j)), (3, .int (nI o))] := hl
  obtain ⟨hle1, hle2⟩ := ru_lce_le (t := t) hi hj
  refine lv_aload_n hx hb dX0_smallerFrom_0 rfl (lv_at hl 0 rfl) ?_
  refine ru_get0 hx hb hts hown V 0 rfl 3 (by decide) (hts _ q32) rfl dX0_smallerFrom_1 ?_
  refine lv_iload_n hx hb dX0_smallerFrom_4 rfl (lv_at hl 1 rfl) ?_
  refine lv_bipush (v := nI 33) hx hb dX0_smallerFrom_5 (by decide) ?_
  refine ru_imul hx hb dX0_smallerFrom_7 ?_
  refine lv_iload_n hx hb dX0_smallerFrom_8 rfl (lv_at hl 2 rfl) ?_
  refine ru_iadd hx hb dX0_smallerFrom_9 ?_
  refine ru_ald hx hb V 2 rfl (by decide) (by omega) dX0_smallerFrom_10 ?_
  refine ru_top (y := (ru_lce t n i j)) (hO i j hi hj) ?_
  refine lv_istore (lv' := [(4, .int (nI (ru_lce t n i j))), (0, .ref h), (1, .int (nI i)), (2, .int (nI j)), (3, .int (nI o))]) hx hb dX0_smallerFrom_11 hl (by decide) rfl (fun ls hl => ?_)
  refine lv_iload_n hx hb dX0_smallerFrom_13 rfl (lv_at hl 3 rfl) ?_
  refine lv_iload hx hb dX0_smallerFrom_14 (lv_at hl 0 rfl) ?_
  refine ru_iadd hx hb dX0_smallerFrom_16 ?_
  refine lv_aload_n hx hb dX0_smallerFrom_17 rfl (lv_at hl 1 rfl) ?_
  refine ru_get0 hx hb hts hown V 0 rfl 0 (by decide) (hts _ q29) rfl dX0_smallerFrom_18 ?_
  refine ru_icmp_lt (tgt := 26) hx hb dX0_smallerFrom_21 (by decide) (by omega) (by omega) (fun c_21 => ?_) (fun c_21 => ?_)
  · refine lv_iload_n hx hb dX0_smallerFrom_26 rfl (lv_at hl 2 rfl) ?_
    refine lv_iload hx hb dX0_smallerFrom_27 (lv_at hl 0 rfl) ?_
    refine ru_iadd hx hb dX0_smallerFrom_29 ?_
    refine lv_aload_n hx hb dX0_smallerFrom_30 rfl (lv_at hl 1 rfl) ?_
    refine ru_get0 hx hb hts hown V 0 rfl 0 (by decide) (hts _ q29) rfl dX0_smallerFrom_31 ?_
    refine ru_icmp_lt (tgt := 39) hx hb dX0_smallerFrom_34 (by decide) (by omega) (by omega) (fun c_34 => ?_) (fun c_34 => ?_)
    · refine lv_iload_n hx hb dX0_smallerFrom_39 rfl (lv_at hl 4 rfl) ?_
      refine ru_if_eq (tgt := 72) hx hb dX0_smallerFrom_40 (by decide) (by omega) (fun c_40 => ?_) (fun c_40 => ?_)
      · refine lv_aload_n hx hb dX0_smallerFrom_72 rfl (lv_at hl 1 rfl) ?_
        refine ru_get0 hx hb hts hown V 0 rfl 1 (by decide) (hts _ q30) rfl dX0_smallerFrom_73 ?_
        refine lv_iload_n hx hb dX0_smallerFrom_76 rfl (lv_at hl 2 rfl) ?_
        refine lv_iload hx hb dX0_smallerFrom_77 (lv_at hl 0 rfl) ?_
        refine ru_iadd hx hb dX0_smallerFrom_79 ?_
        refine ru_ald hx hb V 1 rfl (by decide) (by omega) dX0_smallerFrom_80 ?_
        refine lv_aload_n hx hb dX0_smallerFrom_81 rfl (lv_at hl 1 rfl) ?_
        refine ru_get0 hx hb hts hown V 0 rfl 1 (by decide) (hts _ q30) rfl dX0_smallerFrom_82 ?_
        refine lv_iload_n hx hb dX0_smallerFrom_85 rfl (lv_at hl 3 rfl) ?_
        refine lv_iload hx hb dX0_smallerFrom_86 (lv_at hl 0 rfl) ?_
        refine ru_iadd hx hb dX0_smallerFrom_88 ?_
        refine ru_ald hx hb V 1 rfl (by decide) (by omega) dX0_smallerFrom_89 ?_
        refine ru_icmp_ge (tgt := 97) hx hb dX0_smallerFrom_90 (by decide) (by have := ht (i + (ru_lce t n i j)); omega) (by have := ht (j + (ru_lce t n i j)); omega) (fun c_90 => ?_) (fun c_90 => ?_)
        · refine lv_iconst (v := nI 0) hx hb dX0_smallerFrom_97 (by decide) ?_
          exact ru_zret (v := 0) hx hb hr hlocks () V (by omega) (Or.inr ⟨rfl, by first | (rw [show o = 1 by omega, ru_sf1 ht hi hj c_21 c_34]; omega) | (rw [c_40, ru_sf0 ht hi hj c_21 c_34]; omega)⟩) dX0_smallerFrom_98
        · refine lv_iconst (v := nI 1) hx hb dX0_smallerFrom_93 (by decide) ?_
          refine lv_goto (tgt := 98) hx hb dX0_smallerFrom_94 (by decide) ?_
          exact ru_zret (v := 1) hx hb hr hlocks () V (by omega) (Or.inl ⟨rfl, by first | (rw [show o = 1 by omega, ru_sf1 ht hi hj c_21 c_34]; omega) | (rw [c_40, ru_sf0 ht hi hj c_21 c_34]; omega)⟩) dX0_smallerFrom_98
      · refine lv_aload_n hx hb dX0_smallerFrom_43 rfl (lv_at hl 1 rfl) ?_
        refine ru_get0 hx hb hts hown V 0 rfl 1 (by decide) (hts _ q30) rfl dX0_smallerFrom_44 ?_
        refine lv_iload_n hx hb dX0_smallerFrom_47 rfl (lv_at hl 2 rfl) ?_
        refine lv_iload hx hb dX0_smallerFrom_48 (lv_at hl 0 rfl) ?_
        refine ru_iadd hx hb dX0_smallerFrom_50 ?_
        refine ru_ald hx hb V 1 rfl (by decide) (by omega) dX0_smallerFrom_51 ?_
        refine lv_aload_n hx hb dX0_smallerFrom_52 rfl (lv_at hl 1 rfl) ?_
        refine ru_get0 hx hb hts hown V 0 rfl 1 (by decide) (hts _ q30) rfl dX0_smallerFrom_53 ?_
        refine lv_iload_n hx hb dX0_smallerFrom_56 rfl (lv_at hl 3 rfl) ?_
        refine lv_iload hx hb dX0_smallerFrom_57 (lv_at hl 0 rfl) ?_
        refine ru_iadd hx hb dX0_smallerFrom_59 ?_
        refine ru_ald hx hb V 1 rfl (by decide) (by omega) dX0_smallerFrom_60 ?_
        refine ru_icmp_le (tgt := 68) hx hb dX0_smallerFrom_61 (by decide) (by have := ht (i + (ru_lce t n i j)); omega) (by have := ht (j + (ru_lce t n i j)); omega) (fun c_61 => ?_) (fun c_61 => ?_)
        · refine lv_iconst (v := nI 0) hx hb dX0_smallerFrom_68 (by decide) ?_
          refine lv_goto (tgt := 98) hx hb dX0_smallerFrom_69 (by decide) ?_
          exact ru_zret (v := 0) hx hb hr hlocks () V (by omega) (Or.inr ⟨rfl, by first | (rw [show o = 1 by omega, ru_sf1 ht hi hj c_21 c_34]; omega) | (rw [c_40, ru_sf0 ht hi hj c_21 c_34]; omega)⟩) dX0_smallerFrom_98
        · refine lv_iconst (v := nI 1) hx hb dX0_smallerFrom_64 (by decide) ?_
          refine lv_goto (tgt := 98) hx hb dX0_smallerFrom_65 (by decide) ?_
          exact ru_zret (v := 1) hx hb hr hlocks () V (by omega) (Or.inl ⟨rfl, by first | (rw [show o = 1 by omega, ru_sf1 ht hi hj c_21 c_34]; omega) | (rw [c_40, ru_sf0 ht hi hj c_21 c_34]; omega)⟩) dX0_smallerFrom_98
    · refine lv_iconst (v := nI 1) hx hb dX0_smallerFrom_37 (by decide) ?_
      exact ru_zret (v := 1) hx hb hr hlocks () V (by omega) (Or.inl ⟨rfl, ru_sf_end ht hi hj c_21 c_34⟩) dX0_smallerFrom_38
  · refine lv_iconst (v := nI 0) hx hb dX0_smallerFrom_24 (by decide) ?_
    exact ru_zret (v := 0) hx hb hr hlocks () V (by omega) (Or.inr ⟨rfl, ru_sf_no ht hi hj c_21⟩) dX0_smallerFrom_25

set_option maxHeartbeats 4000000 in
set_option maxRecDepth 100000 in
theorem met_X0_findWords (l : Launch) (D : va_G) (d : ClassId) (h : Nat) (a : Nat → Nat) (n : Nat) (t : Nat → Nat) (rd : Nat) (ow bw we fo : Nat → Nat) (fd : Nat) (fr to st : Nat → Nat) (hn : n ≤ 32) (ht : ∀ k, t k < 4) (hO : ru_On t n ow) (o : Nat) (ho : o = 0 ∨ o = 1) : ru_MV l yX0_findWords cX0_findWords 4 (ru_R 1 24) D d [.ref h, .int (nI o)] (ru_X d h a n t rd ow bw we fo fd fr to st) (fun u : Nat → Nat => ru_We t n o u) (fun u => ru_X d h a n t rd ow bw u fo fd fr to st) := by
  refine ru_MV.of (by decide) (Nat.le_of_ble_eq_true rfl) ?_
  intro pr ev s mi below me co A ls hx hb hr hlocks S0 hl V
  have hts := S0.2.2.2.2
  have hown := S0.2.2.2.1
  have hl : lv_has ls 4 [(0, .ref h), (1, .int (nI o))] := hl
  refine lv_aload_n hx hb dX0_findWords_0 rfl (lv_at hl 0 rfl) ?_
  refine ru_get0 hx hb hts hown V 0 rfl 0 (by decide) (hts _ q29) rfl dX0_findWords_1 ?_
  refine lv_iconst (v := nI 1) hx hb dX0_findWords_4 (by decide) ?_
  refine lv_isub hx hb dX0_findWords_5 ?_
  refine ru_topr (y := (ru_m1 n)) (ru_sub1 n) ?_
  refine lv_istore_n (lv' := [(2, .int (ru_m1 n)), (0, .ref h), (1, .int (nI o))]) hx hb dX0_findWords_6 rfl hl (by decide) rfl (fun ls hl => ?_)
  refine ru_loop2 (nL := 4) (head := 7) (fun (k : Nat) (we1 : Nat → Nat) => [(0, .ref h), (1, .int (nI o)), (2, .int (ru_m1 k))]) (fun (k : Nat) (we1 : Nat → Nat) => ru_X d h a n t rd ow bw we1 fo fd fr to st) (fun (k : Nat) (we1 : Nat → Nat) => k ≤ n ∧ ∀ x, k ≤ x → x < n → ru_N (ru_sq o t n) n x (we1 x)) (fun (k : Nat) (we1 : Nat → Nat) => k) ?_ n we _ _ _ ⟨by omega, fun x h1 h2 => by omega⟩ (lv_sub hl [1, 2, 0] rfl) V
  intro k we1 H locs ls hP_7 hl V ih_7
  have hl : lv_has ls 4 [(0, .ref h), (1, .int (nI o)), (2, .int (ru_m1 k))] := hl
  have V : ru_V D d A s s.heap H locs (ru_X d h a n t rd ow bw we1 fo fd fr to st) := V
  rcases k with _ | i
  · have hl : lv_has ls 4 [(0, .ref h), (1, .int (nI o)), (2, .int (-1))] := hl
    obtain ⟨hk, hW⟩ := hP_7
    refine lv_iload_n hx hb dX0_findWords_7 rfl (lv_at hl 2 rfl) ?_
    refine lv_if_lt (tgt := 56) hx hb dX0_findWords_8 (by decide) (fun c_8 => ?_) (fun c_8 => ?_)
    · exact ru_vret hx hb hr hlocks we1 V (fun x h1 => hW x (by omega) h1) dX0_findWords_56
    · exact absurd c_8 (by decide)
  · have hl : lv_has ls 4 [(0, .ref h), (1, .int (nI o)), (2, .int (nI i))] := hl
    obtain ⟨hk, hW⟩ := hP_7
    refine lv_iload_n hx hb dX0_findWords_7 rfl (lv_at hl 2 rfl) ?_
    refine ru_if_lt (tgt := 56) hx hb dX0_findWords_8 (by decide) (by omega) ?_
    refine lv_iload_n hx hb dX0_findWords_11 rfl (lv_at hl 2 rfl) ?_
    refine lv_iconst (v := nI 1) hx hb dX0_findWords_12 (by decide) ?_
    refine ru_iadd hx hb dX0_findWords_13 ?_
    refine lv_istore_n (lv' := [(3, .int (nI (i + 1))), (0, .ref h), (1, .int (nI o)), (2, .int (nI i))]) hx hb dX0_findWords_14 rfl hl (by decide) rfl (fun ls hl => ?_)
    refine ru_loop1 (nL := 4) (head := 15) (fun (j : Nat) => [(0, .ref h), (1, .int (nI o)), (2, .int (nI i)), (3, .int (nI j))]) (fun (j : Nat) => ru_X d h a n t rd ow bw we1 fo fd fr to st) (fun (j : Nat) => i < j ∧ j ≤ n ∧ ∀ y, i < y → y < j → ru_L (ru_sq o t n) i y) (fun (j : Nat) => 40 - j) ?_ (i + 1) _ _ _ ⟨by omega, by omega, fun y h1 h2 => by omega⟩ (lv_sub hl [1, 2, 3, 0] rfl) V
    intro j H locs ls hP_15 hl V ih_15
    have hl : lv_has ls 4 [(0, .ref h), (1, .int (nI o)), (2, .int (nI i)), (3, .int (nI j))] := hl
    have V : ru_V D d A s s.heap H locs (ru_X d h a n t rd ow bw we1 fo fd fr to st) := V
    obtain ⟨hj1, hj2, hall⟩ := hP_15
    refine lv_iload_n hx hb dX0_findWords_15 rfl (lv_at hl 3 rfl) ?_
    refine lv_aload_n hx hb dX0_findWords_16 rfl (lv_at hl 0 rfl) ?_
    refine ru_get0 hx hb hts hown V 0 rfl 0 (by decide) (hts _ q29) rfl dX0_findWords_17 ?_
    refine ru_icmp_ge (tgt := 43) hx hb dX0_findWords_20 (by decide) (by omega) (by omega) (fun c_20 => ?_) (fun c_20 => ?_)
    · have hNi : ru_N (ru_sq o t n) n i j := ru_N_of ht hj1 hj2 hall (by first | exact Or.inl c_20 | exact Or.inr hL)
      refine lv_aload_n hx hb dX0_findWords_43 rfl (lv_at hl 0 rfl) ?_
      refine ru_get0 hx hb hts hown V 0 rfl 5 (by decide) (hts _ q34) rfl dX0_findWords_44 ?_
      refine lv_iload_n hx hb dX0_findWords_47 rfl (lv_at hl 2 rfl) ?_
      refine lv_iload_n hx hb dX0_findWords_48 rfl (lv_at hl 3 rfl) ?_
      refine ru_ast hx hb V 4 rfl (by decide) (by omega) dX0_findWords_49 (fun H locs V => ?_)
      have V : ru_V D d A s s.heap H locs (ru_X d h a n t rd ow bw (va_up we1 i j) fo fd fr to st) := V
      refine lv_iinc (v := (ru_m1 i)) (lv' := [(2, .int (ru_m1 i)), (0, .ref h), (1, .int (nI o)), (3, .int (nI j))]) hx hb dX0_findWords_50 hl (k := 2) rfl (ru_dec1 _) (by decide) rfl (fun ls hl => ?_)
      refine lv_goto (tgt := 7) hx hb dX0_findWords_53 (by decide) ?_
      exact ih_7 i (va_up we1 i j) _ _ _ (by omega) ⟨by omega, fun x h1 h2 => by by_cases e : x = i; (· rw [e, ru_ups]; exact hNi); (· rw [ru_upn e]; exact hW x (by omega) h2)⟩ (lv_sub hl [1, 2, 0] rfl) V
    · refine lv_aload_n hx hb dX0_findWords_23 rfl (lv_at hl 0 rfl) ?_
      refine lv_iload_n hx hb dX0_findWords_24 rfl (lv_at hl 2 rfl) ?_
      refine lv_iload_n hx hb dX0_findWords_25 rfl (lv_at hl 3 rfl) ?_
      refine lv_iload_n hx hb dX0_findWords_26 rfl (lv_at hl 1 rfl) ?_
      refine ru_callVI (w1 := ru_X d h a n t rd ow bw we1 fo fd fr to st) (w2 := []) (As := [.int (nI i), .int (nI j), .int (nI o)]) (rest := []) S0 V (met_X0_smallerFrom l D d h a n t rd ow bw we1 fo fd fr to st hn ht hO i j o (by omega) (by omega) ho) (cwV 3 hts (lw_V q115 q117 qs6 q19 q118) rfl rfl rfl (by decide +kernel) ⟨Nat.le_of_ble_eq_true rfl, Nat.le_of_ble_eq_true rfl⟩) 0 rfl rfl rfl hl.1 rfl (Nat.le_of_ble_eq_true rfl) dX0_findWords_27 ⟨Nat.zero_le _, Nat.zero_le _⟩ (fun r u H locs hp V => ?_)
      have V : ru_V D d A s s.heap H locs (ru_X d h a n t rd ow bw we1 fo fd fr to st) := V
      rcases hp with ⟨rfl, hL⟩ | ⟨rfl, hL⟩
      · refine ru_if_eq (tgt := 43) hx hb dX0_findWords_30 (by decide) (by omega) (fun c_30 => ?_) (fun c_30 => ?_)
        · exact absurd c_30 (by omega)
        · refine lv_aload_n hx hb dX0_findWords_33 rfl (lv_at hl 0 rfl) ?_
          refine ru_get0 hx hb hts hown V 0 rfl 5 (by decide) (hts _ q34) rfl dX0_findWords_34 ?_
          refine lv_iload_n hx hb dX0_findWords_37 rfl (lv_at hl 3 rfl) ?_
          refine ru_ald hx hb V 4 rfl (by decide) (by omega) dX0_findWords_38 ?_
          refine lv_istore_n (lv' := [(3, .int (nI (we1 j))), (0, .ref h), (1, .int (nI o)), (2, .int (nI i))]) hx hb dX0_findWords_39 rfl hl (by decide) rfl (fun ls hl => ?_)
          refine lv_goto (tgt := 15) hx hb dX0_findWords_40 (by decide) ?_
          exact ih_15 (we1 j) _ _ _ (by have := (hW j (by omega) (by omega)).1; have := (hW j (by omega) (by omega)).2.1; omega) ⟨by have := (hW j (by omega) (by omega)).1; omega, (hW j (by omega) (by omega)).2.1, ru_N_step hall hL (hW j (by omega) (by omega))⟩ (lv_sub hl [1, 2, 3, 0] rfl) V
      · refine ru_if_eq (tgt := 43) hx hb dX0_findWords_30 (by decide) (by omega) (fun c_30 => ?_) (fun c_30 => ?_)
        · have hNi : ru_N (ru_sq o t n) n i j := ru_N_of ht hj1 hj2 hall (by first | exact Or.inl c_20 | exact Or.inr hL)
          refine lv_aload_n hx hb dX0_findWords_43 rfl (lv_at hl 0 rfl) ?_
          refine ru_get0 hx hb hts hown V 0 rfl 5 (by decide) (hts _ q34) rfl dX0_findWords_44 ?_
          refine lv_iload_n hx hb dX0_findWords_47 rfl (lv_at hl 2 rfl) ?_
          refine lv_iload_n hx hb dX0_findWords_48 rfl (lv_at hl 3 rfl) ?_
          refine ru_ast hx hb V 4 rfl (by decide) (by omega) dX0_findWords_49 (fun H locs V => ?_)
          have V : ru_V D d A s s.heap H locs (ru_X d h a n t rd ow bw (va_up we1 i j) fo fd fr to st) := V
          refine lv_iinc (v := (ru_m1 i)) (lv' := [(2, .int (ru_m1 i)), (0, .ref h), (1, .int (nI o)), (3, .int (nI j))]) hx hb dX0_findWords_50 hl (k := 2) rfl (ru_dec1 _) (by decide) rfl (fun ls hl => ?_)
          refine lv_goto (tgt := 7) hx hb dX0_findWords_53 (by decide) ?_
          exact ih_7 i (va_up we1 i j) _ _ _ (by omega) ⟨by omega, fun x h1 h2 => by by_cases e : x = i; (· rw [e, ru_ups]; exact hNi); (· rw [ru_upn e]; exact hW x (by omega) h2)⟩ (lv_sub hl [1, 2, 0] rfl) V
        · exact absurd c_30 (by omega)
end
section
/-! contracts of RunFinder: the list of runs, what is prepared, the questions -/

set_option maxHeartbeats 4000000 in
set_option maxRecDepth 100000 in
theorem met_X0_keep (l : Launch) (D : va_G) (d : ClassId) (h : Nat) (a : Nat → Nat) (n : Nat) (t : Nat → Nat) (rd : Nat) (ow bw we fo : Nat → Nat) (fd : Nat) (fr to st : Nat → Nat) (x y z : Nat) (hfd : fd < 64) (hs : ru_Srt fd fr st) (hbd : ∀ k, k < fd → fr k < 100 ∧ st k < 100) (hx0 : x < 100) (hz0 : z < 100) : ru_MV l yX0_keep cX0_keep 6 (ru_R 0 0) D d [.ref h, .int (nI x), .int (nI y), .int (nI z)] (ru_X d h a n t rd ow bw we fo fd fr to st) (fun u : Nat × (Nat → Nat) × (Nat → Nat) × (Nat → Nat) => ru_K fd fr to st x y z u.1 u.2.1 u.2.2.1 u.2.2.2) (fun u => ru_X d h a n t rd ow bw we fo (u.1) (u.2.1) (u.2.2.1) (u.2.2.2)) := by
  refine ru_MV.of (by decide) (Nat.le_of_ble_eq_true rfl) ?_
  intro pr ev s mi below me co A ls hx hb hr hlocks S0 hl V
  have hts := S0.2.2.2.2
  have hown := S0.2.2.2.1
  have hl : lv_has ls 6 [(0, .ref h), (1, .int (nI x)), (2, .int (nI y)), (3, .int (nI z))] := hl
  refine lv_aload_n hx hb dX0_keep_0 rfl (lv_at hl 0 rfl) ?_
  refine ru_get0 hx hb hts hown V 0 rfl 7 (by decide) (hts _ q36) rfl dX0_keep_1 ?_
  refine lv_istore (lv' := [(4, .int (nI fd)), (0, .ref h), (1, .int (nI x)), (2, .int (nI y)), (3, .int (nI z))]) hx hb dX0_keep_4 hl (by decide) rfl (fun ls hl => ?_)
  refine lv_iconst (v := nI 0) hx hb dX0_keep_6 (by decide) ?_
  refine lv_istore (lv' := [(5, .int (nI 0)), (4, .int (nI fd)), (0, .ref h), (1, .int (nI x)), (2, .int (nI y)), (3, .int (nI z))]) hx hb dX0_keep_7 hl (by decide) rfl (fun ls hl => ?_)
  refine ru_loop1 (nL := 6) (head := 9) (fun (r : Nat) => [(0, .ref h), (1, .int (nI x)), (2, .int (nI y)), (3, .int (nI z)), (4, .int (nI fd)), (5, .int (nI r))]) (fun (r : Nat) => ru_X d h a n t rd ow bw we fo fd fr to st) (fun (r : Nat) => r ≤ fd ∧ ∀ k, k < r → ¬ (fr k = x ∧ st k = z)) (fun (r : Nat) => 100 - r) ?_ 0 _ _ _ ⟨by omega, fun k hk => by omega⟩ (lv_sub hl [2, 3, 4, 5, 1, 0] rfl) V
  intro r H locs ls hP_9 hl V ih_9
  have hl : lv_has ls 6 [(0, .ref h), (1, .int (nI x)), (2, .int (nI y)), (3, .int (nI z)), (4, .int (nI fd)), (5, .int (nI r))] := hl
  have V : ru_V D d A s s.heap H locs (ru_X d h a n t rd ow bw we fo fd fr to st) := V
  obtain ⟨hr0, hno⟩ := hP_9
  refine lv_iload hx hb dX0_keep_9 (lv_at hl 5 rfl) ?_
  refine lv_aload_n hx hb dX0_keep_11 rfl (lv_at hl 0 rfl) ?_
  refine ru_get0 hx hb hts hown V 0 rfl 7 (by decide) (hts _ q36) rfl dX0_keep_12 ?_
  refine ru_icmp_ge (tgt := 47) hx hb dX0_keep_15 (by decide) (by omega) (by omega) (fun c_15 => ?_) (fun c_15 => ?_)
  · refine ru_loop4 (nL := 6) (head := 47) (fun (w : Nat) (fr1 : Nat → Nat) (to1 : Nat → Nat) (st1 : Nat → Nat) => [(0, .ref h), (1, .int (nI x)), (2, .int (nI y)), (3, .int (nI z)), (4, .int (nI w))]) (fun (w : Nat) (fr1 : Nat → Nat) (to1 : Nat → Nat) (st1 : Nat → Nat) => ru_X d h a n t rd ow bw we fo fd fr1 to1 st1) (fun (w : Nat) (fr1 : Nat → Nat) (to1 : Nat → Nat) (st1 : Nat → Nat) => w ≤ fd ∧ ru_sh fr fr1 w fd ∧ ru_sh to to1 w fd ∧ ru_sh st st1 w fd ∧ ∀ k, w ≤ k → k < fd → ru_lx x z (fr k) (st k)) (fun (w : Nat) (fr1 : Nat → Nat) (to1 : Nat → Nat) (st1 : Nat → Nat) => w) ?_ fd fr to st _ _ _ ⟨Nat.le_refl _, ru_sh_0 _ _, ru_sh_0 _ _, ru_sh_0 _ _, fun k h1 h2 => by omega⟩ (lv_sub hl [0, 1, 2, 3, 4] rfl) V
    intro w fr1 to1 st1 H locs ls hP_47 hl V ih_47
    have hl : lv_has ls 6 [(0, .ref h), (1, .int (nI x)), (2, .int (nI y)), (3, .int (nI z)), (4, .int (nI w))] := hl
    have V : ru_V D d A s s.heap H locs (ru_X d h a n t rd ow bw we fo fd fr1 to1 st1) := V
    obtain ⟨hw, s1, s2, s3, hgt⟩ := hP_47
    refine lv_iload hx hb dX0_keep_47 (lv_at hl 4 rfl) ?_
    refine ru_if_le (tgt := 145) hx hb dX0_keep_49 (by decide) (by omega) (fun c_49 => ?_) (fun c_49 => ?_)
    · have hlow : w = 0 ∨ ru_lx (fr (w - 1)) (st (w - 1)) x z := by
        first
        | exact Or.inl c_49
        | exact Or.inr (Or.inr ⟨c_75, by have := hno (w - 1) (by omega); omega⟩)
        | exact Or.inr (Or.inl (by omega))
      refine lv_aload_n hx hb dX0_keep_145 rfl (lv_at hl 0 rfl) ?_
      refine ru_get0 hx hb hts hown V 0 rfl 8 (by decide) (hts _ q37) rfl dX0_keep_146 ?_
      refine lv_iload hx hb dX0_keep_149 (lv_at hl 4 rfl) ?_
      refine lv_iload_n hx hb dX0_keep_151 rfl (lv_at hl 1 rfl) ?_
      refine ru_ast hx hb V 6 rfl (by decide) (by omega) dX0_keep_152 (fun H locs V => ?_)
      have V : ru_V D d A s s.heap H locs (ru_X d h a n t rd ow bw we fo fd (va_up fr1 w x) to1 st1) := V
      refine lv_aload_n hx hb dX0_keep_153 rfl (lv_at hl 0 rfl) ?_
      refine ru_get0 hx hb hts hown V 0 rfl 9 (by decide) (hts _ q38) rfl dX0_keep_154 ?_
      refine lv_iload hx hb dX0_keep_157 (lv_at hl 4 rfl) ?_
      refine lv_iload_n hx hb dX0_keep_159 rfl (lv_at hl 2 rfl) ?_
      refine ru_ast hx hb V 7 rfl (by decide) (by omega) dX0_keep_160 (fun H locs V => ?_)
      have V : ru_V D d A s s.heap H locs (ru_X d h a n t rd ow bw we fo fd (va_up fr1 w x) (va_up to1 w y) st1) := V
      refine lv_aload_n hx hb dX0_keep_161 rfl (lv_at hl 0 rfl) ?_
      refine ru_get0 hx hb hts hown V 0 rfl 10 (by decide) (hts _ q39) rfl dX0_keep_162 ?_
      refine lv_iload hx hb dX0_keep_165 (lv_at hl 4 rfl) ?_
      refine lv_iload_n hx hb dX0_keep_167 rfl (lv_at hl 3 rfl) ?_
      refine ru_ast hx hb V 8 rfl (by decide) (by omega) dX0_keep_168 (fun H locs V => ?_)
      have V : ru_V D d A s s.heap H locs (ru_X d h a n t rd ow bw we fo fd (va_up fr1 w x) (va_up to1 w y) (va_up st1 w z)) := V
      refine lv_aload_n hx hb dX0_keep_169 rfl (lv_at hl 0 rfl) ?_
      refine lv_dup hx hb dX0_keep_170 rfl ?_
      refine ru_get0 hx hb hts hown V 0 rfl 7 (by decide) (hts _ q36) rfl dX0_keep_171 ?_
      refine lv_iconst (v := nI 1) hx hb dX0_keep_174 (by decide) ?_
      refine ru_iadd hx hb dX0_keep_175 ?_
      refine ru_put0 hx hb hts hown V 0 rfl 7 (by decide) (hts _ q36) rfl (ty := .int) (by decide +kernel) rfl rfl (Nat.le_of_ble_eq_true rfl) dX0_keep_176 (fun H locs V => ?_)
      have V : ru_V D d A s s.heap H locs (ru_X d h a n t rd ow bw we fo (fd + 1) (va_up fr1 w x) (va_up to1 w y) (va_up st1 w z)) := V
      exact ru_vret hx hb hr hlocks (fd + 1, va_up fr1 w x, va_up to1 w y, va_up st1 w z) V (ru_K_fin hs hw hlow hgt s1 s2 s3) dX0_keep_179
    · refine lv_aload_n hx hb dX0_keep_52 rfl (lv_at hl 0 rfl) ?_
      refine ru_get0 hx hb hts hown V 0 rfl 8 (by decide) (hts _ q37) rfl dX0_keep_53 ?_
      refine lv_iload hx hb dX0_keep_56 (lv_at hl 4 rfl) ?_
      refine lv_iconst (v := nI 1) hx hb dX0_keep_58 (by decide) ?_
      refine ru_isub hx hb (by omega) dX0_keep_59 ?_
      refine ru_ald hx hb V 6 rfl (by decide) (by omega) dX0_keep_60 ?_
      refine ru_top (y := (fr (w - 1))) (s1.1 (w - 1) (by omega)) ?_
      refine lv_iload_n hx hb dX0_keep_61 rfl (lv_at hl 1 rfl) ?_
      refine ru_icmp_gt (tgt := 91) hx hb dX0_keep_62 (by decide) (by have := hbd (w - 1) (by omega); omega) (by omega) (fun c_62 => ?_) (fun c_62 => ?_)
      · have hg1 : ru_lx x z (fr (w - 1)) (st (w - 1)) := by first | exact Or.inl c_62 | exact Or.inr ⟨by omega, by omega⟩
        refine lv_aload_n hx hb dX0_keep_91 rfl (lv_at hl 0 rfl) ?_
        refine ru_get0 hx hb hts hown V 0 rfl 8 (by decide) (hts _ q37) rfl dX0_keep_92 ?_
        refine lv_iload hx hb dX0_keep_95 (lv_at hl 4 rfl) ?_
        refine lv_aload_n hx hb dX0_keep_97 rfl (lv_at hl 0 rfl) ?_
        refine ru_get0 hx hb hts hown V 0 rfl 8 (by decide) (hts _ q37) rfl dX0_keep_98 ?_
        refine lv_iload hx hb dX0_keep_101 (lv_at hl 4 rfl) ?_
        refine lv_iconst (v := nI 1) hx hb dX0_keep_103 (by decide) ?_
        refine ru_isub hx hb (by omega) dX0_keep_104 ?_
        refine ru_ald hx hb V 6 rfl (by decide) (by omega) dX0_keep_105 ?_
        refine ru_ast hx hb V 6 rfl (by decide) (by omega) dX0_keep_106 (fun H locs V => ?_)
        have V : ru_V D d A s s.heap H locs (ru_X d h a n t rd ow bw we fo fd (va_up fr1 w (fr1 (w - 1))) to1 st1) := V
        refine lv_aload_n hx hb dX0_keep_107 rfl (lv_at hl 0 rfl) ?_
        refine ru_get0 hx hb hts hown V 0 rfl 9 (by decide) (hts _ q38) rfl dX0_keep_108 ?_
        refine lv_iload hx hb dX0_keep_111 (lv_at hl 4 rfl) ?_
        refine lv_aload_n hx hb dX0_keep_113 rfl (lv_at hl 0 rfl) ?_
        refine ru_get0 hx hb hts hown V 0 rfl 9 (by decide) (hts _ q38) rfl dX0_keep_114 ?_
        refine lv_iload hx hb dX0_keep_117 (lv_at hl 4 rfl) ?_
        refine lv_iconst (v := nI 1) hx hb dX0_keep_119 (by decide) ?_
        refine ru_isub hx hb (by omega) dX0_keep_120 ?_
        refine ru_ald hx hb V 7 rfl (by decide) (by omega) dX0_keep_121 ?_
        refine ru_ast hx hb V 7 rfl (by decide) (by omega) dX0_keep_122 (fun H locs V => ?_)
        have V : ru_V D d A s s.heap H locs (ru_X d h a n t rd ow bw we fo fd (va_up fr1 w (fr1 (w - 1))) (va_up to1 w (to1 (w - 1))) st1) := V
        refine lv_aload_n hx hb dX0_keep_123 rfl (lv_at hl 0 rfl) ?_
        refine ru_get0 hx hb hts hown V 0 rfl 10 (by decide) (hts _ q39) rfl dX0_keep_124 ?_
        refine lv_iload hx hb dX0_keep_127 (lv_at hl 4 rfl) ?_
        refine lv_aload_n hx hb dX0_keep_129 rfl (lv_at hl 0 rfl) ?_
        refine ru_get0 hx hb hts hown V 0 rfl 10 (by decide) (hts _ q39) rfl dX0_keep_130 ?_
        refine lv_iload hx hb dX0_keep_133 (lv_at hl 4 rfl) ?_
        refine lv_iconst (v := nI 1) hx hb dX0_keep_135 (by decide) ?_
        refine ru_isub hx hb (by omega) dX0_keep_136 ?_
        refine ru_ald hx hb V 8 rfl (by decide) (by omega) dX0_keep_137 ?_
        refine ru_ast hx hb V 8 rfl (by decide) (by omega) dX0_keep_138 (fun H locs V => ?_)
        have V : ru_V D d A s s.heap H locs (ru_X d h a n t rd ow bw we fo fd (va_up fr1 w (fr1 (w - 1))) (va_up to1 w (to1 (w - 1))) (va_up st1 w (st1 (w - 1)))) := V
        refine lv_iinc (v := nI (w - 1)) (lv' := [(4, .int (nI (w - 1))), (0, .ref h), (1, .int (nI x)), (2, .int (nI y)), (3, .int (nI z))]) hx hb dX0_keep_139 hl (k := 4) rfl (ru_dec (by omega)) (by decide) rfl (fun ls hl => ?_)
        refine lv_goto (tgt := 47) hx hb dX0_keep_142 (by decide) ?_
        exact ih_47 (w - 1) (va_up fr1 w (fr1 (w - 1))) (va_up to1 w (to1 (w - 1))) (va_up st1 w (st1 (w - 1))) _ _ _ (by omega) ⟨by omega, ru_sh_s s1 c_49, ru_sh_s s2 c_49, ru_sh_s s3 c_49, fun k h1 h2 => by by_cases e : k = w - 1; (· rw [e]; exact hg1); (· exact hgt k (by omega) h2)⟩ (lv_sub hl [1, 2, 3, 4, 0] rfl) V
      · refine lv_aload_n hx hb dX0_keep_65 rfl (lv_at hl 0 rfl) ?_
        refine ru_get0 hx hb hts hown V 0 rfl 8 (by decide) (hts _ q37) rfl dX0_keep_66 ?_
        refine lv_iload hx hb dX0_keep_69 (lv_at hl 4 rfl) ?_
        refine lv_iconst (v := nI 1) hx hb dX0_keep_71 (by decide) ?_
        refine ru_isub hx hb (by omega) dX0_keep_72 ?_
        refine ru_ald hx hb V 6 rfl (by decide) (by omega) dX0_keep_73 ?_
        refine ru_top (y := (fr (w - 1))) (s1.1 (w - 1) (by omega)) ?_
        refine lv_iload_n hx hb dX0_keep_74 rfl (lv_at hl 1 rfl) ?_
        refine ru_icmp_ne (tgt := 145) hx hb dX0_keep_75 (by decide) (by have := hbd (w - 1) (by omega); omega) (by omega) (fun c_75 => ?_) (fun c_75 => ?_)
        · have hlow : w = 0 ∨ ru_lx (fr (w - 1)) (st (w - 1)) x z := by
            first
            | exact Or.inl c_49
            | exact Or.inr (Or.inr ⟨c_75, by have := hno (w - 1) (by omega); omega⟩)
            | exact Or.inr (Or.inl (by omega))
          refine lv_aload_n hx hb dX0_keep_145 rfl (lv_at hl 0 rfl) ?_
          refine ru_get0 hx hb hts hown V 0 rfl 8 (by decide) (hts _ q37) rfl dX0_keep_146 ?_
          refine lv_iload hx hb dX0_keep_149 (lv_at hl 4 rfl) ?_
          refine lv_iload_n hx hb dX0_keep_151 rfl (lv_at hl 1 rfl) ?_
          refine ru_ast hx hb V 6 rfl (by decide) (by omega) dX0_keep_152 (fun H locs V => ?_)
          have V : ru_V D d A s s.heap H locs (ru_X d h a n t rd ow bw we fo fd (va_up fr1 w x) to1 st1) := V
          refine lv_aload_n hx hb dX0_keep_153 rfl (lv_at hl 0 rfl) ?_
          refine ru_get0 hx hb hts hown V 0 rfl 9 (by decide) (hts _ q38) rfl dX0_keep_154 ?_
          refine lv_iload hx hb dX0_keep_157 (lv_at hl 4 rfl) ?_
          refine lv_iload_n hx hb dX0_keep_159 rfl (lv_at hl 2 rfl) ?_
          refine ru_ast hx hb V 7 rfl (by decide) (by omega) dX0_keep_160 (fun H locs V => ?_)
          have V : ru_V D d A s s.heap H locs (ru_X d h a n t rd ow bw we fo fd (va_up fr1 w x) (va_up to1 w y) st1) := V
          refine lv_aload_n hx hb dX0_keep_161 rfl (lv_at hl 0 rfl) ?_
          refine ru_get0 hx hb hts hown V 0 rfl 10 (by decide) (hts _ q39) rfl dX0_keep_162 ?_
          refine lv_iload hx hb dX0_keep_165 (lv_at hl 4 rfl) ?_
          refine lv_iload_n hx hb dX0_keep_167 rfl (lv_at hl 3 rfl) ?_
          refine ru_ast hx hb V 8 rfl (by decide) (by omega) dX0_keep_168 (fun H locs V => ?_)
          have V : ru_V D d A s s.heap H locs (ru_X d h a n t rd ow bw we fo fd (va_up fr1 w x) (va_up to1 w y) (va_up st1 w z)) := V
          refine lv_aload_n hx hb dX0_keep_169 rfl (lv_at hl 0 rfl) ?_
          refine lv_dup hx hb dX0_keep_170 rfl ?_
          refine ru_get0 hx hb hts hown V 0 rfl 7 (by decide) (hts _ q36) rfl dX0_keep_171 ?_
          refine lv_iconst (v := nI 1) hx hb dX0_keep_174 (by decide) ?_
          refine ru_iadd hx hb dX0_keep_175 ?_
          refine ru_put0 hx hb hts hown V 0 rfl 7 (by decide) (hts _ q36) rfl (ty := .int) (by decide +kernel) rfl rfl (Nat.le_of_ble_eq_true rfl) dX0_keep_176 (fun H locs V => ?_)
          have V : ru_V D d A s s.heap H locs (ru_X d h a n t rd ow bw we fo (fd + 1) (va_up fr1 w x) (va_up to1 w y) (va_up st1 w z)) := V
          exact ru_vret hx hb hr hlocks (fd + 1, va_up fr1 w x, va_up to1 w y, va_up st1 w z) V (ru_K_fin hs hw hlow hgt s1 s2 s3) dX0_keep_179
        · refine lv_aload_n hx hb dX0_keep_78 rfl (lv_at hl 0 rfl) ?_
          refine ru_get0 hx hb hts hown V 0 rfl 10 (by decide) (hts _ q39) rfl dX0_keep_79 ?_
          refine lv_iload hx hb dX0_keep_82 (lv_at hl 4 rfl) ?_
          refine lv_iconst (v := nI 1) hx hb dX0_keep_84 (by decide) ?_
          refine ru_isub hx hb (by omega) dX0_keep_85 ?_
          refine ru_ald hx hb V 8 rfl (by decide) (by omega) dX0_keep_86 ?_
          refine ru_top (y := (st (w - 1))) (s3.1 (w - 1) (by omega)) ?_
          refine lv_iload_n hx hb dX0_keep_87 rfl (lv_at hl 3 rfl) ?_
          refine ru_icmp_le (tgt := 145) hx hb dX0_keep_88 (by decide) (by have := hbd (w - 1) (by omega); omega) (by omega) (fun c_88 => ?_) (fun c_88 => ?_)
          · have hlow : w = 0 ∨ ru_lx (fr (w - 1)) (st (w - 1)) x z := by
              first
              | exact Or.inl c_49
              | exact Or.inr (Or.inr ⟨c_75, by have := hno (w - 1) (by omega); omega⟩)
              | exact Or.inr (Or.inl (by omega))
            refine lv_aload_n hx hb dX0_keep_145 rfl (lv_at hl 0 rfl) ?_
            refine ru_get0 hx hb hts hown V 0 rfl 8 (by decide) (hts _ q37) rfl dX0_keep_146 ?_
            refine lv_iload hx hb dX0_keep_149 (lv_at hl 4 rfl) ?_
            refine lv_iload_n hx hb dX0_keep_151 rfl (lv_at hl 1 rfl) ?_
            refine ru_ast hx hb V 6 rfl (by decide) (by omega) dX0_keep_152 (fun H locs V => ?_)
            have V : ru_V D d A s s.heap H locs (ru_X d h a n t rd ow bw we fo fd (va_up fr1 w x) to1 st1) := V
            refine lv_aload_n hx hb dX0_keep_153 rfl (lv_at hl 0 rfl) ?_
            refine ru_get0 hx hb hts hown V 0 rfl 9 (by decide) (hts _ q38) rfl dX0_keep_154 ?_
            refine lv_iload hx hb dX0_keep_157 (lv_at hl 4 rfl) ?_
            refine lv_iload_n hx hb dX0_keep_159 rfl (lv_at hl 2 rfl) ?_
            refine ru_ast hx hb V 7 rfl (by decide) (by omega) dX0_keep_160 (fun H locs V => ?_)
            have V : ru_V D d A s s.heap H locs (ru_X d h a n t rd ow bw we fo fd (va_up fr1 w x) (va_up to1 w y) st1) := V
            refine lv_aload_n hx hb dX0_keep_161 rfl (lv_at hl 0 rfl) ?_
            refine ru_get0 hx hb hts hown V 0 rfl 10 (by decide) (hts _ q39) rfl dX0_keep_162 ?_
            refine lv_iload hx hb dX0_keep_165 (lv_at hl 4 rfl) ?_
            refine lv_iload_n hx hb dX0_keep_167 rfl (lv_at hl 3 rfl) ?_
            refine ru_ast hx hb V 8 rfl (by decide) (by omega) dX0_keep_168 (fun H locs V => ?_)
            have V : ru_V D d A s s.heap H locs (ru_X d h a n t rd ow bw we fo fd (va_up fr1 w x) (va_up to1 w y) (va_up st1 w z)) := V
            refine lv_aload_n hx hb dX0_keep_169 rfl (lv_at hl 0 rfl) ?_
            refine lv_dup hx hb dX0_keep_170 rfl ?_
            refine ru_get0 hx hb hts hown V 0 rfl 7 (by decide) (hts _ q36) rfl dX0_keep_171 ?_
            refine lv_iconst (v := nI 1) hx hb dX0_keep_174 (by decide) ?_
            refine ru_iadd hx hb dX0_keep_175 ?_
            refine ru_put0 hx hb hts hown V 0 rfl 7 (by decide) (hts _ q36) rfl (ty := .int) (by decide +kernel) rfl rfl (Nat.le_of_ble_eq_true rfl) dX0_keep_176 (fun H locs V => ?_)
            have V : ru_V D d A s s.heap H locs (ru_X d h a n t rd ow bw we fo (fd + 1) (va_up fr1 w x) (va_up to1 w y) (va_up st1 w z)) := V
            exact ru_vret hx hb hr hlocks (fd + 1, va_up fr1 w x, va_up to1 w y, va_up st1 w z) V (ru_K_fin hs hw hlow hgt s1 s2 s3) dX0_keep_179
          · have hg1 : ru_lx x z (fr (w - 1)) (st (w - 1)) := by first | exact Or.inl c_62 | exact Or.inr ⟨by omega, by omega⟩
            refine lv_aload_n hx hb dX0_keep_91 rfl (lv_at hl 0 rfl) ?_
            refine ru_get0 hx hb hts hown V 0 rfl 8 (by decide) (hts _ q37) rfl dX0_keep_92 ?_
            refine lv_iload hx hb dX0_keep_95 (lv_at hl 4 rfl) ?_
            refine lv_aload_n hx hb dX0_keep_97 rfl (lv_at hl 0 rfl) ?_
            refine ru_get0 hx hb hts hown V 0 rfl 8 (by decide) (hts _ q37) rfl dX0_keep_98 ?_
            refine lv_iload hx hb dX0_keep_101 (lv_at hl 4 rfl) ?_
            refine lv_iconst (v := nI 1) hx hb dX0_keep_103 (by decide) ?_
            refine ru_isub hx hb (by omega) dX0_keep_104 ?_
            refine ru_ald hx hb V 6 rfl (by decide) (by omega) dX0_keep_105 ?_
            refine ru_ast hx hb V 6 rfl (by decide) (by omega) dX0_keep_106 (fun H locs V => ?_)
            have V : ru_V D d A s s.heap H locs (ru_X d h a n t rd ow bw we fo fd (va_up fr1 w (fr1 (w - 1))) to1 st1) := V
            refine lv_aload_n hx hb dX0_keep_107 rfl (lv_at hl 0 rfl) ?_
            refine ru_get0 hx hb hts hown V 0 rfl 9 (by decide) (hts _ q38) rfl dX0_keep_108 ?_
            refine lv_iload hx hb dX0_keep_111 (lv_at hl 4 rfl) ?_
            refine lv_aload_n hx hb dX0_keep_113 rfl (lv_at hl 0 rfl) ?_
            refine ru_get0 hx hb hts hown V 0 rfl 9 (by decide) (hts _ q38) rfl dX0_keep_114 ?_
            refine lv_iload hx hb dX0_keep_117 (lv_at hl 4 rfl) ?_
            refine lv_iconst (v := nI 1) hx hb dX0_keep_119 (by decide) ?_
            refine ru_isub hx hb (by omega) dX0_keep_120 ?_
            refine ru_ald hx hb V 7 rfl (by decide) (by omega) dX0_keep_121 ?_
            refine ru_ast hx hb V 7 rfl (by decide) (by omega) dX0_keep_122 (fun H locs V => ?_)
            have V : ru_V D d A s s.heap H locs (ru_X d h a n t rd ow bw we fo fd (va_up fr1 w (fr1 (w - 1))) (va_up to1 w (to1 (w - 1))) st1) := V
            refine lv_aload_n hx hb dX0_keep_123 rfl (lv_at hl 0 rfl) ?_
            refine ru_get0 hx hb hts hown V 0 rfl 10 (by decide) (hts _ q39) rfl dX0_keep_124 ?_
            refine lv_iload hx hb dX0_keep_127 (lv_at hl 4 rfl) ?_
            refine lv_aload_n hx hb dX0_keep_129 rfl (lv_at hl 0 rfl) ?_
            refine ru_get0 hx hb hts hown V 0 rfl 10 (by decide) (hts _ q39) rfl dX0_keep_130 ?_
            refine lv_iload hx hb dX0_keep_133 (lv_at hl 4 rfl) ?_
            refine lv_iconst (v := nI 1) hx hb dX0_keep_135 (by decide) ?_
            refine ru_isub hx hb (by omega) dX0_keep_136 ?_
            refine ru_ald hx hb V 8 rfl (by decide) (by omega) dX0_keep_137 ?_
            refine ru_ast hx hb V 8 rfl (by decide) (by omega) dX0_keep_138 (fun H locs V => ?_)
            have V : ru_V D d A s s.heap H locs (ru_X d h a n t rd ow bw we fo fd (va_up fr1 w (fr1 (w - 1))) (va_up to1 w (to1 (w - 1))) (va_up st1 w (st1 (w - 1)))) := V
            refine lv_iinc (v := nI (w - 1)) (lv' := [(4, .int (nI (w - 1))), (0, .ref h), (1, .int (nI x)), (2, .int (nI y)), (3, .int (nI z))]) hx hb dX0_keep_139 hl (k := 4) rfl (ru_dec (by omega)) (by decide) rfl (fun ls hl => ?_)
            refine lv_goto (tgt := 47) hx hb dX0_keep_142 (by decide) ?_
            exact ih_47 (w - 1) (va_up fr1 w (fr1 (w - 1))) (va_up to1 w (to1 (w - 1))) (va_up st1 w (st1 (w - 1))) _ _ _ (by omega) ⟨by omega, ru_sh_s s1 c_49, ru_sh_s s2 c_49, ru_sh_s s3 c_49, fun k h1 h2 => by by_cases e : k = w - 1; (· rw [e]; exact hg1); (· exact hgt k (by omega) h2)⟩ (lv_sub hl [1, 2, 3, 4, 0] rfl) V
  · refine lv_aload_n hx hb dX0_keep_18 rfl (lv_at hl 0 rfl) ?_
    refine ru_get0 hx hb hts hown V 0 rfl 8 (by decide) (hts _ q37) rfl dX0_keep_19 ?_
    refine lv_iload hx hb dX0_keep_22 (lv_at hl 5 rfl) ?_
    refine ru_ald hx hb V 6 rfl (by decide) (by omega) dX0_keep_24 ?_
    refine lv_iload_n hx hb dX0_keep_25 rfl (lv_at hl 1 rfl) ?_
    refine ru_icmp_ne (tgt := 41) hx hb dX0_keep_26 (by decide) (by have := hbd r (by omega); omega) (by omega) (fun c_26 => ?_) (fun c_26 => ?_)
    · refine lv_iinc (v := nI (r + 1)) (lv' := [(5, .int (nI (r + 1))), (0, .ref h), (1, .int (nI x)), (2, .int (nI y)), (3, .int (nI z)), (4, .int (nI fd))]) hx hb dX0_keep_41 hl (k := 5) rfl (ru_inc _) (by decide) rfl (fun ls hl => ?_)
      refine lv_goto (tgt := 9) hx hb dX0_keep_44 (by decide) ?_
      exact ih_9 (r + 1) _ _ _ (by omega) ⟨by omega, fun k hk q => by by_cases e : k = r; (· rw [e] at q; first | exact c_26 q.1 | exact c_37 q.2); (· exact hno k (by omega) q)⟩ (lv_sub hl [1, 2, 3, 4, 5, 0] rfl) V
    · refine lv_aload_n hx hb dX0_keep_29 rfl (lv_at hl 0 rfl) ?_
      refine ru_get0 hx hb hts hown V 0 rfl 10 (by decide) (hts _ q39) rfl dX0_keep_30 ?_
      refine lv_iload hx hb dX0_keep_33 (lv_at hl 5 rfl) ?_
      refine ru_ald hx hb V 8 rfl (by decide) (by omega) dX0_keep_35 ?_
      refine lv_iload_n hx hb dX0_keep_36 rfl (lv_at hl 3 rfl) ?_
      refine ru_icmp_ne (tgt := 41) hx hb dX0_keep_37 (by decide) (by have := hbd r (by omega); omega) (by omega) (fun c_37 => ?_) (fun c_37 => ?_)
      · refine lv_iinc (v := nI (r + 1)) (lv' := [(5, .int (nI (r + 1))), (0, .ref h), (1, .int (nI x)), (2, .int (nI y)), (3, .int (nI z)), (4, .int (nI fd))]) hx hb dX0_keep_41 hl (k := 5) rfl (ru_inc _) (by decide) rfl (fun ls hl => ?_)
        refine lv_goto (tgt := 9) hx hb dX0_keep_44 (by decide) ?_
        exact ih_9 (r + 1) _ _ _ (by omega) ⟨by omega, fun k hk q => by by_cases e : k = r; (· rw [e] at q; first | exact c_26 q.1 | exact c_37 q.2); (· exact hno k (by omega) q)⟩ (lv_sub hl [1, 2, 3, 4, 5, 0] rfl) V
      · exact ru_vret hx hb hr hlocks (fd, fr, to, st) V (ru_K_no hs c_15 c_26 c_37) dX0_keep_40

set_option maxHeartbeats 4000000 in
set_option maxRecDepth 100000 in
theorem met_X0_stretchWords (l : Launch) (D : va_G) (d : ClassId) (h : Nat) (a : Nat → Nat) (n : Nat) (t : Nat → Nat) (rd : Nat) (ow bw we fo : Nat → Nat) (fd : Nat) (fr to st : Nat → Nat) (hn : n ≤ 32) (ht : ∀ k, t k < 4) (hO : ru_On t n ow) (hB : ru_Bw t n bw) (o : Nat) (hW : ru_We t n o we) (hL0 : ru_Lst t n fd fr to st) (hf0 : fd ≤ 32) (hC : fd = 0 ∨ ru_Cov t n 0 n fd fr st) : ru_MV l yX0_stretchWords cX0_stretchWords 7 (ru_R 1 25) D d [.ref h] (ru_X d h a n t rd ow bw we fo fd fr to st) (fun u : Nat × (Nat → Nat) × (Nat → Nat) × (Nat → Nat) => ru_Lst t n u.1 u.2.1 u.2.2.1 u.2.2.2 ∧ u.1 ≤ fd + n ∧ ru_Cov t n o n u.1 u.2.1 u.2.2.2 ∧ (fd = 0 ∨ ru_Cov t n 0 n u.1 u.2.1 u.2.2.2)) (fun u => ru_X d h a n t rd ow bw we fo (u.1) (u.2.1) (u.2.2.1) (u.2.2.2)) := by
  refine ru_MV.of (by decide) (Nat.le_of_ble_eq_true rfl) ?_
  intro pr ev s mi below me co A ls hx hb hr hlocks S0 hl V
  have hts := S0.2.2.2.2
  have hown := S0.2.2.2.1
  have hl : lv_has ls 7 [(0, .ref h)] := hl
  refine lv_iconst (v := nI 0) hx hb dX0_stretchWords_0 (by decide) ?_
  refine lv_istore_n (lv' := [(1, .int (nI 0)), (0, .ref h)]) hx hb dX0_stretchWords_1 rfl hl (by decide) rfl (fun ls hl => ?_)
  refine ru_loop5 (nL := 7) (head := 2) (fun (i : Nat) (fd1 : Nat) (fr1 : Nat → Nat) (to1 : Nat → Nat) (st1 : Nat → Nat) => [(0, .ref h), (1, .int (nI i))]) (fun (i : Nat) (fd1 : Nat) (fr1 : Nat → Nat) (to1 : Nat → Nat) (st1 : Nat → Nat) => ru_X d h a n t rd ow bw we fo fd1 fr1 to1 st1) (fun (i : Nat) (fd1 : Nat) (fr1 : Nat → Nat) (to1 : Nat → Nat) (st1 : Nat → Nat) => i ≤ n ∧ ru_Lst t n fd1 fr1 to1 st1 ∧ fd1 ≤ fd + i ∧ ru_Cov t n o i fd1 fr1 st1 ∧ (fd = 0 ∨ ru_Cov t n 0 n fd1 fr1 st1)) (fun (i : Nat) (fd1 : Nat) (fr1 : Nat → Nat) (to1 : Nat → Nat) (st1 : Nat → Nat) => 40 - i) ?_ 0 fd fr to st _ _ _ ⟨by omega, hL0, by omega, fun x e h1 => by omega, hC⟩ (lv_sub hl [1, 0] rfl) V
  intro i fd1 fr1 to1 st1 H locs ls hP_2 hl V ih_2
  have hl : lv_has ls 7 [(0, .ref h), (1, .int (nI i))] := hl
  have V : ru_V D d A s s.heap H locs (ru_X d h a n t rd ow bw we fo fd1 fr1 to1 st1) := V
  obtain ⟨hi, hLs, hfd, hCov, hC0⟩ := hP_2
  refine lv_iload_n hx hb dX0_stretchWords_2 rfl (lv_at hl 1 rfl) ?_
  refine lv_aload_n hx hb dX0_stretchWords_3 rfl (lv_at hl 0 rfl) ?_
  refine ru_get0 hx hb hts hown V 0 rfl 0 (by decide) (hts _ q29) rfl dX0_stretchWords_4 ?_
  refine ru_icmp_ge (tgt := 108) hx hb dX0_stretchWords_7 (by decide) (by omega) (by omega) (fun c_7 => ?_) (fun c_7 => ?_)
  · exact ru_vret hx hb hr hlocks (fd1, fr1, to1, st1) V ⟨hLs, by omega, fun x e h1 => hCov x e (by omega), hC0⟩ dX0_stretchWords_108
  · have hN := hW i (by omega)
    obtain ⟨hN1, hN2, -, -⟩ := id hN
    have hlf := ru_lft_le t i (we i)
    obtain ⟨hle1, hle2⟩ := ru_lce_le (t := t) (n := n) (i := i) (j := we i) (by omega) hN2
    refine lv_aload_n hx hb dX0_stretchWords_10 rfl (lv_at hl 0 rfl) ?_
    refine ru_get0 hx hb hts hown V 0 rfl 5 (by decide) (hts _ q34) rfl dX0_stretchWords_11 ?_
    refine lv_iload_n hx hb dX0_stretchWords_14 rfl (lv_at hl 1 rfl) ?_
    refine ru_ald hx hb V 4 rfl (by decide) (by omega) dX0_stretchWords_15 ?_
    refine lv_iload_n hx hb dX0_stretchWords_16 rfl (lv_at hl 1 rfl) ?_
    refine ru_isub hx hb (by omega) dX0_stretchWords_17 ?_
    refine lv_istore_n (lv' := [(2, .int (nI ((we i) - i))), (0, .ref h), (1, .int (nI i))]) hx hb dX0_stretchWords_18 rfl hl (by decide) rfl (fun ls hl => ?_)
    refine lv_aload_n hx hb dX0_stretchWords_19 rfl (lv_at hl 1 rfl) ?_
    refine ru_get0 hx hb hts hown V 0 rfl 3 (by decide) (hts _ q32) rfl dX0_stretchWords_20 ?_
    refine lv_iload_n hx hb dX0_stretchWords_23 rfl (lv_at hl 2 rfl) ?_
    refine lv_bipush (v := nI 33) hx hb dX0_stretchWords_24 (by decide) ?_
    refine ru_imul hx hb dX0_stretchWords_26 ?_
    refine lv_iload_n hx hb dX0_stretchWords_27 rfl (lv_at hl 2 rfl) ?_
    refine ru_iadd hx hb dX0_stretchWords_28 ?_
    refine lv_iload_n hx hb dX0_stretchWords_29 rfl (lv_at hl 0 rfl) ?_
    refine ru_iadd hx hb dX0_stretchWords_30 ?_
    refine ru_ald hx hb V 2 rfl (by decide) (by omega) dX0_stretchWords_31 ?_
    refine ru_top (y := (ru_lce t n i (we i))) (by rw [show i * 33 + i + (we i - i) = i * 33 + we i by omega]; exact hO i (we i) (by omega) hN2) ?_
    refine lv_istore_n (lv' := [(3, .int (nI (ru_lce t n i (we i)))), (2, .int (nI ((we i) - i))), (0, .ref h), (1, .int (nI i))]) hx hb dX0_stretchWords_32 rfl hl (by decide) rfl (fun ls hl => ?_)
    refine lv_iload_n hx hb dX0_stretchWords_33 rfl (lv_at hl 3 rfl) ?_
    refine ru_if_le (tgt := 57) hx hb dX0_stretchWords_34 (by decide) (by omega) (fun c_34 => ?_) (fun c_34 => ?_)
    · refine lv_iconst (v := nI 0) hx hb dX0_stretchWords_57 (by decide) ?_
      refine ru_top (y := (ru_lft t i (we i))) (by unfold ru_lft; rw [if_neg (by omega)]) ?_
      refine lv_istore (lv' := [(4, .int (nI (ru_lft t i (we i)))), (3, .int (nI (ru_lce t n i (we i)))), (2, .int (nI ((we i) - i))), (0, .ref h), (1, .int (nI i))]) hx hb dX0_stretchWords_58 hl (by decide) rfl (fun ls hl => ?_)
      refine lv_iload_n hx hb dX0_stretchWords_60 rfl (lv_at hl 4 rfl) ?_
      refine lv_iload hx hb dX0_stretchWords_61 (lv_at hl 0 rfl) ?_
      refine ru_isub hx hb (by omega) dX0_stretchWords_63 ?_
      refine lv_istore (lv' := [(5, .int (nI (i - (ru_lft t i (we i))))), (4, .int (nI (ru_lft t i (we i)))), (3, .int (nI (ru_lce t n i (we i)))), (2, .int (nI ((we i) - i))), (0, .ref h), (1, .int (nI i))]) hx hb dX0_stretchWords_64 hl (by decide) rfl (fun ls hl => ?_)
      refine lv_iload_n hx hb dX0_stretchWords_66 rfl (lv_at hl 5 rfl) ?_
      refine lv_iload_n hx hb dX0_stretchWords_67 rfl (lv_at hl 3 rfl) ?_
      refine ru_iadd hx hb dX0_stretchWords_68 ?_
      refine ru_top (y := (we i)) (by omega) ?_
      refine lv_iload_n hx hb dX0_stretchWords_69 rfl (lv_at hl 2 rfl) ?_
      refine ru_iadd hx hb dX0_stretchWords_70 ?_
      refine lv_istore (lv' := [(6, .int (nI (we i + (ru_lce t n i (we i))))), (5, .int (nI (i - (ru_lft t i (we i))))), (4, .int (nI (ru_lft t i (we i)))), (3, .int (nI (ru_lce t n i (we i)))), (2, .int (nI ((we i) - i))), (0, .ref h), (1, .int (nI i))]) hx hb dX0_stretchWords_71 hl (by decide) rfl (fun ls hl => ?_)
      refine lv_iload hx hb dX0_stretchWords_73 (lv_at hl 0 rfl) ?_
      refine lv_iload hx hb dX0_stretchWords_75 (lv_at hl 1 rfl) ?_
      refine ru_isub hx hb (by omega) dX0_stretchWords_77 ?_
      refine lv_iconst (v := nI 2) hx hb dX0_stretchWords_78 (by decide) ?_
      refine lv_iload_n hx hb dX0_stretchWords_79 rfl (lv_at hl 4 rfl) ?_
      refine ru_imul hx hb dX0_stretchWords_80 ?_
      refine ru_icmp_lt (tgt := 102) hx hb dX0_stretchWords_81 (by decide) (by omega) (by omega) (fun c_81 => ?_) (fun c_81 => ?_)
      · refine lv_iinc (v := nI (i + 1)) (lv' := [(1, .int (nI (i + 1))), (6, .int (nI (we i + (ru_lce t n i (we i))))), (5, .int (nI (i - (ru_lft t i (we i))))), (4, .int (nI (ru_lft t i (we i)))), (3, .int (nI (ru_lce t n i (we i)))), (2, .int (nI ((we i) - i))), (0, .ref h)]) hx hb dX0_stretchWords_102 hl (k := 6) rfl (ru_inc _) (by decide) rfl (fun ls hl => ?_)
        refine lv_goto (tgt := 2) hx hb dX0_stretchWords_105 (by decide) ?_
        exact ih_2 (i + 1) fd1 fr1 to1 st1 _ _ _ (by omega) ⟨by omega, hLs, by omega, ru_Cov_s hCov hN (fun hlen => by first | omega | exact ru_guard ht hN (by omega) (hC0.resolve_left (by omega)) hlen), hC0⟩ (lv_sub hl [6, 0] rfl) V
      · refine lv_aload_n hx hb dX0_stretchWords_84 rfl (lv_at hl 5 rfl) ?_
        refine ru_get0 hx hb hts hown V 0 rfl 7 (by decide) (hts _ q36) rfl dX0_stretchWords_85 ?_
        refine lv_bipush (v := nI 63) hx hb dX0_stretchWords_88 (by decide) ?_
        refine ru_icmp_ge (tgt := 102) hx hb dX0_stretchWords_90 (by decide) (by omega) (by omega) (fun c_90 => ?_) (fun c_90 => ?_)
        · refine lv_iinc (v := nI (i + 1)) (lv' := [(1, .int (nI (i + 1))), (6, .int (nI (we i + (ru_lce t n i (we i))))), (5, .int (nI (i - (ru_lft t i (we i))))), (4, .int (nI (ru_lft t i (we i)))), (3, .int (nI (ru_lce t n i (we i)))), (2, .int (nI ((we i) - i))), (0, .ref h)]) hx hb dX0_stretchWords_102 hl (k := 6) rfl (ru_inc _) (by decide) rfl (fun ls hl => ?_)
          refine lv_goto (tgt := 2) hx hb dX0_stretchWords_105 (by decide) ?_
          exact ih_2 (i + 1) fd1 fr1 to1 st1 _ _ _ (by omega) ⟨by omega, hLs, by omega, ru_Cov_s hCov hN (fun hlen => by first | omega | exact ru_guard ht hN (by omega) (hC0.resolve_left (by omega)) hlen), hC0⟩ (lv_sub hl [6, 0] rfl) V
        · have hRun := ru_found ht hN (by omega)
          have hbd : ∀ k, k < fd1 → fr1 k < 100 ∧ st1 k < 100 := fun k hk => by have h1 := (hLs.1 k hk).2.1; have h2 := (hLs.1 k hk).2.2.1; omega
          refine lv_aload_n hx hb dX0_stretchWords_93 rfl (lv_at hl 5 rfl) ?_
          refine lv_iload hx hb dX0_stretchWords_94 (lv_at hl 1 rfl) ?_
          refine lv_iload hx hb dX0_stretchWords_96 (lv_at hl 0 rfl) ?_
          refine lv_iload_n hx hb dX0_stretchWords_98 rfl (lv_at hl 4 rfl) ?_
          refine ru_callVV (w1 := ru_X d h a n t rd ow bw we fo fd1 fr1 to1 st1) (w2 := []) (As := [.int (nI (i - (ru_lft t i (we i)))), .int (nI (we i + (ru_lce t n i (we i)))), .int (nI ((we i) - i))]) (rest := []) S0 V (met_X0_keep l D d h a n t rd ow bw we fo fd1 fr1 to1 st1 (i - (ru_lft t i (we i))) (we i + (ru_lce t n i (we i))) ((we i) - i) (by omega) hLs.2 hbd (by omega) (by omega)) (cwV 3 hts (lw_V q123 q125 qs8 q19 q126) rfl rfl rfl (by decide +kernel) ⟨Nat.le_of_ble_eq_true rfl, Nat.le_of_ble_eq_true rfl⟩) 0 rfl rfl rfl hl.1 rfl (Nat.le_of_ble_eq_true rfl) dX0_stretchWords_99 ⟨Nat.zero_le _, Nat.zero_le _⟩ (fun u H locs hp V => ?_)
          obtain ⟨fd2, fr2, to2, st2⟩ := u
          have V : ru_V D d A s s.heap H locs (ru_X d h a n t rd ow bw we fo fd2 fr2 to2 st2) := V
          have hp : ru_K fd1 fr1 to1 st1 (i - ru_lft t i (we i)) (we i + ru_lce t n i (we i)) (we i - i) fd2 fr2 to2 st2 := hp
          refine lv_iinc (v := nI (i + 1)) (lv' := [(1, .int (nI (i + 1))), (6, .int (nI (we i + (ru_lce t n i (we i))))), (5, .int (nI (i - (ru_lft t i (we i))))), (4, .int (nI (ru_lft t i (we i)))), (3, .int (nI (ru_lce t n i (we i)))), (2, .int (nI ((we i) - i))), (0, .ref h)]) hx hb dX0_stretchWords_102 hl (k := 6) rfl (ru_inc _) (by decide) rfl (fun ls hl => ?_)
          refine lv_goto (tgt := 2) hx hb dX0_stretchWords_105 (by decide) ?_
          exact ih_2 (i + 1) fd2 fr2 to2 st2 _ _ _ (by omega) ⟨by omega, ru_Lst_K hLs hRun hp, by have := hp.2.1; omega, ru_Cov_s (ru_Cov_K hCov hp) hN (fun _ => hp.2.2.2.2.2), hC0.imp id (fun q => ru_Cov_K q hp)⟩ (lv_sub hl [6, 0] rfl) V
    · refine lv_aload_n hx hb dX0_stretchWords_37 rfl (lv_at hl 2 rfl) ?_
      refine ru_get0 hx hb hts hown V 0 rfl 4 (by decide) (hts _ q33) rfl dX0_stretchWords_38 ?_
      refine lv_iload_n hx hb dX0_stretchWords_41 rfl (lv_at hl 3 rfl) ?_
      refine lv_iconst (v := nI 1) hx hb dX0_stretchWords_42 (by decide) ?_
      refine ru_isub hx hb (by omega) dX0_stretchWords_43 ?_
      refine lv_bipush (v := nI 33) hx hb dX0_stretchWords_44 (by decide) ?_
      refine ru_imul hx hb dX0_stretchWords_46 ?_
      refine lv_iload_n hx hb dX0_stretchWords_47 rfl (lv_at hl 3 rfl) ?_
      refine ru_iadd hx hb dX0_stretchWords_48 ?_
      refine lv_iload_n hx hb dX0_stretchWords_49 rfl (lv_at hl 1 rfl) ?_
      refine ru_iadd hx hb dX0_stretchWords_50 ?_
      refine lv_iconst (v := nI 1) hx hb dX0_stretchWords_51 (by decide) ?_
      refine ru_isub hx hb (by omega) dX0_stretchWords_52 ?_
      refine ru_ald hx hb V 3 rfl (by decide) (by omega) dX0_stretchWords_53 ?_
      refine ru_top (y := (ru_lft t i (we i))) (by rw [show (i - 1) * 33 + i + (we i - i) - 1 = (i - 1) * 33 + (we i - 1) by omega, hB _ _ (by omega) (by omega)]; unfold ru_lft; rw [if_pos c_34]) ?_
      refine lv_goto (tgt := 58) hx hb dX0_stretchWords_54 (by decide) ?_
      refine lv_istore (lv' := [(4, .int (nI (ru_lft t i (we i)))), (3, .int (nI (ru_lce t n i (we i)))), (2, .int (nI ((we i) - i))), (0, .ref h), (1, .int (nI i))]) hx hb dX0_stretchWords_58 hl (by decide) rfl (fun ls hl => ?_)
      refine lv_iload_n hx hb dX0_stretchWords_60 rfl (lv_at hl 4 rfl) ?_
      refine lv_iload hx hb dX0_stretchWords_61 (lv_at hl 0 rfl) ?_
      refine ru_isub hx hb (by omega) dX0_stretchWords_63 ?_
      refine lv_istore (lv' := [(5, .int (nI (i - (ru_lft t i (we i))))), (4, .int (nI (ru_lft t i (we i)))), (3, .int (nI (ru_lce t n i (we i)))), (2, .int (nI ((we i) - i))), (0, .ref h), (1, .int (nI i))]) hx hb dX0_stretchWords_64 hl (by decide) rfl (fun ls hl => ?_)
      refine lv_iload_n hx hb dX0_stretchWords_66 rfl (lv_at hl 5 rfl) ?_
      refine lv_iload_n hx hb dX0_stretchWords_67 rfl (lv_at hl 3 rfl) ?_
      refine ru_iadd hx hb dX0_stretchWords_68 ?_
      refine ru_top (y := (we i)) (by omega) ?_
      refine lv_iload_n hx hb dX0_stretchWords_69 rfl (lv_at hl 2 rfl) ?_
      refine ru_iadd hx hb dX0_stretchWords_70 ?_
      refine lv_istore (lv' := [(6, .int (nI (we i + (ru_lce t n i (we i))))), (5, .int (nI (i - (ru_lft t i (we i))))), (4, .int (nI (ru_lft t i (we i)))), (3, .int (nI (ru_lce t n i (we i)))), (2, .int (nI ((we i) - i))), (0, .ref h), (1, .int (nI i))]) hx hb dX0_stretchWords_71 hl (by decide) rfl (fun ls hl => ?_)
      refine lv_iload hx hb dX0_stretchWords_73 (lv_at hl 0 rfl) ?_
      refine lv_iload hx hb dX0_stretchWords_75 (lv_at hl 1 rfl) ?_
      refine ru_isub hx hb (by omega) dX0_stretchWords_77 ?_
      refine lv_iconst (v := nI 2) hx hb dX0_stretchWords_78 (by decide) ?_
      refine lv_iload_n hx hb dX0_stretchWords_79 rfl (lv_at hl 4 rfl) ?_
      refine ru_imul hx hb dX0_stretchWords_80 ?_
      refine ru_icmp_lt (tgt := 102) hx hb dX0_stretchWords_81 (by decide) (by omega) (by omega) (fun c_81 => ?_) (fun c_81 => ?_)
      · refine lv_iinc (v := nI (i + 1)) (lv' := [(1, .int (nI (i + 1))), (6, .int (nI (we i + (ru_lce t n i (we i))))), (5, .int (nI (i - (ru_lft t i (we i))))), (4, .int (nI (ru_lft t i (we i)))), (3, .int (nI (ru_lce t n i (we i)))), (2, .int (nI ((we i) - i))), (0, .ref h)]) hx hb dX0_stretchWords_102 hl (k := 6) rfl (ru_inc _) (by decide) rfl (fun ls hl => ?_)
        refine lv_goto (tgt := 2) hx hb dX0_stretchWords_105 (by decide) ?_
        exact ih_2 (i + 1) fd1 fr1 to1 st1 _ _ _ (by omega) ⟨by omega, hLs, by omega, ru_Cov_s hCov hN (fun hlen => by first | omega | exact ru_guard ht hN (by omega) (hC0.resolve_left (by omega)) hlen), hC0⟩ (lv_sub hl [6, 0] rfl) V
      · refine lv_aload_n hx hb dX0_stretchWords_84 rfl (lv_at hl 5 rfl) ?_
        refine ru_get0 hx hb hts hown V 0 rfl 7 (by decide) (hts _ q36) rfl dX0_stretchWords_85 ?_
        refine lv_bipush (v := nI 63) hx hb dX0_stretchWords_88 (by decide) ?_
        refine ru_icmp_ge (tgt := 102) hx hb dX0_stretchWords_90 (by decide) (by omega) (by omega) (fun c_90 => ?_) (fun c_90 => ?_)
        · refine lv_iinc (v := nI (i + 1)) (lv' := [(1, .int (nI (i + 1))), (6, .int (nI (we i + (ru_lce t n i (we i))))), (5, .int (nI (i - (ru_lft t i (we i))))), (4, .int (nI (ru_lft t i (we i)))), (3, .int (nI (ru_lce t n i (we i)))), (2, .int (nI ((we i) - i))), (0, .ref h)]) hx hb dX0_stretchWords_102 hl (k := 6) rfl (ru_inc _) (by decide) rfl (fun ls hl => ?_)
          refine lv_goto (tgt := 2) hx hb dX0_stretchWords_105 (by decide) ?_
          exact ih_2 (i + 1) fd1 fr1 to1 st1 _ _ _ (by omega) ⟨by omega, hLs, by omega, ru_Cov_s hCov hN (fun hlen => by first | omega | exact ru_guard ht hN (by omega) (hC0.resolve_left (by omega)) hlen), hC0⟩ (lv_sub hl [6, 0] rfl) V
        · have hRun := ru_found ht hN (by omega)
          have hbd : ∀ k, k < fd1 → fr1 k < 100 ∧ st1 k < 100 := fun k hk => by have h1 := (hLs.1 k hk).2.1; have h2 := (hLs.1 k hk).2.2.1; omega
          refine lv_aload_n hx hb dX0_stretchWords_93 rfl (lv_at hl 5 rfl) ?_
          refine lv_iload hx hb dX0_stretchWords_94 (lv_at hl 1 rfl) ?_
          refine lv_iload hx hb dX0_stretchWords_96 (lv_at hl 0 rfl) ?_
          refine lv_iload_n hx hb dX0_stretchWords_98 rfl (lv_at hl 4 rfl) ?_
          refine ru_callVV (w1 := ru_X d h a n t rd ow bw we fo fd1 fr1 to1 st1) (w2 := []) (As := [.int (nI (i - (ru_lft t i (we i)))), .int (nI (we i + (ru_lce t n i (we i)))), .int (nI ((we i) - i))]) (rest := []) S0 V (met_X0_keep l D d h a n t rd ow bw we fo fd1 fr1 to1 st1 (i - (ru_lft t i (we i))) (we i + (ru_lce t n i (we i))) ((we i) - i) (by omega) hLs.2 hbd (by omega) (by omega)) (cwV 3 hts (lw_V q123 q125 qs8 q19 q126) rfl rfl rfl (by decide +kernel) ⟨Nat.le_of_ble_eq_true rfl, Nat.le_of_ble_eq_true rfl⟩) 0 rfl rfl rfl hl.1 rfl (Nat.le_of_ble_eq_true rfl) dX0_stretchWords_99 ⟨Nat.zero_le _, Nat.zero_le _⟩ (fun u H locs hp V => ?_)
          obtain ⟨fd2, fr2, to2, st2⟩ := u
          have V : ru_V D d A s s.heap H locs (ru_X d h a n t rd ow bw we fo fd2 fr2 to2 st2) := V
          have hp : ru_K fd1 fr1 to1 st1 (i - ru_lft t i (we i)) (we i + ru_lce t n i (we i)) (we i - i) fd2 fr2 to2 st2 := hp
          refine lv_iinc (v := nI (i + 1)) (lv' := [(1, .int (nI (i + 1))), (6, .int (nI (we i + (ru_lce t n i (we i))))), (5, .int (nI (i - (ru_lft t i (we i))))), (4, .int (nI (ru_lft t i (we i)))), (3, .int (nI (ru_lce t n i (we i)))), (2, .int (nI ((we i) - i))), (0, .ref h)]) hx hb dX0_stretchWords_102 hl (k := 6) rfl (ru_inc _) (by decide) rfl (fun ls hl => ?_)
          refine lv_goto (tgt := 2) hx hb dX0_stretchWords_105 (by decide) ?_
          exact ih_2 (i + 1) fd2 fr2 to2 st2 _ _ _ (by omega) ⟨by omega, ru_Lst_K hLs hRun hp, by have := hp.2.1; omega, ru_Cov_s (ru_Cov_K hCov hp) hN (fun _ => hp.2.2.2.2.2), hC0.imp id (fun q => ru_Cov_K q hp)⟩ (lv_sub hl [6, 0] rfl) V

set_option maxHeartbeats 4000000 in
set_option maxRecDepth 100000 in
theorem met_X0_prepare (l : Launch) (D : va_G) (d : ClassId) (h : Nat) (a : Nat → Nat) (n : Nat) (t : Nat → Nat) (rd : Nat) (ow bw we fo : Nat → Nat) (fd : Nat) (fr to st : Nat → Nat) (hn : n ≤ 32) (ht : ∀ k, t k < 4) (hrd : rd ≤ 1) (hPR : rd ≠ 0 → ru_PR t n ow fo fd fr to st) : ru_MV l yX0_prepare cX0_prepare 2 (ru_R 2 51) D d [.ref h] (ru_X d h a n t rd ow bw we fo fd fr to st) (fun u : (Nat → Nat) × (Nat → Nat) × (Nat → Nat) × (Nat → Nat) × Nat × (Nat → Nat) × (Nat → Nat) × (Nat → Nat) => ru_PR t n u.1 u.2.2.2.1 u.2.2.2.2.1 u.2.2.2.2.2.1 u.2.2.2.2.2.2.1 u.2.2.2.2.2.2.2) (fun u => ru_X d h a n t 1 (u.1) (u.2.1) (u.2.2.1) (u.2.2.2.1) (u.2.2.2.2.1) (u.2.2.2.2.2.1) (u.2.2.2.2.2.2.1) (u.2.2.2.2.2.2.2)) := by
  refine ru_MV.of (by decide) (Nat.le_of_ble_eq_true rfl) ?_
  intro pr ev s mi below me co A ls hx hb hr hlocks S0 hl V
  have hts := S0.2.2.2.2
  have hown := S0.2.2.2.1
  have hl : lv_has ls 2 [(0, .ref h)] := hl
  refine lv_aload_n hx hb dX0_prepare_0 rfl (lv_at hl 0 rfl) ?_
  refine ru_get0 hx hb hts hown V 0 rfl 2 (by decide) (hts _ q31) rfl dX0_prepare_1 ?_
  refine ru_if_eq (tgt := 8) hx hb dX0_prepare_4 (by decide) (by omega) (fun c_4 => ?_) (fun c_4 => ?_)
  · refine lv_aload_n hx hb dX0_prepare_8 rfl (lv_at hl 0 rfl) ?_
    refine lv_iconst (v := nI 1) hx hb dX0_prepare_9 (by decide) ?_
    refine ru_put0 hx hb hts hown V 0 rfl 2 (by decide) (hts _ q31) rfl (ty := .boolean) (by decide +kernel) rfl rfl (Nat.le_of_ble_eq_true rfl) dX0_prepare_10 (fun H locs V => ?_)
    have V : ru_V D d A s s.heap H locs (ru_X d h a n t 1 ow bw we fo fd fr to st) := V
    refine lv_aload_n hx hb dX0_prepare_13 rfl (lv_at hl 0 rfl) ?_
    refine ru_callVV (w1 := ru_X d h a n t 1 ow bw we fo fd fr to st) (w2 := []) (As := []) (rest := []) S0 V (met_X0_fillOnward l D d h a n t 1 ow bw we fo fd fr to st hn ht) (cwV 0 hts (lw_V q103 q105 qs3 q19 q106) rfl rfl rfl (by decide +kernel) ⟨Nat.le_of_ble_eq_true rfl, Nat.le_of_ble_eq_true rfl⟩) 0 rfl rfl rfl hl.1 rfl (Nat.le_of_ble_eq_true rfl) dX0_prepare_14 ⟨Nat.zero_le _, Nat.zero_le _⟩ (fun u H locs hp V => ?_)
    obtain ⟨ow1, rfl⟩ : ∃ z, z = u := ⟨_, rfl⟩
    have V : ru_V D d A s s.heap H locs (ru_X d h a n t 1 ow1 bw we fo fd fr to st) := V
    have hO := hp
    refine lv_aload_n hx hb dX0_prepare_17 rfl (lv_at hl 0 rfl) ?_
    refine ru_callVV (w1 := ru_X d h a n t 1 ow1 bw we fo fd fr to st) (w2 := []) (As := []) (rest := []) S0 V (met_X0_fillBackward l D d h a n t 1 ow1 bw we fo fd fr to st hn ht) (cwV 0 hts (lw_V q107 q109 qs4 q19 q110) rfl rfl rfl (by decide +kernel) ⟨Nat.le_of_ble_eq_true rfl, Nat.le_of_ble_eq_true rfl⟩) 0 rfl rfl rfl hl.1 rfl (Nat.le_of_ble_eq_true rfl) dX0_prepare_18 ⟨Nat.zero_le _, Nat.zero_le _⟩ (fun u H locs hp V => ?_)
    obtain ⟨bw1, rfl⟩ : ∃ z, z = u := ⟨_, rfl⟩
    have V : ru_V D d A s s.heap H locs (ru_X d h a n t 1 ow1 bw1 we fo fd fr to st) := V
    have hB := hp
    refine lv_aload_n hx hb dX0_prepare_21 rfl (lv_at hl 0 rfl) ?_
    refine lv_iconst (v := nI 0) hx hb dX0_prepare_22 (by decide) ?_
    refine ru_put0 hx hb hts hown V 0 rfl 7 (by decide) (hts _ q36) rfl (ty := .int) (by decide +kernel) rfl rfl (Nat.le_of_ble_eq_true rfl) dX0_prepare_23 (fun H locs V => ?_)
    have V : ru_V D d A s s.heap H locs (ru_X d h a n t 1 ow1 bw1 we fo 0 fr to st) := V
    refine lv_aload_n hx hb dX0_prepare_26 rfl (lv_at hl 0 rfl) ?_
    refine lv_iconst (v := nI 0) hx hb dX0_prepare_27 (by decide) ?_
    refine ru_callVV (w1 := ru_X d h a n t 1 ow1 bw1 we fo 0 fr to st) (w2 := []) (As := [.int (nI 0)]) (rest := []) S0 V (met_X0_findWords l D d h a n t 1 ow1 bw1 we fo 0 fr to st hn ht hO 0 (Or.inl rfl)) (cwV 1 hts (lw_V q111 q113 qs5 q19 q114) rfl rfl rfl (by decide +kernel) ⟨Nat.le_of_ble_eq_true rfl, Nat.le_of_ble_eq_true rfl⟩) 0 rfl rfl rfl hl.1 rfl (Nat.le_of_ble_eq_true rfl) dX0_prepare_28 ⟨Nat.zero_le _, Nat.zero_le _⟩ (fun u H locs hp V => ?_)
    obtain ⟨we1, rfl⟩ : ∃ z, z = u := ⟨_, rfl⟩
    have V : ru_V D d A s s.heap H locs (ru_X d h a n t 1 ow1 bw1 we1 fo 0 fr to st) := V
    have hW0 := hp
    refine lv_iconst (v := nI 0) hx hb dX0_prepare_31 (by decide) ?_
    refine lv_istore_n (lv' := [(1, .int (nI 0)), (0, .ref h)]) hx hb dX0_prepare_32 rfl hl (by decide) rfl (fun ls hl => ?_)
    refine ru_loop2 (nL := 2) (head := 33) (fun (i : Nat) (fo1 : Nat → Nat) => [(0, .ref h), (1, .int (nI i))]) (fun (i : Nat) (fo1 : Nat → Nat) => ru_X d h a n t 1 ow1 bw1 we1 fo1 0 fr to st) (fun (i : Nat) (fo1 : Nat → Nat) => i ≤ n ∧ ∀ x, x < i → fo1 x = we1 x) (fun (i : Nat) (fo1 : Nat → Nat) => 40 - i) ?_ 0 fo _ _ _ ⟨by omega, fun x hx => by omega⟩ (lv_sub hl [1, 0] rfl) V
    intro i fo1 H locs ls hP_33 hl V ih_33
    have hl : lv_has ls 2 [(0, .ref h), (1, .int (nI i))] := hl
    have V : ru_V D d A s s.heap H locs (ru_X d h a n t 1 ow1 bw1 we1 fo1 0 fr to st) := V
    obtain ⟨hi, hfo⟩ := hP_33
    refine lv_iload_n hx hb dX0_prepare_33 rfl (lv_at hl 1 rfl) ?_
    refine lv_aload_n hx hb dX0_prepare_34 rfl (lv_at hl 0 rfl) ?_
    refine ru_get0 hx hb hts hown V 0 rfl 0 (by decide) (hts _ q29) rfl dX0_prepare_35 ?_
    refine ru_icmp_ge (tgt := 59) hx hb dX0_prepare_38 (by decide) (by omega) (by omega) (fun c_38 => ?_) (fun c_38 => ?_)
    · refine lv_aload_n hx hb dX0_prepare_59 rfl (lv_at hl 0 rfl) ?_
      refine ru_callVV (w1 := ru_X d h a n t 1 ow1 bw1 we1 fo1 0 fr to st) (w2 := []) (As := []) (rest := []) S0 V (met_X0_stretchWords l D d h a n t 1 ow1 bw1 we1 fo1 0 fr to st hn ht hO hB 0 hW0 ⟨fun k hk => by omega, fun x y h1 h2 => by omega⟩ (by omega) (Or.inl rfl)) (cwV 0 hts (lw_V q119 q121 qs7 q19 q122) rfl rfl rfl (by decide +kernel) ⟨Nat.le_of_ble_eq_true rfl, Nat.le_of_ble_eq_true rfl⟩) 0 rfl rfl rfl hl.1 rfl (Nat.le_of_ble_eq_true rfl) dX0_prepare_60 ⟨Nat.zero_le _, Nat.zero_le _⟩ (fun u H locs hp V => ?_)
      obtain ⟨fd2, fr2, to2, st2⟩ := u
      have V : ru_V D d A s s.heap H locs (ru_X d h a n t 1 ow1 bw1 we1 fo1 fd2 fr2 to2 st2) := V
      obtain ⟨hL2, hf2, hC2, -⟩ := hp
      refine lv_aload_n hx hb dX0_prepare_63 rfl (lv_at hl 0 rfl) ?_
      refine lv_iconst (v := nI 1) hx hb dX0_prepare_64 (by decide) ?_
      refine ru_callVV (w1 := ru_X d h a n t 1 ow1 bw1 we1 fo1 fd2 fr2 to2 st2) (w2 := []) (As := [.int (nI 1)]) (rest := []) S0 V (met_X0_findWords l D d h a n t 1 ow1 bw1 we1 fo1 fd2 fr2 to2 st2 hn ht hO 1 (Or.inr rfl)) (cwV 1 hts (lw_V q111 q113 qs5 q19 q114) rfl rfl rfl (by decide +kernel) ⟨Nat.le_of_ble_eq_true rfl, Nat.le_of_ble_eq_true rfl⟩) 0 rfl rfl rfl hl.1 rfl (Nat.le_of_ble_eq_true rfl) dX0_prepare_65 ⟨Nat.zero_le _, Nat.zero_le _⟩ (fun u H locs hp V => ?_)
      obtain ⟨we2, rfl⟩ : ∃ z, z = u := ⟨_, rfl⟩
      have V : ru_V D d A s s.heap H locs (ru_X d h a n t 1 ow1 bw1 we2 fo1 fd2 fr2 to2 st2) := V
      have hW1 := hp
      refine lv_aload_n hx hb dX0_prepare_68 rfl (lv_at hl 0 rfl) ?_
      refine ru_callVV (w1 := ru_X d h a n t 1 ow1 bw1 we2 fo1 fd2 fr2 to2 st2) (w2 := []) (As := []) (rest := []) S0 V (met_X0_stretchWords l D d h a n t 1 ow1 bw1 we2 fo1 fd2 fr2 to2 st2 hn ht hO hB 1 hW1 hL2 (by omega) (Or.inr hC2)) (cwV 0 hts (lw_V q119 q121 qs7 q19 q122) rfl rfl rfl (by decide +kernel) ⟨Nat.le_of_ble_eq_true rfl, Nat.le_of_ble_eq_true rfl⟩) 0 rfl rfl rfl hl.1 rfl (Nat.le_of_ble_eq_true rfl) dX0_prepare_69 ⟨Nat.zero_le _, Nat.zero_le _⟩ (fun u H locs hp V => ?_)
      obtain ⟨fd3, fr3, to3, st3⟩ := u
      have V : ru_V D d A s s.heap H locs (ru_X d h a n t 1 ow1 bw1 we2 fo1 fd3 fr3 to3 st3) := V
      obtain ⟨hL3, hf3, hC3, hC3b⟩ := hp
      have hfin : ru_PR t n ow1 fo1 fd3 fr3 to3 st3 := ⟨hO, fun x hx => by rw [hfo x (by omega)]; exact hW0 x hx, ru_All_of ht hL3 (by rcases hC3b with q | q; (· rw [q] at hC2 hf2 hL2; exact fun x e h1 h2 h3 => by obtain ⟨k, k1, -⟩ := hC2 x e h1 h2 h3; omega); (· exact q)) hC3, Nat.le_trans hf3 (by omega)⟩
      exact ru_vret hx hb hr hlocks (ow1, bw1, we2, fo1, fd3, fr3, to3, st3) V hfin dX0_prepare_72
    · refine lv_aload_n hx hb dX0_prepare_41 rfl (lv_at hl 0 rfl) ?_
      refine ru_get0 hx hb hts hown V 0 rfl 6 (by decide) (hts _ q35) rfl dX0_prepare_42 ?_
      refine lv_iload_n hx hb dX0_prepare_45 rfl (lv_at hl 1 rfl) ?_
      refine lv_aload_n hx hb dX0_prepare_46 rfl (lv_at hl 0 rfl) ?_
      refine ru_get0 hx hb hts hown V 0 rfl 5 (by decide) (hts _ q34) rfl dX0_prepare_47 ?_
      refine lv_iload_n hx hb dX0_prepare_50 rfl (lv_at hl 1 rfl) ?_
      refine ru_ald hx hb V 4 rfl (by decide) (by omega) dX0_prepare_51 ?_
      refine ru_ast hx hb V 5 rfl (by decide) (by omega) dX0_prepare_52 (fun H locs V => ?_)
      have V : ru_V D d A s s.heap H locs (ru_X d h a n t 1 ow1 bw1 we1 (va_up fo1 i (we1 i)) 0 fr to st) := V
      refine lv_iinc (v := nI (i + 1)) (lv' := [(1, .int (nI (i + 1))), (0, .ref h)]) hx hb dX0_prepare_53 hl (k := 1) rfl (ru_inc _) (by decide) rfl (fun ls hl => ?_)
      refine lv_goto (tgt := 33) hx hb dX0_prepare_56 (by decide) ?_
      exact ih_33 (i + 1) (va_up fo1 i (we1 i)) _ _ _ (by omega) ⟨by omega, fun x hx => by by_cases e : x = i; (· rw [e, ru_ups]); (· rw [ru_upn e]; exact hfo x (by omega))⟩ (lv_sub hl [1, 0] rfl) V
  · have e1 : rd = 1 := by omega
    subst e1
    exact ru_vret hx hb hr hlocks (ow, bw, we, fo, fd, fr, to, st) V (hPR c_4) dX0_prepare_7

set_option maxHeartbeats 4000000 in
set_option maxRecDepth 100000 in
theorem met_X0_runs (l : Launch) (D : va_G) (d : ClassId) (h : Nat) (a : Nat → Nat) (n : Nat) (t : Nat → Nat) (rd : Nat) (ow bw we fo : Nat → Nat) (fd : Nat) (fr to st : Nat → Nat) (hn : n ≤ 32) (ht : ∀ k, t k < 4) (hrd : rd ≤ 1) (hPR : rd ≠ 0 → ru_PR t n ow fo fd fr to st) : ru_MI l yX0_runs cX0_runs 1 (some .int) (ru_R 3 72) D d [.ref h] (ru_X d h a n t rd ow bw we fo fd fr to st) (fun (r : Int32) (u : (Nat → Nat) × (Nat → Nat) × (Nat → Nat) × (Nat → Nat) × Nat × (Nat → Nat) × (Nat → Nat) × (Nat → Nat)) => ru_PR t n u.1 u.2.2.2.1 u.2.2.2.2.1 u.2.2.2.2.2.1 u.2.2.2.2.2.2.1 u.2.2.2.2.2.2.2 ∧ r = nI u.2.2.2.2.1) (fun u => ru_X d h a n t 1 (u.1) (u.2.1) (u.2.2.1) (u.2.2.2.1) (u.2.2.2.2.1) (u.2.2.2.2.2.1) (u.2.2.2.2.2.2.1) (u.2.2.2.2.2.2.2)) := by
  refine ru_MI.of (by decide) (Nat.le_of_ble_eq_true rfl) ?_
  intro pr ev s mi below me co A ls hx hb hr hlocks S0 hl V
  have hts := S0.2.2.2.2
  have hown := S0.2.2.2.1
  have hl : lv_has ls 1 [(0, .ref h)] := hl
  refine lv_aload_n hx hb dX0_runs_0 rfl (lv_at hl 0 rfl) ?_
  refine ru_callVV (w1 := ru_X d h a n t rd ow bw we fo fd fr to st) (w2 := []) (As := []) (rest := []) S0 V (met_X0_prepare l D d h a n t rd ow bw we fo fd fr to st hn ht hrd hPR) (cwV 0 hts (lw_V q99 q101 qs2 q19 q102) rfl rfl rfl (by decide +kernel) ⟨Nat.le_of_ble_eq_true rfl, Nat.le_of_ble_eq_true rfl⟩) 0 rfl rfl rfl hl.1 rfl (Nat.le_of_ble_eq_true rfl) dX0_runs_1 ⟨Nat.zero_le _, Nat.zero_le _⟩ (fun u H locs hp V => ?_)
  obtain ⟨ow, bw, we, fo, fd, fr, to, st⟩ := u
  have V : ru_V D d A s s.heap H locs (ru_X d h a n t 1 ow bw we fo fd fr to st) := V
  have hp : ru_PR t n ow fo fd fr to st := hp
  obtain ⟨hO, hW, hAll, hfd⟩ := id hp
  refine lv_aload_n hx hb dX0_runs_4 rfl (lv_at hl 0 rfl) ?_
  refine ru_get0 hx hb hts hown V 0 rfl 7 (by decide) (hts _ q36) rfl dX0_runs_5 ?_
  exact ru_iret hx hb hr hlocks (ow, bw, we, fo, fd, fr, to, st) V ⟨hp, rfl⟩ dX0_runs_8

set_option maxHeartbeats 4000000 in
set_option maxRecDepth 100000 in
theorem met_X0_noRun (l : Launch) (D : va_G) (d : ClassId) (h : Nat) (a : Nat → Nat) (n : Nat) (t : Nat → Nat) (rd : Nat) (ow bw we fo : Nat → Nat) (fd : Nat) (fr to st : Nat → Nat) (hn : n ≤ 32) (ht : ∀ k, t k < 4) (hrd : rd ≤ 1) (hPR : rd ≠ 0 → ru_PR t n ow fo fd fr to st) (v : Int32) : ru_MI l yX0_noRun cX0_noRun 2 (some .boolean) (ru_R 3 72) D d [.ref h, .int v] (ru_X d h a n t rd ow bw we fo fd fr to st) (fun (r : Int32) (u : (Nat → Nat) × (Nat → Nat) × (Nat → Nat) × (Nat → Nat) × Nat × (Nat → Nat) × (Nat → Nat) × (Nat → Nat)) => ru_PR t n u.1 u.2.2.2.1 u.2.2.2.2.1 u.2.2.2.2.2.1 u.2.2.2.2.2.2.1 u.2.2.2.2.2.2.2 ∧ ((r = nI 1 ∧ ∀ k, k < u.2.2.2.2.1 → v ≠ nI k) ∨ (r = nI 0 ∧ ∃ k, k < u.2.2.2.2.1 ∧ v = nI k))) (fun u => ru_X d h a n t 1 (u.1) (u.2.1) (u.2.2.1) (u.2.2.2.1) (u.2.2.2.2.1) (u.2.2.2.2.2.1) (u.2.2.2.2.2.2.1) (u.2.2.2.2.2.2.2)) := by
  refine ru_MI.of (by decide) (Nat.le_of_ble_eq_true rfl) ?_
  intro pr ev s mi below me co A ls hx hb hr hlocks S0 hl V
  have hts := S0.2.2.2.2
  have hown := S0.2.2.2.1
  have hl : lv_has ls 2 [(0, .ref h), (1, .int v)] := hl
  refine lv_aload_n hx hb dX0_noRun_0 rfl (lv_at hl 0 rfl) ?_
  refine ru_callVV (w1 := ru_X d h a n t rd ow bw we fo fd fr to st) (w2 := []) (As := []) (rest := []) S0 V (met_X0_prepare l D d h a n t rd ow bw we fo fd fr to st hn ht hrd hPR) (cwV 0 hts (lw_V q99 q101 qs2 q19 q102) rfl rfl rfl (by decide +kernel) ⟨Nat.le_of_ble_eq_true rfl, Nat.le_of_ble_eq_true rfl⟩) 0 rfl rfl rfl hl.1 rfl (Nat.le_of_ble_eq_true rfl) dX0_noRun_1 ⟨Nat.zero_le _, Nat.zero_le _⟩ (fun u H locs hp V => ?_)
  obtain ⟨ow, bw, we, fo, fd, fr, to, st⟩ := u
  have V : ru_V D d A s s.heap H locs (ru_X d h a n t 1 ow bw we fo fd fr to st) := V
  have hp : ru_PR t n ow fo fd fr to st := hp
  obtain ⟨hO, hW, hAll, hfd⟩ := id hp
  refine lv_iload_n hx hb dX0_noRun_4 rfl (lv_at hl 1 rfl) ?_
  refine lv_if_lt (tgt := 16) hx hb dX0_noRun_5 (by decide) (fun c_5 => ?_) (fun c_5 => ?_)
  · have hv : ∀ k, k < fd → v ≠ nI k := fun k hk q => by
      first
      | exact nI_pos (n := k) (by omega) (by rw [q] at c_5; exact c_5)
      | exact c_13 (by rw [q]; exact nI_lt hk (by omega))
    refine lv_iconst (v := nI 1) hx hb dX0_noRun_16 (by decide) ?_
    refine lv_goto (tgt := 21) hx hb dX0_noRun_17 (by decide) ?_
    exact ru_zret (v := 1) hx hb hr hlocks (ow, bw, we, fo, fd, fr, to, st) V (by omega) ⟨hp, Or.inl ⟨rfl, hv⟩⟩ dX0_noRun_21
  · refine lv_iload_n hx hb dX0_noRun_8 rfl (lv_at hl 1 rfl) ?_
    refine lv_aload_n hx hb dX0_noRun_9 rfl (lv_at hl 0 rfl) ?_
    refine ru_get0 hx hb hts hown V 0 rfl 7 (by decide) (hts _ q36) rfl dX0_noRun_10 ?_
    refine lv_icmp_lt (tgt := 20) hx hb dX0_noRun_13 (by decide) (fun c_13 => ?_) (fun c_13 => ?_)
    · have hv : ∃ k, k < fd ∧ v = nI k := ru_place (by omega) c_5 c_13
      refine lv_iconst (v := nI 0) hx hb dX0_noRun_20 (by decide) ?_
      exact ru_zret (v := 0) hx hb hr hlocks (ow, bw, we, fo, fd, fr, to, st) V (by omega) ⟨hp, Or.inr ⟨rfl, hv⟩⟩ dX0_noRun_21
    · have hv : ∀ k, k < fd → v ≠ nI k := fun k hk q => by
        first
        | exact nI_pos (n := k) (by omega) (by rw [q] at c_5; exact c_5)
        | exact c_13 (by rw [q]; exact nI_lt hk (by omega))
      refine lv_iconst (v := nI 1) hx hb dX0_noRun_16 (by decide) ?_
      refine lv_goto (tgt := 21) hx hb dX0_noRun_17 (by decide) ?_
      exact ru_zret (v := 1) hx hb hr hlocks (ow, bw, we, fo, fd, fr, to, st) V (by omega) ⟨hp, Or.inl ⟨rfl, hv⟩⟩ dX0_noRun_21

set_option maxHeartbeats 4000000 in
set_option maxRecDepth 100000 in
theorem met_X0_begin (l : Launch) (D : va_G) (d : ClassId) (h : Nat) (a : Nat → Nat) (n : Nat) (t : Nat → Nat) (rd : Nat) (ow bw we fo : Nat → Nat) (fd : Nat) (fr to st : Nat → Nat) (hn : n ≤ 32) (ht : ∀ k, t k < 4) (hrd : rd ≤ 1) (hPR : rd ≠ 0 → ru_PR t n ow fo fd fr to st) (v : Int32) : ru_MI l yX0_begin cX0_begin 2 (some .int) (ru_R 4 93) D d [.ref h, .int v] (ru_X d h a n t rd ow bw we fo fd fr to st) (fun (r : Int32) (u : (Nat → Nat) × (Nat → Nat) × (Nat → Nat) × (Nat → Nat) × Nat × (Nat → Nat) × (Nat → Nat) × (Nat → Nat)) => ru_PR t n u.1 u.2.2.2.1 u.2.2.2.2.1 u.2.2.2.2.2.1 u.2.2.2.2.2.2.1 u.2.2.2.2.2.2.2 ∧ ru_Cr u.2.2.2.2.1 (fun k => u.2.2.2.2.2.1 k) v r) (fun u => ru_X d h a n t 1 (u.1) (u.2.1) (u.2.2.1) (u.2.2.2.1) (u.2.2.2.2.1) (u.2.2.2.2.2.1) (u.2.2.2.2.2.2.1) (u.2.2.2.2.2.2.2)) := by
  refine ru_MI.of (by decide) (Nat.le_of_ble_eq_true rfl) ?_
  intro pr ev s mi below me co A ls hx hb hr hlocks S0 hl V
  have hts := S0.2.2.2.2
  have hown := S0.2.2.2.1
  have hl : lv_has ls 2 [(0, .ref h), (1, .int v)] := hl
  refine lv_aload_n hx hb dX0_begin_0 rfl (lv_at hl 0 rfl) ?_
  refine lv_iload_n hx hb dX0_begin_1 rfl (lv_at hl 1 rfl) ?_
  refine ru_callVI (w1 := ru_X d h a n t rd ow bw we fo fd fr to st) (w2 := []) (As := [.int v]) (rest := []) S0 V (met_X0_noRun l D d h a n t rd ow bw we fo fd fr to st hn ht hrd hPR v) (cwV 1 hts (lw_V q131 q133 qs9 q19 q134) rfl rfl rfl (by decide +kernel) ⟨Nat.le_of_ble_eq_true rfl, Nat.le_of_ble_eq_true rfl⟩) 0 rfl rfl rfl hl.1 rfl (Nat.le_of_ble_eq_true rfl) dX0_begin_2 ⟨Nat.zero_le _, Nat.zero_le _⟩ (fun r u H locs hp V => ?_)
  obtain ⟨ow, bw, we, fo, fd, fr, to, st⟩ := u
  have V : ru_V D d A s s.heap H locs (ru_X d h a n t 1 ow bw we fo fd fr to st) := V
  obtain ⟨hPR2, hp⟩ : ru_PR t n ow fo fd fr to st ∧ ((r = nI 1 ∧ ∀ k, k < fd → v ≠ nI k) ∨ (r = nI 0 ∧ ∃ k, k < fd ∧ v = nI k)) := hp
  have hfd := hPR2.2.2.2
  rcases hp with ⟨rfl, hno⟩ | ⟨rfl, hno⟩
  · refine ru_if_eq (tgt := 13) hx hb dX0_begin_5 (by decide) (by omega) (fun c_5 => ?_) (fun c_5 => ?_)
    · exact absurd c_5 (by omega)
    · refine lv_bipush (v := (-4)) hx hb dX0_begin_8 (by decide) ?_
      refine lv_goto (tgt := 19) hx hb dX0_begin_10 (by decide) ?_
      exact ru_iret hx hb hr hlocks (ow, bw, we, fo, fd, fr, to, st) V ⟨hPR2, Or.inr ⟨hno, rfl⟩⟩ dX0_begin_19
  · refine ru_if_eq (tgt := 13) hx hb dX0_begin_5 (by decide) (by omega) (fun c_5 => ?_) (fun c_5 => ?_)
    · obtain ⟨k, hk, rfl⟩ := hno
      refine lv_aload_n hx hb dX0_begin_13 rfl (lv_at hl 0 rfl) ?_
      refine ru_get0 hx hb hts hown V 0 rfl 8 (by decide) (hts _ q37) rfl dX0_begin_14 ?_
      refine lv_iload_n hx hb dX0_begin_17 rfl (lv_at hl 1 rfl) ?_
      refine ru_ald hx hb V 6 rfl (by decide) (by omega) dX0_begin_18 ?_
      exact ru_iret hx hb hr hlocks (ow, bw, we, fo, fd, fr, to, st) V ⟨hPR2, Or.inl ⟨k, hk, rfl, rfl⟩⟩ dX0_begin_19
    · exact absurd c_5 (by omega)

set_option maxHeartbeats 4000000 in
set_option maxRecDepth 100000 in
theorem met_X0_end (l : Launch) (D : va_G) (d : ClassId) (h : Nat) (a : Nat → Nat) (n : Nat) (t : Nat → Nat) (rd : Nat) (ow bw we fo : Nat → Nat) (fd : Nat) (fr to st : Nat → Nat) (hn : n ≤ 32) (ht : ∀ k, t k < 4) (hrd : rd ≤ 1) (hPR : rd ≠ 0 → ru_PR t n ow fo fd fr to st) (v : Int32) : ru_MI l yX0_end cX0_end 2 (some .int) (ru_R 4 93) D d [.ref h, .int v] (ru_X d h a n t rd ow bw we fo fd fr to st) (fun (r : Int32) (u : (Nat → Nat) × (Nat → Nat) × (Nat → Nat) × (Nat → Nat) × Nat × (Nat → Nat) × (Nat → Nat) × (Nat → Nat)) => ru_PR t n u.1 u.2.2.2.1 u.2.2.2.2.1 u.2.2.2.2.2.1 u.2.2.2.2.2.2.1 u.2.2.2.2.2.2.2 ∧ ru_Cr u.2.2.2.2.1 (fun k => u.2.2.2.2.2.2.1 k) v r) (fun u => ru_X d h a n t 1 (u.1) (u.2.1) (u.2.2.1) (u.2.2.2.1) (u.2.2.2.2.1) (u.2.2.2.2.2.1) (u.2.2.2.2.2.2.1) (u.2.2.2.2.2.2.2)) := by
  refine ru_MI.of (by decide) (Nat.le_of_ble_eq_true rfl) ?_
  intro pr ev s mi below me co A ls hx hb hr hlocks S0 hl V
  have hts := S0.2.2.2.2
  have hown := S0.2.2.2.1
  have hl : lv_has ls 2 [(0, .ref h), (1, .int v)] := hl
  refine lv_aload_n hx hb dX0_end_0 rfl (lv_at hl 0 rfl) ?_
  refine lv_iload_n hx hb dX0_end_1 rfl (lv_at hl 1 rfl) ?_
  refine ru_callVI (w1 := ru_X d h a n t rd ow bw we fo fd fr to st) (w2 := []) (As := [.int v]) (rest := []) S0 V (met_X0_noRun l D d h a n t rd ow bw we fo fd fr to st hn ht hrd hPR v) (cwV 1 hts (lw_V q131 q133 qs9 q19 q134) rfl rfl rfl (by decide +kernel) ⟨Nat.le_of_ble_eq_true rfl, Nat.le_of_ble_eq_true rfl⟩) 0 rfl rfl rfl hl.1 rfl (Nat.le_of_ble_eq_true rfl) dX0_end_2 ⟨Nat.zero_le _, Nat.zero_le _⟩ (fun r u H locs hp V => ?_)
  obtain ⟨ow, bw, we, fo, fd, fr, to, st⟩ := u
  have V : ru_V D d A s s.heap H locs (ru_X d h a n t 1 ow bw we fo fd fr to st) := V
  obtain ⟨hPR2, hp⟩ : ru_PR t n ow fo fd fr to st ∧ ((r = nI 1 ∧ ∀ k, k < fd → v ≠ nI k) ∨ (r = nI 0 ∧ ∃ k, k < fd ∧ v = nI k)) := hp
  have hfd := hPR2.2.2.2
  rcases hp with ⟨rfl, hno⟩ | ⟨rfl, hno⟩
  · refine ru_if_eq (tgt := 13) hx hb dX0_end_5 (by decide) (by omega) (fun c_5 => ?_) (fun c_5 => ?_)
    · exact absurd c_5 (by omega)
    · refine lv_bipush (v := (-4)) hx hb dX0_end_8 (by decide) ?_
      refine lv_goto (tgt := 19) hx hb dX0_end_10 (by decide) ?_
      exact ru_iret hx hb hr hlocks (ow, bw, we, fo, fd, fr, to, st) V ⟨hPR2, Or.inr ⟨hno, rfl⟩⟩ dX0_end_19
  · refine ru_if_eq (tgt := 13) hx hb dX0_end_5 (by decide) (by omega) (fun c_5 => ?_) (fun c_5 => ?_)
    · obtain ⟨k, hk, rfl⟩ := hno
      refine lv_aload_n hx hb dX0_end_13 rfl (lv_at hl 0 rfl) ?_
      refine ru_get0 hx hb hts hown V 0 rfl 9 (by decide) (hts _ q38) rfl dX0_end_14 ?_
      refine lv_iload_n hx hb dX0_end_17 rfl (lv_at hl 1 rfl) ?_
      refine ru_ald hx hb V 7 rfl (by decide) (by omega) dX0_end_18 ?_
      exact ru_iret hx hb hr hlocks (ow, bw, we, fo, fd, fr, to, st) V ⟨hPR2, Or.inl ⟨k, hk, rfl, rfl⟩⟩ dX0_end_19
    · exact absurd c_5 (by omega)

set_option maxHeartbeats 4000000 in
set_option maxRecDepth 100000 in
theorem met_X0_period (l : Launch) (D : va_G) (d : ClassId) (h : Nat) (a : Nat → Nat) (n : Nat) (t : Nat → Nat) (rd : Nat) (ow bw we fo : Nat → Nat) (fd : Nat) (fr to st : Nat → Nat) (hn : n ≤ 32) (ht : ∀ k, t k < 4) (hrd : rd ≤ 1) (hPR : rd ≠ 0 → ru_PR t n ow fo fd fr to st) (v : Int32) : ru_MI l yX0_period cX0_period 2 (some .int) (ru_R 4 93) D d [.ref h, .int v] (ru_X d h a n t rd ow bw we fo fd fr to st) (fun (r : Int32) (u : (Nat → Nat) × (Nat → Nat) × (Nat → Nat) × (Nat → Nat) × Nat × (Nat → Nat) × (Nat → Nat) × (Nat → Nat)) => ru_PR t n u.1 u.2.2.2.1 u.2.2.2.2.1 u.2.2.2.2.2.1 u.2.2.2.2.2.2.1 u.2.2.2.2.2.2.2 ∧ ru_Cr u.2.2.2.2.1 (fun k => u.2.2.2.2.2.2.2 k) v r) (fun u => ru_X d h a n t 1 (u.1) (u.2.1) (u.2.2.1) (u.2.2.2.1) (u.2.2.2.2.1) (u.2.2.2.2.2.1) (u.2.2.2.2.2.2.1) (u.2.2.2.2.2.2.2)) := by
  refine ru_MI.of (by decide) (Nat.le_of_ble_eq_true rfl) ?_
  intro pr ev s mi below me co A ls hx hb hr hlocks S0 hl V
  have hts := S0.2.2.2.2
  have hown := S0.2.2.2.1
  have hl : lv_has ls 2 [(0, .ref h), (1, .int v)] := hl
  refine lv_aload_n hx hb dX0_period_0 rfl (lv_at hl 0 rfl) ?_
  refine lv_iload_n hx hb dX0_period_1 rfl (lv_at hl 1 rfl) ?_
  refine ru_callVI (w1 := ru_X d h a n t rd ow bw we fo fd fr to st) (w2 := []) (As := [.int v]) (rest := []) S0 V (met_X0_noRun l D d h a n t rd ow bw we fo fd fr to st hn ht hrd hPR v) (cwV 1 hts (lw_V q131 q133 qs9 q19 q134) rfl rfl rfl (by decide +kernel) ⟨Nat.le_of_ble_eq_true rfl, Nat.le_of_ble_eq_true rfl⟩) 0 rfl rfl rfl hl.1 rfl (Nat.le_of_ble_eq_true rfl) dX0_period_2 ⟨Nat.zero_le _, Nat.zero_le _⟩ (fun r u H locs hp V => ?_)
  obtain ⟨ow, bw, we, fo, fd, fr, to, st⟩ := u
  have V : ru_V D d A s s.heap H locs (ru_X d h a n t 1 ow bw we fo fd fr to st) := V
  obtain ⟨hPR2, hp⟩ : ru_PR t n ow fo fd fr to st ∧ ((r = nI 1 ∧ ∀ k, k < fd → v ≠ nI k) ∨ (r = nI 0 ∧ ∃ k, k < fd ∧ v = nI k)) := hp
  have hfd := hPR2.2.2.2
  rcases hp with ⟨rfl, hno⟩ | ⟨rfl, hno⟩
  · refine ru_if_eq (tgt := 13) hx hb dX0_period_5 (by decide) (by omega) (fun c_5 => ?_) (fun c_5 => ?_)
    · exact absurd c_5 (by omega)
    · refine lv_bipush (v := (-4)) hx hb dX0_period_8 (by decide) ?_
      refine lv_goto (tgt := 19) hx hb dX0_period_10 (by decide) ?_
      exact ru_iret hx hb hr hlocks (ow, bw, we, fo, fd, fr, to, st) V ⟨hPR2, Or.inr ⟨hno, rfl⟩⟩ dX0_period_19
  · refine ru_if_eq (tgt := 13) hx hb dX0_period_5 (by decide) (by omega) (fun c_5 => ?_) (fun c_5 => ?_)
    · obtain ⟨k, hk, rfl⟩ := hno
      refine lv_aload_n hx hb dX0_period_13 rfl (lv_at hl 0 rfl) ?_
      refine ru_get0 hx hb hts hown V 0 rfl 10 (by decide) (hts _ q39) rfl dX0_period_14 ?_
      refine lv_iload_n hx hb dX0_period_17 rfl (lv_at hl 1 rfl) ?_
      refine ru_ald hx hb V 8 rfl (by decide) (by omega) dX0_period_18 ?_
      exact ru_iret hx hb hr hlocks (ow, bw, we, fo, fd, fr, to, st) V ⟨hPR2, Or.inl ⟨k, hk, rfl, rfl⟩⟩ dX0_period_19
    · exact absurd c_5 (by omega)

set_option maxHeartbeats 4000000 in
set_option maxRecDepth 100000 in
theorem met_X0_squares (l : Launch) (D : va_G) (d : ClassId) (h : Nat) (a : Nat → Nat) (n : Nat) (t : Nat → Nat) (rd : Nat) (ow bw we fo : Nat → Nat) (fd : Nat) (fr to st : Nat → Nat) (hn : n ≤ 32) (ht : ∀ k, t k < 4) (hrd : rd ≤ 1) (hPR : rd ≠ 0 → ru_PR t n ow fo fd fr to st) : ru_MI l yX0_squares cX0_squares 5 (some .int) (ru_R 3 72) D d [.ref h] (ru_X d h a n t rd ow bw we fo fd fr to st) (fun (r : Int32) (u : (Nat → Nat) × (Nat → Nat) × (Nat → Nat) × (Nat → Nat) × Nat × (Nat → Nat) × (Nat → Nat) × (Nat → Nat)) => ru_PR t n u.1 u.2.2.2.1 u.2.2.2.2.1 u.2.2.2.2.2.1 u.2.2.2.2.2.2.1 u.2.2.2.2.2.2.2 ∧ r = nI (ru_sm (fun k => ru_sm (fun x => u.2.2.2.2.2.2.1 k - u.2.2.2.2.2.1 k + 1 - 2 * ((x + 1) * u.2.2.2.2.2.2.2 k)) 16) u.2.2.2.2.1)) (fun u => ru_X d h a n t 1 (u.1) (u.2.1) (u.2.2.1) (u.2.2.2.1) (u.2.2.2.2.1) (u.2.2.2.2.2.1) (u.2.2.2.2.2.2.1) (u.2.2.2.2.2.2.2)) := by
  refine ru_MI.of (by decide) (Nat.le_of_ble_eq_true rfl) ?_
  intro pr ev s mi below me co A ls hx hb hr hlocks S0 hl V
  have hts := S0.2.2.2.2
  have hown := S0.2.2.2.1
  have hl : lv_has ls 5 [(0, .ref h)] := hl
  refine lv_aload_n hx hb dX0_squares_0 rfl (lv_at hl 0 rfl) ?_
  refine ru_callVV (w1 := ru_X d h a n t rd ow bw we fo fd fr to st) (w2 := []) (As := []) (rest := []) S0 V (met_X0_prepare l D d h a n t rd ow bw we fo fd fr to st hn ht hrd hPR) (cwV 0 hts (lw_V q99 q101 qs2 q19 q102) rfl rfl rfl (by decide +kernel) ⟨Nat.le_of_ble_eq_true rfl, Nat.le_of_ble_eq_true rfl⟩) 0 rfl rfl rfl hl.1 rfl (Nat.le_of_ble_eq_true rfl) dX0_squares_1 ⟨Nat.zero_le _, Nat.zero_le _⟩ (fun u H locs hp V => ?_)
  obtain ⟨ow, bw, we, fo, fd, fr, to, st⟩ := u
  have V : ru_V D d A s s.heap H locs (ru_X d h a n t 1 ow bw we fo fd fr to st) := V
  have hp : ru_PR t n ow fo fd fr to st := hp
  obtain ⟨hO, hW, hAll, hfd⟩ := id hp
  refine lv_iconst (v := nI 0) hx hb dX0_squares_4 (by decide) ?_
  refine lv_istore_n (lv' := [(1, .int (nI 0)), (0, .ref h)]) hx hb dX0_squares_5 rfl hl (by decide) rfl (fun ls hl => ?_)
  refine lv_iconst (v := nI 0) hx hb dX0_squares_6 (by decide) ?_
  refine lv_istore_n (lv' := [(2, .int (nI 0)), (1, .int (nI 0)), (0, .ref h)]) hx hb dX0_squares_7 rfl hl (by decide) rfl (fun ls hl => ?_)
  refine ru_loop2 (nL := 5) (head := 8) (fun (c : Nat) (r : Nat) => [(0, .ref h), (1, .int (nI c)), (2, .int (nI r))]) (fun (c : Nat) (r : Nat) => ru_X d h a n t 1 ow bw we fo fd fr to st) (fun (c : Nat) (r : Nat) => r ≤ fd ∧ c = ru_sm (fun k => ru_sm (fun x => to k - fr k + 1 - 2 * ((x + 1) * st k)) 16) r) (fun (c : Nat) (r : Nat) => 100 - r) ?_ 0 0 _ _ _ ⟨by omega, rfl⟩ (lv_sub hl [2, 1, 0] rfl) V
  intro c r H locs ls hP_8 hl V ih_8
  have hl : lv_has ls 5 [(0, .ref h), (1, .int (nI c)), (2, .int (nI r))] := hl
  have V : ru_V D d A s s.heap H locs (ru_X d h a n t 1 ow bw we fo fd fr to st) := V
  obtain ⟨hr0, hc0⟩ := hP_8
  refine lv_iload_n hx hb dX0_squares_8 rfl (lv_at hl 2 rfl) ?_
  refine lv_aload_n hx hb dX0_squares_9 rfl (lv_at hl 0 rfl) ?_
  refine ru_get0 hx hb hts hown V 0 rfl 7 (by decide) (hts _ q36) rfl dX0_squares_10 ?_
  refine ru_icmp_ge (tgt := 77) hx hb dX0_squares_13 (by decide) (by omega) (by omega) (fun c_13 => ?_) (fun c_13 => ?_)
  · refine lv_iload_n hx hb dX0_squares_77 rfl (lv_at hl 1 rfl) ?_
    exact ru_iret hx hb hr hlocks (ow, bw, we, fo, fd, fr, to, st) V ⟨hp, by show nI c = _; rw [hc0, show r = fd by omega]⟩ dX0_squares_78
  · have hA := ru_All_le hAll (k := r) (by omega)
    refine lv_aload_n hx hb dX0_squares_16 rfl (lv_at hl 0 rfl) ?_
    refine ru_get0 hx hb hts hown V 0 rfl 9 (by decide) (hts _ q38) rfl dX0_squares_17 ?_
    refine lv_iload_n hx hb dX0_squares_20 rfl (lv_at hl 2 rfl) ?_
    refine ru_ald hx hb V 7 rfl (by decide) (by omega) dX0_squares_21 ?_
    refine lv_aload_n hx hb dX0_squares_22 rfl (lv_at hl 0 rfl) ?_
    refine ru_get0 hx hb hts hown V 0 rfl 8 (by decide) (hts _ q37) rfl dX0_squares_23 ?_
    refine lv_iload_n hx hb dX0_squares_26 rfl (lv_at hl 2 rfl) ?_
    refine ru_ald hx hb V 6 rfl (by decide) (by omega) dX0_squares_27 ?_
    refine ru_isub hx hb (by omega) dX0_squares_28 ?_
    refine lv_istore_n (lv' := [(3, .int (nI ((to r) - (fr r)))), (0, .ref h), (1, .int (nI c)), (2, .int (nI r))]) hx hb dX0_squares_29 rfl hl (by decide) rfl (fun ls hl => ?_)
    refine lv_iconst (v := nI 2) hx hb dX0_squares_30 (by decide) ?_
    refine lv_aload_n hx hb dX0_squares_31 rfl (lv_at hl 1 rfl) ?_
    refine ru_get0 hx hb hts hown V 0 rfl 10 (by decide) (hts _ q39) rfl dX0_squares_32 ?_
    refine lv_iload_n hx hb dX0_squares_35 rfl (lv_at hl 3 rfl) ?_
    refine ru_ald hx hb V 8 rfl (by decide) (by omega) dX0_squares_36 ?_
    refine ru_imul hx hb dX0_squares_37 ?_
    refine lv_istore (lv' := [(4, .int (nI (2 * (st r)))), (3, .int (nI ((to r) - (fr r)))), (0, .ref h), (1, .int (nI c)), (2, .int (nI r))]) hx hb dX0_squares_38 hl (by decide) rfl (fun ls hl => ?_)
    refine ru_loop3 (nL := 5) (head := 40) (fun (c : Nat) (q : Nat) (m : Nat) => [(0, .ref h), (1, .int (nI c)), (2, .int (nI r)), (3, .int (nI (to r - fr r))), (4, .int (nI q))]) (fun (c : Nat) (q : Nat) (m : Nat) => ru_X d h a n t 1 ow bw we fo fd fr to st) (fun (c : Nat) (q : Nat) (m : Nat) => m ≤ 16 ∧ q ≤ 64 ∧ q = 2 * ((m + 1) * st r) ∧ c = ru_sm (fun k => ru_sm (fun x => to k - fr k + 1 - 2 * ((x + 1) * st k)) 16) r + ru_sm (fun x => to r - fr r + 1 - 2 * ((x + 1) * st r)) m) (fun (c : Nat) (q : Nat) (m : Nat) => 100 - q) ?_ c (2 * st r) 0 _ _ _ ⟨by omega, by omega, by rw [Nat.zero_add, Nat.one_mul], by rw [hc0]; rfl⟩ (lv_sub hl [2, 3, 4, 1, 0] rfl) V
    intro c q m H locs ls hP_40 hl V ih_40
    have hl : lv_has ls 5 [(0, .ref h), (1, .int (nI c)), (2, .int (nI r)), (3, .int (nI (to r - fr r))), (4, .int (nI q))] := hl
    have V : ru_V D d A s s.heap H locs (ru_X d h a n t 1 ow bw we fo fd fr to st) := V
    obtain ⟨hm, hq64, hq, hc⟩ := hP_40
    refine lv_iload hx hb dX0_squares_40 (lv_at hl 4 rfl) ?_
    refine lv_iload_n hx hb dX0_squares_42 rfl (lv_at hl 3 rfl) ?_
    refine ru_icmp_gt (tgt := 71) hx hb dX0_squares_43 (by decide) (by have h5 := hA; omega) (by omega) (fun c_43 => ?_) (fun c_43 => ?_)
    · refine lv_iinc (v := nI (r + 1)) (lv' := [(2, .int (nI (r + 1))), (0, .ref h), (1, .int (nI c)), (3, .int (nI (to r - fr r))), (4, .int (nI q))]) hx hb dX0_squares_71 hl (k := 2) rfl (ru_inc _) (by decide) rfl (fun ls hl => ?_)
      refine lv_goto (tgt := 8) hx hb dX0_squares_74 (by decide) ?_
      exact ih_8 c (r + 1) _ _ _ (by omega) ⟨by omega, by rw [ru_sm_s, hc, ru_sm_tail (f := fun x => to r - fr r + 1 - 2 * ((x + 1) * st r)) (m := m) (N := 16) (by omega) (fun x h1 h2 => by have h3 : (m + 1) * st r ≤ (x + 1) * st r := Nat.mul_le_mul_right _ (by omega); omega)]⟩ (lv_sub hl [1, 2, 0] rfl) V
    · refine lv_iload_n hx hb dX0_squares_46 rfl (lv_at hl 1 rfl) ?_
      refine lv_iload_n hx hb dX0_squares_47 rfl (lv_at hl 3 rfl) ?_
      refine lv_iload hx hb dX0_squares_48 (lv_at hl 4 rfl) ?_
      refine ru_isub hx hb (by omega) dX0_squares_50 ?_
      refine lv_iconst (v := nI 1) hx hb dX0_squares_51 (by decide) ?_
      refine ru_iadd hx hb dX0_squares_52 ?_
      refine ru_iadd hx hb dX0_squares_53 ?_
      refine lv_istore_n (lv' := [(1, .int (nI (c + ((to r - fr r) - q + 1)))), (0, .ref h), (2, .int (nI r)), (3, .int (nI (to r - fr r))), (4, .int (nI q))]) hx hb dX0_squares_54 rfl hl (by decide) rfl (fun ls hl => ?_)
      refine lv_iload hx hb dX0_squares_55 (lv_at hl 4 rfl) ?_
      refine lv_iconst (v := nI 2) hx hb dX0_squares_57 (by decide) ?_
      refine lv_aload_n hx hb dX0_squares_58 rfl (lv_at hl 1 rfl) ?_
      refine ru_get0 hx hb hts hown V 0 rfl 10 (by decide) (hts _ q39) rfl dX0_squares_59 ?_
      refine lv_iload_n hx hb dX0_squares_62 rfl (lv_at hl 2 rfl) ?_
      refine ru_ald hx hb V 8 rfl (by decide) (by omega) dX0_squares_63 ?_
      refine ru_imul hx hb dX0_squares_64 ?_
      refine ru_iadd hx hb dX0_squares_65 ?_
      refine lv_istore (lv' := [(4, .int (nI (q + 2 * (st r)))), (1, .int (nI (c + ((to r - fr r) - q + 1)))), (0, .ref h), (2, .int (nI r)), (3, .int (nI (to r - fr r)))]) hx hb dX0_squares_66 hl (by decide) rfl (fun ls hl => ?_)
      refine lv_goto (tgt := 40) hx hb dX0_squares_68 (by decide) ?_
      exact ih_40 (c + ((to r - fr r) - q + 1)) (q + 2 * (st r)) (m + 1) _ _ _ (by omega) ⟨by have h3 : m + 1 ≤ (m + 1) * st r := Nat.le_mul_of_pos_right _ (by omega); omega, by omega, by have h4 : (m + 1 + 1) * st r = (m + 1) * st r + st r := Nat.succ_mul _ _; omega, by rw [ru_sm_s, hc]; omega⟩ (lv_sub hl [2, 1, 3, 4, 0] rfl) V

set_option maxHeartbeats 4000000 in
set_option maxRecDepth 100000 in
theorem met_X0_wholePeriod (l : Launch) (D : va_G) (d : ClassId) (h : Nat) (a : Nat → Nat) (n : Nat) (t : Nat → Nat) (rd : Nat) (ow bw we fo : Nat → Nat) (fd : Nat) (fr to st : Nat → Nat) (hn : n ≤ 32) (ht : ∀ k, t k < 4) (hrd : rd ≤ 1) (hPR : rd ≠ 0 → ru_PR t n ow fo fd fr to st) : ru_MI l yX0_wholePeriod cX0_wholePeriod 2 (some .int) (ru_R 3 72) D d [.ref h] (ru_X d h a n t rd ow bw we fo fd fr to st) (fun (r : Int32) (u : (Nat → Nat) × (Nat → Nat) × (Nat → Nat) × (Nat → Nat) × Nat × (Nat → Nat) × (Nat → Nat) × (Nat → Nat)) => ru_PR t n u.1 u.2.2.2.1 u.2.2.2.2.1 u.2.2.2.2.2.1 u.2.2.2.2.2.2.1 u.2.2.2.2.2.2.2 ∧ ((n = 0 ∧ r = nI 0) ∨ (n ≠ 0 ∧ ∃ p, r = nI p ∧ ru_LP t 0 n p))) (fun u => ru_X d h a n t 1 (u.1) (u.2.1) (u.2.2.1) (u.2.2.2.1) (u.2.2.2.2.1) (u.2.2.2.2.2.1) (u.2.2.2.2.2.2.1) (u.2.2.2.2.2.2.2)) := by
  refine ru_MI.of (by decide) (Nat.le_of_ble_eq_true rfl) ?_
  intro pr ev s mi below me co A ls hx hb hr hlocks S0 hl V
  have hts := S0.2.2.2.2
  have hown := S0.2.2.2.1
  have hl : lv_has ls 2 [(0, .ref h)] := hl
  refine lv_aload_n hx hb dX0_wholePeriod_0 rfl (lv_at hl 0 rfl) ?_
  refine ru_callVV (w1 := ru_X d h a n t rd ow bw we fo fd fr to st) (w2 := []) (As := []) (rest := []) S0 V (met_X0_prepare l D d h a n t rd ow bw we fo fd fr to st hn ht hrd hPR) (cwV 0 hts (lw_V q99 q101 qs2 q19 q102) rfl rfl rfl (by decide +kernel) ⟨Nat.le_of_ble_eq_true rfl, Nat.le_of_ble_eq_true rfl⟩) 0 rfl rfl rfl hl.1 rfl (Nat.le_of_ble_eq_true rfl) dX0_wholePeriod_1 ⟨Nat.zero_le _, Nat.zero_le _⟩ (fun u H locs hp V => ?_)
  obtain ⟨ow, bw, we, fo, fd, fr, to, st⟩ := u
  have V : ru_V D d A s s.heap H locs (ru_X d h a n t 1 ow bw we fo fd fr to st) := V
  have hp : ru_PR t n ow fo fd fr to st := hp
  obtain ⟨hO, hW, hAll, hfd⟩ := id hp
  refine lv_aload_n hx hb dX0_wholePeriod_4 rfl (lv_at hl 0 rfl) ?_
  refine ru_get0 hx hb hts hown V 0 rfl 0 (by decide) (hts _ q29) rfl dX0_wholePeriod_5 ?_
  refine ru_if_ne (tgt := 13) hx hb dX0_wholePeriod_8 (by decide) (by omega) (fun c_8 => ?_) (fun c_8 => ?_)
  · refine lv_iconst (v := nI 1) hx hb dX0_wholePeriod_13 (by decide) ?_
    refine lv_istore_n (lv' := [(1, .int (nI 1)), (0, .ref h)]) hx hb dX0_wholePeriod_14 rfl hl (by decide) rfl (fun ls hl => ?_)
    refine ru_loop1 (nL := 2) (head := 15) (fun (p : Nat) => [(0, .ref h), (1, .int (nI p))]) (fun (p : Nat) => ru_X d h a n t 1 ow bw we fo fd fr to st) (fun (p : Nat) => 1 ≤ p ∧ p ≤ n ∧ ∀ q, 1 ≤ q → q < p → ¬ ru_Per t 0 n q) (fun (p : Nat) => 40 - p) ?_ 1 _ _ _ ⟨by omega, by omega, fun q h1 h2 => by omega⟩ (lv_sub hl [1, 0] rfl) V
    intro p H locs ls hP_15 hl V ih_15
    have hl : lv_has ls 2 [(0, .ref h), (1, .int (nI p))] := hl
    have V : ru_V D d A s s.heap H locs (ru_X d h a n t 1 ow bw we fo fd fr to st) := V
    obtain ⟨hp1, hp2, hno⟩ := hP_15
    refine lv_iload_n hx hb dX0_wholePeriod_15 rfl (lv_at hl 1 rfl) ?_
    refine lv_aload_n hx hb dX0_wholePeriod_16 rfl (lv_at hl 0 rfl) ?_
    refine ru_get0 hx hb hts hown V 0 rfl 0 (by decide) (hts _ q29) rfl dX0_wholePeriod_17 ?_
    refine ru_icmp_ge (tgt := 44) hx hb dX0_wholePeriod_20 (by decide) (by omega) (by omega) (fun c_20 => ?_) (fun c_20 => ?_)
    · refine lv_iload_n hx hb dX0_wholePeriod_44 rfl (lv_at hl 1 rfl) ?_
      exact ru_iret hx hb hr hlocks (ow, bw, we, fo, fd, fr, to, st) V ⟨hp, Or.inr ⟨c_8, p, rfl, hp1, by omega, by first | exact (ru_Per_lce (by omega)).mpr c_35 | exact (fun k h1 h2 => by omega), hno⟩⟩ dX0_wholePeriod_45
    · obtain ⟨hle1, hle2⟩ := ru_lce_le (t := t) (n := n) (i := 0) (j := p) (by omega) hp2
      refine lv_aload_n hx hb dX0_wholePeriod_23 rfl (lv_at hl 0 rfl) ?_
      refine ru_get0 hx hb hts hown V 0 rfl 3 (by decide) (hts _ q32) rfl dX0_wholePeriod_24 ?_
      refine lv_iload_n hx hb dX0_wholePeriod_27 rfl (lv_at hl 1 rfl) ?_
      refine ru_ald hx hb V 2 rfl (by decide) (by omega) dX0_wholePeriod_28 ?_
      refine ru_top (y := (ru_lce t n 0 p)) (by rw [← hO 0 p (by omega) (by omega)]; congr 1; omega) ?_
      refine lv_aload_n hx hb dX0_wholePeriod_29 rfl (lv_at hl 0 rfl) ?_
      refine ru_get0 hx hb hts hown V 0 rfl 0 (by decide) (hts _ q29) rfl dX0_wholePeriod_30 ?_
      refine lv_iload_n hx hb dX0_wholePeriod_33 rfl (lv_at hl 1 rfl) ?_
      refine ru_isub hx hb (by omega) dX0_wholePeriod_34 ?_
      refine ru_icmp_ge (tgt := 44) hx hb dX0_wholePeriod_35 (by decide) (by omega) (by omega) (fun c_35 => ?_) (fun c_35 => ?_)
      · refine lv_iload_n hx hb dX0_wholePeriod_44 rfl (lv_at hl 1 rfl) ?_
        exact ru_iret hx hb hr hlocks (ow, bw, we, fo, fd, fr, to, st) V ⟨hp, Or.inr ⟨c_8, p, rfl, hp1, by omega, by first | exact (ru_Per_lce (by omega)).mpr c_35 | exact (fun k h1 h2 => by omega), hno⟩⟩ dX0_wholePeriod_45
      · refine lv_iinc (v := nI (p + 1)) (lv' := [(1, .int (nI (p + 1))), (0, .ref h)]) hx hb dX0_wholePeriod_38 hl (k := 1) rfl (ru_inc _) (by decide) rfl (fun ls hl => ?_)
        refine lv_goto (tgt := 15) hx hb dX0_wholePeriod_41 (by decide) ?_
        exact ih_15 (p + 1) _ _ _ (by omega) ⟨by omega, by omega, fun q h1 h2 z => by by_cases e : q = p; (· rw [e, ru_Per_lce (by omega)] at z; omega); (· exact hno q h1 (by omega) z)⟩ (lv_sub hl [1, 0] rfl) V
  · refine lv_iconst (v := nI 0) hx hb dX0_wholePeriod_11 (by decide) ?_
    exact ru_iret hx hb hr hlocks (ow, bw, we, fo, fd, fr, to, st) V ⟨hp, Or.inl ⟨c_8, rfl⟩⟩ dX0_wholePeriod_12

set_option maxHeartbeats 4000000 in
set_option maxRecDepth 100000 in
theorem met_X0_smallestEnd (l : Launch) (D : va_G) (d : ClassId) (h : Nat) (a : Nat → Nat) (n : Nat) (t : Nat → Nat) (rd : Nat) (ow bw we fo : Nat → Nat) (fd : Nat) (fr to st : Nat → Nat) (hn : n ≤ 32) (ht : ∀ k, t k < 4) (hrd : rd ≤ 1) (hPR : rd ≠ 0 → ru_PR t n ow fo fd fr to st) : ru_MI l yX0_smallestEnd cX0_smallestEnd 2 (some .int) (ru_R 3 72) D d [.ref h] (ru_X d h a n t rd ow bw we fo fd fr to st) (fun (r : Int32) (u : (Nat → Nat) × (Nat → Nat) × (Nat → Nat) × (Nat → Nat) × Nat × (Nat → Nat) × (Nat → Nat) × (Nat → Nat)) => ru_PR t n u.1 u.2.2.2.1 u.2.2.2.2.1 u.2.2.2.2.2.1 u.2.2.2.2.2.2.1 u.2.2.2.2.2.2.2 ∧ ((n = 0 ∧ r = -4) ∨ (n ≠ 0 ∧ ∃ x, r = nI x ∧ ru_M t n x))) (fun u => ru_X d h a n t 1 (u.1) (u.2.1) (u.2.2.1) (u.2.2.2.1) (u.2.2.2.2.1) (u.2.2.2.2.2.1) (u.2.2.2.2.2.2.1) (u.2.2.2.2.2.2.2)) := by
  refine ru_MI.of (by decide) (Nat.le_of_ble_eq_true rfl) ?_
  intro pr ev s mi below me co A ls hx hb hr hlocks S0 hl V
  have hts := S0.2.2.2.2
  have hown := S0.2.2.2.1
  have hl : lv_has ls 2 [(0, .ref h)] := hl
  refine lv_aload_n hx hb dX0_smallestEnd_0 rfl (lv_at hl 0 rfl) ?_
  refine ru_callVV (w1 := ru_X d h a n t rd ow bw we fo fd fr to st) (w2 := []) (As := []) (rest := []) S0 V (met_X0_prepare l D d h a n t rd ow bw we fo fd fr to st hn ht hrd hPR) (cwV 0 hts (lw_V q99 q101 qs2 q19 q102) rfl rfl rfl (by decide +kernel) ⟨Nat.le_of_ble_eq_true rfl, Nat.le_of_ble_eq_true rfl⟩) 0 rfl rfl rfl hl.1 rfl (Nat.le_of_ble_eq_true rfl) dX0_smallestEnd_1 ⟨Nat.zero_le _, Nat.zero_le _⟩ (fun u H locs hp V => ?_)
  obtain ⟨ow, bw, we, fo, fd, fr, to, st⟩ := u
  have V : ru_V D d A s s.heap H locs (ru_X d h a n t 1 ow bw we fo fd fr to st) := V
  have hp : ru_PR t n ow fo fd fr to st := hp
  obtain ⟨hO, hW, hAll, hfd⟩ := id hp
  refine lv_aload_n hx hb dX0_smallestEnd_4 rfl (lv_at hl 0 rfl) ?_
  refine ru_get0 hx hb hts hown V 0 rfl 0 (by decide) (hts _ q29) rfl dX0_smallestEnd_5 ?_
  refine ru_if_ne (tgt := 14) hx hb dX0_smallestEnd_8 (by decide) (by omega) (fun c_8 => ?_) (fun c_8 => ?_)
  · refine lv_iconst (v := nI 0) hx hb dX0_smallestEnd_14 (by decide) ?_
    refine lv_istore_n (lv' := [(1, .int (nI 0)), (0, .ref h)]) hx hb dX0_smallestEnd_15 rfl hl (by decide) rfl (fun ls hl => ?_)
    refine ru_loop1 (nL := 2) (head := 16) (fun (i : Nat) => [(0, .ref h), (1, .int (nI i))]) (fun (i : Nat) => ru_X d h a n t 1 ow bw we fo fd fr to st) (fun (i : Nat) => i < n ∧ ru_pm (ru_sq 0 t n) i) (fun (i : Nat) => 40 - i) ?_ 0 _ _ _ ⟨by omega, fun y hy => by omega⟩ (lv_sub hl [1, 0] rfl) V
    intro i H locs ls hP_16 hl V ih_16
    have hl : lv_has ls 2 [(0, .ref h), (1, .int (nI i))] := hl
    have V : ru_V D d A s s.heap H locs (ru_X d h a n t 1 ow bw we fo fd fr to st) := V
    obtain ⟨hi, hpm⟩ := hP_16
    have hN := hW i hi
    obtain ⟨hN1, hN2, -, -⟩ := id hN
    refine lv_aload_n hx hb dX0_smallestEnd_16 rfl (lv_at hl 0 rfl) ?_
    refine ru_get0 hx hb hts hown V 0 rfl 6 (by decide) (hts _ q35) rfl dX0_smallestEnd_17 ?_
    refine lv_iload_n hx hb dX0_smallestEnd_20 rfl (lv_at hl 1 rfl) ?_
    refine ru_ald hx hb V 5 rfl (by decide) (by omega) dX0_smallestEnd_21 ?_
    refine lv_aload_n hx hb dX0_smallestEnd_22 rfl (lv_at hl 0 rfl) ?_
    refine ru_get0 hx hb hts hown V 0 rfl 0 (by decide) (hts _ q29) rfl dX0_smallestEnd_23 ?_
    refine ru_icmp_ge (tgt := 39) hx hb dX0_smallestEnd_26 (by decide) (by omega) (by omega) (fun c_26 => ?_) (fun c_26 => ?_)
    · refine lv_iload_n hx hb dX0_smallestEnd_39 rfl (lv_at hl 1 rfl) ?_
      exact ru_iret hx hb hr hlocks (ow, bw, we, fo, fd, fr, to, st) V ⟨hp, Or.inr ⟨c_8, i, rfl, ru_pm_end hpm (by have h5 := hN; rw [show fo i = n by omega] at h5; exact h5)⟩⟩ dX0_smallestEnd_40
    · refine lv_aload_n hx hb dX0_smallestEnd_29 rfl (lv_at hl 0 rfl) ?_
      refine ru_get0 hx hb hts hown V 0 rfl 6 (by decide) (hts _ q35) rfl dX0_smallestEnd_30 ?_
      refine lv_iload_n hx hb dX0_smallestEnd_33 rfl (lv_at hl 1 rfl) ?_
      refine ru_ald hx hb V 5 rfl (by decide) (by omega) dX0_smallestEnd_34 ?_
      refine lv_istore_n (lv' := [(1, .int (nI (fo i))), (0, .ref h)]) hx hb dX0_smallestEnd_35 rfl hl (by decide) rfl (fun ls hl => ?_)
      refine lv_goto (tgt := 16) hx hb dX0_smallestEnd_36 (by decide) ?_
      exact ih_16 (fo i) _ _ _ (by omega) ⟨c_26, ru_pm_step hpm hN⟩ (lv_sub hl [1, 0] rfl) V
  · refine lv_bipush (v := (-4)) hx hb dX0_smallestEnd_11 (by decide) ?_
    exact ru_iret hx hb hr hlocks (ow, bw, we, fo, fd, fr, to, st) V ⟨hp, Or.inl ⟨c_8, rfl⟩⟩ dX0_smallestEnd_13

set_option maxHeartbeats 4000000 in
set_option maxRecDepth 100000 in
theorem met_X0_factors (l : Launch) (D : va_G) (d : ClassId) (h : Nat) (a : Nat → Nat) (n : Nat) (t : Nat → Nat) (rd : Nat) (ow bw we fo : Nat → Nat) (fd : Nat) (fr to st : Nat → Nat) (hn : n ≤ 32) (ht : ∀ k, t k < 4) (hrd : rd ≤ 1) (hPR : rd ≠ 0 → ru_PR t n ow fo fd fr to st) : ru_MI l yX0_factors cX0_factors 3 (some .int) (ru_R 3 72) D d [.ref h] (ru_X d h a n t rd ow bw we fo fd fr to st) (fun (r : Int32) (u : (Nat → Nat) × (Nat → Nat) × (Nat → Nat) × (Nat → Nat) × Nat × (Nat → Nat) × (Nat → Nat) × (Nat → Nat)) => ru_PR t n u.1 u.2.2.2.1 u.2.2.2.2.1 u.2.2.2.2.2.1 u.2.2.2.2.2.2.1 u.2.2.2.2.2.2.2 ∧ r = nI (ru_fc t 32 n)) (fun u => ru_X d h a n t 1 (u.1) (u.2.1) (u.2.2.1) (u.2.2.2.1) (u.2.2.2.2.1) (u.2.2.2.2.2.1) (u.2.2.2.2.2.2.1) (u.2.2.2.2.2.2.2)) := by
  refine ru_MI.of (by decide) (Nat.le_of_ble_eq_true rfl) ?_
  intro pr ev s mi below me co A ls hx hb hr hlocks S0 hl V
  have hts := S0.2.2.2.2
  have hown := S0.2.2.2.1
  have hl : lv_has ls 3 [(0, .ref h)] := hl
  refine lv_aload_n hx hb dX0_factors_0 rfl (lv_at hl 0 rfl) ?_
  refine ru_callVV (w1 := ru_X d h a n t rd ow bw we fo fd fr to st) (w2 := []) (As := []) (rest := []) S0 V (met_X0_prepare l D d h a n t rd ow bw we fo fd fr to st hn ht hrd hPR) (cwV 0 hts (lw_V q99 q101 qs2 q19 q102) rfl rfl rfl (by decide +kernel) ⟨Nat.le_of_ble_eq_true rfl, Nat.le_of_ble_eq_true rfl⟩) 0 rfl rfl rfl hl.1 rfl (Nat.le_of_ble_eq_true rfl) dX0_factors_1 ⟨Nat.zero_le _, Nat.zero_le _⟩ (fun u H locs hp V => ?_)
  obtain ⟨ow, bw, we, fo, fd, fr, to, st⟩ := u
  have V : ru_V D d A s s.heap H locs (ru_X d h a n t 1 ow bw we fo fd fr to st) := V
  have hp : ru_PR t n ow fo fd fr to st := hp
  obtain ⟨hO, hW, hAll, hfd⟩ := id hp
  refine lv_iconst (v := nI 0) hx hb dX0_factors_4 (by decide) ?_
  refine lv_istore_n (lv' := [(1, .int (nI 0)), (0, .ref h)]) hx hb dX0_factors_5 rfl hl (by decide) rfl (fun ls hl => ?_)
  refine lv_iconst (v := nI 0) hx hb dX0_factors_6 (by decide) ?_
  refine lv_istore_n (lv' := [(2, .int (nI 0)), (1, .int (nI 0)), (0, .ref h)]) hx hb dX0_factors_7 rfl hl (by decide) rfl (fun ls hl => ?_)
  refine ru_loop2 (nL := 3) (head := 8) (fun (c : Nat) (i : Nat) => [(0, .ref h), (1, .int (nI c)), (2, .int (nI i))]) (fun (c : Nat) (i : Nat) => ru_X d h a n t 1 ow bw we fo fd fr to st) (fun (c : Nat) (i : Nat) => i ≤ n ∧ i = ru_it fo c ∧ ∀ k, k < c → ru_it fo k < n) (fun (c : Nat) (i : Nat) => 40 - i) ?_ 0 0 _ _ _ ⟨by omega, rfl, fun k hk => by omega⟩ (lv_sub hl [2, 1, 0] rfl) V
  intro c i H locs ls hP_8 hl V ih_8
  have hl : lv_has ls 3 [(0, .ref h), (1, .int (nI c)), (2, .int (nI i))] := hl
  have V : ru_V D d A s s.heap H locs (ru_X d h a n t 1 ow bw we fo fd fr to st) := V
  obtain ⟨hi, hit, hlt⟩ := hP_8
  refine lv_iload_n hx hb dX0_factors_8 rfl (lv_at hl 2 rfl) ?_
  refine lv_aload_n hx hb dX0_factors_9 rfl (lv_at hl 0 rfl) ?_
  refine ru_get0 hx hb hts hown V 0 rfl 0 (by decide) (hts _ q29) rfl dX0_factors_10 ?_
  refine ru_icmp_ge (tgt := 29) hx hb dX0_factors_13 (by decide) (by omega) (by omega) (fun c_13 => ?_) (fun c_13 => ?_)
  · refine lv_iload_n hx hb dX0_factors_29 rfl (lv_at hl 1 rfl) ?_
    exact ru_iret hx hb hr hlocks (ow, bw, we, fo, fd, fr, to, st) V ⟨hp, by show nI c = _; rw [ru_factors ht hn hW hlt (by rw [← hit]; omega)]⟩ dX0_factors_30
  · obtain ⟨hN1, hN2, -, -⟩ := hW i c_13
    refine lv_iinc (v := nI (c + 1)) (lv' := [(1, .int (nI (c + 1))), (0, .ref h), (2, .int (nI i))]) hx hb dX0_factors_16 hl (k := 1) rfl (ru_inc _) (by decide) rfl (fun ls hl => ?_)
    refine lv_aload_n hx hb dX0_factors_19 rfl (lv_at hl 1 rfl) ?_
    refine ru_get0 hx hb hts hown V 0 rfl 6 (by decide) (hts _ q35) rfl dX0_factors_20 ?_
    refine lv_iload_n hx hb dX0_factors_23 rfl (lv_at hl 2 rfl) ?_
    refine ru_ald hx hb V 5 rfl (by decide) (by omega) dX0_factors_24 ?_
    refine lv_istore_n (lv' := [(2, .int (nI (fo i))), (1, .int (nI (c + 1))), (0, .ref h)]) hx hb dX0_factors_25 rfl hl (by decide) rfl (fun ls hl => ?_)
    refine lv_goto (tgt := 8) hx hb dX0_factors_26 (by decide) ?_
    exact ih_8 (c + 1) (fo i) _ _ _ (by omega) ⟨hN2, by rw [hit]; rfl, fun k hk => by by_cases e : k = c; (· rw [e, ← hit]; exact c_13); (· exact hlt k (by omega))⟩ (lv_sub hl [2, 1, 0] rfl) V

set_option maxHeartbeats 4000000 in
set_option maxRecDepth 100000 in
theorem met_X0_letterAt (l : Launch) (D : va_G) (d : ClassId) (h : Nat) (a : Nat → Nat) (n : Nat) (t : Nat → Nat) (rd : Nat) (ow bw we fo : Nat → Nat) (fd : Nat) (fr to st : Nat → Nat) (hn : n ≤ 32) (x : Nat) (hx0 : x < n + n) : ru_MI l yX0_letterAt cX0_letterAt 2 (some .int) (ru_R 0 0) D d [.ref h, .int (nI x)] (ru_X d h a n t rd ow bw we fo fd fr to st) (fun (r : Int32) (_ : Unit) => r = nI (ru_c t n x)) (fun _ : Unit => ru_X d h a n t rd ow bw we fo fd fr to st) := by
  refine ru_MI.of (by decide) (Nat.le_of_ble_eq_true rfl) ?_
  intro pr ev s mi below me co A ls hx hb hr hlocks S0 hl V
  have hts := S0.2.2.2.2
  have hown := S0.2.2.2.1
  have hl : lv_has ls 2 [(0, .ref h), (1, .int (nI x))] := hl
  refine lv_aload_n hx hb dX0_letterAt_0 rfl (lv_at hl 0 rfl) ?_
  refine ru_get0 hx hb hts hown V 0 rfl 1 (by decide) (hts _ q30) rfl dX0_letterAt_1 ?_
  refine lv_iload_n hx hb dX0_letterAt_4 rfl (lv_at hl 1 rfl) ?_
  refine lv_aload_n hx hb dX0_letterAt_5 rfl (lv_at hl 0 rfl) ?_
  refine ru_get0 hx hb hts hown V 0 rfl 0 (by decide) (hts _ q29) rfl dX0_letterAt_6 ?_
  refine ru_icmp_ge (tgt := 16) hx hb dX0_letterAt_9 (by decide) (by omega) (by omega) (fun c_9 => ?_) (fun c_9 => ?_)
  · refine lv_iload_n hx hb dX0_letterAt_16 rfl (lv_at hl 1 rfl) ?_
    refine lv_aload_n hx hb dX0_letterAt_17 rfl (lv_at hl 0 rfl) ?_
    refine ru_get0 hx hb hts hown V 0 rfl 0 (by decide) (hts _ q29) rfl dX0_letterAt_18 ?_
    refine ru_isub hx hb (by omega) dX0_letterAt_21 ?_
    refine ru_ald hx hb V 1 rfl (by decide) (by omega) dX0_letterAt_22 ?_
    exact ru_iret hx hb hr hlocks () V (by rw [ru_c_2 c_9 hx0]) dX0_letterAt_23
  · refine lv_iload_n hx hb dX0_letterAt_12 rfl (lv_at hl 1 rfl) ?_
    refine lv_goto (tgt := 22) hx hb dX0_letterAt_13 (by decide) ?_
    refine ru_ald hx hb V 1 rfl (by decide) (by omega) dX0_letterAt_22 ?_
    exact ru_iret hx hb hr hlocks () V (by rw [ru_c_1 c_9]) dX0_letterAt_23

set_option maxHeartbeats 4000000 in
set_option maxRecDepth 100000 in
theorem met_X0_smallestTurn (l : Launch) (D : va_G) (d : ClassId) (h : Nat) (a : Nat → Nat) (n : Nat) (t : Nat → Nat) (rd : Nat) (ow bw we fo : Nat → Nat) (fd : Nat) (fr to st : Nat → Nat) (hn : n ≤ 32) (ht : ∀ k, t k < 4) : ru_MI l yX0_smallestTurn cX0_smallestTurn 7 (some .int) (ru_R 1 21) D d [.ref h] (ru_X d h a n t rd ow bw we fo fd fr to st) (fun (r : Int32) (_ : Unit) => (n = 0 ∧ r = -4) ∨ (n ≠ 0 ∧ ∃ x, r = nI x ∧ ru_T t n x)) (fun _ : Unit => ru_X d h a n t rd ow bw we fo fd fr to st) := by
  refine ru_MI.of (by decide) (Nat.le_of_ble_eq_true rfl) ?_
  intro pr ev s mi below me co A ls hx hb hr hlocks S0 hl V
  have hts := S0.2.2.2.2
  have hown := S0.2.2.2.1
  have hl : lv_has ls 7 [(0, .ref h)] := hl
  refine lv_aload_n hx hb dX0_smallestTurn_0 rfl (lv_at hl 0 rfl) ?_
  refine ru_get0 hx hb hts hown V 0 rfl 0 (by decide) (hts _ q29) rfl dX0_smallestTurn_1 ?_
  refine ru_if_ne (tgt := 10) hx hb dX0_smallestTurn_4 (by decide) (by omega) (fun c_4 => ?_) (fun c_4 => ?_)
  · refine lv_iconst (v := nI 0) hx hb dX0_smallestTurn_10 (by decide) ?_
    refine lv_istore_n (lv' := [(1, .int (nI 0)), (0, .ref h)]) hx hb dX0_smallestTurn_11 rfl hl (by decide) rfl (fun ls hl => ?_)
    refine lv_iconst (v := nI 1) hx hb dX0_smallestTurn_12 (by decide) ?_
    refine lv_istore_n (lv' := [(2, .int (nI 1)), (1, .int (nI 0)), (0, .ref h)]) hx hb dX0_smallestTurn_13 rfl hl (by decide) rfl (fun ls hl => ?_)
    refine lv_iconst (v := nI 0) hx hb dX0_smallestTurn_14 (by decide) ?_
    refine lv_istore_n (lv' := [(3, .int (nI 0)), (2, .int (nI 1)), (1, .int (nI 0)), (0, .ref h)]) hx hb dX0_smallestTurn_15 rfl hl (by decide) rfl (fun ls hl => ?_)
    refine lv_iconst (v := nI 0) hx hb dX0_smallestTurn_16 (by decide) ?_
    refine lv_istore (lv' := [(4, .int (nI 0)), (3, .int (nI 0)), (2, .int (nI 1)), (1, .int (nI 0)), (0, .ref h)]) hx hb dX0_smallestTurn_17 hl (by decide) rfl (fun ls hl => ?_)
    refine ru_loop4 (nL := 7) (head := 19) (fun (i : Nat) (j : Nat) (k : Nat) (q : Nat) => [(0, .ref h), (1, .int (nI i)), (2, .int (nI j)), (3, .int (nI k)), (4, .int (nI q))]) (fun (i : Nat) (j : Nat) (k : Nat) (q : Nat) => ru_X d h a n t rd ow bw we fo fd fr to st) (fun (i : Nat) (j : Nat) (k : Nat) (q : Nat) => ru_TI (ru_c t n) i j k ∧ q + 1 ≤ i + j + k ∧ q ≤ 93 ∧ i ≤ 64 ∧ j ≤ 64 ∧ k ≤ 32) (fun (i : Nat) (j : Nat) (k : Nat) (q : Nat) => 100 - q) ?_ 0 1 0 0 _ _ _ ⟨ru_TI_0 _, by omega, by omega, by omega, by omega, by omega⟩ (lv_sub hl [4, 3, 2, 1, 0] rfl) V
    intro i j k q H locs ls hP_19 hl V ih_19
    have hl : lv_has ls 7 [(0, .ref h), (1, .int (nI i)), (2, .int (nI j)), (3, .int (nI k)), (4, .int (nI q))] := hl
    have V : ru_V D d A s s.heap H locs (ru_X d h a n t rd ow bw we fo fd fr to st) := V
    obtain ⟨hTI, hq1, hq2, hi, hj, hk⟩ := hP_19
    refine lv_iload hx hb dX0_smallestTurn_19 (lv_at hl 4 rfl) ?_
    refine lv_sipush (v := nI 128) hx hb dX0_smallestTurn_21 (by decide) ?_
    refine ru_icmp_ge (tgt := 120) hx hb dX0_smallestTurn_24 (by decide) (by omega) (by omega) (fun c_24 => ?_) (fun c_24 => ?_)
    · exact absurd c_24 (by omega)
    · refine lv_iload_n hx hb dX0_smallestTurn_27 rfl (lv_at hl 1 rfl) ?_
      refine lv_aload_n hx hb dX0_smallestTurn_28 rfl (lv_at hl 0 rfl) ?_
      refine ru_get0 hx hb hts hown V 0 rfl 0 (by decide) (hts _ q29) rfl dX0_smallestTurn_29 ?_
      refine ru_icmp_ge (tgt := 120) hx hb dX0_smallestTurn_32 (by decide) (by omega) (by omega) (fun c_32 => ?_) (fun c_32 => ?_)
      · refine lv_iload_n hx hb dX0_smallestTurn_120 rfl (lv_at hl 1 rfl) ?_
        refine lv_iload_n hx hb dX0_smallestTurn_121 rfl (lv_at hl 2 rfl) ?_
        refine ru_icmp_ge (tgt := 129) hx hb dX0_smallestTurn_122 (by decide) (by omega) (by omega) (fun c_122 => ?_) (fun c_122 => ?_)
        · refine lv_iload_n hx hb dX0_smallestTurn_129 rfl (lv_at hl 2 rfl) ?_
          exact ru_iret hx hb hr hlocks () V (Or.inr ⟨c_4, j, rfl, by have h5 := ru_TI_end (by omega) hTI (by omega); rw [show min i j = j by omega] at h5; exact h5⟩) dX0_smallestTurn_130
        · refine lv_iload_n hx hb dX0_smallestTurn_125 rfl (lv_at hl 1 rfl) ?_
          refine lv_goto (tgt := 130) hx hb dX0_smallestTurn_126 (by decide) ?_
          exact ru_iret hx hb hr hlocks () V (Or.inr ⟨c_4, i, rfl, by have h5 := ru_TI_end (by omega) hTI (by omega); rw [show min i j = i by omega] at h5; exact h5⟩) dX0_smallestTurn_130
      · refine lv_iload_n hx hb dX0_smallestTurn_35 rfl (lv_at hl 2 rfl) ?_
        refine lv_aload_n hx hb dX0_smallestTurn_36 rfl (lv_at hl 0 rfl) ?_
        refine ru_get0 hx hb hts hown V 0 rfl 0 (by decide) (hts _ q29) rfl dX0_smallestTurn_37 ?_
        refine ru_icmp_ge (tgt := 120) hx hb dX0_smallestTurn_40 (by decide) (by omega) (by omega) (fun c_40 => ?_) (fun c_40 => ?_)
        · refine lv_iload_n hx hb dX0_smallestTurn_120 rfl (lv_at hl 1 rfl) ?_
          refine lv_iload_n hx hb dX0_smallestTurn_121 rfl (lv_at hl 2 rfl) ?_
          refine ru_icmp_ge (tgt := 129) hx hb dX0_smallestTurn_122 (by decide) (by omega) (by omega) (fun c_122 => ?_) (fun c_122 => ?_)
          · refine lv_iload_n hx hb dX0_smallestTurn_129 rfl (lv_at hl 2 rfl) ?_
            exact ru_iret hx hb hr hlocks () V (Or.inr ⟨c_4, j, rfl, by have h5 := ru_TI_end (by omega) hTI (by omega); rw [show min i j = j by omega] at h5; exact h5⟩) dX0_smallestTurn_130
          · refine lv_iload_n hx hb dX0_smallestTurn_125 rfl (lv_at hl 1 rfl) ?_
            refine lv_goto (tgt := 130) hx hb dX0_smallestTurn_126 (by decide) ?_
            exact ru_iret hx hb hr hlocks () V (Or.inr ⟨c_4, i, rfl, by have h5 := ru_TI_end (by omega) hTI (by omega); rw [show min i j = i by omega] at h5; exact h5⟩) dX0_smallestTurn_130
        · refine lv_iload_n hx hb dX0_smallestTurn_43 rfl (lv_at hl 3 rfl) ?_
          refine lv_aload_n hx hb dX0_smallestTurn_44 rfl (lv_at hl 0 rfl) ?_
          refine ru_get0 hx hb hts hown V 0 rfl 0 (by decide) (hts _ q29) rfl dX0_smallestTurn_45 ?_
          refine ru_icmp_ge (tgt := 120) hx hb dX0_smallestTurn_48 (by decide) (by omega) (by omega) (fun c_48 => ?_) (fun c_48 => ?_)
          · refine lv_iload_n hx hb dX0_smallestTurn_120 rfl (lv_at hl 1 rfl) ?_
            refine lv_iload_n hx hb dX0_smallestTurn_121 rfl (lv_at hl 2 rfl) ?_
            refine ru_icmp_ge (tgt := 129) hx hb dX0_smallestTurn_122 (by decide) (by omega) (by omega) (fun c_122 => ?_) (fun c_122 => ?_)
            · refine lv_iload_n hx hb dX0_smallestTurn_129 rfl (lv_at hl 2 rfl) ?_
              exact ru_iret hx hb hr hlocks () V (Or.inr ⟨c_4, j, rfl, by have h5 := ru_TI_end (by omega) hTI (by omega); rw [show min i j = j by omega] at h5; exact h5⟩) dX0_smallestTurn_130
            · refine lv_iload_n hx hb dX0_smallestTurn_125 rfl (lv_at hl 1 rfl) ?_
              refine lv_goto (tgt := 130) hx hb dX0_smallestTurn_126 (by decide) ?_
              exact ru_iret hx hb hr hlocks () V (Or.inr ⟨c_4, i, rfl, by have h5 := ru_TI_end (by omega) hTI (by omega); rw [show min i j = i by omega] at h5; exact h5⟩) dX0_smallestTurn_130
          · refine lv_aload_n hx hb dX0_smallestTurn_51 rfl (lv_at hl 0 rfl) ?_
            refine lv_iload_n hx hb dX0_smallestTurn_52 rfl (lv_at hl 1 rfl) ?_
            refine lv_iload_n hx hb dX0_smallestTurn_53 rfl (lv_at hl 3 rfl) ?_
            refine ru_iadd hx hb dX0_smallestTurn_54 ?_
            refine ru_callVI (w1 := ru_X d h a n t rd ow bw we fo fd fr to st) (w2 := []) (As := [.int (nI (i + k))]) (rest := []) S0 V (met_X0_letterAt l D d h a n t rd ow bw we fo fd fr to st hn (i + k) (by omega)) (cwV 1 hts (lw_V q163 q165 qs10 q19 q166) rfl rfl rfl (by decide +kernel) ⟨Nat.le_of_ble_eq_true rfl, Nat.le_of_ble_eq_true rfl⟩) 0 rfl rfl rfl hl.1 rfl (Nat.le_of_ble_eq_true rfl) dX0_smallestTurn_55 ⟨Nat.zero_le _, Nat.zero_le _⟩ (fun r u H locs hp V => ?_)
            have V : ru_V D d A s s.heap H locs (ru_X d h a n t rd ow bw we fo fd fr to st) := V
            subst hp
            refine lv_istore (lv' := [(5, .int (nI (ru_c t n (i + k)))), (0, .ref h), (1, .int (nI i)), (2, .int (nI j)), (3, .int (nI k)), (4, .int (nI q))]) hx hb dX0_smallestTurn_58 hl (by decide) rfl (fun ls hl => ?_)
            refine lv_aload_n hx hb dX0_smallestTurn_60 rfl (lv_at hl 1 rfl) ?_
            refine lv_iload_n hx hb dX0_smallestTurn_61 rfl (lv_at hl 3 rfl) ?_
            refine lv_iload_n hx hb dX0_smallestTurn_62 rfl (lv_at hl 4 rfl) ?_
            refine ru_iadd hx hb dX0_smallestTurn_63 ?_
            refine ru_callVI (w1 := ru_X d h a n t rd ow bw we fo fd fr to st) (w2 := []) (As := [.int (nI (j + k))]) (rest := []) S0 V (met_X0_letterAt l D d h a n t rd ow bw we fo fd fr to st hn (j + k) (by omega)) (cwV 1 hts (lw_V q163 q165 qs10 q19 q166) rfl rfl rfl (by decide +kernel) ⟨Nat.le_of_ble_eq_true rfl, Nat.le_of_ble_eq_true rfl⟩) 0 rfl rfl rfl hl.1 rfl (Nat.le_of_ble_eq_true rfl) dX0_smallestTurn_64 ⟨Nat.zero_le _, Nat.zero_le _⟩ (fun r u H locs hp V => ?_)
            have V : ru_V D d A s s.heap H locs (ru_X d h a n t rd ow bw we fo fd fr to st) := V
            subst hp
            refine lv_istore (lv' := [(6, .int (nI (ru_c t n (j + k)))), (5, .int (nI (ru_c t n (i + k)))), (0, .ref h), (1, .int (nI i)), (2, .int (nI j)), (3, .int (nI k)), (4, .int (nI q))]) hx hb dX0_smallestTurn_67 hl (by decide) rfl (fun ls hl => ?_)
            refine lv_iload hx hb dX0_smallestTurn_69 (lv_at hl 1 rfl) ?_
            refine lv_iload hx hb dX0_smallestTurn_71 (lv_at hl 0 rfl) ?_
            refine ru_icmp_ne (tgt := 82) hx hb dX0_smallestTurn_73 (by decide) (by have : ru_c t n (i + k) < 4 := ht _; omega) (by have : ru_c t n (j + k) < 4 := ht _; omega) (fun c_73 => ?_) (fun c_73 => ?_)
            · refine lv_iload hx hb dX0_smallestTurn_82 (lv_at hl 1 rfl) ?_
              refine lv_iload hx hb dX0_smallestTurn_84 (lv_at hl 0 rfl) ?_
              refine ru_icmp_le (tgt := 98) hx hb dX0_smallestTurn_86 (by decide) (by have : ru_c t n (i + k) < 4 := ht _; omega) (by have : ru_c t n (j + k) < 4 := ht _; omega) (fun c_86 => ?_) (fun c_86 => ?_)
              · refine lv_iload_n hx hb dX0_smallestTurn_98 rfl (lv_at hl 4 rfl) ?_
                refine lv_iload_n hx hb dX0_smallestTurn_99 rfl (lv_at hl 5 rfl) ?_
                refine lv_iconst (v := nI 1) hx hb dX0_smallestTurn_100 (by decide) ?_
                refine ru_iadd hx hb dX0_smallestTurn_101 ?_
                refine ru_iadd hx hb dX0_smallestTurn_102 ?_
                refine lv_istore_n (lv' := [(2, .int (nI (j + (k + 1)))), (6, .int (nI (ru_c t n (j + k)))), (5, .int (nI (ru_c t n (i + k)))), (0, .ref h), (1, .int (nI i)), (3, .int (nI k)), (4, .int (nI q))]) hx hb dX0_smallestTurn_103 rfl hl (by decide) rfl (fun ls hl => ?_)
                refine lv_iload_n hx hb dX0_smallestTurn_104 rfl (lv_at hl 4 rfl) ?_
                refine lv_iload_n hx hb dX0_smallestTurn_105 rfl (lv_at hl 0 rfl) ?_
                refine ru_icmp_ne (tgt := 112) hx hb dX0_smallestTurn_106 (by decide) (by omega) (by omega) (fun c_106 => ?_) (fun c_106 => ?_)
                · refine lv_iconst (v := nI 0) hx hb dX0_smallestTurn_112 (by decide) ?_
                  refine lv_istore_n (lv' := [(3, .int (nI 0)), (2, .int (nI (j + (k + 1)))), (6, .int (nI (ru_c t n (j + k)))), (5, .int (nI (ru_c t n (i + k)))), (0, .ref h), (1, .int (nI i)), (4, .int (nI q))]) hx hb dX0_smallestTurn_113 rfl hl (by decide) rfl (fun ls hl => ?_)
                  refine lv_iinc (v := nI (q + 1)) (lv' := [(4, .int (nI (q + 1))), (3, .int (nI 0)), (2, .int (nI (j + (k + 1)))), (6, .int (nI (ru_c t n (j + k)))), (5, .int (nI (ru_c t n (i + k)))), (0, .ref h), (1, .int (nI i))]) hx hb dX0_smallestTurn_114 hl (k := 6) rfl (ru_inc _) (by decide) rfl (fun ls hl => ?_)
                  refine lv_goto (tgt := 19) hx hb dX0_smallestTurn_117 (by decide) ?_
                  exact ih_19 i (j + (k + 1)) 0 (q + 1) _ _ _ (by omega) ⟨(ru_TI_j hTI (by omega)).1 c_106, by omega, by omega, by omega, by omega, by omega⟩ (lv_sub hl [5, 6, 2, 1, 0] rfl) V
                · refine lv_iinc (v := nI (j + (k + 1) + 1)) (lv' := [(2, .int (nI (j + (k + 1) + 1))), (6, .int (nI (ru_c t n (j + k)))), (5, .int (nI (ru_c t n (i + k)))), (0, .ref h), (1, .int (nI i)), (3, .int (nI k)), (4, .int (nI q))]) hx hb dX0_smallestTurn_109 hl (k := 0) rfl (ru_inc _) (by decide) rfl (fun ls hl => ?_)
                  refine lv_iconst (v := nI 0) hx hb dX0_smallestTurn_112 (by decide) ?_
                  refine lv_istore_n (lv' := [(3, .int (nI 0)), (2, .int (nI (j + (k + 1) + 1))), (6, .int (nI (ru_c t n (j + k)))), (5, .int (nI (ru_c t n (i + k)))), (0, .ref h), (1, .int (nI i)), (4, .int (nI q))]) hx hb dX0_smallestTurn_113 rfl hl (by decide) rfl (fun ls hl => ?_)
                  refine lv_iinc (v := nI (q + 1)) (lv' := [(4, .int (nI (q + 1))), (3, .int (nI 0)), (2, .int (nI (j + (k + 1) + 1))), (6, .int (nI (ru_c t n (j + k)))), (5, .int (nI (ru_c t n (i + k)))), (0, .ref h), (1, .int (nI i))]) hx hb dX0_smallestTurn_114 hl (k := 6) rfl (ru_inc _) (by decide) rfl (fun ls hl => ?_)
                  refine lv_goto (tgt := 19) hx hb dX0_smallestTurn_117 (by decide) ?_
                  exact ih_19 i (j + (k + 1) + 1) 0 (q + 1) _ _ _ (by omega) ⟨(ru_TI_j hTI (by omega)).2 c_106, by omega, by omega, by omega, by omega, by omega⟩ (lv_sub hl [5, 6, 2, 1, 0] rfl) V
              · refine lv_iload_n hx hb dX0_smallestTurn_89 rfl (lv_at hl 3 rfl) ?_
                refine lv_iload_n hx hb dX0_smallestTurn_90 rfl (lv_at hl 5 rfl) ?_
                refine lv_iconst (v := nI 1) hx hb dX0_smallestTurn_91 (by decide) ?_
                refine ru_iadd hx hb dX0_smallestTurn_92 ?_
                refine ru_iadd hx hb dX0_smallestTurn_93 ?_
                refine lv_istore_n (lv' := [(1, .int (nI (i + (k + 1)))), (6, .int (nI (ru_c t n (j + k)))), (5, .int (nI (ru_c t n (i + k)))), (0, .ref h), (2, .int (nI j)), (3, .int (nI k)), (4, .int (nI q))]) hx hb dX0_smallestTurn_94 rfl hl (by decide) rfl (fun ls hl => ?_)
                refine lv_goto (tgt := 104) hx hb dX0_smallestTurn_95 (by decide) ?_
                refine lv_iload_n hx hb dX0_smallestTurn_104 rfl (lv_at hl 0 rfl) ?_
                refine lv_iload_n hx hb dX0_smallestTurn_105 rfl (lv_at hl 4 rfl) ?_
                refine ru_icmp_ne (tgt := 112) hx hb dX0_smallestTurn_106 (by decide) (by omega) (by omega) (fun c_106 => ?_) (fun c_106 => ?_)
                · refine lv_iconst (v := nI 0) hx hb dX0_smallestTurn_112 (by decide) ?_
                  refine lv_istore_n (lv' := [(3, .int (nI 0)), (1, .int (nI (i + (k + 1)))), (6, .int (nI (ru_c t n (j + k)))), (5, .int (nI (ru_c t n (i + k)))), (0, .ref h), (2, .int (nI j)), (4, .int (nI q))]) hx hb dX0_smallestTurn_113 rfl hl (by decide) rfl (fun ls hl => ?_)
                  refine lv_iinc (v := nI (q + 1)) (lv' := [(4, .int (nI (q + 1))), (3, .int (nI 0)), (1, .int (nI (i + (k + 1)))), (6, .int (nI (ru_c t n (j + k)))), (5, .int (nI (ru_c t n (i + k)))), (0, .ref h), (2, .int (nI j))]) hx hb dX0_smallestTurn_114 hl (k := 6) rfl (ru_inc _) (by decide) rfl (fun ls hl => ?_)
                  refine lv_goto (tgt := 19) hx hb dX0_smallestTurn_117 (by decide) ?_
                  exact ih_19 (i + (k + 1)) j 0 (q + 1) _ _ _ (by omega) ⟨(ru_TI_i hTI (by omega)).1 c_106, by omega, by omega, by omega, by omega, by omega⟩ (lv_sub hl [5, 2, 6, 1, 0] rfl) V
                · refine lv_iinc (v := nI (j + 1)) (lv' := [(2, .int (nI (j + 1))), (1, .int (nI (i + (k + 1)))), (6, .int (nI (ru_c t n (j + k)))), (5, .int (nI (ru_c t n (i + k)))), (0, .ref h), (3, .int (nI k)), (4, .int (nI q))]) hx hb dX0_smallestTurn_109 hl (k := 4) rfl (ru_inc _) (by decide) rfl (fun ls hl => ?_)
                  refine lv_iconst (v := nI 0) hx hb dX0_smallestTurn_112 (by decide) ?_
                  refine lv_istore_n (lv' := [(3, .int (nI 0)), (2, .int (nI (j + 1))), (1, .int (nI (i + (k + 1)))), (6, .int (nI (ru_c t n (j + k)))), (5, .int (nI (ru_c t n (i + k)))), (0, .ref h), (4, .int (nI q))]) hx hb dX0_smallestTurn_113 rfl hl (by decide) rfl (fun ls hl => ?_)
                  refine lv_iinc (v := nI (q + 1)) (lv' := [(4, .int (nI (q + 1))), (3, .int (nI 0)), (2, .int (nI (j + 1))), (1, .int (nI (i + (k + 1)))), (6, .int (nI (ru_c t n (j + k)))), (5, .int (nI (ru_c t n (i + k)))), (0, .ref h)]) hx hb dX0_smallestTurn_114 hl (k := 6) rfl (ru_inc _) (by decide) rfl (fun ls hl => ?_)
                  refine lv_goto (tgt := 19) hx hb dX0_smallestTurn_117 (by decide) ?_
                  exact ih_19 (i + (k + 1)) (j + 1) 0 (q + 1) _ _ _ (by omega) ⟨(ru_TI_i hTI (by omega)).2 c_106, by omega, by omega, by omega, by omega, by omega⟩ (lv_sub hl [6, 3, 2, 1, 0] rfl) V
            · refine lv_iinc (v := nI (k + 1)) (lv' := [(3, .int (nI (k + 1))), (6, .int (nI (ru_c t n (j + k)))), (5, .int (nI (ru_c t n (i + k)))), (0, .ref h), (1, .int (nI i)), (2, .int (nI j)), (4, .int (nI q))]) hx hb dX0_smallestTurn_76 hl (k := 5) rfl (ru_inc _) (by decide) rfl (fun ls hl => ?_)
              refine lv_goto (tgt := 114) hx hb dX0_smallestTurn_79 (by decide) ?_
              refine lv_iinc (v := nI (q + 1)) (lv' := [(4, .int (nI (q + 1))), (3, .int (nI (k + 1))), (6, .int (nI (ru_c t n (j + k)))), (5, .int (nI (ru_c t n (i + k)))), (0, .ref h), (1, .int (nI i)), (2, .int (nI j))]) hx hb dX0_smallestTurn_114 hl (k := 6) rfl (ru_inc _) (by decide) rfl (fun ls hl => ?_)
              refine lv_goto (tgt := 19) hx hb dX0_smallestTurn_117 (by decide) ?_
              exact ih_19 i j (k + 1) (q + 1) _ _ _ (by omega) ⟨ru_TI_k hTI c_73, by omega, by omega, by omega, by omega, by omega⟩ (lv_sub hl [4, 5, 6, 1, 0] rfl) V
  · refine lv_bipush (v := (-4)) hx hb dX0_smallestTurn_7 (by decide) ?_
    exact ru_iret hx hb hr hlocks () V (Or.inl ⟨c_4, rfl⟩) dX0_smallestTurn_9
end
section
/-! constructors; rows for the law -/
set_option maxRecDepth 100000
section RUN
variable {p : Program} {l : Launch} {e : Env} {R : Room} {s : State} {m : MethodId} {args : Array Value} {below : List Frame} {meth : Method} {c : Code} {H : Heap} {locs : List Loc} {cells slots : Nat} {Q : State → Prop}
variable {cc : ByteArray} {pc : Nat} {ls : Array Slot} {rest : List Value} {D : va_G} {d : ClassId} {A : Nat → Prop} {a : Nat} {w : va_W} {H0 : Heap}
abbrev ru_X0 : List Value := [.int (nI 0), .null, .int (nI 0), .null, .null, .null, .null, .int (nI 0), .null, .null, .null]
abbrev ru_Y0 : List Value := [.int (nI 0), .null]
theorem ru_new0 (hexec : p.tables.exec = Jvm.exec) (hb : c.code = cc) {own : String} {index : Nat} (hts : ∀ w ∈ lw_all, w.before args s = true) (hown : s.vm.findClass own = some m.cls) (hcl : (Cond.classLink own index RX0).before args s = true) (hinst : (Cond.instantiable RX0 11).before args s = true) (hini : (Cond.initialized RX0).before args s = true) (V : ru_V D d A s H0 H locs w) (hcells : cells + 1 ≤ R.cells) (hslots : slots + 11 ≤ R.slots) (hdg : decode cc pc = .ok (.new index, 3)) (kk : ∀ (q : Nat) (H1 : Heap), ru_V D d A s H0 H1 locs (w ++ [(q, .inr (0, ru_X0))]) → W p l e R s m args below meth c H1 locs (cells + 1) (slots + 11) Q (F0 m (pc + 3) ls (.ref q :: rest))) : W p l e R s m args below meth c H locs cells slots Q (F0 m pc ls rest) := va_new (ci := 0) (fs := ru_X0) (C := RX0) (T := TX0) (N := 11) hexec hb hts in_X0 tyX0 tyX0_ok hown hcl hinst hini V.1 V.2.1 V.2.2.1 V.2.2.2.1 V.2.2.2.2 rfl (fun j hj => by rcases (show j = 0 ∨ j = 1 ∨ j = 2 ∨ j = 3 ∨ j = 4 ∨ j = 5 ∨ j = 6 ∨ j = 7 ∨ j = 8 ∨ j = 9 ∨ j = 10 by omega) with rfl | rfl | rfl | rfl | rfl | rfl | rfl | rfl | rfl | rfl | rfl <;> rfl) hcells hslots hdg (fun q H1 h1 h2 h3 => kk q H1 ⟨V.1, h1, h2, h3, V.2.2.2.2⟩)
theorem ru_new1 (hexec : p.tables.exec = Jvm.exec) (hb : c.code = cc) {own : String} {index : Nat} (hts : ∀ w ∈ lw_all, w.before args s = true) (hown : s.vm.findClass own = some m.cls) (hcl : (Cond.classLink own index RX1).before args s = true) (hinst : (Cond.instantiable RX1 2).before args s = true) (hini : (Cond.initialized RX1).before args s = true) (V : ru_V D d A s H0 H locs w) (hcells : cells + 1 ≤ R.cells) (hslots : slots + 2 ≤ R.slots) (hdg : decode cc pc = .ok (.new index, 3)) (kk : ∀ (q : Nat) (H1 : Heap), ru_V D d A s H0 H1 locs (w ++ [(q, .inr (1, ru_Y0))]) → W p l e R s m args below meth c H1 locs (cells + 1) (slots + 2) Q (F0 m (pc + 3) ls (.ref q :: rest))) : W p l e R s m args below meth c H locs cells slots Q (F0 m pc ls rest) := va_new (ci := 1) (fs := ru_Y0) (C := RX1) (T := TX1) (N := 2) hexec hb hts in_X1 tyX1 tyX1_ok hown hcl hinst hini V.1 V.2.1 V.2.2.1 V.2.2.2.1 V.2.2.2.2 rfl (fun j hj => by rcases (show j = 0 ∨ j = 1 by omega) with rfl | rfl <;> rfl) hcells hslots hdg (fun q H1 h1 h2 h3 => kk q H1 ⟨V.1, h1, h2, h3, V.2.2.2.2⟩)
theorem ru_callC {S : Type} {y : MethodName} {bytes : ByteArray} {maxL nL index mc ms : Nat} {rm : Room} {post : S → Prop} {w' : S → va_W} {own : String} {b : Nat} {w1 w2 : va_W} {st0 : List Value} (S0 : CallFix p m c cc nL s args lw_all own) (V : ru_V D d A s H0 H locs (w1 ++ w2)) (hM : ∀ sz : Nat, Met l y (ws_ y bytes maxL none) rm (va_Pc [.ref b] (ru_Pre D d w1 sz)) (ru_QV D d post w' (va_A w1 sz)) mc ms (va_A w1 sz)) (cw : CallB R s args own index y bytes maxL none (ws_ y bytes maxL none) rm mc ms 0 ∧ y.name = "<init>" ∧ (Cond.instanceMethod y).before args s = true) (hsize : ls.size = nL) (hst : st0 = .ref b :: rest) (hW : (rest.map fun v => v.category).sum ≤ 8) (hdg : decode cc pc = .ok (.invokespecial index, 3)) (hR : cells + mc ≤ R.cells ∧ slots + ms ≤ R.slots)
    (kk : ∀ (u : S) (H1 : Heap) (locs1 : List Loc), post u → ru_V D d A s H0 H1 locs1 (w2 ++ w' u) → W p l e R s m args below meth c H1 locs1 (cells + mc) (slots + ms) Q (F0 m (pc + 3) ls rest)) : W p l e R s m args below meth c H locs cells slots Q (F0 m pc ls st0) := by
  obtain ⟨hF, hP1, hD1⟩ := ru_split V
  refine va_callv (va_runI (As := []) (rest := rest) S0 (hM H.size) cw ⟨ru_blind, fun U hU hW => ⟨rfl, by rw [hU], by rw [hU]; exact hP1, va_K.moved hW.alike V.1, hD1⟩⟩ rfl rfl hsize hst (lv_room hW) hdg hR) V.2.2.2.1 (fun q _ h => hF q h) hF (fun u t H1 locs1 ht hvm hpost hB hz1 hk1 hS => ?_)
  exact kk u H1 locs1 hpost (ru_unite V ht hk1 hS hB)
theorem ru_swap {w1 w2 : va_W} (V : ru_V D d A s H0 H locs (w1 ++ w2)) : ru_V D d A s H0 H locs (w2 ++ w1) := by
  obtain ⟨hK, hP, hD, hS, hA⟩ := V
  refine ⟨hK, fun k q hk => ?_, ?_, hS, hA⟩
  · obtain ⟨i, hi⟩ := List.getElem?_of_mem (show q ∈ w1 ++ w2 from by
      rcases List.mem_append.mp (List.mem_of_getElem? hk) with h | h
      · exact List.mem_append_right _ h
      · exact List.mem_append_left _ h)
    exact hP i q hi
  · refine hD.sub ((List.range w2.length).map (fun i => w1.length + i) ++ List.range w1.length) (ru_nd _ ?_) (by rw [List.map_append, ru_at2, ru_at1, List.map_append])
    rw [List.nodup_append]
    refine ⟨?_, List.nodup_range, ?_⟩
    · rw [List.nodup_iff_pairwise_ne, List.pairwise_map]
      exact List.Pairwise.imp (fun h => by omega) List.pairwise_lt_range
    · intro x hx y hy
      obtain ⟨j, -, rfl⟩ := List.mem_map.mp hx
      have := List.mem_range.mp hy
      omega
theorem ru_sld (hexec : p.tables.exec = Jvm.exec) (hb : c.code = cc) {b L k : Nat} {xs : Nat → Int32} (hX : va_X b L xs s H0) (hbl : b < H0.size) (hbA : ¬ A b) (V : ru_V D d A s H0 H locs w) (hk : k < L) (hL : L ≤ 192) (hdg : decode cc pc = .ok (.iaload, 1)) (kk : W p l e R s m args below meth c H locs cells slots Q (F0 m (pc + 1) ls (.int (xs k) :: rest))) : W p l e R s m args below meth c H locs cells slots Q (F0 m pc ls (.int (nI k) :: .ref b :: rest)) := by
  refine va_sld hexec hb hX hbl hbA V.2.2.2.1 (vp_in_nI hk (by omega)) hdg ?_
  rw [nI_clamp (by omega)]
  exact kk
theorem ru_slen (hexec : p.tables.exec = Jvm.exec) (hb : c.code = cc) {b L : Nat} {xs : Nat → Int32} (hX : va_X b L xs s H0) (hbl : b < H0.size) (hbA : ¬ A b) (V : ru_V D d A s H0 H locs w) (hdg : decode cc pc = .ok (.arraylength, 1)) (kk : W p l e R s m args below meth c H locs cells slots Q (F0 m (pc + 1) ls (.int (nI L) :: rest))) : W p l e R s m args below meth c H locs cells slots Q (F0 m pc ls (.ref b :: rest)) := va_slen hexec hb hX hbl hbA V.2.2.2.1 hdg kk
end RUN
set_option maxHeartbeats 4000000 in
set_option maxRecDepth 100000 in
theorem met_X0_init (l : Launch) (D : va_G) (d : ClassId) (h : Nat) (sz : Nat) : Met l yX0_init (ws_ yX0_init cX0_init 1 none) ({ frames := 1, cells := 8, slots := 2468, locals := 12 } : Room) (va_Pc [.ref h] (ru_Pre D d [(h, .inr (0, ru_X0))] sz)) (ru_QV D d (fun _ : Nat → Nat => True) (fun a => ru_X d h a 0 (fun _ => 0) 0 (fun _ => 0) (fun _ => 0) (fun _ => 0) (fun _ => 0) 0 (fun _ => 0) (fun _ => 0) (fun _ => 0)) (va_A [(h, .inr (0, ru_X0))] sz)) 8 2468 (va_A [(h, .inr (0, ru_X0))] sz) := by
  refine Met.ofW (cc := cX0_init) (maxL := 1) (ret := none) (by decide) rfl ?_
  intro p e s m args below meth c s₁ B hml hv
  obtain ⟨rfl, hsz, hP, hK, hD0⟩ := hv
  have hx := B.exec
  have hb := B.bytes
  have hr := B.returns
  have hts := atoms_spec (ws := ws_ yX0_init cX0_init 1 none) B.pre
  have hts : ∀ w ∈ lw_all, w.before _ s = true := fun w h => hts w (List.mem_cons_of_mem _ h)
  have hown : s.vm.findClass RX0 = some m.cls := findClass_of_methodNamed B.named
  have hlocks := B.notSynchronized
  have hin : meth.name = "<init>" := (name_of_methodNamed B.named B.method).1
  subst hsz
  have V : ru_V D d (va_A [(h, .inr (0, ru_X0))] s.heap.size) s s.heap s.heap [] [(h, .inr (0, ru_X0))] := ⟨hK, hP, hD0.self, va_S.rf, fun q h => Or.inr h⟩
  generalize va_A [(h, .inr (0, ru_X0))] s.heap.size = A at V ⊢
  have hl := lv_entry ([.ref h]) (n := 1) (Nat.le_of_ble_eq_true rfl)
  rw [lg_entry_eq]
  generalize (lg_sl ([.ref h]) ++ List.replicate (1 - (lg_sl ([.ref h])).length) Slot.unset).toArray = ls at hl ⊢
  have hl : lv_has ls 1 [(0, .ref h)] := hl
  refine lv_aload_n hx hb dX0_init_0 rfl (lv_at hl 0 rfl) ?_
  refine W.objInit hx hb hown (hts _ q26) (hts _ q27) (hts _ q28) rfl (by rw [hml]; exact hl.1) rfl dX0_init_1 (Nat.le_of_ble_eq_true rfl) (Nat.le_of_ble_eq_true rfl) ?_
  refine W.eq (g2 := F0 m 4 ls []) rfl ?_
  refine lv_aload_n hx hb dX0_init_4 rfl (lv_at hl 0 rfl) ?_
  refine lv_bipush (v := nI 32) hx hb dX0_init_5 (by decide) ?_
  refine ru_newa hx hb hts V (by decide) (Nat.le_of_ble_eq_true rfl) (Nat.le_of_ble_eq_true rfl) dX0_init_7 (fun q0 H V => ?_)
  have V : ru_V D d A s s.heap H _ [(h, .inr (0, [.int (nI 0), .null, .int (nI 0), .null, .null, .null, .null, .int (nI 0), .null, .null, .null])), (q0, ru_ar d 32 (fun _ => 0))] := V
  refine ru_putF0 hx hb hts hown V 0 rfl 1 (by decide) (hts _ q30) rfl hin rfl (ty := .array .int) (by decide +kernel) rfl rfl (Nat.le_of_ble_eq_true rfl) dX0_init_9 (fun H locs V => ?_)
  have V : ru_V D d A s s.heap H locs [(h, .inr (0, [.int (nI 0), .ref q0, .int (nI 0), .null, .null, .null, .null, .int (nI 0), .null, .null, .null])), (q0, ru_ar d 32 (fun _ => 0))] := V
  refine lv_aload_n hx hb dX0_init_12 rfl (lv_at hl 0 rfl) ?_
  refine lv_sipush (v := nI 1089) hx hb dX0_init_13 (by decide) ?_
  refine ru_newa hx hb hts V (by decide) (Nat.le_of_ble_eq_true rfl) (Nat.le_of_ble_eq_true rfl) dX0_init_16 (fun q1 H V => ?_)
  have V : ru_V D d A s s.heap H _ [(h, .inr (0, [.int (nI 0), .ref q0, .int (nI 0), .null, .null, .null, .null, .int (nI 0), .null, .null, .null])), (q0, ru_ar d 32 (fun _ => 0)), (q1, ru_ar d 1089 (fun _ => 0))] := V
  refine ru_putF0 hx hb hts hown V 0 rfl 3 (by decide) (hts _ q32) rfl hin rfl (ty := .array .int) (by decide +kernel) rfl rfl (Nat.le_of_ble_eq_true rfl) dX0_init_18 (fun H locs V => ?_)
  have V : ru_V D d A s s.heap H locs [(h, .inr (0, [.int (nI 0), .ref q0, .int (nI 0), .ref q1, .null, .null, .null, .int (nI 0), .null, .null, .null])), (q0, ru_ar d 32 (fun _ => 0)), (q1, ru_ar d 1089 (fun _ => 0))] := V
  refine lv_aload_n hx hb dX0_init_21 rfl (lv_at hl 0 rfl) ?_
  refine lv_sipush (v := nI 1089) hx hb dX0_init_22 (by decide) ?_
  refine ru_newa hx hb hts V (by decide) (Nat.le_of_ble_eq_true rfl) (Nat.le_of_ble_eq_true rfl) dX0_init_25 (fun q2 H V => ?_)
  have V : ru_V D d A s s.heap H _ [(h, .inr (0, [.int (nI 0), .ref q0, .int (nI 0), .ref q1, .null, .null, .null, .int (nI 0), .null, .null, .null])), (q0, ru_ar d 32 (fun _ => 0)), (q1, ru_ar d 1089 (fun _ => 0)), (q2, ru_ar d 1089 (fun _ => 0))] := V
  refine ru_putF0 hx hb hts hown V 0 rfl 4 (by decide) (hts _ q33) rfl hin rfl (ty := .array .int) (by decide +kernel) rfl rfl (Nat.le_of_ble_eq_true rfl) dX0_init_27 (fun H locs V => ?_)
  have V : ru_V D d A s s.heap H locs [(h, .inr (0, [.int (nI 0), .ref q0, .int (nI 0), .ref q1, .ref q2, .null, .null, .int (nI 0), .null, .null, .null])), (q0, ru_ar d 32 (fun _ => 0)), (q1, ru_ar d 1089 (fun _ => 0)), (q2, ru_ar d 1089 (fun _ => 0))] := V
  refine lv_aload_n hx hb dX0_init_30 rfl (lv_at hl 0 rfl) ?_
  refine lv_bipush (v := nI 33) hx hb dX0_init_31 (by decide) ?_
  refine ru_newa hx hb hts V (by decide) (Nat.le_of_ble_eq_true rfl) (Nat.le_of_ble_eq_true rfl) dX0_init_33 (fun q3 H V => ?_)
  have V : ru_V D d A s s.heap H _ [(h, .inr (0, [.int (nI 0), .ref q0, .int (nI 0), .ref q1, .ref q2, .null, .null, .int (nI 0), .null, .null, .null])), (q0, ru_ar d 32 (fun _ => 0)), (q1, ru_ar d 1089 (fun _ => 0)), (q2, ru_ar d 1089 (fun _ => 0)), (q3, ru_ar d 33 (fun _ => 0))] := V
  refine ru_putF0 hx hb hts hown V 0 rfl 5 (by decide) (hts _ q34) rfl hin rfl (ty := .array .int) (by decide +kernel) rfl rfl (Nat.le_of_ble_eq_true rfl) dX0_init_35 (fun H locs V => ?_)
  have V : ru_V D d A s s.heap H locs [(h, .inr (0, [.int (nI 0), .ref q0, .int (nI 0), .ref q1, .ref q2, .ref q3, .null, .int (nI 0), .null, .null, .null])), (q0, ru_ar d 32 (fun _ => 0)), (q1, ru_ar d 1089 (fun _ => 0)), (q2, ru_ar d 1089 (fun _ => 0)), (q3, ru_ar d 33 (fun _ => 0))] := V
  refine lv_aload_n hx hb dX0_init_38 rfl (lv_at hl 0 rfl) ?_
  refine lv_bipush (v := nI 33) hx hb dX0_init_39 (by decide) ?_
  refine ru_newa hx hb hts V (by decide) (Nat.le_of_ble_eq_true rfl) (Nat.le_of_ble_eq_true rfl) dX0_init_41 (fun q4 H V => ?_)
  have V : ru_V D d A s s.heap H _ [(h, .inr (0, [.int (nI 0), .ref q0, .int (nI 0), .ref q1, .ref q2, .ref q3, .null, .int (nI 0), .null, .null, .null])), (q0, ru_ar d 32 (fun _ => 0)), (q1, ru_ar d 1089 (fun _ => 0)), (q2, ru_ar d 1089 (fun _ => 0)), (q3, ru_ar d 33 (fun _ => 0)), (q4, ru_ar d 33 (fun _ => 0))] := V
  refine ru_putF0 hx hb hts hown V 0 rfl 6 (by decide) (hts _ q35) rfl hin rfl (ty := .array .int) (by decide +kernel) rfl rfl (Nat.le_of_ble_eq_true rfl) dX0_init_43 (fun H locs V => ?_)
  have V : ru_V D d A s s.heap H locs [(h, .inr (0, [.int (nI 0), .ref q0, .int (nI 0), .ref q1, .ref q2, .ref q3, .ref q4, .int (nI 0), .null, .null, .null])), (q0, ru_ar d 32 (fun _ => 0)), (q1, ru_ar d 1089 (fun _ => 0)), (q2, ru_ar d 1089 (fun _ => 0)), (q3, ru_ar d 33 (fun _ => 0)), (q4, ru_ar d 33 (fun _ => 0))] := V
  refine lv_aload_n hx hb dX0_init_46 rfl (lv_at hl 0 rfl) ?_
  refine lv_bipush (v := nI 64) hx hb dX0_init_47 (by decide) ?_
  refine ru_newa hx hb hts V (by decide) (Nat.le_of_ble_eq_true rfl) (Nat.le_of_ble_eq_true rfl) dX0_init_49 (fun q5 H V => ?_)
  have V : ru_V D d A s s.heap H _ [(h, .inr (0, [.int (nI 0), .ref q0, .int (nI 0), .ref q1, .ref q2, .ref q3, .ref q4, .int (nI 0), .null, .null, .null])), (q0, ru_ar d 32 (fun _ => 0)), (q1, ru_ar d 1089 (fun _ => 0)), (q2, ru_ar d 1089 (fun _ => 0)), (q3, ru_ar d 33 (fun _ => 0)), (q4, ru_ar d 33 (fun _ => 0)), (q5, ru_ar d 64 (fun _ => 0))] := V
  refine ru_putF0 hx hb hts hown V 0 rfl 8 (by decide) (hts _ q37) rfl hin rfl (ty := .array .int) (by decide +kernel) rfl rfl (Nat.le_of_ble_eq_true rfl) dX0_init_51 (fun H locs V => ?_)
  have V : ru_V D d A s s.heap H locs [(h, .inr (0, [.int (nI 0), .ref q0, .int (nI 0), .ref q1, .ref q2, .ref q3, .ref q4, .int (nI 0), .ref q5, .null, .null])), (q0, ru_ar d 32 (fun _ => 0)), (q1, ru_ar d 1089 (fun _ => 0)), (q2, ru_ar d 1089 (fun _ => 0)), (q3, ru_ar d 33 (fun _ => 0)), (q4, ru_ar d 33 (fun _ => 0)), (q5, ru_ar d 64 (fun _ => 0))] := V
  refine lv_aload_n hx hb dX0_init_54 rfl (lv_at hl 0 rfl) ?_
  refine lv_bipush (v := nI 64) hx hb dX0_init_55 (by decide) ?_
  refine ru_newa hx hb hts V (by decide) (Nat.le_of_ble_eq_true rfl) (Nat.le_of_ble_eq_true rfl) dX0_init_57 (fun q6 H V => ?_)
  have V : ru_V D d A s s.heap H _ [(h, .inr (0, [.int (nI 0), .ref q0, .int (nI 0), .ref q1, .ref q2, .ref q3, .ref q4, .int (nI 0), .ref q5, .null, .null])), (q0, ru_ar d 32 (fun _ => 0)), (q1, ru_ar d 1089 (fun _ => 0)), (q2, ru_ar d 1089 (fun _ => 0)), (q3, ru_ar d 33 (fun _ => 0)), (q4, ru_ar d 33 (fun _ => 0)), (q5, ru_ar d 64 (fun _ => 0)), (q6, ru_ar d 64 (fun _ => 0))] := V
  refine ru_putF0 hx hb hts hown V 0 rfl 9 (by decide) (hts _ q38) rfl hin rfl (ty := .array .int) (by decide +kernel) rfl rfl (Nat.le_of_ble_eq_true rfl) dX0_init_59 (fun H locs V => ?_)
  have V : ru_V D d A s s.heap H locs [(h, .inr (0, [.int (nI 0), .ref q0, .int (nI 0), .ref q1, .ref q2, .ref q3, .ref q4, .int (nI 0), .ref q5, .ref q6, .null])), (q0, ru_ar d 32 (fun _ => 0)), (q1, ru_ar d 1089 (fun _ => 0)), (q2, ru_ar d 1089 (fun _ => 0)), (q3, ru_ar d 33 (fun _ => 0)), (q4, ru_ar d 33 (fun _ => 0)), (q5, ru_ar d 64 (fun _ => 0)), (q6, ru_ar d 64 (fun _ => 0))] := V
  refine lv_aload_n hx hb dX0_init_62 rfl (lv_at hl 0 rfl) ?_
  refine lv_bipush (v := nI 64) hx hb dX0_init_63 (by decide) ?_
  refine ru_newa hx hb hts V (by decide) (Nat.le_of_ble_eq_true rfl) (Nat.le_of_ble_eq_true rfl) dX0_init_65 (fun q7 H V => ?_)
  have V : ru_V D d A s s.heap H _ [(h, .inr (0, [.int (nI 0), .ref q0, .int (nI 0), .ref q1, .ref q2, .ref q3, .ref q4, .int (nI 0), .ref q5, .ref q6, .null])), (q0, ru_ar d 32 (fun _ => 0)), (q1, ru_ar d 1089 (fun _ => 0)), (q2, ru_ar d 1089 (fun _ => 0)), (q3, ru_ar d 33 (fun _ => 0)), (q4, ru_ar d 33 (fun _ => 0)), (q5, ru_ar d 64 (fun _ => 0)), (q6, ru_ar d 64 (fun _ => 0)), (q7, ru_ar d 64 (fun _ => 0))] := V
  refine ru_putF0 hx hb hts hown V 0 rfl 10 (by decide) (hts _ q39) rfl hin rfl (ty := .array .int) (by decide +kernel) rfl rfl (Nat.le_of_ble_eq_true rfl) dX0_init_67 (fun H locs V => ?_)
  have V : ru_V D d A s s.heap H locs [(h, .inr (0, [.int (nI 0), .ref q0, .int (nI 0), .ref q1, .ref q2, .ref q3, .ref q4, .int (nI 0), .ref q5, .ref q6, .ref q7])), (q0, ru_ar d 32 (fun _ => 0)), (q1, ru_ar d 1089 (fun _ => 0)), (q2, ru_ar d 1089 (fun _ => 0)), (q3, ru_ar d 33 (fun _ => 0)), (q4, ru_ar d 33 (fun _ => 0)), (q5, ru_ar d 64 (fun _ => 0)), (q6, ru_ar d 64 (fun _ => 0)), (q7, ru_ar d 64 (fun _ => 0))] := V
  refine lv_aload_n hx hb dX0_init_70 rfl (lv_at hl 0 rfl) ?_
  refine lv_iconst (v := nI 0) hx hb dX0_init_71 (by decide) ?_
  refine ru_put0 hx hb hts hown V 0 rfl 2 (by decide) (hts _ q31) rfl (ty := .boolean) (by decide +kernel) rfl rfl (Nat.le_of_ble_eq_true rfl) dX0_init_72 (fun H locs V => ?_)
  exact ru_vret hx hb hr hlocks (fun k => ([q0, q1, q2, q3, q4, q5, q6, q7] : List Nat).getD k 0) V trivial dX0_init_75
set_option maxHeartbeats 4000000 in
set_option maxRecDepth 100000 in
theorem met_X1_init (l : Launch) (D : va_G) (d : ClassId) (h : Nat) (sz : Nat) : Met l yX1_init (ws_ yX1_init cX1_init 1 none) ({ frames := 1, cells := 1, slots := 32, locals := 12 } : Room) (va_Pc [.ref h] (ru_Pre D d [(h, .inr (1, ru_Y0))] sz)) (ru_QV D d (fun _ : Nat => True) (fun g => ru_Y d h g 0 (fun _ => 0)) (va_A [(h, .inr (1, ru_Y0))] sz)) 1 32 (va_A [(h, .inr (1, ru_Y0))] sz) := by
  refine Met.ofW (cc := cX1_init) (maxL := 1) (ret := none) (by decide) rfl ?_
  intro p e s m args below meth c s₁ B hml hv
  obtain ⟨rfl, hsz, hP, hK, hD0⟩ := hv
  have hx := B.exec
  have hb := B.bytes
  have hr := B.returns
  have hts := atoms_spec (ws := ws_ yX1_init cX1_init 1 none) B.pre
  have hts : ∀ w ∈ lw_all, w.before _ s = true := fun w h => hts w (List.mem_cons_of_mem _ h)
  have hown : s.vm.findClass RX1 = some m.cls := findClass_of_methodNamed B.named
  have hlocks := B.notSynchronized
  have hin : meth.name = "<init>" := (name_of_methodNamed B.named B.method).1
  subst hsz
  have V : ru_V D d (va_A [(h, .inr (1, ru_Y0))] s.heap.size) s s.heap s.heap [] [(h, .inr (1, ru_Y0))] := ⟨hK, hP, hD0.self, va_S.rf, fun q h => Or.inr h⟩
  generalize va_A [(h, .inr (1, ru_Y0))] s.heap.size = A at V ⊢
  have hl := lv_entry ([.ref h]) (n := 1) (Nat.le_of_ble_eq_true rfl)
  rw [lg_entry_eq]
  generalize (lg_sl ([.ref h]) ++ List.replicate (1 - (lg_sl ([.ref h])).length) Slot.unset).toArray = ls at hl ⊢
  have hl : lv_has ls 1 [(0, .ref h)] := hl
  refine lv_aload_n hx hb dX1_init_0 rfl (lv_at hl 0 rfl) ?_
  refine W.objInit hx hb hown (hts _ q172) (hts _ q27) (hts _ q28) rfl (by rw [hml]; exact hl.1) rfl dX1_init_1 (Nat.le_of_ble_eq_true rfl) (Nat.le_of_ble_eq_true rfl) ?_
  refine W.eq (g2 := F0 m 4 ls []) rfl ?_
  refine lv_aload_n hx hb dX1_init_4 rfl (lv_at hl 0 rfl) ?_
  refine lv_bipush (v := nI 32) hx hb dX1_init_5 (by decide) ?_
  refine ru_newa hx hb hts V (by decide) (Nat.le_of_ble_eq_true rfl) (Nat.le_of_ble_eq_true rfl) dX1_init_7 (fun q0 H V => ?_)
  have V : ru_V D d A s s.heap H _ [(h, .inr (1, [.int (nI 0), .null])), (q0, ru_ar d 32 (fun _ => 0))] := V
  refine ru_putF1 hx hb hts hown V 0 rfl 1 (by decide) (hts _ q174) rfl hin rfl (ty := .array .int) (by decide +kernel) rfl rfl (Nat.le_of_ble_eq_true rfl) dX1_init_9 (fun H locs V => ?_)
  have V : ru_V D d A s s.heap H locs [(h, .inr (1, [.int (nI 0), .ref q0])), (q0, ru_ar d 32 (fun _ => 0))] := V
  exact ru_vret hx hb hr hlocks q0 V trivial dX1_init_12
end
section
set_option maxRecDepth 100000
/-! THE CLAIM OUT OF ONE WALK OF THE LAW'S BODY. Your part is whole_start (and what it stands on); all else here is the same for every law, but numbers. -/
def R_law : String := "RunFinderLaw"
def lw_P (b : Addr) (xs : List Int32) (args : Array Value) (s : State) : Prop := args = #[.ref b] ∧ s.IntsAt b xs ∧ xs.length ≤ 192 ∧ (Jvm.Cond.and given_1 narrow_1).before args s = true
def lw_Q (_ : Array Value) (s : State) (o : Outcome) (t : State) : Prop := o = .returned (some (.int 1)) ∧ Framed s o t [] 600000 7290000
def lw_Z (below : List Frame) (a : Array Value) (s : State) : State → Prop := fun t => ∃ o, t.status = .running ∧ Ended t below o ∧ lw_Q a s o t
/-- the law's own end, with 1 on the stack, nothing written that was there before, its room as the claim has it -/
theorem lw_ret {p : Program} {l : Launch} {e : Env} {s : State} {m : MethodId} {below : List Frame} {meth : Method} {c : Code} {b : Nat} (hx : p.tables.exec = Jvm.exec) (hb : c.code = code) (hr : meth.sig.returnType = ret) (hlocks : meth.locks = false) {pc : Nat} {H : Heap} {ls : Array Slot} (hdg : decode code pc = .ok (.ireturn, 1)) : W p l e room_1 s m #[Value.ref b] below meth c H [] 600000 7290000 (lw_Z below #[Value.ref b] s) (F0 m pc ls [.int 1]) := by
  intro T hT X
  obtain ⟨fs, hret, hrun, hended, hW, hframe⟩ := X.leave (v := some (.int 1)) (hlocks := hlocks) (fun h => by rw [hr] at h; cases h)
  have hmeth' : T.vm.method? m = some meth := X.method'
  refine ⟨T.setFrames fs, ?_, .returned (some (.int 1)), hrun, hended, rfl, ⟨_, rfl⟩, hW, hframe⟩
  jvm_step X.here [X.here.top, hx, hb, hdg, hmeth', hr, ret, narrow_b1]
  (try refine ⟨rfl, ?_⟩); (try refine ⟨rfl, ?_⟩)
  first | (intro acts; rw [hret _ acts rfl rfl rfl]) | rw [hret _ _ rfl rfl rfl]
  exact Steps.refl _
/-- what holds at the law's entry: the machine, the code, the tables' words (any of lw_tbl by 'hts w (by decide +kernel)'), the script of L ints xs at the cell b, what the Statement gives of the start (any of its parts by flat_of_before) -/
def lw_At (p : Program) (s : State) (m : MethodId) (meth : Method) (c : Code) (b L : Nat) (xs : Nat → Int32) : Prop :=
  p.tables.exec = Jvm.exec ∧ c.code = code ∧ meth.sig.returnType = ret ∧ c.maxLocals = 4 ∧ s.vm.findClass R_law = some m.cls ∧ (∀ w ∈ lw_tbl, w.before #[Value.ref b] s = true) ∧ va_X b L xs s s.heap ∧ b < s.heap.size ∧ meth.locks = false ∧ (Jvm.Cond.and given_1 narrow_1).before #[Value.ref b] s = true
end
section
/-! the law's cases: each goes from its place in the switch to the loop's end, and the two objects agree again -/
set_option maxRecDepth 100000
/-- what holds between two calls: a text of letters; if it says ready, it is -/
def ru_In (n : Nat) (t : Nat → Nat) (rd : Nat) (ow fo : Nat → Nat) (fd : Nat) (fr to st : Nat → Nat) : Prop := ru_tn n t ∧ rd ≤ 1 ∧ (rd ≠ 0 → ru_PR t n ow fo fd fr to st)
theorem ru_In_q {n : Nat} {t : Nat → Nat} {rd : Nat} {ow fo : Nat → Nat} {fd : Nat} {fr to st : Nat → Nat} {ow' fo' : Nat → Nat} {fd' : Nat} {fr' to' st' : Nat → Nat} (h : ru_In n t rd ow fo fd fr to st) (hp : ru_PR t n ow' fo' fd' fr' to' st') : ru_In n t 1 ow' fo' fd' fr' to' st' := ⟨h.1, Nat.le_refl _, fun _ => hp⟩
theorem ru_In_0 {n : Nat} {t : Nat → Nat} {ow fo : Nat → Nat} {fd : Nat} {fr to st : Nat → Nat} (h : ru_tn n t) : ru_In n t 0 ow fo fd fr to st := ⟨h, by omega, fun q => absurd rfl q⟩
theorem ru_two {n : Nat} {P : Nat → Prop} {z r1 r2 : Int32} (hu : ∀ x y, P x → P y → x = y) (h1 : (n = 0 ∧ r1 = z) ∨ (n ≠ 0 ∧ ∃ x, r1 = nI x ∧ P x)) (h2 : (n = 0 ∧ r2 = z) ∨ (n ≠ 0 ∧ ∃ x, r2 = nI x ∧ P x)) : r1 = r2 := by
  rcases h1 with ⟨a1, a2⟩ | ⟨a1, x, a2, a3⟩
  · rcases h2 with ⟨b1, b2⟩ | ⟨b1, y, b2, b3⟩
    · rw [a2, b2]
    · exact absurd a1 b1
  · rcases h2 with ⟨b1, b2⟩ | ⟨b1, y, b2, b3⟩
    · exact absurd b1 a1
    · rw [a2, b2, hu x y a3 b3]
section LAW
variable {p : Program} {l : Launch} {e : Env} {s : State} {m : MethodId} {below : List Frame} {meth : Method} {c : Code} {Q : State → Prop}
variable {D : va_G} {d : ClassId} {A : Nat → Prop} {b L h h2 g i : Nat} {a : Nat → Nat} {xs : Nat → Int32}
/-- the loop's end, with any good state -/
def ru_J (p : Program) (l : Launch) (e : Env) (s : State) (m : MethodId) (below : List Frame) (meth : Method) (c : Code) (Q : State → Prop) (D : va_G) (d : ClassId) (A : Nat → Prop) (b h h2 g i : Nat) (a : Nat → Nat) : Prop := ∀ (n : Nat) (t : Nat → Nat) (rd : Nat) (ow bw we fo : Nat → Nat) (fd : Nat) (fr to st : Nat → Nat) (H : Heap) (locs : List Loc) (ls : Array Slot), ru_In n t rd ow fo fd fr to st → lv_has ls 4 [(0, .ref b), (1, .ref h), (2, .ref h2), (3, .int (nI i))] → ru_V D d A s s.heap H locs (ru_X d h a n t rd ow bw we fo fd fr to st ++ ru_Y d h2 g n t) → W p l e room_1 s m #[Value.ref b] below meth c H locs 11 2513 Q (F0 m 354 ls [])
set_option maxHeartbeats 4000000 in
set_option maxRecDepth 100000 in
/-- case 0: append -/
theorem ru_case0 (S0 : CallFix p m c code 4 s #[Value.ref b] lw_all R_law) (hX : va_X b L xs s s.heap) (hbl : b < s.heap.size) (hbA : ¬ A b) (hL : L ≤ 192) (hi : i + 3 ≤ L) (J : ru_J p l e s m below meth c Q D d A b h h2 g i a) (n : Nat) (t : Nat → Nat) (rd : Nat) (ow bw we fo : Nat → Nat) (fd : Nat) (fr to st : Nat → Nat) (H : Heap) (locs : List Loc) (ls : Array Slot) (hI : ru_In n t rd ow fo fd fr to st) (hl : lv_has ls 4 [(0, .ref b), (1, .ref h), (2, .ref h2), (3, .int (nI i))]) (V : ru_V D d A s s.heap H locs (ru_X d h a n t rd ow bw we fo fd fr to st ++ ru_Y d h2 g n t)) : W p l e room_1 s m #[Value.ref b] below meth c H locs 11 2513 Q (F0 m 104 ls []) := by
  obtain ⟨hx, hb, hml, hown, hts⟩ := id S0
  obtain ⟨⟨hn, ht⟩, hrd, hPR⟩ := id hI
  refine lv_aload_n hx hb dL_law_104 rfl (lv_at hl 1 rfl) ?_
  refine lv_aload_n hx hb dL_law_105 rfl (lv_at hl 0 rfl) ?_
  refine lv_iload_n hx hb dL_law_106 rfl (lv_at hl 3 rfl) ?_
  refine lv_iconst (v := nI 1) hx hb dL_law_107 (by decide) ?_
  refine ru_iadd hx hb dL_law_108 ?_
  refine ru_sld hx hb hX hbl hbA V (by omega) hL dL_law_109 ?_
  refine ru_callVI (w1 := ru_X d h a n t rd ow bw we fo fd fr to st) (w2 := ru_Y d h2 g n t) (As := [.int (xs (i + 1))]) (rest := []) S0 V (met_X0_append l D d h a n t rd ow bw we fo fd fr to st hn (xs (i + 1))) (cwV 1 hts (lw_V q64 q65 q66 q19 q67) rfl rfl rfl (by decide +kernel) ⟨Nat.le_of_ble_eq_true rfl, Nat.le_of_ble_eq_true rfl⟩) 0 rfl rfl rfl hl.1 rfl (Nat.le_of_ble_eq_true rfl) dL_law_110 ⟨Nat.le_of_ble_eq_true rfl, Nat.le_of_ble_eq_true rfl⟩ (fun r1 u H locs hp1 V => ?_)
  obtain ⟨n1, t1, rd1⟩ := u
  have V : ru_V D d A s s.heap H locs (ru_Y d h2 g n t ++ ru_X d h a n1 t1 rd1 ow bw we fo fd fr to st) := V
  refine lv_aload_n hx hb dL_law_113 rfl (lv_at hl 2 rfl) ?_
  refine lv_aload_n hx hb dL_law_114 rfl (lv_at hl 0 rfl) ?_
  refine lv_iload_n hx hb dL_law_115 rfl (lv_at hl 3 rfl) ?_
  refine lv_iconst (v := nI 1) hx hb dL_law_116 (by decide) ?_
  refine ru_iadd hx hb dL_law_117 ?_
  refine ru_sld hx hb hX hbl hbA V (by omega) hL dL_law_118 ?_
  refine ru_callVI (w1 := ru_Y d h2 g n t) (w2 := ru_X d h a n1 t1 rd1 ow bw we fo fd fr to st) (As := [.int (xs (i + 1))]) (rest := [.int r1]) S0 V (met_X1_append l D d h2 g n t hn (xs (i + 1))) (cwV 1 hts (lw_V q180 q181 q182 q20 q183) rfl rfl rfl (by decide +kernel) ⟨Nat.le_of_ble_eq_true rfl, Nat.le_of_ble_eq_true rfl⟩) 0 rfl rfl rfl hl.1 rfl (Nat.le_of_ble_eq_true rfl) dL_law_119 ⟨Nat.le_of_ble_eq_true rfl, Nat.le_of_ble_eq_true rfl⟩ (fun r2 u H locs hp2 V => ?_)
  obtain ⟨n2, t2⟩ := u
  obtain ⟨hA1, hA2⟩ : ru_Ap n t (xs (i + 1)) r1 n1 t1 ∧ ((n1, t1, rd1) = (n, t, rd) ∨ rd1 = 0) := hp1
  obtain ⟨er, en, et⟩ := ru_Ap_uniq hA1 hp2
  subst en
  subst et
  have hI2 : ru_In n1 t1 rd1 ow fo fd fr to st := by
    rcases hA2 with q | q
    · obtain ⟨rfl, rfl, rfl⟩ : n1 = n ∧ t1 = t ∧ rd1 = rd := by simpa using q
      exact hI
    · rw [q]; exact ru_In_0 (ru_Ap_tn ⟨hn, ht⟩ hA1)
  have V : ru_V D d A s s.heap H locs (ru_X d h a n1 t1 rd1 ow bw we fo fd fr to st ++ ru_Y d h2 g n1 t1) := V
  refine lv_icmp_eq (tgt := 354) hx hb dL_law_122 (by decide) (fun c_1 => ?_) (fun c_1 => ?_)
  · exact J n1 t1 rd1 ow bw we fo fd fr to st H locs ls hI2 hl V
  · exact absurd er c_1
set_option maxHeartbeats 4000000 in
set_option maxRecDepth 100000 in
/-- case 1: set -/
theorem ru_case1 (S0 : CallFix p m c code 4 s #[Value.ref b] lw_all R_law) (hX : va_X b L xs s s.heap) (hbl : b < s.heap.size) (hbA : ¬ A b) (hL : L ≤ 192) (hi : i + 3 ≤ L) (J : ru_J p l e s m below meth c Q D d A b h h2 g i a) (n : Nat) (t : Nat → Nat) (rd : Nat) (ow bw we fo : Nat → Nat) (fd : Nat) (fr to st : Nat → Nat) (H : Heap) (locs : List Loc) (ls : Array Slot) (hI : ru_In n t rd ow fo fd fr to st) (hl : lv_has ls 4 [(0, .ref b), (1, .ref h), (2, .ref h2), (3, .int (nI i))]) (V : ru_V D d A s s.heap H locs (ru_X d h a n t rd ow bw we fo fd fr to st ++ ru_Y d h2 g n t)) : W p l e room_1 s m #[Value.ref b] below meth c H locs 11 2513 Q (F0 m 127 ls []) := by
  obtain ⟨hx, hb, hml, hown, hts⟩ := id S0
  obtain ⟨⟨hn, ht⟩, hrd, hPR⟩ := id hI
  refine lv_aload_n hx hb dL_law_127 rfl (lv_at hl 1 rfl) ?_
  refine lv_aload_n hx hb dL_law_128 rfl (lv_at hl 0 rfl) ?_
  refine lv_iload_n hx hb dL_law_129 rfl (lv_at hl 3 rfl) ?_
  refine lv_iconst (v := nI 1) hx hb dL_law_130 (by decide) ?_
  refine ru_iadd hx hb dL_law_131 ?_
  refine ru_sld hx hb hX hbl hbA V (by omega) hL dL_law_132 ?_
  refine lv_aload_n hx hb dL_law_133 rfl (lv_at hl 0 rfl) ?_
  refine lv_iload_n hx hb dL_law_134 rfl (lv_at hl 3 rfl) ?_
  refine lv_iconst (v := nI 2) hx hb dL_law_135 (by decide) ?_
  refine ru_iadd hx hb dL_law_136 ?_
  refine ru_sld hx hb hX hbl hbA V (by omega) hL dL_law_137 ?_
  refine ru_callVI (w1 := ru_X d h a n t rd ow bw we fo fd fr to st) (w2 := ru_Y d h2 g n t) (As := [.int (xs (i + 1)), .int (xs (i + 2))]) (rest := []) S0 V (met_X0_set l D d h a n t rd ow bw we fo fd fr to st hn (xs (i + 1)) (xs (i + 2))) (cwV 2 hts (lw_V q75 q76 q77 q19 q78) rfl rfl rfl (by decide +kernel) ⟨Nat.le_of_ble_eq_true rfl, Nat.le_of_ble_eq_true rfl⟩) 0 rfl rfl rfl hl.1 rfl (Nat.le_of_ble_eq_true rfl) dL_law_138 ⟨Nat.le_of_ble_eq_true rfl, Nat.le_of_ble_eq_true rfl⟩ (fun r1 u H locs hp1 V => ?_)
  obtain ⟨t1, rd1⟩ := u
  have V : ru_V D d A s s.heap H locs (ru_Y d h2 g n t ++ ru_X d h a n t1 rd1 ow bw we fo fd fr to st) := V
  refine lv_aload_n hx hb dL_law_141 rfl (lv_at hl 2 rfl) ?_
  refine lv_aload_n hx hb dL_law_142 rfl (lv_at hl 0 rfl) ?_
  refine lv_iload_n hx hb dL_law_143 rfl (lv_at hl 3 rfl) ?_
  refine lv_iconst (v := nI 1) hx hb dL_law_144 (by decide) ?_
  refine ru_iadd hx hb dL_law_145 ?_
  refine ru_sld hx hb hX hbl hbA V (by omega) hL dL_law_146 ?_
  refine lv_aload_n hx hb dL_law_147 rfl (lv_at hl 0 rfl) ?_
  refine lv_iload_n hx hb dL_law_148 rfl (lv_at hl 3 rfl) ?_
  refine lv_iconst (v := nI 2) hx hb dL_law_149 (by decide) ?_
  refine ru_iadd hx hb dL_law_150 ?_
  refine ru_sld hx hb hX hbl hbA V (by omega) hL dL_law_151 ?_
  refine ru_callVI (w1 := ru_Y d h2 g n t) (w2 := ru_X d h a n t1 rd1 ow bw we fo fd fr to st) (As := [.int (xs (i + 1)), .int (xs (i + 2))]) (rest := [.int r1]) S0 V (met_X1_set l D d h2 g n t hn (xs (i + 1)) (xs (i + 2))) (cwV 2 hts (lw_V q184 q185 q186 q20 q187) rfl rfl rfl (by decide +kernel) ⟨Nat.le_of_ble_eq_true rfl, Nat.le_of_ble_eq_true rfl⟩) 0 rfl rfl rfl hl.1 rfl (Nat.le_of_ble_eq_true rfl) dL_law_152 ⟨Nat.le_of_ble_eq_true rfl, Nat.le_of_ble_eq_true rfl⟩ (fun r2 u H locs hp2 V => ?_)
  obtain ⟨t2, rfl⟩ : ∃ z, z = u := ⟨_, rfl⟩
  obtain ⟨hA1, hA2⟩ : ru_St n t (xs (i + 1)) (xs (i + 2)) r1 t1 ∧ ((t1, rd1) = (t, rd) ∨ rd1 = 0) := hp1
  obtain ⟨er, et⟩ := ru_St_uniq hn hA1 hp2
  subst et
  have hI2 : ru_In n t1 rd1 ow fo fd fr to st := by
    rcases hA2 with q | q
    · obtain ⟨rfl, rfl⟩ : t1 = t ∧ rd1 = rd := by simpa using q
      exact hI
    · rw [q]; exact ru_In_0 (ru_St_tn ⟨hn, ht⟩ hA1)
  have V : ru_V D d A s s.heap H locs (ru_X d h a n t1 rd1 ow bw we fo fd fr to st ++ ru_Y d h2 g n t1) := V
  refine lv_icmp_eq (tgt := 354) hx hb dL_law_155 (by decide) (fun c_1 => ?_) (fun c_1 => ?_)
  · exact J n t1 rd1 ow bw we fo fd fr to st H locs ls hI2 hl V
  · exact absurd er c_1
set_option maxHeartbeats 4000000 in
set_option maxRecDepth 100000 in
/-- case 2: repeat -/
theorem ru_case2 (S0 : CallFix p m c code 4 s #[Value.ref b] lw_all R_law) (hX : va_X b L xs s s.heap) (hbl : b < s.heap.size) (hbA : ¬ A b) (hL : L ≤ 192) (hi : i + 3 ≤ L) (J : ru_J p l e s m below meth c Q D d A b h h2 g i a) (n : Nat) (t : Nat → Nat) (rd : Nat) (ow bw we fo : Nat → Nat) (fd : Nat) (fr to st : Nat → Nat) (H : Heap) (locs : List Loc) (ls : Array Slot) (hI : ru_In n t rd ow fo fd fr to st) (hl : lv_has ls 4 [(0, .ref b), (1, .ref h), (2, .ref h2), (3, .int (nI i))]) (V : ru_V D d A s s.heap H locs (ru_X d h a n t rd ow bw we fo fd fr to st ++ ru_Y d h2 g n t)) : W p l e room_1 s m #[Value.ref b] below meth c H locs 11 2513 Q (F0 m 160 ls []) := by
  obtain ⟨hx, hb, hml, hown, hts⟩ := id S0
  obtain ⟨⟨hn, ht⟩, hrd, hPR⟩ := id hI
  refine lv_aload_n hx hb dL_law_160 rfl (lv_at hl 1 rfl) ?_
  refine lv_aload_n hx hb dL_law_161 rfl (lv_at hl 0 rfl) ?_
  refine lv_iload_n hx hb dL_law_162 rfl (lv_at hl 3 rfl) ?_
  refine lv_iconst (v := nI 1) hx hb dL_law_163 (by decide) ?_
  refine ru_iadd hx hb dL_law_164 ?_
  refine ru_sld hx hb hX hbl hbA V (by omega) hL dL_law_165 ?_
  refine ru_callVI (w1 := ru_X d h a n t rd ow bw we fo fd fr to st) (w2 := ru_Y d h2 g n t) (As := [.int (xs (i + 1))]) (rest := []) S0 V (met_X0_repeat l D d h a n t rd ow bw we fo fd fr to st hn (xs (i + 1))) (cwV 1 hts (lw_V q83 q84 q85 q19 q86) rfl rfl rfl (by decide +kernel) ⟨Nat.le_of_ble_eq_true rfl, Nat.le_of_ble_eq_true rfl⟩) 0 rfl rfl rfl hl.1 rfl (Nat.le_of_ble_eq_true rfl) dL_law_166 ⟨Nat.le_of_ble_eq_true rfl, Nat.le_of_ble_eq_true rfl⟩ (fun r1 u H locs hp1 V => ?_)
  obtain ⟨n1, t1, rd1⟩ := u
  have V : ru_V D d A s s.heap H locs (ru_Y d h2 g n t ++ ru_X d h a n1 t1 rd1 ow bw we fo fd fr to st) := V
  refine lv_aload_n hx hb dL_law_169 rfl (lv_at hl 2 rfl) ?_
  refine lv_aload_n hx hb dL_law_170 rfl (lv_at hl 0 rfl) ?_
  refine lv_iload_n hx hb dL_law_171 rfl (lv_at hl 3 rfl) ?_
  refine lv_iconst (v := nI 1) hx hb dL_law_172 (by decide) ?_
  refine ru_iadd hx hb dL_law_173 ?_
  refine ru_sld hx hb hX hbl hbA V (by omega) hL dL_law_174 ?_
  refine ru_callVI (w1 := ru_Y d h2 g n t) (w2 := ru_X d h a n1 t1 rd1 ow bw we fo fd fr to st) (As := [.int (xs (i + 1))]) (rest := [.int r1]) S0 V (met_X1_repeat l D d h2 g n t hn (xs (i + 1))) (cwV 1 hts (lw_V q188 q189 q190 q20 q191) rfl rfl rfl (by decide +kernel) ⟨Nat.le_of_ble_eq_true rfl, Nat.le_of_ble_eq_true rfl⟩) 0 rfl rfl rfl hl.1 rfl (Nat.le_of_ble_eq_true rfl) dL_law_175 ⟨Nat.le_of_ble_eq_true rfl, Nat.le_of_ble_eq_true rfl⟩ (fun r2 u H locs hp2 V => ?_)
  obtain ⟨n2, t2⟩ := u
  obtain ⟨hA1, hA2⟩ : ru_Rp n t (xs (i + 1)) r1 n1 t1 ∧ ((n1, t1, rd1) = (n, t, rd) ∨ rd1 = 0) := hp1
  obtain ⟨er, en, et⟩ := ru_Rp_uniq hn hA1 hp2
  subst en
  subst et
  have hI2 : ru_In n1 t1 rd1 ow fo fd fr to st := by
    rcases hA2 with q | q
    · obtain ⟨rfl, rfl, rfl⟩ : n1 = n ∧ t1 = t ∧ rd1 = rd := by simpa using q
      exact hI
    · rw [q]; exact ru_In_0 (ru_Rp_tn ⟨hn, ht⟩ hA1)
  have V : ru_V D d A s s.heap H locs (ru_X d h a n1 t1 rd1 ow bw we fo fd fr to st ++ ru_Y d h2 g n1 t1) := V
  refine lv_icmp_eq (tgt := 354) hx hb dL_law_178 (by decide) (fun c_1 => ?_) (fun c_1 => ?_)
  · exact J n1 t1 rd1 ow bw we fo fd fr to st H locs ls hI2 hl V
  · exact absurd er c_1
set_option maxHeartbeats 4000000 in
set_option maxRecDepth 100000 in
/-- case 3: drop -/
theorem ru_case3 (S0 : CallFix p m c code 4 s #[Value.ref b] lw_all R_law) (hX : va_X b L xs s s.heap) (hbl : b < s.heap.size) (hbA : ¬ A b) (hL : L ≤ 192) (hi : i + 3 ≤ L) (J : ru_J p l e s m below meth c Q D d A b h h2 g i a) (n : Nat) (t : Nat → Nat) (rd : Nat) (ow bw we fo : Nat → Nat) (fd : Nat) (fr to st : Nat → Nat) (H : Heap) (locs : List Loc) (ls : Array Slot) (hI : ru_In n t rd ow fo fd fr to st) (hl : lv_has ls 4 [(0, .ref b), (1, .ref h), (2, .ref h2), (3, .int (nI i))]) (V : ru_V D d A s s.heap H locs (ru_X d h a n t rd ow bw we fo fd fr to st ++ ru_Y d h2 g n t)) : W p l e room_1 s m #[Value.ref b] below meth c H locs 11 2513 Q (F0 m 183 ls []) := by
  obtain ⟨hx, hb, hml, hown, hts⟩ := id S0
  obtain ⟨⟨hn, ht⟩, hrd, hPR⟩ := id hI
  refine lv_aload_n hx hb dL_law_183 rfl (lv_at hl 1 rfl) ?_
  refine ru_callVI (w1 := ru_X d h a n t rd ow bw we fo fd fr to st) (w2 := ru_Y d h2 g n t) (As := []) (rest := []) S0 V (met_X0_drop l D d h a n t rd ow bw we fo fd fr to st hn) (cwV 0 hts (lw_V q87 q88 q89 q19 q90) rfl rfl rfl (by decide +kernel) ⟨Nat.le_of_ble_eq_true rfl, Nat.le_of_ble_eq_true rfl⟩) 0 rfl rfl rfl hl.1 rfl (Nat.le_of_ble_eq_true rfl) dL_law_184 ⟨Nat.le_of_ble_eq_true rfl, Nat.le_of_ble_eq_true rfl⟩ (fun r1 u H locs hp1 V => ?_)
  obtain ⟨n1, rd1⟩ := u
  have V : ru_V D d A s s.heap H locs (ru_Y d h2 g n t ++ ru_X d h a n1 t rd1 ow bw we fo fd fr to st) := V
  refine lv_aload_n hx hb dL_law_187 rfl (lv_at hl 2 rfl) ?_
  refine ru_callVI (w1 := ru_Y d h2 g n t) (w2 := ru_X d h a n1 t rd1 ow bw we fo fd fr to st) (As := []) (rest := [.int r1]) S0 V (met_X1_drop l D d h2 g n t hn) (cwV 0 hts (lw_V q192 q193 q194 q20 q195) rfl rfl rfl (by decide +kernel) ⟨Nat.le_of_ble_eq_true rfl, Nat.le_of_ble_eq_true rfl⟩) 0 rfl rfl rfl hl.1 rfl (Nat.le_of_ble_eq_true rfl) dL_law_188 ⟨Nat.le_of_ble_eq_true rfl, Nat.le_of_ble_eq_true rfl⟩ (fun r2 u H locs hp2 V => ?_)
  obtain ⟨n2, rfl⟩ : ∃ z, z = u := ⟨_, rfl⟩
  obtain ⟨hA0, hA1, hA2⟩ : n1 = n - 1 ∧ r1 = (if n = 0 then -4 else nI (n - 1)) ∧ ((n1, rd1) = (n, rd) ∨ rd1 = 0) := hp1
  obtain ⟨hB0, hB1⟩ := hp2
  have er : r1 = r2 := by rw [hA1, hB1]
  have en : n1 = n2 := by rw [hA0, hB0]
  subst en
  have hI2 : ru_In n1 t rd1 ow fo fd fr to st := by
    rcases hA2 with q | q
    · obtain ⟨q1, q2⟩ : n1 = n ∧ rd1 = rd := by simpa using q
      rw [q1, q2]; exact hI
    · rw [q]; exact ru_In_0 ⟨by omega, ht⟩
  have V : ru_V D d A s s.heap H locs (ru_X d h a n1 t rd1 ow bw we fo fd fr to st ++ ru_Y d h2 g n1 t) := V
  refine lv_icmp_eq (tgt := 354) hx hb dL_law_191 (by decide) (fun c_1 => ?_) (fun c_1 => ?_)
  · exact J n1 t rd1 ow bw we fo fd fr to st H locs ls hI2 hl V
  · exact absurd er c_1
set_option maxHeartbeats 4000000 in
set_option maxRecDepth 100000 in
/-- case 4: clear -/
theorem ru_case4 (S0 : CallFix p m c code 4 s #[Value.ref b] lw_all R_law) (hX : va_X b L xs s s.heap) (hbl : b < s.heap.size) (hbA : ¬ A b) (hL : L ≤ 192) (hi : i + 3 ≤ L) (J : ru_J p l e s m below meth c Q D d A b h h2 g i a) (n : Nat) (t : Nat → Nat) (rd : Nat) (ow bw we fo : Nat → Nat) (fd : Nat) (fr to st : Nat → Nat) (H : Heap) (locs : List Loc) (ls : Array Slot) (hI : ru_In n t rd ow fo fd fr to st) (hl : lv_has ls 4 [(0, .ref b), (1, .ref h), (2, .ref h2), (3, .int (nI i))]) (V : ru_V D d A s s.heap H locs (ru_X d h a n t rd ow bw we fo fd fr to st ++ ru_Y d h2 g n t)) : W p l e room_1 s m #[Value.ref b] below meth c H locs 11 2513 Q (F0 m 196 ls []) := by
  obtain ⟨hx, hb, hml, hown, hts⟩ := id S0
  obtain ⟨⟨hn, ht⟩, hrd, hPR⟩ := id hI
  refine lv_aload_n hx hb dL_law_196 rfl (lv_at hl 1 rfl) ?_
  refine ru_callVV (w1 := ru_X d h a n t rd ow bw we fo fd fr to st) (w2 := ru_Y d h2 g n t) (As := []) (rest := []) S0 V (met_X0_clear l D d h a n t rd ow bw we fo fd fr to st) (cwV 0 hts (lw_V q91 q92 q93 q19 q94) rfl rfl rfl (by decide +kernel) ⟨Nat.le_of_ble_eq_true rfl, Nat.le_of_ble_eq_true rfl⟩) 0 rfl rfl rfl hl.1 rfl (Nat.le_of_ble_eq_true rfl) dL_law_197 ⟨Nat.le_of_ble_eq_true rfl, Nat.le_of_ble_eq_true rfl⟩ (fun u H locs hp1 V => ?_)
  have V : ru_V D d A s s.heap H locs (ru_Y d h2 g n t ++ ru_X d h a 0 t 0 ow bw we fo fd fr to st) := V
  refine lv_aload_n hx hb dL_law_200 rfl (lv_at hl 2 rfl) ?_
  refine ru_callVV (w1 := ru_Y d h2 g n t) (w2 := ru_X d h a 0 t 0 ow bw we fo fd fr to st) (As := []) (rest := []) S0 V (met_X1_clear l D d h2 g n t) (cwV 0 hts (lw_V q196 q197 q198 q20 q199) rfl rfl rfl (by decide +kernel) ⟨Nat.le_of_ble_eq_true rfl, Nat.le_of_ble_eq_true rfl⟩) 0 rfl rfl rfl hl.1 rfl (Nat.le_of_ble_eq_true rfl) dL_law_201 ⟨Nat.le_of_ble_eq_true rfl, Nat.le_of_ble_eq_true rfl⟩ (fun u H locs hp2 V => ?_)
  have V : ru_V D d A s s.heap H locs (ru_X d h a 0 t 0 ow bw we fo fd fr to st ++ ru_Y d h2 g 0 t) := V
  refine lv_goto (tgt := 354) hx hb dL_law_204 (by decide) ?_
  exact J 0 t 0 ow bw we fo fd fr to st H locs ls (ru_In_0 ⟨by omega, ht⟩) hl V
set_option maxHeartbeats 4000000 in
set_option maxRecDepth 100000 in
/-- case 5: runs -/
theorem ru_case5 (S0 : CallFix p m c code 4 s #[Value.ref b] lw_all R_law) (hX : va_X b L xs s s.heap) (hbl : b < s.heap.size) (hbA : ¬ A b) (hL : L ≤ 192) (hi : i + 3 ≤ L) (J : ru_J p l e s m below meth c Q D d A b h h2 g i a) (n : Nat) (t : Nat → Nat) (rd : Nat) (ow bw we fo : Nat → Nat) (fd : Nat) (fr to st : Nat → Nat) (H : Heap) (locs : List Loc) (ls : Array Slot) (hI : ru_In n t rd ow fo fd fr to st) (hl : lv_has ls 4 [(0, .ref b), (1, .ref h), (2, .ref h2), (3, .int (nI i))]) (V : ru_V D d A s s.heap H locs (ru_X d h a n t rd ow bw we fo fd fr to st ++ ru_Y d h2 g n t)) : W p l e room_1 s m #[Value.ref b] below meth c H locs 11 2513 Q (F0 m 207 ls []) := by
  obtain ⟨hx, hb, hml, hown, hts⟩ := id S0
  obtain ⟨⟨hn, ht⟩, hrd, hPR⟩ := id hI
  refine lv_aload_n hx hb dL_law_207 rfl (lv_at hl 1 rfl) ?_
  refine ru_callVI (w1 := ru_X d h a n t rd ow bw we fo fd fr to st) (w2 := ru_Y d h2 g n t) (As := []) (rest := []) S0 V (met_X0_runs l D d h a n t rd ow bw we fo fd fr to st hn ht hrd hPR) (cwV 0 hts (lw_V q95 q96 q97 q19 q98) rfl rfl rfl (by decide +kernel) ⟨Nat.le_of_ble_eq_true rfl, Nat.le_of_ble_eq_true rfl⟩) 0 rfl rfl rfl hl.1 rfl (Nat.le_of_ble_eq_true rfl) dL_law_208 ⟨Nat.le_of_ble_eq_true rfl, Nat.le_of_ble_eq_true rfl⟩ (fun r1 u H locs hp1 V => ?_)
  obtain ⟨ow1, bw1, we1, fo1, fd1, fr1, to1, st1⟩ := u
  have V : ru_V D d A s s.heap H locs (ru_Y d h2 g n t ++ ru_X d h a n t 1 ow1 bw1 we1 fo1 fd1 fr1 to1 st1) := V
  refine lv_aload_n hx hb dL_law_211 rfl (lv_at hl 2 rfl) ?_
  refine ru_callVI (w1 := ru_Y d h2 g n t) (w2 := ru_X d h a n t 1 ow1 bw1 we1 fo1 fd1 fr1 to1 st1) (As := []) (rest := [.int r1]) S0 V (met_X1_runs l D d h2 g n t hn ht) (cwV 0 hts (lw_V q200 q201 q202 q20 q203) rfl rfl rfl (by decide +kernel) ⟨Nat.le_of_ble_eq_true rfl, Nat.le_of_ble_eq_true rfl⟩) 0 rfl rfl rfl hl.1 rfl (Nat.le_of_ble_eq_true rfl) dL_law_212 ⟨Nat.le_of_ble_eq_true rfl, Nat.le_of_ble_eq_true rfl⟩ (fun r2 u H locs hp2 V => ?_)
  obtain ⟨hp, hq⟩ : ru_PR t n ow1 fo1 fd1 fr1 to1 st1 ∧ r1 = nI fd1 := hp1
  have er : r1 = r2 := by rw [hq, hp2, (ru_All_rank hn hp.2.2.1).2]
  have V : ru_V D d A s s.heap H locs (ru_X d h a n t 1 ow1 bw1 we1 fo1 fd1 fr1 to1 st1 ++ ru_Y d h2 g n t) := V
  refine lv_icmp_eq (tgt := 354) hx hb dL_law_215 (by decide) (fun c_1 => ?_) (fun c_1 => ?_)
  · exact J n t 1 ow1 bw1 we1 fo1 fd1 fr1 to1 st1 H locs ls (ru_In_q hI hp) hl V
  · exact absurd er c_1
set_option maxHeartbeats 4000000 in
set_option maxRecDepth 100000 in
/-- case 6: begin -/
theorem ru_case6 (S0 : CallFix p m c code 4 s #[Value.ref b] lw_all R_law) (hX : va_X b L xs s s.heap) (hbl : b < s.heap.size) (hbA : ¬ A b) (hL : L ≤ 192) (hi : i + 3 ≤ L) (J : ru_J p l e s m below meth c Q D d A b h h2 g i a) (n : Nat) (t : Nat → Nat) (rd : Nat) (ow bw we fo : Nat → Nat) (fd : Nat) (fr to st : Nat → Nat) (H : Heap) (locs : List Loc) (ls : Array Slot) (hI : ru_In n t rd ow fo fd fr to st) (hl : lv_has ls 4 [(0, .ref b), (1, .ref h), (2, .ref h2), (3, .int (nI i))]) (V : ru_V D d A s s.heap H locs (ru_X d h a n t rd ow bw we fo fd fr to st ++ ru_Y d h2 g n t)) : W p l e room_1 s m #[Value.ref b] below meth c H locs 11 2513 Q (F0 m 220 ls []) := by
  obtain ⟨hx, hb, hml, hown, hts⟩ := id S0
  obtain ⟨⟨hn, ht⟩, hrd, hPR⟩ := id hI
  refine lv_aload_n hx hb dL_law_220 rfl (lv_at hl 1 rfl) ?_
  refine lv_aload_n hx hb dL_law_221 rfl (lv_at hl 0 rfl) ?_
  refine lv_iload_n hx hb dL_law_222 rfl (lv_at hl 3 rfl) ?_
  refine lv_iconst (v := nI 1) hx hb dL_law_223 (by decide) ?_
  refine ru_iadd hx hb dL_law_224 ?_
  refine ru_sld hx hb hX hbl hbA V (by omega) hL dL_law_225 ?_
  refine ru_callVI (w1 := ru_X d h a n t rd ow bw we fo fd fr to st) (w2 := ru_Y d h2 g n t) (As := [.int (xs (i + 1))]) (rest := []) S0 V (met_X0_begin l D d h a n t rd ow bw we fo fd fr to st hn ht hrd hPR (xs (i + 1))) (cwV 1 hts (lw_V q127 q128 q129 q19 q130) rfl rfl rfl (by decide +kernel) ⟨Nat.le_of_ble_eq_true rfl, Nat.le_of_ble_eq_true rfl⟩) 0 rfl rfl rfl hl.1 rfl (Nat.le_of_ble_eq_true rfl) dL_law_226 ⟨Nat.le_of_ble_eq_true rfl, Nat.le_of_ble_eq_true rfl⟩ (fun r1 u H locs hp1 V => ?_)
  obtain ⟨ow1, bw1, we1, fo1, fd1, fr1, to1, st1⟩ := u
  have V : ru_V D d A s s.heap H locs (ru_Y d h2 g n t ++ ru_X d h a n t 1 ow1 bw1 we1 fo1 fd1 fr1 to1 st1) := V
  refine lv_aload_n hx hb dL_law_229 rfl (lv_at hl 2 rfl) ?_
  refine lv_aload_n hx hb dL_law_230 rfl (lv_at hl 0 rfl) ?_
  refine lv_iload_n hx hb dL_law_231 rfl (lv_at hl 3 rfl) ?_
  refine lv_iconst (v := nI 1) hx hb dL_law_232 (by decide) ?_
  refine ru_iadd hx hb dL_law_233 ?_
  refine ru_sld hx hb hX hbl hbA V (by omega) hL dL_law_234 ?_
  refine ru_callVI (w1 := ru_Y d h2 g n t) (w2 := ru_X d h a n t 1 ow1 bw1 we1 fo1 fd1 fr1 to1 st1) (As := [.int (xs (i + 1))]) (rest := [.int r1]) S0 V (met_X1_begin l D d h2 g n t hn ht (xs (i + 1))) (cwV 1 hts (lw_V q216 q217 q218 q20 q219) rfl rfl rfl (by decide +kernel) ⟨Nat.le_of_ble_eq_true rfl, Nat.le_of_ble_eq_true rfl⟩) 0 rfl rfl rfl hl.1 rfl (Nat.le_of_ble_eq_true rfl) dL_law_235 ⟨Nat.le_of_ble_eq_true rfl, Nat.le_of_ble_eq_true rfl⟩ (fun r2 u H locs hp2 V => ?_)
  obtain ⟨hp, hq⟩ : ru_PR t n ow1 fo1 fd1 fr1 to1 st1 ∧ ru_Cr fd1 (fun k => fr1 k) (xs (i + 1)) r1 := hp1
  have er : r1 = r2 := ru_ask (g := fun i j p => i) hn hp.2.2.2 hp.2.2.1 hq hp2
  have V : ru_V D d A s s.heap H locs (ru_X d h a n t 1 ow1 bw1 we1 fo1 fd1 fr1 to1 st1 ++ ru_Y d h2 g n t) := V
  refine lv_icmp_eq (tgt := 354) hx hb dL_law_238 (by decide) (fun c_1 => ?_) (fun c_1 => ?_)
  · exact J n t 1 ow1 bw1 we1 fo1 fd1 fr1 to1 st1 H locs ls (ru_In_q hI hp) hl V
  · exact absurd er c_1
set_option maxHeartbeats 4000000 in
set_option maxRecDepth 100000 in
/-- case 7: end -/
theorem ru_case7 (S0 : CallFix p m c code 4 s #[Value.ref b] lw_all R_law) (hX : va_X b L xs s s.heap) (hbl : b < s.heap.size) (hbA : ¬ A b) (hL : L ≤ 192) (hi : i + 3 ≤ L) (J : ru_J p l e s m below meth c Q D d A b h h2 g i a) (n : Nat) (t : Nat → Nat) (rd : Nat) (ow bw we fo : Nat → Nat) (fd : Nat) (fr to st : Nat → Nat) (H : Heap) (locs : List Loc) (ls : Array Slot) (hI : ru_In n t rd ow fo fd fr to st) (hl : lv_has ls 4 [(0, .ref b), (1, .ref h), (2, .ref h2), (3, .int (nI i))]) (V : ru_V D d A s s.heap H locs (ru_X d h a n t rd ow bw we fo fd fr to st ++ ru_Y d h2 g n t)) : W p l e room_1 s m #[Value.ref b] below meth c H locs 11 2513 Q (F0 m 243 ls []) := by
  obtain ⟨hx, hb, hml, hown, hts⟩ := id S0
  obtain ⟨⟨hn, ht⟩, hrd, hPR⟩ := id hI
  refine lv_aload_n hx hb dL_law_243 rfl (lv_at hl 1 rfl) ?_
  refine lv_aload_n hx hb dL_law_244 rfl (lv_at hl 0 rfl) ?_
  refine lv_iload_n hx hb dL_law_245 rfl (lv_at hl 3 rfl) ?_
  refine lv_iconst (v := nI 1) hx hb dL_law_246 (by decide) ?_
  refine ru_iadd hx hb dL_law_247 ?_
  refine ru_sld hx hb hX hbl hbA V (by omega) hL dL_law_248 ?_
  refine ru_callVI (w1 := ru_X d h a n t rd ow bw we fo fd fr to st) (w2 := ru_Y d h2 g n t) (As := [.int (xs (i + 1))]) (rest := []) S0 V (met_X0_end l D d h a n t rd ow bw we fo fd fr to st hn ht hrd hPR (xs (i + 1))) (cwV 1 hts (lw_V q135 q136 q137 q19 q138) rfl rfl rfl (by decide +kernel) ⟨Nat.le_of_ble_eq_true rfl, Nat.le_of_ble_eq_true rfl⟩) 0 rfl rfl rfl hl.1 rfl (Nat.le_of_ble_eq_true rfl) dL_law_249 ⟨Nat.le_of_ble_eq_true rfl, Nat.le_of_ble_eq_true rfl⟩ (fun r1 u H locs hp1 V => ?_)
  obtain ⟨ow1, bw1, we1, fo1, fd1, fr1, to1, st1⟩ := u
  have V : ru_V D d A s s.heap H locs (ru_Y d h2 g n t ++ ru_X d h a n t 1 ow1 bw1 we1 fo1 fd1 fr1 to1 st1) := V
  refine lv_aload_n hx hb dL_law_252 rfl (lv_at hl 2 rfl) ?_
  refine lv_aload_n hx hb dL_law_253 rfl (lv_at hl 0 rfl) ?_
  refine lv_iload_n hx hb dL_law_254 rfl (lv_at hl 3 rfl) ?_
  refine lv_iconst (v := nI 1) hx hb dL_law_255 (by decide) ?_
  refine ru_iadd hx hb dL_law_256 ?_
  refine ru_sld hx hb hX hbl hbA V (by omega) hL dL_law_257 ?_
  refine ru_callVI (w1 := ru_Y d h2 g n t) (w2 := ru_X d h a n t 1 ow1 bw1 we1 fo1 fd1 fr1 to1 st1) (As := [.int (xs (i + 1))]) (rest := [.int r1]) S0 V (met_X1_end l D d h2 g n t hn ht (xs (i + 1))) (cwV 1 hts (lw_V q224 q225 q226 q20 q227) rfl rfl rfl (by decide +kernel) ⟨Nat.le_of_ble_eq_true rfl, Nat.le_of_ble_eq_true rfl⟩) 0 rfl rfl rfl hl.1 rfl (Nat.le_of_ble_eq_true rfl) dL_law_258 ⟨Nat.le_of_ble_eq_true rfl, Nat.le_of_ble_eq_true rfl⟩ (fun r2 u H locs hp2 V => ?_)
  obtain ⟨hp, hq⟩ : ru_PR t n ow1 fo1 fd1 fr1 to1 st1 ∧ ru_Cr fd1 (fun k => to1 k) (xs (i + 1)) r1 := hp1
  have er : r1 = r2 := ru_ask (g := fun i j p => j) hn hp.2.2.2 hp.2.2.1 hq hp2
  have V : ru_V D d A s s.heap H locs (ru_X d h a n t 1 ow1 bw1 we1 fo1 fd1 fr1 to1 st1 ++ ru_Y d h2 g n t) := V
  refine lv_icmp_eq (tgt := 354) hx hb dL_law_261 (by decide) (fun c_1 => ?_) (fun c_1 => ?_)
  · exact J n t 1 ow1 bw1 we1 fo1 fd1 fr1 to1 st1 H locs ls (ru_In_q hI hp) hl V
  · exact absurd er c_1
set_option maxHeartbeats 4000000 in
set_option maxRecDepth 100000 in
/-- case 8: period -/
theorem ru_case8 (S0 : CallFix p m c code 4 s #[Value.ref b] lw_all R_law) (hX : va_X b L xs s s.heap) (hbl : b < s.heap.size) (hbA : ¬ A b) (hL : L ≤ 192) (hi : i + 3 ≤ L) (J : ru_J p l e s m below meth c Q D d A b h h2 g i a) (n : Nat) (t : Nat → Nat) (rd : Nat) (ow bw we fo : Nat → Nat) (fd : Nat) (fr to st : Nat → Nat) (H : Heap) (locs : List Loc) (ls : Array Slot) (hI : ru_In n t rd ow fo fd fr to st) (hl : lv_has ls 4 [(0, .ref b), (1, .ref h), (2, .ref h2), (3, .int (nI i))]) (V : ru_V D d A s s.heap H locs (ru_X d h a n t rd ow bw we fo fd fr to st ++ ru_Y d h2 g n t)) : W p l e room_1 s m #[Value.ref b] below meth c H locs 11 2513 Q (F0 m 266 ls []) := by
  obtain ⟨hx, hb, hml, hown, hts⟩ := id S0
  obtain ⟨⟨hn, ht⟩, hrd, hPR⟩ := id hI
  refine lv_aload_n hx hb dL_law_266 rfl (lv_at hl 1 rfl) ?_
  refine lv_aload_n hx hb dL_law_267 rfl (lv_at hl 0 rfl) ?_
  refine lv_iload_n hx hb dL_law_268 rfl (lv_at hl 3 rfl) ?_
  refine lv_iconst (v := nI 1) hx hb dL_law_269 (by decide) ?_
  refine ru_iadd hx hb dL_law_270 ?_
  refine ru_sld hx hb hX hbl hbA V (by omega) hL dL_law_271 ?_
  refine ru_callVI (w1 := ru_X d h a n t rd ow bw we fo fd fr to st) (w2 := ru_Y d h2 g n t) (As := [.int (xs (i + 1))]) (rest := []) S0 V (met_X0_period l D d h a n t rd ow bw we fo fd fr to st hn ht hrd hPR (xs (i + 1))) (cwV 1 hts (lw_V q139 q140 q141 q19 q142) rfl rfl rfl (by decide +kernel) ⟨Nat.le_of_ble_eq_true rfl, Nat.le_of_ble_eq_true rfl⟩) 0 rfl rfl rfl hl.1 rfl (Nat.le_of_ble_eq_true rfl) dL_law_272 ⟨Nat.le_of_ble_eq_true rfl, Nat.le_of_ble_eq_true rfl⟩ (fun r1 u H locs hp1 V => ?_)
  obtain ⟨ow1, bw1, we1, fo1, fd1, fr1, to1, st1⟩ := u
  have V : ru_V D d A s s.heap H locs (ru_Y d h2 g n t ++ ru_X d h a n t 1 ow1 bw1 we1 fo1 fd1 fr1 to1 st1) := V
  refine lv_aload_n hx hb dL_law_275 rfl (lv_at hl 2 rfl) ?_
  refine lv_aload_n hx hb dL_law_276 rfl (lv_at hl 0 rfl) ?_
  refine lv_iload_n hx hb dL_law_277 rfl (lv_at hl 3 rfl) ?_
  refine lv_iconst (v := nI 1) hx hb dL_law_278 (by decide) ?_
  refine ru_iadd hx hb dL_law_279 ?_
  refine ru_sld hx hb hX hbl hbA V (by omega) hL dL_law_280 ?_
  refine ru_callVI (w1 := ru_Y d h2 g n t) (w2 := ru_X d h a n t 1 ow1 bw1 we1 fo1 fd1 fr1 to1 st1) (As := [.int (xs (i + 1))]) (rest := [.int r1]) S0 V (met_X1_period l D d h2 g n t hn ht (xs (i + 1))) (cwV 1 hts (lw_V q228 q229 q230 q20 q231) rfl rfl rfl (by decide +kernel) ⟨Nat.le_of_ble_eq_true rfl, Nat.le_of_ble_eq_true rfl⟩) 0 rfl rfl rfl hl.1 rfl (Nat.le_of_ble_eq_true rfl) dL_law_281 ⟨Nat.le_of_ble_eq_true rfl, Nat.le_of_ble_eq_true rfl⟩ (fun r2 u H locs hp2 V => ?_)
  obtain ⟨hp, hq⟩ : ru_PR t n ow1 fo1 fd1 fr1 to1 st1 ∧ ru_Cr fd1 (fun k => st1 k) (xs (i + 1)) r1 := hp1
  have er : r1 = r2 := ru_ask (g := fun i j p => p) hn hp.2.2.2 hp.2.2.1 hq hp2
  have V : ru_V D d A s s.heap H locs (ru_X d h a n t 1 ow1 bw1 we1 fo1 fd1 fr1 to1 st1 ++ ru_Y d h2 g n t) := V
  refine lv_icmp_eq (tgt := 354) hx hb dL_law_284 (by decide) (fun c_1 => ?_) (fun c_1 => ?_)
  · exact J n t 1 ow1 bw1 we1 fo1 fd1 fr1 to1 st1 H locs ls (ru_In_q hI hp) hl V
  · exact absurd er c_1
set_option maxHeartbeats 4000000 in
set_option maxRecDepth 100000 in
/-- case 9: squares -/
theorem ru_case9 (S0 : CallFix p m c code 4 s #[Value.ref b] lw_all R_law) (hX : va_X b L xs s s.heap) (hbl : b < s.heap.size) (hbA : ¬ A b) (hL : L ≤ 192) (hi : i + 3 ≤ L) (J : ru_J p l e s m below meth c Q D d A b h h2 g i a) (n : Nat) (t : Nat → Nat) (rd : Nat) (ow bw we fo : Nat → Nat) (fd : Nat) (fr to st : Nat → Nat) (H : Heap) (locs : List Loc) (ls : Array Slot) (hI : ru_In n t rd ow fo fd fr to st) (hl : lv_has ls 4 [(0, .ref b), (1, .ref h), (2, .ref h2), (3, .int (nI i))]) (V : ru_V D d A s s.heap H locs (ru_X d h a n t rd ow bw we fo fd fr to st ++ ru_Y d h2 g n t)) : W p l e room_1 s m #[Value.ref b] below meth c H locs 11 2513 Q (F0 m 289 ls []) := by
  obtain ⟨hx, hb, hml, hown, hts⟩ := id S0
  obtain ⟨⟨hn, ht⟩, hrd, hPR⟩ := id hI
  refine lv_aload_n hx hb dL_law_289 rfl (lv_at hl 1 rfl) ?_
  refine ru_callVI (w1 := ru_X d h a n t rd ow bw we fo fd fr to st) (w2 := ru_Y d h2 g n t) (As := []) (rest := []) S0 V (met_X0_squares l D d h a n t rd ow bw we fo fd fr to st hn ht hrd hPR) (cwV 0 hts (lw_V q143 q144 q145 q19 q146) rfl rfl rfl (by decide +kernel) ⟨Nat.le_of_ble_eq_true rfl, Nat.le_of_ble_eq_true rfl⟩) 0 rfl rfl rfl hl.1 rfl (Nat.le_of_ble_eq_true rfl) dL_law_290 ⟨Nat.le_of_ble_eq_true rfl, Nat.le_of_ble_eq_true rfl⟩ (fun r1 u H locs hp1 V => ?_)
  obtain ⟨ow1, bw1, we1, fo1, fd1, fr1, to1, st1⟩ := u
  have V : ru_V D d A s s.heap H locs (ru_Y d h2 g n t ++ ru_X d h a n t 1 ow1 bw1 we1 fo1 fd1 fr1 to1 st1) := V
  refine lv_aload_n hx hb dL_law_293 rfl (lv_at hl 2 rfl) ?_
  refine ru_callVI (w1 := ru_Y d h2 g n t) (w2 := ru_X d h a n t 1 ow1 bw1 we1 fo1 fd1 fr1 to1 st1) (As := []) (rest := [.int r1]) S0 V (met_X1_squares l D d h2 g n t hn ht) (cwV 0 hts (lw_V q232 q233 q234 q20 q235) rfl rfl rfl (by decide +kernel) ⟨Nat.le_of_ble_eq_true rfl, Nat.le_of_ble_eq_true rfl⟩) 0 rfl rfl rfl hl.1 rfl (Nat.le_of_ble_eq_true rfl) dL_law_294 ⟨Nat.le_of_ble_eq_true rfl, Nat.le_of_ble_eq_true rfl⟩ (fun r2 u H locs hp2 V => ?_)
  obtain ⟨hp, hq⟩ : ru_PR t n ow1 fo1 fd1 fr1 to1 st1 ∧ r1 = nI (ru_sm (fun k => ru_sm (fun x => to1 k - fr1 k + 1 - 2 * ((x + 1) * st1 k)) 16) fd1) := hp1
  have er : r1 = r2 := by rw [hq, hp2, ru_squares hn hp.2.2.1]
  have V : ru_V D d A s s.heap H locs (ru_X d h a n t 1 ow1 bw1 we1 fo1 fd1 fr1 to1 st1 ++ ru_Y d h2 g n t) := V
  refine lv_icmp_eq (tgt := 354) hx hb dL_law_297 (by decide) (fun c_1 => ?_) (fun c_1 => ?_)
  · exact J n t 1 ow1 bw1 we1 fo1 fd1 fr1 to1 st1 H locs ls (ru_In_q hI hp) hl V
  · exact absurd er c_1
set_option maxHeartbeats 4000000 in
set_option maxRecDepth 100000 in
/-- case 10: wholePeriod -/
theorem ru_case10 (S0 : CallFix p m c code 4 s #[Value.ref b] lw_all R_law) (hX : va_X b L xs s s.heap) (hbl : b < s.heap.size) (hbA : ¬ A b) (hL : L ≤ 192) (hi : i + 3 ≤ L) (J : ru_J p l e s m below meth c Q D d A b h h2 g i a) (n : Nat) (t : Nat → Nat) (rd : Nat) (ow bw we fo : Nat → Nat) (fd : Nat) (fr to st : Nat → Nat) (H : Heap) (locs : List Loc) (ls : Array Slot) (hI : ru_In n t rd ow fo fd fr to st) (hl : lv_has ls 4 [(0, .ref b), (1, .ref h), (2, .ref h2), (3, .int (nI i))]) (V : ru_V D d A s s.heap H locs (ru_X d h a n t rd ow bw we fo fd fr to st ++ ru_Y d h2 g n t)) : W p l e room_1 s m #[Value.ref b] below meth c H locs 11 2513 Q (F0 m 302 ls []) := by
  obtain ⟨hx, hb, hml, hown, hts⟩ := id S0
  obtain ⟨⟨hn, ht⟩, hrd, hPR⟩ := id hI
  refine lv_aload_n hx hb dL_law_302 rfl (lv_at hl 1 rfl) ?_
  refine ru_callVI (w1 := ru_X d h a n t rd ow bw we fo fd fr to st) (w2 := ru_Y d h2 g n t) (As := []) (rest := []) S0 V (met_X0_wholePeriod l D d h a n t rd ow bw we fo fd fr to st hn ht hrd hPR) (cwV 0 hts (lw_V q147 q148 q149 q19 q150) rfl rfl rfl (by decide +kernel) ⟨Nat.le_of_ble_eq_true rfl, Nat.le_of_ble_eq_true rfl⟩) 0 rfl rfl rfl hl.1 rfl (Nat.le_of_ble_eq_true rfl) dL_law_303 ⟨Nat.le_of_ble_eq_true rfl, Nat.le_of_ble_eq_true rfl⟩ (fun r1 u H locs hp1 V => ?_)
  obtain ⟨ow1, bw1, we1, fo1, fd1, fr1, to1, st1⟩ := u
  have V : ru_V D d A s s.heap H locs (ru_Y d h2 g n t ++ ru_X d h a n t 1 ow1 bw1 we1 fo1 fd1 fr1 to1 st1) := V
  refine lv_aload_n hx hb dL_law_306 rfl (lv_at hl 2 rfl) ?_
  refine ru_callVI (w1 := ru_Y d h2 g n t) (w2 := ru_X d h a n t 1 ow1 bw1 we1 fo1 fd1 fr1 to1 st1) (As := []) (rest := [.int r1]) S0 V (met_X1_wholePeriod l D d h2 g n t hn ht) (cwV 0 hts (lw_V q236 q237 q238 q20 q239) rfl rfl rfl (by decide +kernel) ⟨Nat.le_of_ble_eq_true rfl, Nat.le_of_ble_eq_true rfl⟩) 0 rfl rfl rfl hl.1 rfl (Nat.le_of_ble_eq_true rfl) dL_law_307 ⟨Nat.le_of_ble_eq_true rfl, Nat.le_of_ble_eq_true rfl⟩ (fun r2 u H locs hp2 V => ?_)
  obtain ⟨hp, hq⟩ : ru_PR t n ow1 fo1 fd1 fr1 to1 st1 ∧ ((n = 0 ∧ r1 = nI 0) ∨ (n ≠ 0 ∧ ∃ p, r1 = nI p ∧ ru_LP t 0 n p)) := hp1
  have er : r1 = r2 := ru_two (fun x y a b => ru_LP_uniq a b) hq hp2
  have V : ru_V D d A s s.heap H locs (ru_X d h a n t 1 ow1 bw1 we1 fo1 fd1 fr1 to1 st1 ++ ru_Y d h2 g n t) := V
  refine lv_icmp_eq (tgt := 354) hx hb dL_law_310 (by decide) (fun c_1 => ?_) (fun c_1 => ?_)
  · exact J n t 1 ow1 bw1 we1 fo1 fd1 fr1 to1 st1 H locs ls (ru_In_q hI hp) hl V
  · exact absurd er c_1
set_option maxHeartbeats 4000000 in
set_option maxRecDepth 100000 in
/-- case 11: smallestEnd -/
theorem ru_case11 (S0 : CallFix p m c code 4 s #[Value.ref b] lw_all R_law) (hX : va_X b L xs s s.heap) (hbl : b < s.heap.size) (hbA : ¬ A b) (hL : L ≤ 192) (hi : i + 3 ≤ L) (J : ru_J p l e s m below meth c Q D d A b h h2 g i a) (n : Nat) (t : Nat → Nat) (rd : Nat) (ow bw we fo : Nat → Nat) (fd : Nat) (fr to st : Nat → Nat) (H : Heap) (locs : List Loc) (ls : Array Slot) (hI : ru_In n t rd ow fo fd fr to st) (hl : lv_has ls 4 [(0, .ref b), (1, .ref h), (2, .ref h2), (3, .int (nI i))]) (V : ru_V D d A s s.heap H locs (ru_X d h a n t rd ow bw we fo fd fr to st ++ ru_Y d h2 g n t)) : W p l e room_1 s m #[Value.ref b] below meth c H locs 11 2513 Q (F0 m 315 ls []) := by
  obtain ⟨hx, hb, hml, hown, hts⟩ := id S0
  obtain ⟨⟨hn, ht⟩, hrd, hPR⟩ := id hI
  refine lv_aload_n hx hb dL_law_315 rfl (lv_at hl 1 rfl) ?_
  refine ru_callVI (w1 := ru_X d h a n t rd ow bw we fo fd fr to st) (w2 := ru_Y d h2 g n t) (As := []) (rest := []) S0 V (met_X0_smallestEnd l D d h a n t rd ow bw we fo fd fr to st hn ht hrd hPR) (cwV 0 hts (lw_V q151 q152 q153 q19 q154) rfl rfl rfl (by decide +kernel) ⟨Nat.le_of_ble_eq_true rfl, Nat.le_of_ble_eq_true rfl⟩) 0 rfl rfl rfl hl.1 rfl (Nat.le_of_ble_eq_true rfl) dL_law_316 ⟨Nat.le_of_ble_eq_true rfl, Nat.le_of_ble_eq_true rfl⟩ (fun r1 u H locs hp1 V => ?_)
  obtain ⟨ow1, bw1, we1, fo1, fd1, fr1, to1, st1⟩ := u
  have V : ru_V D d A s s.heap H locs (ru_Y d h2 g n t ++ ru_X d h a n t 1 ow1 bw1 we1 fo1 fd1 fr1 to1 st1) := V
  refine lv_aload_n hx hb dL_law_319 rfl (lv_at hl 2 rfl) ?_
  refine ru_callVI (w1 := ru_Y d h2 g n t) (w2 := ru_X d h a n t 1 ow1 bw1 we1 fo1 fd1 fr1 to1 st1) (As := []) (rest := [.int r1]) S0 V (met_X1_smallestEnd l D d h2 g n t hn ht) (cwV 0 hts (lw_V q240 q241 q242 q20 q243) rfl rfl rfl (by decide +kernel) ⟨Nat.le_of_ble_eq_true rfl, Nat.le_of_ble_eq_true rfl⟩) 0 rfl rfl rfl hl.1 rfl (Nat.le_of_ble_eq_true rfl) dL_law_320 ⟨Nat.le_of_ble_eq_true rfl, Nat.le_of_ble_eq_true rfl⟩ (fun r2 u H locs hp2 V => ?_)
  obtain ⟨hp, hq⟩ : ru_PR t n ow1 fo1 fd1 fr1 to1 st1 ∧ ((n = 0 ∧ r1 = -4) ∨ (n ≠ 0 ∧ ∃ x, r1 = nI x ∧ ru_M t n x)) := hp1
  have er : r1 = r2 := ru_two (fun x y a b => ru_M_uniq a b) hq hp2
  have V : ru_V D d A s s.heap H locs (ru_X d h a n t 1 ow1 bw1 we1 fo1 fd1 fr1 to1 st1 ++ ru_Y d h2 g n t) := V
  refine lv_icmp_eq (tgt := 354) hx hb dL_law_323 (by decide) (fun c_1 => ?_) (fun c_1 => ?_)
  · exact J n t 1 ow1 bw1 we1 fo1 fd1 fr1 to1 st1 H locs ls (ru_In_q hI hp) hl V
  · exact absurd er c_1
set_option maxHeartbeats 4000000 in
set_option maxRecDepth 100000 in
/-- case 12: factors -/
theorem ru_case12 (S0 : CallFix p m c code 4 s #[Value.ref b] lw_all R_law) (hX : va_X b L xs s s.heap) (hbl : b < s.heap.size) (hbA : ¬ A b) (hL : L ≤ 192) (hi : i + 3 ≤ L) (J : ru_J p l e s m below meth c Q D d A b h h2 g i a) (n : Nat) (t : Nat → Nat) (rd : Nat) (ow bw we fo : Nat → Nat) (fd : Nat) (fr to st : Nat → Nat) (H : Heap) (locs : List Loc) (ls : Array Slot) (hI : ru_In n t rd ow fo fd fr to st) (hl : lv_has ls 4 [(0, .ref b), (1, .ref h), (2, .ref h2), (3, .int (nI i))]) (V : ru_V D d A s s.heap H locs (ru_X d h a n t rd ow bw we fo fd fr to st ++ ru_Y d h2 g n t)) : W p l e room_1 s m #[Value.ref b] below meth c H locs 11 2513 Q (F0 m 328 ls []) := by
  obtain ⟨hx, hb, hml, hown, hts⟩ := id S0
  obtain ⟨⟨hn, ht⟩, hrd, hPR⟩ := id hI
  refine lv_aload_n hx hb dL_law_328 rfl (lv_at hl 1 rfl) ?_
  refine ru_callVI (w1 := ru_X d h a n t rd ow bw we fo fd fr to st) (w2 := ru_Y d h2 g n t) (As := []) (rest := []) S0 V (met_X0_factors l D d h a n t rd ow bw we fo fd fr to st hn ht hrd hPR) (cwV 0 hts (lw_V q155 q156 q157 q19 q158) rfl rfl rfl (by decide +kernel) ⟨Nat.le_of_ble_eq_true rfl, Nat.le_of_ble_eq_true rfl⟩) 0 rfl rfl rfl hl.1 rfl (Nat.le_of_ble_eq_true rfl) dL_law_329 ⟨Nat.le_of_ble_eq_true rfl, Nat.le_of_ble_eq_true rfl⟩ (fun r1 u H locs hp1 V => ?_)
  obtain ⟨ow1, bw1, we1, fo1, fd1, fr1, to1, st1⟩ := u
  have V : ru_V D d A s s.heap H locs (ru_Y d h2 g n t ++ ru_X d h a n t 1 ow1 bw1 we1 fo1 fd1 fr1 to1 st1) := V
  refine lv_aload_n hx hb dL_law_332 rfl (lv_at hl 2 rfl) ?_
  refine ru_callVI (w1 := ru_Y d h2 g n t) (w2 := ru_X d h a n t 1 ow1 bw1 we1 fo1 fd1 fr1 to1 st1) (As := []) (rest := [.int r1]) S0 V (met_X1_factors l D d h2 g n t hn ht) (cwV 0 hts (lw_V q252 q253 q254 q20 q255) rfl rfl rfl (by decide +kernel) ⟨Nat.le_of_ble_eq_true rfl, Nat.le_of_ble_eq_true rfl⟩) 0 rfl rfl rfl hl.1 rfl (Nat.le_of_ble_eq_true rfl) dL_law_333 ⟨Nat.le_of_ble_eq_true rfl, Nat.le_of_ble_eq_true rfl⟩ (fun r2 u H locs hp2 V => ?_)
  obtain ⟨hp, hq⟩ : ru_PR t n ow1 fo1 fd1 fr1 to1 st1 ∧ r1 = nI (ru_fc t 32 n) := hp1
  have er : r1 = r2 := by rw [hq, hp2]
  have V : ru_V D d A s s.heap H locs (ru_X d h a n t 1 ow1 bw1 we1 fo1 fd1 fr1 to1 st1 ++ ru_Y d h2 g n t) := V
  refine lv_icmp_eq (tgt := 354) hx hb dL_law_336 (by decide) (fun c_1 => ?_) (fun c_1 => ?_)
  · exact J n t 1 ow1 bw1 we1 fo1 fd1 fr1 to1 st1 H locs ls (ru_In_q hI hp) hl V
  · exact absurd er c_1
set_option maxHeartbeats 4000000 in
set_option maxRecDepth 100000 in
/-- case 13: smallestTurn -/
theorem ru_case13 (S0 : CallFix p m c code 4 s #[Value.ref b] lw_all R_law) (hX : va_X b L xs s s.heap) (hbl : b < s.heap.size) (hbA : ¬ A b) (hL : L ≤ 192) (hi : i + 3 ≤ L) (J : ru_J p l e s m below meth c Q D d A b h h2 g i a) (n : Nat) (t : Nat → Nat) (rd : Nat) (ow bw we fo : Nat → Nat) (fd : Nat) (fr to st : Nat → Nat) (H : Heap) (locs : List Loc) (ls : Array Slot) (hI : ru_In n t rd ow fo fd fr to st) (hl : lv_has ls 4 [(0, .ref b), (1, .ref h), (2, .ref h2), (3, .int (nI i))]) (V : ru_V D d A s s.heap H locs (ru_X d h a n t rd ow bw we fo fd fr to st ++ ru_Y d h2 g n t)) : W p l e room_1 s m #[Value.ref b] below meth c H locs 11 2513 Q (F0 m 341 ls []) := by
  obtain ⟨hx, hb, hml, hown, hts⟩ := id S0
  obtain ⟨⟨hn, ht⟩, hrd, hPR⟩ := id hI
  refine lv_aload_n hx hb dL_law_341 rfl (lv_at hl 1 rfl) ?_
  refine ru_callVI (w1 := ru_X d h a n t rd ow bw we fo fd fr to st) (w2 := ru_Y d h2 g n t) (As := []) (rest := []) S0 V (met_X0_smallestTurn l D d h a n t rd ow bw we fo fd fr to st hn ht) (cwV 0 hts (lw_V q159 q160 q161 q19 q162) rfl rfl rfl (by decide +kernel) ⟨Nat.le_of_ble_eq_true rfl, Nat.le_of_ble_eq_true rfl⟩) 0 rfl rfl rfl hl.1 rfl (Nat.le_of_ble_eq_true rfl) dL_law_342 ⟨Nat.le_of_ble_eq_true rfl, Nat.le_of_ble_eq_true rfl⟩ (fun r1 u H locs hp1 V => ?_)
  have V : ru_V D d A s s.heap H locs (ru_Y d h2 g n t ++ ru_X d h a n t rd ow bw we fo fd fr to st) := V
  refine lv_aload_n hx hb dL_law_345 rfl (lv_at hl 2 rfl) ?_
  refine ru_callVI (w1 := ru_Y d h2 g n t) (w2 := ru_X d h a n t rd ow bw we fo fd fr to st) (As := []) (rest := [.int r1]) S0 V (met_X1_smallestTurn l D d h2 g n t hn ht) (cwV 0 hts (lw_V q256 q257 q258 q20 q259) rfl rfl rfl (by decide +kernel) ⟨Nat.le_of_ble_eq_true rfl, Nat.le_of_ble_eq_true rfl⟩) 0 rfl rfl rfl hl.1 rfl (Nat.le_of_ble_eq_true rfl) dL_law_346 ⟨Nat.le_of_ble_eq_true rfl, Nat.le_of_ble_eq_true rfl⟩ (fun r2 u H locs hp2 V => ?_)
  have er : r1 = r2 := ru_two (fun x y a b => ru_T_uniq a b) hp1 hp2
  have V : ru_V D d A s s.heap H locs (ru_X d h a n t rd ow bw we fo fd fr to st ++ ru_Y d h2 g n t) := V
  refine lv_icmp_eq (tgt := 354) hx hb dL_law_349 (by decide) (fun c_1 => ?_) (fun c_1 => ?_)
  · exact J n t rd ow bw we fo fd fr to st H locs ls hI hl V
  · exact absurd er c_1
end LAW
end
section
/-! the law's loop -/
set_option maxRecDepth 100000
set_option maxHeartbeats 4000000 in
theorem law_loop {p : Program} {l : Launch} {e : Env} {s : State} {m : MethodId} {below : List Frame} {meth : Method} {c : Code} {D : va_G} {d : ClassId} {b L h h2 g : Nat} {a : Nat → Nat} {xs : Nat → Int32} (hL : L ≤ 192) (C0 : lw_At p s m meth c b L xs) :
    ∀ (k i : Nat), i ≤ L → L + 1 ≤ i + k → ∀ (n : Nat) (t : Nat → Nat) (rd : Nat) (ow bw we fo : Nat → Nat) (fd : Nat) (fr to st : Nat → Nat) (H : Heap) (locs : List Loc) (ls : Array Slot), ru_In n t rd ow fo fd fr to st → lv_has ls 4 [(0, .ref b), (1, .ref h), (2, .ref h2), (3, .int (nI i))] → ru_V D d (fun q : Nat => s.heap.size ≤ q) s s.heap H locs (ru_X d h a n t rd ow bw we fo fd fr to st ++ ru_Y d h2 g n t) → W p l e room_1 s m #[Value.ref b] below meth c H locs 11 2513 (lw_Z below #[Value.ref b] s) (F0 m 18 ls []) := by
  obtain ⟨hx, hb, hr, hml, hown, hts0, hX, hbl, hlocks, hgv⟩ := C0
  have hts : ∀ w ∈ lw_all, w.before #[Value.ref b] s = true := fun w h => hts0 w (lw_all_tbl h)
  have S0 : CallFix p m c code 4 s #[Value.ref b] lw_all R_law := ⟨hx, hb, hml, hown, hts⟩
  have hbA : ¬ (fun q : Nat => s.heap.size ≤ q) b := Nat.not_le.mpr hbl
  intro k
  induction k with
  | zero =>
    intro i h1 h2
    exact absurd h2 (by omega)
  | succ k ih =>
    intro i hi hik n t rd ow bw we fo fd fr to st H locs ls hI hl V
    have hJ : i + 3 ≤ L → ru_J p l e s m below meth c (lw_Z below #[Value.ref b] s) D d (fun q : Nat => s.heap.size ≤ q) b h h2 g i a := by
      intro hi3 n t rd ow bw we fo fd fr to st H locs ls hI hl V
      refine lv_iinc (v := nI (i + 3)) (lv' := [(3, .int (nI (i + 3))), (0, .ref b), (1, .ref h), (2, .ref h2)]) hx hb dL_law_354 hl (k := 3) rfl (nI_add i 3) (by decide) rfl (fun ls hl => ?_)
      refine lv_goto (tgt := 18) hx hb dL_law_357 (by decide) ?_
      exact ih (i + 3) hi3 (by omega) n t rd ow bw we fo fd fr to st H locs ls hI (lv_sub hl [1, 2, 3, 0] rfl) V
    refine lv_iload_n hx hb dL_law_18 rfl (lv_at hl 3 rfl) ?_
    refine lv_aload_n hx hb dL_law_19 rfl (lv_at hl 0 rfl) ?_
    refine ru_slen hx hb hX hbl hbA V dL_law_20 ?_
    refine lv_iconst (v := nI 3) hx hb dL_law_21 (by decide) ?_
    have hcont : i + 3 ≤ L → W p l e room_1 s m #[Value.ref b] below meth c H locs 11 2513 (lw_Z below #[Value.ref b] s) (F0 m 26 ls []) := by
      intro hi3
      have hJ := hJ hi3
      refine lv_aload_n hx hb dL_law_26 rfl (lv_at hl 0 rfl) ?_
      refine lv_iload_n hx hb dL_law_27 rfl (lv_at hl 3 rfl) ?_
      refine ru_sld hx hb hX hbl hbA V (by omega) hL dL_law_28 ?_
      refine lv_bipush (v := nI 15) hx hb dL_law_29 (by decide) ?_
      refine lv_iand hx hb dL_law_31 ?_
      obtain ⟨j, hj, ej⟩ := pk_andE (xs i) (m := nI 15) 4 (by decide)
      refine ru_topr ej ?_
      clear ej
      rcases (show j = 0 ∨ j = 1 ∨ j = 2 ∨ j = 3 ∨ j = 4 ∨ j = 5 ∨ j = 6 ∨ j = 7 ∨ j = 8 ∨ j = 9 ∨ j = 10 ∨ j = 11 ∨ j = 12 ∨ j = 13 ∨ j = 14 ∨ j = 15 by omega) with rfl | rfl | rfl | rfl | rfl | rfl | rfl | rfl | rfl | rfl | rfl | rfl | rfl | rfl | rfl | rfl
      · refine lv_tableIn (off := 72) (tgt := 104) hx hb dL_law_32 (by decide) (by decide) (by decide) (by decide) ?_
        exact ru_case0 S0 hX hbl hbA hL hi3 hJ n t rd ow bw we fo fd fr to st H locs ls hI hl V
      · refine lv_tableIn (off := 95) (tgt := 127) hx hb dL_law_32 (by decide) (by decide) (by decide) (by decide) ?_
        exact ru_case1 S0 hX hbl hbA hL hi3 hJ n t rd ow bw we fo fd fr to st H locs ls hI hl V
      · refine lv_tableIn (off := 128) (tgt := 160) hx hb dL_law_32 (by decide) (by decide) (by decide) (by decide) ?_
        exact ru_case2 S0 hX hbl hbA hL hi3 hJ n t rd ow bw we fo fd fr to st H locs ls hI hl V
      · refine lv_tableIn (off := 151) (tgt := 183) hx hb dL_law_32 (by decide) (by decide) (by decide) (by decide) ?_
        exact ru_case3 S0 hX hbl hbA hL hi3 hJ n t rd ow bw we fo fd fr to st H locs ls hI hl V
      · refine lv_tableIn (off := 164) (tgt := 196) hx hb dL_law_32 (by decide) (by decide) (by decide) (by decide) ?_
        exact ru_case4 S0 hX hbl hbA hL hi3 hJ n t rd ow bw we fo fd fr to st H locs ls hI hl V
      · refine lv_tableIn (off := 175) (tgt := 207) hx hb dL_law_32 (by decide) (by decide) (by decide) (by decide) ?_
        exact ru_case5 S0 hX hbl hbA hL hi3 hJ n t rd ow bw we fo fd fr to st H locs ls hI hl V
      · refine lv_tableIn (off := 188) (tgt := 220) hx hb dL_law_32 (by decide) (by decide) (by decide) (by decide) ?_
        exact ru_case6 S0 hX hbl hbA hL hi3 hJ n t rd ow bw we fo fd fr to st H locs ls hI hl V
      · refine lv_tableIn (off := 211) (tgt := 243) hx hb dL_law_32 (by decide) (by decide) (by decide) (by decide) ?_
        exact ru_case7 S0 hX hbl hbA hL hi3 hJ n t rd ow bw we fo fd fr to st H locs ls hI hl V
      · refine lv_tableIn (off := 234) (tgt := 266) hx hb dL_law_32 (by decide) (by decide) (by decide) (by decide) ?_
        exact ru_case8 S0 hX hbl hbA hL hi3 hJ n t rd ow bw we fo fd fr to st H locs ls hI hl V
      · refine lv_tableIn (off := 257) (tgt := 289) hx hb dL_law_32 (by decide) (by decide) (by decide) (by decide) ?_
        exact ru_case9 S0 hX hbl hbA hL hi3 hJ n t rd ow bw we fo fd fr to st H locs ls hI hl V
      · refine lv_tableIn (off := 270) (tgt := 302) hx hb dL_law_32 (by decide) (by decide) (by decide) (by decide) ?_
        exact ru_case10 S0 hX hbl hbA hL hi3 hJ n t rd ow bw we fo fd fr to st H locs ls hI hl V
      · refine lv_tableIn (off := 283) (tgt := 315) hx hb dL_law_32 (by decide) (by decide) (by decide) (by decide) ?_
        exact ru_case11 S0 hX hbl hbA hL hi3 hJ n t rd ow bw we fo fd fr to st H locs ls hI hl V
      · refine lv_tableIn (off := 296) (tgt := 328) hx hb dL_law_32 (by decide) (by decide) (by decide) (by decide) ?_
        exact ru_case12 S0 hX hbl hbA hL hi3 hJ n t rd ow bw we fo fd fr to st H locs ls hI hl V
      · refine lv_tableIn (off := 309) (tgt := 341) hx hb dL_law_32 (by decide) (by decide) (by decide) (by decide) ?_
        exact ru_case13 S0 hX hbl hbA hL hi3 hJ n t rd ow bw we fo fd fr to st H locs ls hI hl V
      · refine lv_tableOut (tgt := 354) hx hb dL_law_32 (by decide) (by decide) ?_
        exact hJ n t rd ow bw we fo fd fr to st H locs ls hI hl V
      · refine lv_tableOut (tgt := 354) hx hb dL_law_32 (by decide) (by decide) ?_
        exact hJ n t rd ow bw we fo fd fr to st H locs ls hI hl V
    have hexit : W p l e room_1 s m #[Value.ref b] below meth c H locs 11 2513 (lw_Z below #[Value.ref b] s) (F0 m 360 ls []) := by
      refine lv_iconst (v := 1) hx hb dL_law_360 (by decide) ?_
      refine va_forget (fun q hq => V.2.2.2.1.2.2 q hq) ?_
      refine W.widen (k := 600000) (n := 7290000) (by decide) (by decide) ?_
      exact lw_ret hx hb hr hlocks dL_law_361
    by_cases h3 : 3 ≤ L
    · refine ru_isub hx hb h3 dL_law_22 ?_
      refine ru_icmp_gt (tgt := 360) hx hb dL_law_23 (by decide) (by omega) (by omega) (fun c_1 => hexit) (fun c_1 => hcont (by omega))
    · refine lv_isub hx hb dL_law_22 ?_
      refine lv_icmp_gt (tgt := 360) hx hb dL_law_23 (by decide) (fun c_1 => hexit) (fun c_1 => ?_)
      exact absurd (Int32.lt_of_lt_of_le (pk_sneg (by omega) (by omega)) (nI_pos' (by omega))) c_1
end
section
/-! the law, from its entry; the claim -/
set_option maxRecDepth 100000
set_option maxHeartbeats 4000000 in
theorem whole_start {p : Program} {e : Env} {s : State} {m : MethodId} {below : List Frame} {meth : Method} {c : Code} (l : Launch) {b L : Nat} {xs : Nat → Int32} (hL : L ≤ 192) (C0 : lw_At p s m meth c b L xs) : W p l e room_1 s m #[Value.ref b] below meth c s.heap [] 0 0 (lw_Z below #[Value.ref b] s) (entryFrame m ([Value.ref b] : List Value).toArray 4) := by
  obtain ⟨hx, hb, hr, hml, hown, hts0, hX, hbl, hlocks, hgv⟩ := id C0
  have hts : ∀ w ∈ lw_all, w.before #[Value.ref b] s = true := fun w h => hts0 w (lw_all_tbl h)
  have S0 : CallFix p m c code 4 s #[Value.ref b] lw_all R_law := ⟨hx, hb, hml, hown, hts⟩
  obtain ⟨c0, iS0, hKn0⟩ := u_known (C := RX0) (T := TX0) (N := 11) (n := 11) hts in_X0 (hts _ q22)
  obtain ⟨c1, iS1, hKn1⟩ := u_known (C := RX1) (T := TX1) (N := 2) (n := 2) hts in_X1 (hts _ q168)
  obtain ⟨d, kA, comp, hd1, hd2, hd3⟩ := Cond.arrayClass_spec (hts _ q63)
  obtain ⟨D, hKc⟩ : ∃ D : va_G, ∀ (k : Nat) (q : vw_C), vwCl[k]? = some q → u_Kn s q.1 q.2.1 q.2.2 (D.1 k) (D.2 k) := by
    refine ⟨(fun k => if k = 0 then c0 else c1, fun k => if k = 0 then iS0 else iS1), ?_⟩
    intro k q hq
    match k, hq with
    | 0, hq => cases hq; exact hKn0
    | 1, hq => cases hq; exact hKn1
    | k + 2, hq => simp [vwCl] at hq
  have hK : va_K D vwCl [(d, .int)] s := by
    refine ⟨hKc, fun k q h => ?_⟩
    have hz : k < 1 := (List.getElem?_eq_some_iff.mp h).1
    rw [show k = 0 by omega] at h
    cases h
    exact ⟨fun n z => ⟨fun k h => (by cases h), kA, hd2, comp, hd3⟩, hd1⟩
  have V : ru_V D d (fun q : Nat => s.heap.size ≤ q) s s.heap s.heap [] [] := ⟨hK, fun k q h => by simp at h, ⟨fun i j p q h => by simp at h, fun k q h => by simp at h⟩, va_S.rf, fun _ h => h⟩
  have hl := lv_entry ([.ref b]) (n := 4) (Nat.le_of_ble_eq_true rfl)
  rw [lg_entry_eq]
  generalize (lg_sl ([.ref b]) ++ List.replicate (4 - (lg_sl ([.ref b])).length) Slot.unset).toArray = ls at hl ⊢
  have hl : lv_has ls 4 [(0, .ref b)] := hl
  refine ru_new0 hx hb hts hown (hts _ q21) (hts _ q22) (hts _ q19) V (Nat.le_of_ble_eq_true rfl) (Nat.le_of_ble_eq_true rfl) dL_law_0 (fun h H V => ?_)
  have V : ru_V D d (fun q : Nat => s.heap.size ≤ q) s s.heap H [] ([(h, .inr (0, ru_X0))] ++ []) := V
  refine lv_dup hx hb dL_law_3 rfl ?_
  refine ru_callC (rest := [.ref h]) S0 V (met_X0_init l D d h) (cwI 0 hts (lw_meth q25) rfl rfl rfl (hts _ q19) (hts _ q23) (hts _ q24) rfl (by decide +kernel) ⟨Nat.le_of_ble_eq_true rfl, Nat.le_of_ble_eq_true rfl⟩) hl.1 rfl (Nat.le_of_ble_eq_true rfl) dL_law_4 ⟨Nat.le_of_ble_eq_true rfl, Nat.le_of_ble_eq_true rfl⟩ (fun a H locs _ V => ?_)
  have V : ru_V D d (fun q : Nat => s.heap.size ≤ q) s s.heap H locs (ru_X d h a 0 (fun _ => 0) 0 (fun _ => 0) (fun _ => 0) (fun _ => 0) (fun _ => 0) 0 (fun _ => 0) (fun _ => 0) (fun _ => 0)) := V
  refine lv_astore_n (lv' := [(1, .ref h), (0, .ref b)]) hx hb dL_law_7 rfl hl (by decide) rfl (fun ls hl => ?_)
  refine ru_new1 hx hb hts hown (hts _ q167) (hts _ q168) (hts _ q20) V (Nat.le_of_ble_eq_true rfl) (Nat.le_of_ble_eq_true rfl) dL_law_8 (fun h2 H V => ?_)
  have V := ru_swap V
  refine lv_dup hx hb dL_law_11 rfl ?_
  refine ru_callC (rest := [.ref h2]) S0 V (met_X1_init l D d h2) (cwI 0 hts (lw_meth q171) rfl rfl rfl (hts _ q20) (hts _ q169) (hts _ q170) rfl (by decide +kernel) ⟨Nat.le_of_ble_eq_true rfl, Nat.le_of_ble_eq_true rfl⟩) hl.1 rfl (Nat.le_of_ble_eq_true rfl) dL_law_12 ⟨Nat.le_of_ble_eq_true rfl, Nat.le_of_ble_eq_true rfl⟩ (fun g H locs _ V => ?_)
  refine lv_astore_n (lv' := [(2, .ref h2), (1, .ref h), (0, .ref b)]) hx hb dL_law_15 rfl hl (by decide) rfl (fun ls hl => ?_)
  refine lv_iconst (v := nI 0) hx hb dL_law_16 (by decide) ?_
  refine lv_istore_n (lv' := [(3, .int (nI 0)), (2, .ref h2), (1, .ref h), (0, .ref b)]) hx hb dL_law_17 rfl hl (by decide) rfl (fun ls hl => ?_)
  refine W.widen (k := 11) (n := 2513) (by decide) (by decide) ?_
  exact law_loop hL C0 (L + 1) 0 (Nat.zero_le L) (by omega) _ _ _ _ _ _ _ _ _ _ _ H locs ls (ru_In_0 ⟨by omega, fun k => by omega⟩) (lv_sub hl [3, 2, 1, 0] rfl) V
set_option maxHeartbeats 4000000 in
theorem lw_walk (l : Launch) (b : Addr) (xs : List Int32) : MetFree l x (headSpec (Jvm.Cond.code x code maxLocals ret :: tables_1) room_1) (lw_P b xs) (fun _ _ _ _ _ => True) lw_Q := by
  refine MetFree.of_bodyS (code := code) (maxLocals := maxLocals) (ret := ret) (by decide) ?_ ?_
  · intro args s m h hn
    obtain ⟨meth, c, h1, h2, h3, h4, h5, h6, -, -⟩ := Cond.code_spec hn (atoms_spec (ws := Jvm.Cond.code x code maxLocals ret :: tables_1) h _ List.mem_cons_self)
    exact ⟨meth, c, h1, h2, h3, h4, h5, h6⟩
  · intro p e s m args below meth c s₁ B hml0 hP _
    obtain ⟨rfl, hx, hbd, hgv⟩ := hP
    obtain ⟨scr, harrAt, hlist, hof, hsmall⟩ := hx
    obtain ⟨hcb, hkn, -, -⟩ := State.arrayAt?_spec harrAt
    have hown : s.vm.findClass R_law = some m.cls := findClass_of_methodNamed B.named
    have hts0 : ∀ c ∈ (Jvm.Cond.code x code maxLocals ret :: tables_1), c.before #[Value.ref b] s = true := atoms_spec (ws := Jvm.Cond.code x code maxLocals ret :: tables_1) B.pre
    have hts : ∀ w ∈ lw_tbl, w.before #[Value.ref b] s = true := k2_hts_sels lw_privs (fun w hw => hts0 w (List.mem_cons_of_mem _ hw)) lw_privs_ok
    have hml : c.maxLocals = 4 := B.maxLocals_eq (hts0 _ List.mem_cons_self)
    have X₀ : Stand p l e room_1 s m #[Value.ref b] below meth c s₁ [] 0 0 := Stand.of_body B
    have hh0 : s₁.heap = s.heap := by rw [B.state]; rfl
    have hsz : scr.slots.size = xs.length := by rw [← Array.length_toList, hlist, List.length_map]
    have hval : ∀ j : Nat, j < xs.length → scr.slots[j]? = some (.int (xs.getD j 0)) := fun j hj => by
      rw [← Array.getElem?_toList, hlist]
      simp [hj]
    have hbl : b < s.heap.size := (Array.getElem?_eq_some_iff.mp hcb).1
    have hX : va_X b xs.length (fun j => xs.getD j 0) s s.heap := ⟨scr, hcb, hof, hkn, hsz, hval⟩
    have K : W p l e room_1 s m #[Value.ref b] below meth c s₁.heap [] 0 0 (lw_Z below #[Value.ref b] s) (entryFrame m ([Value.ref b] : List Value).toArray 4) := by
      rw [hh0]
      exact whole_start l hbd ⟨B.exec, B.bytes, B.returns, hml, hown, hts, hX, hbl, B.notSynchronized, hgv⟩
    obtain ⟨t, a1, o, b1, b2, b3⟩ := K s₁ rfl X₀
    exact ⟨t, o, a1, b1, b2, b3⟩
theorem lw_pre_spec {args : Array Value} {s : State} (h : (Jvm.Cond.and given_1 narrow_1).before args s = true) (hr : rest_1_c.before args s = true) : ∃ (b : Addr) (xs : List Int32), lw_P b xs args s := by
  have hs := flat_of_before _ h
  have hq := flat_of_before _ hr
  have hc : (Cond.count 1).before args s = true := hs _ (by decide +kernel)
  have harr : (Cond.arrayOf (.arg 0) .int).before args s = true := hs _ (by decide +kernel)
  have hle : (Cond.le (.length (.arg 0)) (.int 192)).before args s = true := hs _ (by decide +kernel)
  have hlen : (Cond.isInt (.length (.arg 0))).before args s = true := hq _ (by decide +kernel)
  have hall : (Cond.all (.arg 0) (.isInt (.elem (.arg 0) (.index 0)))).before args s = true := hq _ (by decide +kernel)
  obtain ⟨b, xs, hb, hx⟩ := State.ints_of_pre rfl harr hlen hall
  have hsm : xs.length < 2 ^ 31 := hx.choose_spec.2.2.2
  have hev : (Term.length (.arg 0)).eval args s none [] s = some (.int xs.length.toInt32) := hx.length_eval hb
  have hv := Cond.le_ints hev (show (Term.int 192).eval args s none [] s = some (.int 192) from rfl)
  have hd : xs.length.toInt32 ≤ 192 := by
    simpa [Cond.before, Cond.holds, hv] using hle
  have hN : xs.length ≤ 192 := (Int32.ofNat_le_ofNat hsm (by decide)).mp (show Int32.ofNat xs.length ≤ Int32.ofNat 192 from hd)
  exact ⟨b, xs, Cond.one_arg hc (show args[0]? = some (.ref b) from hb), hx, hN, h⟩
theorem lw_comes (l : Launch) : Comes l x (Jvm.Cond.code x code maxLocals ret :: tables_1) room_1 (fun tb e args s => Calls_1 tb e args s ∧ rest_1 tb e args s ∧ Pre_1 tb e args s)
    (fun _ _ args s o t => lw_Q args s o t) := by
  intro p e ha hc hk s m args below hf hfit hheap happ hpre
  obtain ⟨b, xs, hP⟩ := lw_pre_spec hpre.2.2 hpre.2.1
  obtain ⟨k, o, h1, h2, h3, hQ⟩ := lw_walk l b xs p e ha hc hk s m args below hf ((Spec.applies_iff_loose hf).mp happ).1 hP trivial
  exact ⟨k, o, h1, h2, h3, hQ⟩
theorem lw_frame {s t : State} {o : Outcome} {args : Array Value} (h : Framed s o t [] 600000 7290000) :
    Framed s o t (fieldLocs frame_1_writes args s ++ arrayLocs frame_1_arrays args s ++ staticLocs frame_1_statics s) 600000 7290000 := h
theorem lw_limb (L : Cond) (hL : ∀ (args : Array Value) (s t : State), L.after args s (.returned (some (.int 1))) t = true) :
    ArmFor flags0 classFile x code maxLocals ret World_1 tables_1 room_1 Calls_1 rest_1 Pre_1
      (fun tb e a s o t => postC L tb e a s o t ∧ Framed s o t (fieldLocs frame_1_writes a s ++ arrayLocs frame_1_arrays a s ++ staticLocs frame_1_statics s) 600000 7290000) := by
  intro l _ _ _ p e ha hc hk s m args below hf hfit hheap happ hpre
  obtain ⟨k, o, h1, h2, h3, rfl, hF⟩ := lw_comes l p e ha hc hk s m args below hf hfit hheap happ hpre
  exact ⟨k, _, h1, h2, h3, hL args s _, lw_frame hF⟩
theorem i_vc : Claimed_1_1 ∧ Claimed_1_2 := ⟨lw_limb limb_1_1 (fun args s t => by simp [limb_1_1, Cond.after, Cond.holds, Cond.value]), lw_limb limb_1_2 (fun args s t => Cond.after_iff.mpr (by
  first | (rw [show limb_1_2 = Cond.eq .result (.int 1) from rfl, Cond.eq_ints (x := 1) (y := 1) rfl rfl]; simp; done) | (simp [limb_1_2, Cond.value, Term.eval]; done)))⟩
end
