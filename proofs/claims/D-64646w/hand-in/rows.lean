section
-- ===== PART A: goes FIRST, ahead of the names: the tables' words, and 'selects' of the private methods out of them =====
/-- a private method of a class that the tables say can be made, by its rows of tables_1 -/
def lw_okq (q : MethodName × Nat) : Prop := (q.1.cls ≠ "java/lang/invoke/MethodHandle" ∧ q.1.cls ≠ "java/lang/invoke/VarHandle") ∧ Cond.instantiable q.1.cls q.2 ∈ tables_1 ∧ Cond.privateMethod q.1 ∈ tables_1 ∧ Cond.instanceMethod q.1 ∈ tables_1
set_option maxRecDepth 100000
theorem lw_t1 {w : Cond} (h : w ∈ tables_1_1) : w ∈ tables_1 := List.mem_append_left _ h
theorem lw_t2 {w : Cond} (h : w ∈ tables_1_2) : w ∈ tables_1 := List.mem_append_right _ h
theorem lw_p0 : lw_okq (⟨"RepeatFinder", "stateOfProbe", "()I"⟩, 15) := ⟨⟨by decide +kernel, by decide +kernel⟩, lw_t1 (List.mem_of_getElem? (i := 4) rfl), lw_t1 (List.mem_of_getElem? (i := 80) rfl), lw_t1 (List.mem_of_getElem? (i := 81) rfl)⟩
theorem lw_p1 : lw_okq (⟨"RepeatFinder", "build", "()V"⟩, 15) := ⟨⟨by decide +kernel, by decide +kernel⟩, lw_t1 (List.mem_of_getElem? (i := 4) rfl), lw_t1 (List.mem_of_getElem? (i := 84) rfl), lw_t1 (List.mem_of_getElem? (i := 85) rfl)⟩
theorem lw_p2 : lw_okq (⟨"RepeatFinder", "newState", "(II)I"⟩, 15) := ⟨⟨by decide +kernel, by decide +kernel⟩, lw_t1 (List.mem_of_getElem? (i := 4) rfl), lw_t1 (List.mem_of_getElem? (i := 88) rfl), lw_t1 (List.mem_of_getElem? (i := 89) rfl)⟩
theorem lw_p3 : lw_okq (⟨"RepeatFinder", "extend", "(II)V"⟩, 15) := ⟨⟨by decide +kernel, by decide +kernel⟩, lw_t1 (List.mem_of_getElem? (i := 4) rfl), lw_t1 (List.mem_of_getElem? (i := 92) rfl), lw_t1 (List.mem_of_getElem? (i := 93) rfl)⟩
theorem lw_p4 : lw_okq (⟨"RepeatFinder", "split", "(II)I"⟩, 15) := ⟨⟨by decide +kernel, by decide +kernel⟩, lw_t1 (List.mem_of_getElem? (i := 4) rfl), lw_t1 (List.mem_of_getElem? (i := 96) rfl), lw_t1 (List.mem_of_getElem? (i := 97) rfl)⟩
theorem lw_p5 : lw_okq (⟨"RepeatFinder", "orderByLength", "()V"⟩, 15) := ⟨⟨by decide +kernel, by decide +kernel⟩, lw_t1 (List.mem_of_getElem? (i := 4) rfl), lw_t1 (List.mem_of_getElem? (i := 100) rfl), lw_t1 (List.mem_of_getElem? (i := 101) rfl)⟩
theorem lw_p6 : lw_okq (⟨"RepeatFinder", "countTimes", "()V"⟩, 15) := ⟨⟨by decide +kernel, by decide +kernel⟩, lw_t1 (List.mem_of_getElem? (i := 4) rfl), lw_t1 (List.mem_of_getElem? (i := 104) rfl), lw_t1 (List.mem_of_getElem? (i := 105) rfl)⟩
theorem lw_p7 : lw_okq (⟨"RepeatFinder", "countWords", "()V"⟩, 15) := ⟨⟨by decide +kernel, by decide +kernel⟩, lw_t1 (List.mem_of_getElem? (i := 4) rfl), lw_t1 (List.mem_of_getElem? (i := 108) rfl), lw_t1 (List.mem_of_getElem? (i := 109) rfl)⟩
theorem lw_p8 : lw_okq (⟨"RepeatFinder", "losesByEveryLetter", "(I)Z"⟩, 15) := ⟨⟨by decide +kernel, by decide +kernel⟩, lw_t1 (List.mem_of_getElem? (i := 4) rfl), lw_t1 (List.mem_of_getElem? (i := 128) rfl), lw_t1 (List.mem_of_getElem? (i := 129) rfl)⟩
theorem lw_p9 : lw_okq (⟨"RepeatFinder", "stepTowards", "(II)I"⟩, 15) := ⟨⟨by decide +kernel, by decide +kernel⟩, lw_t1 (List.mem_of_getElem? (i := 4) rfl), lw_t1 (List.mem_of_getElem? (i := 136) rfl), lw_t1 (List.mem_of_getElem? (i := 137) rfl)⟩
theorem lw_p10 : lw_okq (⟨"RepeatFinderModel", "countOf", "(II)I"⟩, 7) := ⟨⟨by decide +kernel, by decide +kernel⟩, lw_t1 (List.mem_of_getElem? (i := 152) rfl), lw_t1 (List.mem_of_getElem? (i := 201) rfl), lw_t1 (List.mem_of_getElem? (i := 202) rfl)⟩
theorem lw_p11 : lw_okq (⟨"RepeatFinderModel", "same", "(III)Z"⟩, 7) := ⟨⟨by decide +kernel, by decide +kernel⟩, lw_t1 (List.mem_of_getElem? (i := 152) rfl), lw_t1 (List.mem_of_getElem? (i := 205) rfl), lw_t1 (List.mem_of_getElem? (i := 206) rfl)⟩
theorem lw_p12 : lw_okq (⟨"RepeatFinderModel", "firstOf", "(II)I"⟩, 7) := ⟨⟨by decide +kernel, by decide +kernel⟩, lw_t1 (List.mem_of_getElem? (i := 152) rfl), lw_t1 (List.mem_of_getElem? (i := 213) rfl), lw_t1 (List.mem_of_getElem? (i := 214) rfl)⟩
theorem lw_p13 : lw_okq (⟨"RepeatFinderModel", "list", "()V"⟩, 7) := ⟨⟨by decide +kernel, by decide +kernel⟩, lw_t1 (List.mem_of_getElem? (i := 152) rfl), lw_t1 (List.mem_of_getElem? (i := 221) rfl), lw_t1 (List.mem_of_getElem? (i := 222) rfl)⟩
theorem lw_p14 : lw_okq (⟨"RepeatFinderModel", "maximal", "(I)Z"⟩, 7) := ⟨⟨by decide +kernel, by decide +kernel⟩, lw_t1 (List.mem_of_getElem? (i := 152) rfl), lw_t1 (List.mem_of_getElem? (i := 233) rfl), lw_t1 (List.mem_of_getElem? (i := 234) rfl)⟩
theorem lw_p15 : lw_okq (⟨"RepeatFinderModel", "withBeside", "(III)I"⟩, 7) := ⟨⟨by decide +kernel, by decide +kernel⟩, lw_t1 (List.mem_of_getElem? (i := 152) rfl), lw_t1 (List.mem_of_getElem? (i := 237) rfl), lw_t1 (List.mem_of_getElem? (i := 238) rfl)⟩
def lw_privs_1 : List (MethodName × Nat) := [(⟨"RepeatFinder", "stateOfProbe", "()I"⟩, 15), (⟨"RepeatFinder", "build", "()V"⟩, 15), (⟨"RepeatFinder", "newState", "(II)I"⟩, 15), (⟨"RepeatFinder", "extend", "(II)V"⟩, 15), (⟨"RepeatFinder", "split", "(II)I"⟩, 15), (⟨"RepeatFinder", "orderByLength", "()V"⟩, 15), (⟨"RepeatFinder", "countTimes", "()V"⟩, 15), (⟨"RepeatFinder", "countWords", "()V"⟩, 15), (⟨"RepeatFinder", "losesByEveryLetter", "(I)Z"⟩, 15), (⟨"RepeatFinder", "stepTowards", "(II)I"⟩, 15), (⟨"RepeatFinderModel", "countOf", "(II)I"⟩, 7), (⟨"RepeatFinderModel", "same", "(III)Z"⟩, 7), (⟨"RepeatFinderModel", "firstOf", "(II)I"⟩, 7), (⟨"RepeatFinderModel", "list", "()V"⟩, 7), (⟨"RepeatFinderModel", "maximal", "(I)Z"⟩, 7), (⟨"RepeatFinderModel", "withBeside", "(III)I"⟩, 7)]
theorem lw_r1 : ∀ q ∈ lw_privs_1, lw_okq q := List.forall_mem_cons.mpr ⟨lw_p0, List.forall_mem_cons.mpr ⟨lw_p1, List.forall_mem_cons.mpr ⟨lw_p2, List.forall_mem_cons.mpr ⟨lw_p3, List.forall_mem_cons.mpr ⟨lw_p4, List.forall_mem_cons.mpr ⟨lw_p5, List.forall_mem_cons.mpr ⟨lw_p6, List.forall_mem_cons.mpr ⟨lw_p7, List.forall_mem_cons.mpr ⟨lw_p8, List.forall_mem_cons.mpr ⟨lw_p9, List.forall_mem_cons.mpr ⟨lw_p10, List.forall_mem_cons.mpr ⟨lw_p11, List.forall_mem_cons.mpr ⟨lw_p12, List.forall_mem_cons.mpr ⟨lw_p13, List.forall_mem_cons.mpr ⟨lw_p14, List.forall_mem_cons.mpr ⟨lw_p15, fun _ h => absurd h List.not_mem_nil⟩⟩⟩⟩⟩⟩⟩⟩⟩⟩⟩⟩⟩⟩⟩⟩
theorem lw_p16 : lw_okq (⟨"RepeatFinderModel", "following", "(I)I"⟩, 7) := ⟨⟨by decide +kernel, by decide +kernel⟩, lw_t1 (List.mem_of_getElem? (i := 152) rfl), lw_t2 (List.mem_of_getElem? (i := 5) rfl), lw_t2 (List.mem_of_getElem? (i := 6) rfl)⟩
theorem lw_p17 : lw_okq (⟨"RepeatFinderModel", "order", "(IIII)I"⟩, 7) := ⟨⟨by decide +kernel, by decide +kernel⟩, lw_t1 (List.mem_of_getElem? (i := 152) rfl), lw_t2 (List.mem_of_getElem? (i := 9) rfl), lw_t2 (List.mem_of_getElem? (i := 10) rfl)⟩
def lw_privs_2 : List (MethodName × Nat) := [(⟨"RepeatFinderModel", "following", "(I)I"⟩, 7), (⟨"RepeatFinderModel", "order", "(IIII)I"⟩, 7)]
theorem lw_r2 : ∀ q ∈ lw_privs_2, lw_okq q := List.forall_mem_cons.mpr ⟨lw_p16, List.forall_mem_cons.mpr ⟨lw_p17, fun _ h => absurd h List.not_mem_nil⟩⟩
def lw_privs : List (MethodName × Nat) := lw_privs_1 ++ (lw_privs_2)
def lw_tbl : List Cond := k2_sels lw_privs ++ tables_1
theorem lw_privs_ok : ∀ q ∈ lw_privs, lw_okq q := by
  show ∀ q ∈ lw_privs_1 ++ (lw_privs_2), lw_okq q
  exact List.forall_mem_append.mpr ⟨lw_r1, lw_r2⟩
-- ===== ONE list of words for every method: the tables' words that hold all through a run =====
def lw_all : List Cond := lw_tbl.filter goodWord
/-- a word of the tables by its place: claim/WORDS.tsv -/
theorem lw_w {w : Cond} (i : Nat) (h : lw_tbl[i]? = some w) (g : goodWord w = true) : w ∈ lw_all := List.mem_filter.mpr ⟨List.mem_of_getElem? h, g⟩
theorem lw_all_tbl {w : Cond} (h : w ∈ lw_all) : w ∈ lw_tbl := (List.mem_filter.mp h).1
theorem lw_self : GoodIn lw_all lw_all := fun w h => ⟨h, good_of_word (List.mem_filter.mp h).2⟩
/-- a class's field words, by their places -/
theorem lw_in (ws : List Cond) (ps : List Nat) (hp : ws = ps.filterMap (fun i => lw_tbl[i]?)) (hg : ws.all goodWord = true) : ∀ w ∈ ws, w ∈ lw_all := by
  intro w h
  have h1 := List.all_eq_true.mp hg w h
  rw [hp] at h
  obtain ⟨i, -, hi⟩ := List.mem_filterMap.mp h
  exact lw_w i hi h1
/-- the words of a contract for the method y with code b, L locals, answer r -/
abbrev ws_ (y : MethodName) (b : ByteArray) (L : Nat) (r : Option FieldType) : List Cond := Cond.code y b L r :: lw_all
theorem lw_meth {y : MethodName} {b : ByteArray} {L : Nat} {r : Option FieldType} (h : Cond.code y b L r ∈ lw_all) : GoodIn lw_all (ws_ y b L r) := by
  intro w hw
  rcases List.mem_cons.mp hw with e | e
  · rw [e]
    exact lw_self _ h
  · exact lw_self _ e
theorem lw_app {a c : List Cond} (ha : ∀ w ∈ a, w ∈ lw_all) (hc : GoodIn lw_all c) : GoodIn lw_all (a ++ c) := by
  intro w hw
  rcases List.mem_append.mp hw with e | e
  · exact lw_self w (ha w e)
  · exact hc w e
/-- what a call through an object asks: cwV n hts (lw_V ..) -/
theorem lw_V {own : String} {idx : Nat} {C : String} {y : MethodName} {b : ByteArray} {L : Nat} {r : Option FieldType} (h1 : Cond.methodLink own idx y ∈ lw_all) (h2 : Cond.instanceMethod y ∈ lw_all) (h3 : Cond.selects C y y ∈ lw_all) (h4 : Cond.initialized C ∈ lw_all) (h5 : Cond.code y b L r ∈ lw_all) : GoodIn lw_all (wsV own idx C y (ws_ y b L r)) := by
  refine lw_app ?_ (lw_meth h5)
  intro w hw
  simp only [List.mem_cons, List.not_mem_nil, or_false] at hw
  rcases hw with e | e | e | e
  · rw [e]; exact h1
  · rw [e]; exact h2
  · rw [e]; exact h3
  · rw [e]; exact h4
/-- what a static call asks: va_cwS n hts (lw_S ..) -/
theorem lw_S {own : String} {idx : Nat} {y : MethodName} {b : ByteArray} {L : Nat} {r : Option FieldType} (h1 : Cond.methodLink own idx y ∈ lw_all) (h2 : Cond.static y ∈ lw_all) (h3 : Cond.initialized y.cls ∈ lw_all) (h4 : Cond.code y b L r ∈ lw_all) : GoodIn lw_all (va_wsS own idx y (ws_ y b L r)) := by
  refine lw_app ?_ (lw_meth h4)
  intro w hw
  simp only [List.mem_cons, List.not_mem_nil, or_false] at hw
  rcases hw with e | e | e
  · rw [e]; exact h1
  · rw [e]; exact h2
  · rw [e]; exact h3
/-- the words of a contract for a method WITH HANDLERS (hh: its table) -/
abbrev wsW_ (y : MethodName) (b : ByteArray) (L : Nat) (r : Option FieldType) (hh : List (Nat × Nat × Nat × Nat)) : List Cond := Cond.codeWith y b L r hh :: lw_all
theorem lw_methW {y : MethodName} {b : ByteArray} {L : Nat} {r : Option FieldType} {hh : List (Nat × Nat × Nat × Nat)} (h : Cond.codeWith y b L r hh ∈ lw_all) : GoodIn lw_all (wsW_ y b L r hh) := by
  intro w hw
  rcases List.mem_cons.mp hw with e | e
  · rw [e]
    exact lw_self _ h
  · exact lw_self _ e
/-- any list of words by their places (lw_in), good -/
theorem lw_good {ws : List Cond} (h : ∀ w ∈ ws, w ∈ lw_all) : GoodIn lw_all ws := fun w hw => lw_self w (h w hw)
/-- what a call of a method with handlers asks: vx_cwVW n hts (lw_VW ..), vx_cwSW n hts (lw_SW ..) -/
theorem lw_VW {own : String} {idx : Nat} {C : String} {y : MethodName} {b : ByteArray} {L : Nat} {r : Option FieldType} {hh : List (Nat × Nat × Nat × Nat)} (h1 : Cond.methodLink own idx y ∈ lw_all) (h2 : Cond.instanceMethod y ∈ lw_all) (h3 : Cond.selects C y y ∈ lw_all) (h4 : Cond.initialized C ∈ lw_all) (h5 : Cond.codeWith y b L r hh ∈ lw_all) : GoodIn lw_all (wsV own idx C y (wsW_ y b L r hh)) := by
  refine lw_app ?_ (lw_methW h5)
  intro w hw
  simp only [List.mem_cons, List.not_mem_nil, or_false] at hw
  rcases hw with e | e | e | e
  · rw [e]; exact h1
  · rw [e]; exact h2
  · rw [e]; exact h3
  · rw [e]; exact h4
theorem lw_SW {own : String} {idx : Nat} {y : MethodName} {b : ByteArray} {L : Nat} {r : Option FieldType} {hh : List (Nat × Nat × Nat × Nat)} (h1 : Cond.methodLink own idx y ∈ lw_all) (h2 : Cond.static y ∈ lw_all) (h3 : Cond.initialized y.cls ∈ lw_all) (h4 : Cond.codeWith y b L r hh ∈ lw_all) : GoodIn lw_all (va_wsS own idx y (wsW_ y b L r hh)) := by
  refine lw_app ?_ (lw_methW h4)
  intro w hw
  simp only [List.mem_cons, List.not_mem_nil, or_false] at hw
  rcases hw with e | e | e
  · rw [e]; exact h1
  · rw [e]; exact h2
  · rw [e]; exact h3
/-- a word by its place in its run of the tables -/
theorem lw_at {r : List Cond} (hr : ∀ w ∈ r, w ∈ lw_tbl) {w : Cond} (i : Nat) (h : r[i]? = some w) : w ∈ lw_tbl := hr w (List.mem_of_getElem? h)
theorem lw_g {w : Cond} (h : w ∈ lw_tbl) (g : goodWord w = true) : w ∈ lw_all := List.mem_filter.mpr ⟨h, g⟩
theorem lw_ms : ∀ w ∈ k2_sels lw_privs, w ∈ lw_tbl := fun w h => show w ∈ k2_sels lw_privs ++ tables_1 from List.mem_append_left _ h
theorem lw_m1 : ∀ w ∈ tables_1_1, w ∈ lw_tbl := fun w h => show w ∈ k2_sels lw_privs ++ tables_1 from List.mem_append_right (k2_sels lw_privs) (show w ∈ tables_1 from List.mem_append_left _ h)
theorem lw_m2 : ∀ w ∈ tables_1_2, w ∈ lw_tbl := fun w h => show w ∈ k2_sels lw_privs ++ tables_1 from List.mem_append_right (k2_sels lw_privs) (show w ∈ tables_1 from List.mem_append_right _ h)
theorem qs0 : (Cond.selects "RepeatFinder" ⟨"RepeatFinder", "stateOfProbe", "()I"⟩ ⟨"RepeatFinder", "stateOfProbe", "()I"⟩) ∈ lw_all := lw_g (lw_at lw_ms 0 rfl) rfl
theorem qs1 : (Cond.selects "RepeatFinder" ⟨"RepeatFinder", "build", "()V"⟩ ⟨"RepeatFinder", "build", "()V"⟩) ∈ lw_all := lw_g (lw_at lw_ms 1 rfl) rfl
theorem qs2 : (Cond.selects "RepeatFinder" ⟨"RepeatFinder", "newState", "(II)I"⟩ ⟨"RepeatFinder", "newState", "(II)I"⟩) ∈ lw_all := lw_g (lw_at lw_ms 2 rfl) rfl
theorem qs3 : (Cond.selects "RepeatFinder" ⟨"RepeatFinder", "extend", "(II)V"⟩ ⟨"RepeatFinder", "extend", "(II)V"⟩) ∈ lw_all := lw_g (lw_at lw_ms 3 rfl) rfl
theorem qs4 : (Cond.selects "RepeatFinder" ⟨"RepeatFinder", "split", "(II)I"⟩ ⟨"RepeatFinder", "split", "(II)I"⟩) ∈ lw_all := lw_g (lw_at lw_ms 4 rfl) rfl
theorem qs5 : (Cond.selects "RepeatFinder" ⟨"RepeatFinder", "orderByLength", "()V"⟩ ⟨"RepeatFinder", "orderByLength", "()V"⟩) ∈ lw_all := lw_g (lw_at lw_ms 5 rfl) rfl
theorem qs6 : (Cond.selects "RepeatFinder" ⟨"RepeatFinder", "countTimes", "()V"⟩ ⟨"RepeatFinder", "countTimes", "()V"⟩) ∈ lw_all := lw_g (lw_at lw_ms 6 rfl) rfl
theorem qs7 : (Cond.selects "RepeatFinder" ⟨"RepeatFinder", "countWords", "()V"⟩ ⟨"RepeatFinder", "countWords", "()V"⟩) ∈ lw_all := lw_g (lw_at lw_ms 7 rfl) rfl
theorem qs8 : (Cond.selects "RepeatFinder" ⟨"RepeatFinder", "losesByEveryLetter", "(I)Z"⟩ ⟨"RepeatFinder", "losesByEveryLetter", "(I)Z"⟩) ∈ lw_all := lw_g (lw_at lw_ms 8 rfl) rfl
theorem qs9 : (Cond.selects "RepeatFinder" ⟨"RepeatFinder", "stepTowards", "(II)I"⟩ ⟨"RepeatFinder", "stepTowards", "(II)I"⟩) ∈ lw_all := lw_g (lw_at lw_ms 9 rfl) rfl
theorem qs10 : (Cond.selects "RepeatFinderModel" ⟨"RepeatFinderModel", "countOf", "(II)I"⟩ ⟨"RepeatFinderModel", "countOf", "(II)I"⟩) ∈ lw_all := lw_g (lw_at lw_ms 10 rfl) rfl
theorem qs11 : (Cond.selects "RepeatFinderModel" ⟨"RepeatFinderModel", "same", "(III)Z"⟩ ⟨"RepeatFinderModel", "same", "(III)Z"⟩) ∈ lw_all := lw_g (lw_at lw_ms 11 rfl) rfl
theorem qs12 : (Cond.selects "RepeatFinderModel" ⟨"RepeatFinderModel", "firstOf", "(II)I"⟩ ⟨"RepeatFinderModel", "firstOf", "(II)I"⟩) ∈ lw_all := lw_g (lw_at lw_ms 12 rfl) rfl
theorem qs13 : (Cond.selects "RepeatFinderModel" ⟨"RepeatFinderModel", "list", "()V"⟩ ⟨"RepeatFinderModel", "list", "()V"⟩) ∈ lw_all := lw_g (lw_at lw_ms 13 rfl) rfl
theorem qs14 : (Cond.selects "RepeatFinderModel" ⟨"RepeatFinderModel", "maximal", "(I)Z"⟩ ⟨"RepeatFinderModel", "maximal", "(I)Z"⟩) ∈ lw_all := lw_g (lw_at lw_ms 14 rfl) rfl
theorem qs15 : (Cond.selects "RepeatFinderModel" ⟨"RepeatFinderModel", "withBeside", "(III)I"⟩ ⟨"RepeatFinderModel", "withBeside", "(III)I"⟩) ∈ lw_all := lw_g (lw_at lw_ms 15 rfl) rfl
theorem qs16 : (Cond.selects "RepeatFinderModel" ⟨"RepeatFinderModel", "following", "(I)I"⟩ ⟨"RepeatFinderModel", "following", "(I)I"⟩) ∈ lw_all := lw_g (lw_at lw_ms 16 rfl) rfl
theorem qs17 : (Cond.selects "RepeatFinderModel" ⟨"RepeatFinderModel", "order", "(IIII)I"⟩ ⟨"RepeatFinderModel", "order", "(IIII)I"⟩) ∈ lw_all := lw_g (lw_at lw_ms 17 rfl) rfl
-- ===== end of PART A; then your names; then what follows =====
end
section
/-! RepeatFinder -/
set_option maxRecDepth 100000
def RX0 : String := "RepeatFinder"
def TX0 : u_T := fun k => match k with
  | 0 => ("RepeatFinder", "textLength", "I", false)
  | 1 => ("RepeatFinder", "text", "[B", true)
  | 2 => ("RepeatFinder", "probeLength", "I", false)
  | 3 => ("RepeatFinder", "probe", "[B", true)
  | 4 => ("RepeatFinder", "built", "Z", false)
  | 5 => ("RepeatFinder", "stateCount", "I", false)
  | 6 => ("RepeatFinder", "lastState", "I", false)
  | 7 => ("RepeatFinder", "next", "[B", true)
  | 8 => ("RepeatFinder", "shorter", "[B", true)
  | 9 => ("RepeatFinder", "length", "[B", true)
  | 10 => ("RepeatFinder", "times", "[B", true)
  | 11 => ("RepeatFinder", "firstEnd", "[B", true)
  | 12 => ("RepeatFinder", "wordsOn", "[S", true)
  | 13 => ("RepeatFinder", "byLength", "[B", true)
  | _ => ("RepeatFinder", "restAfter", "I", false)
def tyX0 : Nat → FieldType := fun k => match k with
  | 0 => .int
  | 1 => .array .byte
  | 2 => .int
  | 3 => .array .byte
  | 4 => .boolean
  | 5 => .int
  | 6 => .int
  | 7 => .array .byte
  | 8 => .array .byte
  | 9 => .array .byte
  | 10 => .array .byte
  | 11 => .array .byte
  | 12 => .array .short
  | 13 => .array .byte
  | _ => .int
abbrev wsX00 : List Cond := u_ws RX0 TX0 15
set_option maxRecDepth 100000 in
theorem nmX0 : ∀ a, a < 15 → ∀ b, b < 15 → a ≠ b → (TX0 a).2.1 ≠ (TX0 b).2.1 := by decide +kernel
set_option maxRecDepth 100000 in
theorem tyX0_ok : ∀ k, k < 15 → parseFieldDescriptor (TX0 k).2.2.1 = some (tyX0 k) := by decide +kernel
abbrev cX0_init : ByteArray := prog_1_method_1_code
def yX0_init : MethodName := ⟨RX0, "<init>", "()V"⟩
theorem dX0_init_0 : decode cX0_init 0 = .ok (.aload_n 0, 1) := by decide +kernel
theorem dX0_init_1 : decode cX0_init 1 = .ok (.invokespecial 1, 3) := by decide +kernel
theorem dX0_init_4 : decode cX0_init 4 = .ok (.aload_n 0, 1) := by decide +kernel
theorem dX0_init_5 : decode cX0_init 5 = .ok (.bipush 24, 2) := by decide +kernel
theorem dX0_init_7 : decode cX0_init 7 = .ok (.newarray .byte, 2) := by decide +kernel
theorem dX0_init_9 : decode cX0_init 9 = .ok (.putfield 7, 3) := by decide +kernel
theorem dX0_init_12 : decode cX0_init 12 = .ok (.aload_n 0, 1) := by decide +kernel
theorem dX0_init_13 : decode cX0_init 13 = .ok (.bipush 12, 2) := by decide +kernel
theorem dX0_init_15 : decode cX0_init 15 = .ok (.newarray .byte, 2) := by decide +kernel
theorem dX0_init_17 : decode cX0_init 17 = .ok (.putfield 13, 3) := by decide +kernel
theorem dX0_init_20 : decode cX0_init 20 = .ok (.aload_n 0, 1) := by decide +kernel
theorem dX0_init_21 : decode cX0_init 21 = .ok (.sipush 200, 3) := by decide +kernel
theorem dX0_init_24 : decode cX0_init 24 = .ok (.newarray .byte, 2) := by decide +kernel
theorem dX0_init_26 : decode cX0_init 26 = .ok (.putfield 16, 3) := by decide +kernel
theorem dX0_init_29 : decode cX0_init 29 = .ok (.aload_n 0, 1) := by decide +kernel
theorem dX0_init_30 : decode cX0_init 30 = .ok (.bipush 50, 2) := by decide +kernel
theorem dX0_init_32 : decode cX0_init 32 = .ok (.newarray .byte, 2) := by decide +kernel
theorem dX0_init_34 : decode cX0_init 34 = .ok (.putfield 19, 3) := by decide +kernel
theorem dX0_init_37 : decode cX0_init 37 = .ok (.aload_n 0, 1) := by decide +kernel
theorem dX0_init_38 : decode cX0_init 38 = .ok (.bipush 50, 2) := by decide +kernel
theorem dX0_init_40 : decode cX0_init 40 = .ok (.newarray .byte, 2) := by decide +kernel
theorem dX0_init_42 : decode cX0_init 42 = .ok (.putfield 22, 3) := by decide +kernel
theorem dX0_init_45 : decode cX0_init 45 = .ok (.aload_n 0, 1) := by decide +kernel
theorem dX0_init_46 : decode cX0_init 46 = .ok (.bipush 50, 2) := by decide +kernel
theorem dX0_init_48 : decode cX0_init 48 = .ok (.newarray .byte, 2) := by decide +kernel
theorem dX0_init_50 : decode cX0_init 50 = .ok (.putfield 25, 3) := by decide +kernel
theorem dX0_init_53 : decode cX0_init 53 = .ok (.aload_n 0, 1) := by decide +kernel
theorem dX0_init_54 : decode cX0_init 54 = .ok (.bipush 50, 2) := by decide +kernel
theorem dX0_init_56 : decode cX0_init 56 = .ok (.newarray .byte, 2) := by decide +kernel
theorem dX0_init_58 : decode cX0_init 58 = .ok (.putfield 28, 3) := by decide +kernel
theorem dX0_init_61 : decode cX0_init 61 = .ok (.aload_n 0, 1) := by decide +kernel
theorem dX0_init_62 : decode cX0_init 62 = .ok (.bipush 50, 2) := by decide +kernel
theorem dX0_init_64 : decode cX0_init 64 = .ok (.newarray .short, 2) := by decide +kernel
theorem dX0_init_66 : decode cX0_init 66 = .ok (.putfield 31, 3) := by decide +kernel
theorem dX0_init_69 : decode cX0_init 69 = .ok (.aload_n 0, 1) := by decide +kernel
theorem dX0_init_70 : decode cX0_init 70 = .ok (.bipush 50, 2) := by decide +kernel
theorem dX0_init_72 : decode cX0_init 72 = .ok (.newarray .byte, 2) := by decide +kernel
theorem dX0_init_74 : decode cX0_init 74 = .ok (.putfield 35, 3) := by decide +kernel
theorem dX0_init_77 : decode cX0_init 77 = .ok (.return_, 1) := by decide +kernel
abbrev cX0_type : ByteArray := prog_1_method_2_code
def yX0_type : MethodName := ⟨RX0, "type", "(I)I"⟩
theorem dX0_type_0 : decode cX0_type 0 = .ok (.aload_n 0, 1) := by decide +kernel
theorem dX0_type_1 : decode cX0_type 1 = .ok (.getfield 38, 3) := by decide +kernel
theorem dX0_type_4 : decode cX0_type 4 = .ok (.bipush 24, 2) := by decide +kernel
theorem dX0_type_6 : decode cX0_type 6 = .ok (.if_icmp .lt 5, 3) := by decide +kernel
theorem dX0_type_9 : decode cX0_type 9 = .ok (.iconst (-1), 1) := by decide +kernel
theorem dX0_type_10 : decode cX0_type 10 = .ok (.ireturn, 1) := by decide +kernel
theorem dX0_type_11 : decode cX0_type 11 = .ok (.iload_n 1, 1) := by decide +kernel
theorem dX0_type_12 : decode cX0_type 12 = .ok (.ifCond .lt 8, 3) := by decide +kernel
theorem dX0_type_15 : decode cX0_type 15 = .ok (.iload_n 1, 1) := by decide +kernel
theorem dX0_type_16 : decode cX0_type 16 = .ok (.iconst 4, 1) := by decide +kernel
theorem dX0_type_17 : decode cX0_type 17 = .ok (.if_icmp .lt 6, 3) := by decide +kernel
theorem dX0_type_20 : decode cX0_type 20 = .ok (.bipush (-2), 2) := by decide +kernel
theorem dX0_type_22 : decode cX0_type 22 = .ok (.ireturn, 1) := by decide +kernel
theorem dX0_type_23 : decode cX0_type 23 = .ok (.aload_n 0, 1) := by decide +kernel
theorem dX0_type_24 : decode cX0_type 24 = .ok (.getfield 7, 3) := by decide +kernel
theorem dX0_type_27 : decode cX0_type 27 = .ok (.aload_n 0, 1) := by decide +kernel
theorem dX0_type_28 : decode cX0_type 28 = .ok (.getfield 38, 3) := by decide +kernel
theorem dX0_type_31 : decode cX0_type 31 = .ok (.iload_n 1, 1) := by decide +kernel
theorem dX0_type_32 : decode cX0_type 32 = .ok (.i2b, 1) := by decide +kernel
theorem dX0_type_33 : decode cX0_type 33 = .ok (.bastore, 1) := by decide +kernel
theorem dX0_type_34 : decode cX0_type 34 = .ok (.aload_n 0, 1) := by decide +kernel
theorem dX0_type_35 : decode cX0_type 35 = .ok (.dup, 1) := by decide +kernel
theorem dX0_type_36 : decode cX0_type 36 = .ok (.getfield 38, 3) := by decide +kernel
theorem dX0_type_39 : decode cX0_type 39 = .ok (.iconst 1, 1) := by decide +kernel
theorem dX0_type_40 : decode cX0_type 40 = .ok (.iadd, 1) := by decide +kernel
theorem dX0_type_41 : decode cX0_type 41 = .ok (.putfield 38, 3) := by decide +kernel
theorem dX0_type_44 : decode cX0_type 44 = .ok (.aload_n 0, 1) := by decide +kernel
theorem dX0_type_45 : decode cX0_type 45 = .ok (.iconst 0, 1) := by decide +kernel
theorem dX0_type_46 : decode cX0_type 46 = .ok (.putfield 42, 3) := by decide +kernel
theorem dX0_type_49 : decode cX0_type 49 = .ok (.aload_n 0, 1) := by decide +kernel
theorem dX0_type_50 : decode cX0_type 50 = .ok (.getfield 38, 3) := by decide +kernel
theorem dX0_type_53 : decode cX0_type 53 = .ok (.ireturn, 1) := by decide +kernel
abbrev cX0_shift : ByteArray := prog_1_method_3_code
def yX0_shift : MethodName := ⟨RX0, "shift", "()I"⟩
theorem dX0_shift_0 : decode cX0_shift 0 = .ok (.aload_n 0, 1) := by decide +kernel
theorem dX0_shift_1 : decode cX0_shift 1 = .ok (.getfield 38, 3) := by decide +kernel
theorem dX0_shift_4 : decode cX0_shift 4 = .ok (.ifCond .ne 6, 3) := by decide +kernel
theorem dX0_shift_7 : decode cX0_shift 7 = .ok (.bipush (-2), 2) := by decide +kernel
theorem dX0_shift_9 : decode cX0_shift 9 = .ok (.ireturn, 1) := by decide +kernel
theorem dX0_shift_10 : decode cX0_shift 10 = .ok (.aload_n 0, 1) := by decide +kernel
theorem dX0_shift_11 : decode cX0_shift 11 = .ok (.dup, 1) := by decide +kernel
theorem dX0_shift_12 : decode cX0_shift 12 = .ok (.getfield 38, 3) := by decide +kernel
theorem dX0_shift_15 : decode cX0_shift 15 = .ok (.iconst 1, 1) := by decide +kernel
theorem dX0_shift_16 : decode cX0_shift 16 = .ok (.isub, 1) := by decide +kernel
theorem dX0_shift_17 : decode cX0_shift 17 = .ok (.putfield 38, 3) := by decide +kernel
theorem dX0_shift_20 : decode cX0_shift 20 = .ok (.iconst 0, 1) := by decide +kernel
theorem dX0_shift_21 : decode cX0_shift 21 = .ok (.istore_n 1, 1) := by decide +kernel
theorem dX0_shift_22 : decode cX0_shift 22 = .ok (.iload_n 1, 1) := by decide +kernel
theorem dX0_shift_23 : decode cX0_shift 23 = .ok (.aload_n 0, 1) := by decide +kernel
theorem dX0_shift_24 : decode cX0_shift 24 = .ok (.getfield 38, 3) := by decide +kernel
theorem dX0_shift_27 : decode cX0_shift 27 = .ok (.if_icmp .ge 23, 3) := by decide +kernel
theorem dX0_shift_30 : decode cX0_shift 30 = .ok (.aload_n 0, 1) := by decide +kernel
theorem dX0_shift_31 : decode cX0_shift 31 = .ok (.getfield 7, 3) := by decide +kernel
theorem dX0_shift_34 : decode cX0_shift 34 = .ok (.iload_n 1, 1) := by decide +kernel
theorem dX0_shift_35 : decode cX0_shift 35 = .ok (.aload_n 0, 1) := by decide +kernel
theorem dX0_shift_36 : decode cX0_shift 36 = .ok (.getfield 7, 3) := by decide +kernel
theorem dX0_shift_39 : decode cX0_shift 39 = .ok (.iload_n 1, 1) := by decide +kernel
theorem dX0_shift_40 : decode cX0_shift 40 = .ok (.iconst 1, 1) := by decide +kernel
theorem dX0_shift_41 : decode cX0_shift 41 = .ok (.iadd, 1) := by decide +kernel
theorem dX0_shift_42 : decode cX0_shift 42 = .ok (.baload, 1) := by decide +kernel
theorem dX0_shift_43 : decode cX0_shift 43 = .ok (.bastore, 1) := by decide +kernel
theorem dX0_shift_44 : decode cX0_shift 44 = .ok (.iinc 1 1, 3) := by decide +kernel
theorem dX0_shift_47 : decode cX0_shift 47 = .ok (.goto (-25), 3) := by decide +kernel
theorem dX0_shift_50 : decode cX0_shift 50 = .ok (.aload_n 0, 1) := by decide +kernel
theorem dX0_shift_51 : decode cX0_shift 51 = .ok (.iconst 0, 1) := by decide +kernel
theorem dX0_shift_52 : decode cX0_shift 52 = .ok (.putfield 42, 3) := by decide +kernel
theorem dX0_shift_55 : decode cX0_shift 55 = .ok (.aload_n 0, 1) := by decide +kernel
theorem dX0_shift_56 : decode cX0_shift 56 = .ok (.getfield 38, 3) := by decide +kernel
theorem dX0_shift_59 : decode cX0_shift 59 = .ok (.ireturn, 1) := by decide +kernel
abbrev cX0_ask : ByteArray := prog_1_method_4_code
def yX0_ask : MethodName := ⟨RX0, "ask", "(I)I"⟩
theorem dX0_ask_0 : decode cX0_ask 0 = .ok (.aload_n 0, 1) := by decide +kernel
theorem dX0_ask_1 : decode cX0_ask 1 = .ok (.getfield 46, 3) := by decide +kernel
theorem dX0_ask_4 : decode cX0_ask 4 = .ok (.bipush 12, 2) := by decide +kernel
theorem dX0_ask_6 : decode cX0_ask 6 = .ok (.if_icmp .lt 5, 3) := by decide +kernel
theorem dX0_ask_9 : decode cX0_ask 9 = .ok (.iconst (-1), 1) := by decide +kernel
theorem dX0_ask_10 : decode cX0_ask 10 = .ok (.ireturn, 1) := by decide +kernel
theorem dX0_ask_11 : decode cX0_ask 11 = .ok (.iload_n 1, 1) := by decide +kernel
theorem dX0_ask_12 : decode cX0_ask 12 = .ok (.ifCond .lt 8, 3) := by decide +kernel
theorem dX0_ask_15 : decode cX0_ask 15 = .ok (.iload_n 1, 1) := by decide +kernel
theorem dX0_ask_16 : decode cX0_ask 16 = .ok (.iconst 4, 1) := by decide +kernel
theorem dX0_ask_17 : decode cX0_ask 17 = .ok (.if_icmp .lt 6, 3) := by decide +kernel
theorem dX0_ask_20 : decode cX0_ask 20 = .ok (.bipush (-2), 2) := by decide +kernel
theorem dX0_ask_22 : decode cX0_ask 22 = .ok (.ireturn, 1) := by decide +kernel
theorem dX0_ask_23 : decode cX0_ask 23 = .ok (.aload_n 0, 1) := by decide +kernel
theorem dX0_ask_24 : decode cX0_ask 24 = .ok (.getfield 13, 3) := by decide +kernel
theorem dX0_ask_27 : decode cX0_ask 27 = .ok (.aload_n 0, 1) := by decide +kernel
theorem dX0_ask_28 : decode cX0_ask 28 = .ok (.getfield 46, 3) := by decide +kernel
theorem dX0_ask_31 : decode cX0_ask 31 = .ok (.iload_n 1, 1) := by decide +kernel
theorem dX0_ask_32 : decode cX0_ask 32 = .ok (.i2b, 1) := by decide +kernel
theorem dX0_ask_33 : decode cX0_ask 33 = .ok (.bastore, 1) := by decide +kernel
theorem dX0_ask_34 : decode cX0_ask 34 = .ok (.aload_n 0, 1) := by decide +kernel
theorem dX0_ask_35 : decode cX0_ask 35 = .ok (.dup, 1) := by decide +kernel
theorem dX0_ask_36 : decode cX0_ask 36 = .ok (.getfield 46, 3) := by decide +kernel
theorem dX0_ask_39 : decode cX0_ask 39 = .ok (.iconst 1, 1) := by decide +kernel
theorem dX0_ask_40 : decode cX0_ask 40 = .ok (.iadd, 1) := by decide +kernel
theorem dX0_ask_41 : decode cX0_ask 41 = .ok (.putfield 46, 3) := by decide +kernel
theorem dX0_ask_44 : decode cX0_ask 44 = .ok (.aload_n 0, 1) := by decide +kernel
theorem dX0_ask_45 : decode cX0_ask 45 = .ok (.getfield 46, 3) := by decide +kernel
theorem dX0_ask_48 : decode cX0_ask 48 = .ok (.ireturn, 1) := by decide +kernel
abbrev cX0_wipe : ByteArray := prog_1_method_5_code
def yX0_wipe : MethodName := ⟨RX0, "wipe", "()I"⟩
theorem dX0_wipe_0 : decode cX0_wipe 0 = .ok (.aload_n 0, 1) := by decide +kernel
theorem dX0_wipe_1 : decode cX0_wipe 1 = .ok (.getfield 46, 3) := by decide +kernel
theorem dX0_wipe_4 : decode cX0_wipe 4 = .ok (.istore_n 1, 1) := by decide +kernel
theorem dX0_wipe_5 : decode cX0_wipe 5 = .ok (.aload_n 0, 1) := by decide +kernel
theorem dX0_wipe_6 : decode cX0_wipe 6 = .ok (.iconst 0, 1) := by decide +kernel
theorem dX0_wipe_7 : decode cX0_wipe 7 = .ok (.putfield 46, 3) := by decide +kernel
theorem dX0_wipe_10 : decode cX0_wipe 10 = .ok (.iload_n 1, 1) := by decide +kernel
theorem dX0_wipe_11 : decode cX0_wipe 11 = .ok (.ireturn, 1) := by decide +kernel
abbrev cX0_count : ByteArray := prog_1_method_6_code
def yX0_count : MethodName := ⟨RX0, "count", "()I"⟩
theorem dX0_count_0 : decode cX0_count 0 = .ok (.aload_n 0, 1) := by decide +kernel
theorem dX0_count_1 : decode cX0_count 1 = .ok (.getfield 46, 3) := by decide +kernel
theorem dX0_count_4 : decode cX0_count 4 = .ok (.ifCond .ne 6, 3) := by decide +kernel
theorem dX0_count_7 : decode cX0_count 7 = .ok (.bipush (-3), 2) := by decide +kernel
theorem dX0_count_9 : decode cX0_count 9 = .ok (.ireturn, 1) := by decide +kernel
theorem dX0_count_10 : decode cX0_count 10 = .ok (.aload_n 0, 1) := by decide +kernel
theorem dX0_count_11 : decode cX0_count 11 = .ok (.invokevirtual 49, 3) := by decide +kernel
theorem dX0_count_14 : decode cX0_count 14 = .ok (.istore_n 1, 1) := by decide +kernel
theorem dX0_count_15 : decode cX0_count 15 = .ok (.iload_n 1, 1) := by decide +kernel
theorem dX0_count_16 : decode cX0_count 16 = .ok (.ifCond .ne 7, 3) := by decide +kernel
theorem dX0_count_19 : decode cX0_count 19 = .ok (.iconst 0, 1) := by decide +kernel
theorem dX0_count_20 : decode cX0_count 20 = .ok (.goto 9, 3) := by decide +kernel
theorem dX0_count_23 : decode cX0_count 23 = .ok (.aload_n 0, 1) := by decide +kernel
theorem dX0_count_24 : decode cX0_count 24 = .ok (.getfield 25, 3) := by decide +kernel
theorem dX0_count_27 : decode cX0_count 27 = .ok (.iload_n 1, 1) := by decide +kernel
theorem dX0_count_28 : decode cX0_count 28 = .ok (.baload, 1) := by decide +kernel
theorem dX0_count_29 : decode cX0_count 29 = .ok (.ireturn, 1) := by decide +kernel
abbrev cX0_stateOfProbe : ByteArray := prog_1_method_17_code
def yX0_stateOfProbe : MethodName := ⟨RX0, "stateOfProbe", "()I"⟩
theorem dX0_stateOfProbe_0 : decode cX0_stateOfProbe 0 = .ok (.aload_n 0, 1) := by decide +kernel
theorem dX0_stateOfProbe_1 : decode cX0_stateOfProbe 1 = .ok (.invokevirtual 53, 3) := by decide +kernel
theorem dX0_stateOfProbe_4 : decode cX0_stateOfProbe 4 = .ok (.iconst 0, 1) := by decide +kernel
theorem dX0_stateOfProbe_5 : decode cX0_stateOfProbe 5 = .ok (.istore_n 1, 1) := by decide +kernel
theorem dX0_stateOfProbe_6 : decode cX0_stateOfProbe 6 = .ok (.iconst 0, 1) := by decide +kernel
theorem dX0_stateOfProbe_7 : decode cX0_stateOfProbe 7 = .ok (.istore_n 2, 1) := by decide +kernel
theorem dX0_stateOfProbe_8 : decode cX0_stateOfProbe 8 = .ok (.iload_n 2, 1) := by decide +kernel
theorem dX0_stateOfProbe_9 : decode cX0_stateOfProbe 9 = .ok (.aload_n 0, 1) := by decide +kernel
theorem dX0_stateOfProbe_10 : decode cX0_stateOfProbe 10 = .ok (.getfield 46, 3) := by decide +kernel
theorem dX0_stateOfProbe_13 : decode cX0_stateOfProbe 13 = .ok (.if_icmp .ge 31, 3) := by decide +kernel
theorem dX0_stateOfProbe_16 : decode cX0_stateOfProbe 16 = .ok (.aload_n 0, 1) := by decide +kernel
theorem dX0_stateOfProbe_17 : decode cX0_stateOfProbe 17 = .ok (.getfield 16, 3) := by decide +kernel
theorem dX0_stateOfProbe_20 : decode cX0_stateOfProbe 20 = .ok (.iconst 4, 1) := by decide +kernel
theorem dX0_stateOfProbe_21 : decode cX0_stateOfProbe 21 = .ok (.iload_n 1, 1) := by decide +kernel
theorem dX0_stateOfProbe_22 : decode cX0_stateOfProbe 22 = .ok (.imul, 1) := by decide +kernel
theorem dX0_stateOfProbe_23 : decode cX0_stateOfProbe 23 = .ok (.aload_n 0, 1) := by decide +kernel
theorem dX0_stateOfProbe_24 : decode cX0_stateOfProbe 24 = .ok (.getfield 13, 3) := by decide +kernel
theorem dX0_stateOfProbe_27 : decode cX0_stateOfProbe 27 = .ok (.iload_n 2, 1) := by decide +kernel
theorem dX0_stateOfProbe_28 : decode cX0_stateOfProbe 28 = .ok (.baload, 1) := by decide +kernel
theorem dX0_stateOfProbe_29 : decode cX0_stateOfProbe 29 = .ok (.iadd, 1) := by decide +kernel
theorem dX0_stateOfProbe_30 : decode cX0_stateOfProbe 30 = .ok (.baload, 1) := by decide +kernel
theorem dX0_stateOfProbe_31 : decode cX0_stateOfProbe 31 = .ok (.istore_n 1, 1) := by decide +kernel
theorem dX0_stateOfProbe_32 : decode cX0_stateOfProbe 32 = .ok (.iload_n 1, 1) := by decide +kernel
theorem dX0_stateOfProbe_33 : decode cX0_stateOfProbe 33 = .ok (.ifCond .ne 5, 3) := by decide +kernel
theorem dX0_stateOfProbe_36 : decode cX0_stateOfProbe 36 = .ok (.iconst 0, 1) := by decide +kernel
theorem dX0_stateOfProbe_37 : decode cX0_stateOfProbe 37 = .ok (.ireturn, 1) := by decide +kernel
theorem dX0_stateOfProbe_38 : decode cX0_stateOfProbe 38 = .ok (.iinc 2 1, 3) := by decide +kernel
theorem dX0_stateOfProbe_41 : decode cX0_stateOfProbe 41 = .ok (.goto (-33), 3) := by decide +kernel
theorem dX0_stateOfProbe_44 : decode cX0_stateOfProbe 44 = .ok (.iload_n 1, 1) := by decide +kernel
theorem dX0_stateOfProbe_45 : decode cX0_stateOfProbe 45 = .ok (.ireturn, 1) := by decide +kernel
abbrev cX0_build : ByteArray := prog_1_method_19_code
def yX0_build : MethodName := ⟨RX0, "build", "()V"⟩
theorem dX0_build_0 : decode cX0_build 0 = .ok (.aload_n 0, 1) := by decide +kernel
theorem dX0_build_1 : decode cX0_build 1 = .ok (.getfield 42, 3) := by decide +kernel
theorem dX0_build_4 : decode cX0_build 4 = .ok (.ifCond .eq 4, 3) := by decide +kernel
theorem dX0_build_7 : decode cX0_build 7 = .ok (.return_, 1) := by decide +kernel
theorem dX0_build_8 : decode cX0_build 8 = .ok (.aload_n 0, 1) := by decide +kernel
theorem dX0_build_9 : decode cX0_build 9 = .ok (.iconst 1, 1) := by decide +kernel
theorem dX0_build_10 : decode cX0_build 10 = .ok (.putfield 42, 3) := by decide +kernel
theorem dX0_build_13 : decode cX0_build 13 = .ok (.aload_n 0, 1) := by decide +kernel
theorem dX0_build_14 : decode cX0_build 14 = .ok (.iconst 0, 1) := by decide +kernel
theorem dX0_build_15 : decode cX0_build 15 = .ok (.putfield 56, 3) := by decide +kernel
theorem dX0_build_18 : decode cX0_build 18 = .ok (.aload_n 0, 1) := by decide +kernel
theorem dX0_build_19 : decode cX0_build 19 = .ok (.aload_n 0, 1) := by decide +kernel
theorem dX0_build_20 : decode cX0_build 20 = .ok (.iconst 0, 1) := by decide +kernel
theorem dX0_build_21 : decode cX0_build 21 = .ok (.iconst (-1), 1) := by decide +kernel
theorem dX0_build_22 : decode cX0_build 22 = .ok (.invokevirtual 70, 3) := by decide +kernel
theorem dX0_build_25 : decode cX0_build 25 = .ok (.putfield 73, 3) := by decide +kernel
theorem dX0_build_28 : decode cX0_build 28 = .ok (.iconst 0, 1) := by decide +kernel
theorem dX0_build_29 : decode cX0_build 29 = .ok (.istore_n 1, 1) := by decide +kernel
theorem dX0_build_30 : decode cX0_build 30 = .ok (.iload_n 1, 1) := by decide +kernel
theorem dX0_build_31 : decode cX0_build 31 = .ok (.aload_n 0, 1) := by decide +kernel
theorem dX0_build_32 : decode cX0_build 32 = .ok (.getfield 38, 3) := by decide +kernel
theorem dX0_build_35 : decode cX0_build 35 = .ok (.if_icmp .ge 20, 3) := by decide +kernel
theorem dX0_build_38 : decode cX0_build 38 = .ok (.aload_n 0, 1) := by decide +kernel
theorem dX0_build_39 : decode cX0_build 39 = .ok (.aload_n 0, 1) := by decide +kernel
theorem dX0_build_40 : decode cX0_build 40 = .ok (.getfield 7, 3) := by decide +kernel
theorem dX0_build_43 : decode cX0_build 43 = .ok (.iload_n 1, 1) := by decide +kernel
theorem dX0_build_44 : decode cX0_build 44 = .ok (.baload, 1) := by decide +kernel
theorem dX0_build_45 : decode cX0_build 45 = .ok (.iload_n 1, 1) := by decide +kernel
theorem dX0_build_46 : decode cX0_build 46 = .ok (.invokevirtual 76, 3) := by decide +kernel
theorem dX0_build_49 : decode cX0_build 49 = .ok (.iinc 1 1, 3) := by decide +kernel
theorem dX0_build_52 : decode cX0_build 52 = .ok (.goto (-22), 3) := by decide +kernel
theorem dX0_build_55 : decode cX0_build 55 = .ok (.aload_n 0, 1) := by decide +kernel
theorem dX0_build_56 : decode cX0_build 56 = .ok (.invokevirtual 80, 3) := by decide +kernel
theorem dX0_build_59 : decode cX0_build 59 = .ok (.aload_n 0, 1) := by decide +kernel
theorem dX0_build_60 : decode cX0_build 60 = .ok (.invokevirtual 83, 3) := by decide +kernel
theorem dX0_build_63 : decode cX0_build 63 = .ok (.aload_n 0, 1) := by decide +kernel
theorem dX0_build_64 : decode cX0_build 64 = .ok (.invokevirtual 86, 3) := by decide +kernel
theorem dX0_build_67 : decode cX0_build 67 = .ok (.return_, 1) := by decide +kernel
abbrev cX0_newState : ByteArray := prog_1_method_18_code
def yX0_newState : MethodName := ⟨RX0, "newState", "(II)I"⟩
theorem dX0_newState_0 : decode cX0_newState 0 = .ok (.aload_n 0, 1) := by decide +kernel
theorem dX0_newState_1 : decode cX0_newState 1 = .ok (.getfield 56, 3) := by decide +kernel
theorem dX0_newState_4 : decode cX0_newState 4 = .ok (.istore_n 3, 1) := by decide +kernel
theorem dX0_newState_5 : decode cX0_newState 5 = .ok (.aload_n 0, 1) := by decide +kernel
theorem dX0_newState_6 : decode cX0_newState 6 = .ok (.dup, 1) := by decide +kernel
theorem dX0_newState_7 : decode cX0_newState 7 = .ok (.getfield 56, 3) := by decide +kernel
theorem dX0_newState_10 : decode cX0_newState 10 = .ok (.iconst 1, 1) := by decide +kernel
theorem dX0_newState_11 : decode cX0_newState 11 = .ok (.iadd, 1) := by decide +kernel
theorem dX0_newState_12 : decode cX0_newState 12 = .ok (.putfield 56, 3) := by decide +kernel
theorem dX0_newState_15 : decode cX0_newState 15 = .ok (.aload_n 0, 1) := by decide +kernel
theorem dX0_newState_16 : decode cX0_newState 16 = .ok (.getfield 22, 3) := by decide +kernel
theorem dX0_newState_19 : decode cX0_newState 19 = .ok (.iload_n 3, 1) := by decide +kernel
theorem dX0_newState_20 : decode cX0_newState 20 = .ok (.iload_n 1, 1) := by decide +kernel
theorem dX0_newState_21 : decode cX0_newState 21 = .ok (.i2b, 1) := by decide +kernel
theorem dX0_newState_22 : decode cX0_newState 22 = .ok (.bastore, 1) := by decide +kernel
theorem dX0_newState_23 : decode cX0_newState 23 = .ok (.aload_n 0, 1) := by decide +kernel
theorem dX0_newState_24 : decode cX0_newState 24 = .ok (.getfield 28, 3) := by decide +kernel
theorem dX0_newState_27 : decode cX0_newState 27 = .ok (.iload_n 3, 1) := by decide +kernel
theorem dX0_newState_28 : decode cX0_newState 28 = .ok (.iload_n 2, 1) := by decide +kernel
theorem dX0_newState_29 : decode cX0_newState 29 = .ok (.i2b, 1) := by decide +kernel
theorem dX0_newState_30 : decode cX0_newState 30 = .ok (.bastore, 1) := by decide +kernel
theorem dX0_newState_31 : decode cX0_newState 31 = .ok (.aload_n 0, 1) := by decide +kernel
theorem dX0_newState_32 : decode cX0_newState 32 = .ok (.getfield 25, 3) := by decide +kernel
theorem dX0_newState_35 : decode cX0_newState 35 = .ok (.iload_n 3, 1) := by decide +kernel
theorem dX0_newState_36 : decode cX0_newState 36 = .ok (.iconst 0, 1) := by decide +kernel
theorem dX0_newState_37 : decode cX0_newState 37 = .ok (.bastore, 1) := by decide +kernel
theorem dX0_newState_38 : decode cX0_newState 38 = .ok (.aload_n 0, 1) := by decide +kernel
theorem dX0_newState_39 : decode cX0_newState 39 = .ok (.getfield 19, 3) := by decide +kernel
theorem dX0_newState_42 : decode cX0_newState 42 = .ok (.iload_n 3, 1) := by decide +kernel
theorem dX0_newState_43 : decode cX0_newState 43 = .ok (.iconst (-1), 1) := by decide +kernel
theorem dX0_newState_44 : decode cX0_newState 44 = .ok (.bastore, 1) := by decide +kernel
theorem dX0_newState_45 : decode cX0_newState 45 = .ok (.iconst 0, 1) := by decide +kernel
theorem dX0_newState_46 : decode cX0_newState 46 = .ok (.istore 4, 2) := by decide +kernel
theorem dX0_newState_48 : decode cX0_newState 48 = .ok (.iload 4, 2) := by decide +kernel
theorem dX0_newState_50 : decode cX0_newState 50 = .ok (.iconst 4, 1) := by decide +kernel
theorem dX0_newState_51 : decode cX0_newState 51 = .ok (.if_icmp .ge 21, 3) := by decide +kernel
theorem dX0_newState_54 : decode cX0_newState 54 = .ok (.aload_n 0, 1) := by decide +kernel
theorem dX0_newState_55 : decode cX0_newState 55 = .ok (.getfield 16, 3) := by decide +kernel
theorem dX0_newState_58 : decode cX0_newState 58 = .ok (.iconst 4, 1) := by decide +kernel
theorem dX0_newState_59 : decode cX0_newState 59 = .ok (.iload_n 3, 1) := by decide +kernel
theorem dX0_newState_60 : decode cX0_newState 60 = .ok (.imul, 1) := by decide +kernel
theorem dX0_newState_61 : decode cX0_newState 61 = .ok (.iload 4, 2) := by decide +kernel
theorem dX0_newState_63 : decode cX0_newState 63 = .ok (.iadd, 1) := by decide +kernel
theorem dX0_newState_64 : decode cX0_newState 64 = .ok (.iconst 0, 1) := by decide +kernel
theorem dX0_newState_65 : decode cX0_newState 65 = .ok (.bastore, 1) := by decide +kernel
theorem dX0_newState_66 : decode cX0_newState 66 = .ok (.iinc 4 1, 3) := by decide +kernel
theorem dX0_newState_69 : decode cX0_newState 69 = .ok (.goto (-21), 3) := by decide +kernel
theorem dX0_newState_72 : decode cX0_newState 72 = .ok (.iload_n 3, 1) := by decide +kernel
theorem dX0_newState_73 : decode cX0_newState 73 = .ok (.ireturn, 1) := by decide +kernel
abbrev cX0_extend : ByteArray := prog_1_method_20_code
def yX0_extend : MethodName := ⟨RX0, "extend", "(II)V"⟩
theorem dX0_extend_0 : decode cX0_extend 0 = .ok (.aload_n 0, 1) := by decide +kernel
theorem dX0_extend_1 : decode cX0_extend 1 = .ok (.iload_n 2, 1) := by decide +kernel
theorem dX0_extend_2 : decode cX0_extend 2 = .ok (.iconst 1, 1) := by decide +kernel
theorem dX0_extend_3 : decode cX0_extend 3 = .ok (.iadd, 1) := by decide +kernel
theorem dX0_extend_4 : decode cX0_extend 4 = .ok (.iload_n 2, 1) := by decide +kernel
theorem dX0_extend_5 : decode cX0_extend 5 = .ok (.invokevirtual 70, 3) := by decide +kernel
theorem dX0_extend_8 : decode cX0_extend 8 = .ok (.istore_n 3, 1) := by decide +kernel
theorem dX0_extend_9 : decode cX0_extend 9 = .ok (.aload_n 0, 1) := by decide +kernel
theorem dX0_extend_10 : decode cX0_extend 10 = .ok (.getfield 25, 3) := by decide +kernel
theorem dX0_extend_13 : decode cX0_extend 13 = .ok (.iload_n 3, 1) := by decide +kernel
theorem dX0_extend_14 : decode cX0_extend 14 = .ok (.iconst 1, 1) := by decide +kernel
theorem dX0_extend_15 : decode cX0_extend 15 = .ok (.bastore, 1) := by decide +kernel
theorem dX0_extend_16 : decode cX0_extend 16 = .ok (.aload_n 0, 1) := by decide +kernel
theorem dX0_extend_17 : decode cX0_extend 17 = .ok (.getfield 73, 3) := by decide +kernel
theorem dX0_extend_20 : decode cX0_extend 20 = .ok (.istore 4, 2) := by decide +kernel
theorem dX0_extend_22 : decode cX0_extend 22 = .ok (.aload_n 0, 1) := by decide +kernel
theorem dX0_extend_23 : decode cX0_extend 23 = .ok (.iload_n 3, 1) := by decide +kernel
theorem dX0_extend_24 : decode cX0_extend 24 = .ok (.putfield 73, 3) := by decide +kernel
theorem dX0_extend_27 : decode cX0_extend 27 = .ok (.iload 4, 2) := by decide +kernel
theorem dX0_extend_29 : decode cX0_extend 29 = .ok (.ifCond .lt 42, 3) := by decide +kernel
theorem dX0_extend_32 : decode cX0_extend 32 = .ok (.aload_n 0, 1) := by decide +kernel
theorem dX0_extend_33 : decode cX0_extend 33 = .ok (.getfield 16, 3) := by decide +kernel
theorem dX0_extend_36 : decode cX0_extend 36 = .ok (.iconst 4, 1) := by decide +kernel
theorem dX0_extend_37 : decode cX0_extend 37 = .ok (.iload 4, 2) := by decide +kernel
theorem dX0_extend_39 : decode cX0_extend 39 = .ok (.imul, 1) := by decide +kernel
theorem dX0_extend_40 : decode cX0_extend 40 = .ok (.iload_n 1, 1) := by decide +kernel
theorem dX0_extend_41 : decode cX0_extend 41 = .ok (.iadd, 1) := by decide +kernel
theorem dX0_extend_42 : decode cX0_extend 42 = .ok (.baload, 1) := by decide +kernel
theorem dX0_extend_43 : decode cX0_extend 43 = .ok (.ifCond .ne 28, 3) := by decide +kernel
theorem dX0_extend_46 : decode cX0_extend 46 = .ok (.aload_n 0, 1) := by decide +kernel
theorem dX0_extend_47 : decode cX0_extend 47 = .ok (.getfield 16, 3) := by decide +kernel
theorem dX0_extend_50 : decode cX0_extend 50 = .ok (.iconst 4, 1) := by decide +kernel
theorem dX0_extend_51 : decode cX0_extend 51 = .ok (.iload 4, 2) := by decide +kernel
theorem dX0_extend_53 : decode cX0_extend 53 = .ok (.imul, 1) := by decide +kernel
theorem dX0_extend_54 : decode cX0_extend 54 = .ok (.iload_n 1, 1) := by decide +kernel
theorem dX0_extend_55 : decode cX0_extend 55 = .ok (.iadd, 1) := by decide +kernel
theorem dX0_extend_56 : decode cX0_extend 56 = .ok (.iload_n 3, 1) := by decide +kernel
theorem dX0_extend_57 : decode cX0_extend 57 = .ok (.i2b, 1) := by decide +kernel
theorem dX0_extend_58 : decode cX0_extend 58 = .ok (.bastore, 1) := by decide +kernel
theorem dX0_extend_59 : decode cX0_extend 59 = .ok (.aload_n 0, 1) := by decide +kernel
theorem dX0_extend_60 : decode cX0_extend 60 = .ok (.getfield 19, 3) := by decide +kernel
theorem dX0_extend_63 : decode cX0_extend 63 = .ok (.iload 4, 2) := by decide +kernel
theorem dX0_extend_65 : decode cX0_extend 65 = .ok (.baload, 1) := by decide +kernel
theorem dX0_extend_66 : decode cX0_extend 66 = .ok (.istore 4, 2) := by decide +kernel
theorem dX0_extend_68 : decode cX0_extend 68 = .ok (.goto (-41), 3) := by decide +kernel
theorem dX0_extend_71 : decode cX0_extend 71 = .ok (.iload 4, 2) := by decide +kernel
theorem dX0_extend_73 : decode cX0_extend 73 = .ok (.ifCond .ge 11, 3) := by decide +kernel
theorem dX0_extend_76 : decode cX0_extend 76 = .ok (.aload_n 0, 1) := by decide +kernel
theorem dX0_extend_77 : decode cX0_extend 77 = .ok (.getfield 19, 3) := by decide +kernel
theorem dX0_extend_80 : decode cX0_extend 80 = .ok (.iload_n 3, 1) := by decide +kernel
theorem dX0_extend_81 : decode cX0_extend 81 = .ok (.iconst 0, 1) := by decide +kernel
theorem dX0_extend_82 : decode cX0_extend 82 = .ok (.bastore, 1) := by decide +kernel
theorem dX0_extend_83 : decode cX0_extend 83 = .ok (.return_, 1) := by decide +kernel
theorem dX0_extend_84 : decode cX0_extend 84 = .ok (.aload_n 0, 1) := by decide +kernel
theorem dX0_extend_85 : decode cX0_extend 85 = .ok (.getfield 16, 3) := by decide +kernel
theorem dX0_extend_88 : decode cX0_extend 88 = .ok (.iconst 4, 1) := by decide +kernel
theorem dX0_extend_89 : decode cX0_extend 89 = .ok (.iload 4, 2) := by decide +kernel
theorem dX0_extend_91 : decode cX0_extend 91 = .ok (.imul, 1) := by decide +kernel
theorem dX0_extend_92 : decode cX0_extend 92 = .ok (.iload_n 1, 1) := by decide +kernel
theorem dX0_extend_93 : decode cX0_extend 93 = .ok (.iadd, 1) := by decide +kernel
theorem dX0_extend_94 : decode cX0_extend 94 = .ok (.baload, 1) := by decide +kernel
theorem dX0_extend_95 : decode cX0_extend 95 = .ok (.istore 5, 2) := by decide +kernel
theorem dX0_extend_97 : decode cX0_extend 97 = .ok (.aload_n 0, 1) := by decide +kernel
theorem dX0_extend_98 : decode cX0_extend 98 = .ok (.getfield 22, 3) := by decide +kernel
theorem dX0_extend_101 : decode cX0_extend 101 = .ok (.iload 5, 2) := by decide +kernel
theorem dX0_extend_103 : decode cX0_extend 103 = .ok (.baload, 1) := by decide +kernel
theorem dX0_extend_104 : decode cX0_extend 104 = .ok (.aload_n 0, 1) := by decide +kernel
theorem dX0_extend_105 : decode cX0_extend 105 = .ok (.getfield 22, 3) := by decide +kernel
theorem dX0_extend_108 : decode cX0_extend 108 = .ok (.iload 4, 2) := by decide +kernel
theorem dX0_extend_110 : decode cX0_extend 110 = .ok (.baload, 1) := by decide +kernel
theorem dX0_extend_111 : decode cX0_extend 111 = .ok (.iconst 1, 1) := by decide +kernel
theorem dX0_extend_112 : decode cX0_extend 112 = .ok (.iadd, 1) := by decide +kernel
theorem dX0_extend_113 : decode cX0_extend 113 = .ok (.if_icmp .ne 13, 3) := by decide +kernel
theorem dX0_extend_116 : decode cX0_extend 116 = .ok (.aload_n 0, 1) := by decide +kernel
theorem dX0_extend_117 : decode cX0_extend 117 = .ok (.getfield 19, 3) := by decide +kernel
theorem dX0_extend_120 : decode cX0_extend 120 = .ok (.iload_n 3, 1) := by decide +kernel
theorem dX0_extend_121 : decode cX0_extend 121 = .ok (.iload 5, 2) := by decide +kernel
theorem dX0_extend_123 : decode cX0_extend 123 = .ok (.i2b, 1) := by decide +kernel
theorem dX0_extend_124 : decode cX0_extend 124 = .ok (.bastore, 1) := by decide +kernel
theorem dX0_extend_125 : decode cX0_extend 125 = .ok (.return_, 1) := by decide +kernel
theorem dX0_extend_126 : decode cX0_extend 126 = .ok (.aload_n 0, 1) := by decide +kernel
theorem dX0_extend_127 : decode cX0_extend 127 = .ok (.iload 5, 2) := by decide +kernel
theorem dX0_extend_129 : decode cX0_extend 129 = .ok (.aload_n 0, 1) := by decide +kernel
theorem dX0_extend_130 : decode cX0_extend 130 = .ok (.getfield 22, 3) := by decide +kernel
theorem dX0_extend_133 : decode cX0_extend 133 = .ok (.iload 4, 2) := by decide +kernel
theorem dX0_extend_135 : decode cX0_extend 135 = .ok (.baload, 1) := by decide +kernel
theorem dX0_extend_136 : decode cX0_extend 136 = .ok (.iconst 1, 1) := by decide +kernel
theorem dX0_extend_137 : decode cX0_extend 137 = .ok (.iadd, 1) := by decide +kernel
theorem dX0_extend_138 : decode cX0_extend 138 = .ok (.invokevirtual 89, 3) := by decide +kernel
theorem dX0_extend_141 : decode cX0_extend 141 = .ok (.istore 6, 2) := by decide +kernel
theorem dX0_extend_143 : decode cX0_extend 143 = .ok (.iload 4, 2) := by decide +kernel
theorem dX0_extend_145 : decode cX0_extend 145 = .ok (.ifCond .lt 45, 3) := by decide +kernel
theorem dX0_extend_148 : decode cX0_extend 148 = .ok (.aload_n 0, 1) := by decide +kernel
theorem dX0_extend_149 : decode cX0_extend 149 = .ok (.getfield 16, 3) := by decide +kernel
theorem dX0_extend_152 : decode cX0_extend 152 = .ok (.iconst 4, 1) := by decide +kernel
theorem dX0_extend_153 : decode cX0_extend 153 = .ok (.iload 4, 2) := by decide +kernel
theorem dX0_extend_155 : decode cX0_extend 155 = .ok (.imul, 1) := by decide +kernel
theorem dX0_extend_156 : decode cX0_extend 156 = .ok (.iload_n 1, 1) := by decide +kernel
theorem dX0_extend_157 : decode cX0_extend 157 = .ok (.iadd, 1) := by decide +kernel
theorem dX0_extend_158 : decode cX0_extend 158 = .ok (.baload, 1) := by decide +kernel
theorem dX0_extend_159 : decode cX0_extend 159 = .ok (.iload 5, 2) := by decide +kernel
theorem dX0_extend_161 : decode cX0_extend 161 = .ok (.if_icmp .ne 29, 3) := by decide +kernel
theorem dX0_extend_164 : decode cX0_extend 164 = .ok (.aload_n 0, 1) := by decide +kernel
theorem dX0_extend_165 : decode cX0_extend 165 = .ok (.getfield 16, 3) := by decide +kernel
theorem dX0_extend_168 : decode cX0_extend 168 = .ok (.iconst 4, 1) := by decide +kernel
theorem dX0_extend_169 : decode cX0_extend 169 = .ok (.iload 4, 2) := by decide +kernel
theorem dX0_extend_171 : decode cX0_extend 171 = .ok (.imul, 1) := by decide +kernel
theorem dX0_extend_172 : decode cX0_extend 172 = .ok (.iload_n 1, 1) := by decide +kernel
theorem dX0_extend_173 : decode cX0_extend 173 = .ok (.iadd, 1) := by decide +kernel
theorem dX0_extend_174 : decode cX0_extend 174 = .ok (.iload 6, 2) := by decide +kernel
theorem dX0_extend_176 : decode cX0_extend 176 = .ok (.i2b, 1) := by decide +kernel
theorem dX0_extend_177 : decode cX0_extend 177 = .ok (.bastore, 1) := by decide +kernel
theorem dX0_extend_178 : decode cX0_extend 178 = .ok (.aload_n 0, 1) := by decide +kernel
theorem dX0_extend_179 : decode cX0_extend 179 = .ok (.getfield 19, 3) := by decide +kernel
theorem dX0_extend_182 : decode cX0_extend 182 = .ok (.iload 4, 2) := by decide +kernel
theorem dX0_extend_184 : decode cX0_extend 184 = .ok (.baload, 1) := by decide +kernel
theorem dX0_extend_185 : decode cX0_extend 185 = .ok (.istore 4, 2) := by decide +kernel
theorem dX0_extend_187 : decode cX0_extend 187 = .ok (.goto (-44), 3) := by decide +kernel
theorem dX0_extend_190 : decode cX0_extend 190 = .ok (.aload_n 0, 1) := by decide +kernel
theorem dX0_extend_191 : decode cX0_extend 191 = .ok (.getfield 19, 3) := by decide +kernel
theorem dX0_extend_194 : decode cX0_extend 194 = .ok (.iload_n 3, 1) := by decide +kernel
theorem dX0_extend_195 : decode cX0_extend 195 = .ok (.iload 6, 2) := by decide +kernel
theorem dX0_extend_197 : decode cX0_extend 197 = .ok (.i2b, 1) := by decide +kernel
theorem dX0_extend_198 : decode cX0_extend 198 = .ok (.bastore, 1) := by decide +kernel
theorem dX0_extend_199 : decode cX0_extend 199 = .ok (.return_, 1) := by decide +kernel
abbrev cX0_split : ByteArray := prog_1_method_21_code
def yX0_split : MethodName := ⟨RX0, "split", "(II)I"⟩
theorem dX0_split_0 : decode cX0_split 0 = .ok (.aload_n 0, 1) := by decide +kernel
theorem dX0_split_1 : decode cX0_split 1 = .ok (.iload_n 2, 1) := by decide +kernel
theorem dX0_split_2 : decode cX0_split 2 = .ok (.aload_n 0, 1) := by decide +kernel
theorem dX0_split_3 : decode cX0_split 3 = .ok (.getfield 28, 3) := by decide +kernel
theorem dX0_split_6 : decode cX0_split 6 = .ok (.iload_n 1, 1) := by decide +kernel
theorem dX0_split_7 : decode cX0_split 7 = .ok (.baload, 1) := by decide +kernel
theorem dX0_split_8 : decode cX0_split 8 = .ok (.invokevirtual 70, 3) := by decide +kernel
theorem dX0_split_11 : decode cX0_split 11 = .ok (.istore_n 3, 1) := by decide +kernel
theorem dX0_split_12 : decode cX0_split 12 = .ok (.iconst 0, 1) := by decide +kernel
theorem dX0_split_13 : decode cX0_split 13 = .ok (.istore 4, 2) := by decide +kernel
theorem dX0_split_15 : decode cX0_split 15 = .ok (.iload 4, 2) := by decide +kernel
theorem dX0_split_17 : decode cX0_split 17 = .ok (.iconst 4, 1) := by decide +kernel
theorem dX0_split_18 : decode cX0_split 18 = .ok (.if_icmp .ge 31, 3) := by decide +kernel
theorem dX0_split_21 : decode cX0_split 21 = .ok (.aload_n 0, 1) := by decide +kernel
theorem dX0_split_22 : decode cX0_split 22 = .ok (.getfield 16, 3) := by decide +kernel
theorem dX0_split_25 : decode cX0_split 25 = .ok (.iconst 4, 1) := by decide +kernel
theorem dX0_split_26 : decode cX0_split 26 = .ok (.iload_n 3, 1) := by decide +kernel
theorem dX0_split_27 : decode cX0_split 27 = .ok (.imul, 1) := by decide +kernel
theorem dX0_split_28 : decode cX0_split 28 = .ok (.iload 4, 2) := by decide +kernel
theorem dX0_split_30 : decode cX0_split 30 = .ok (.iadd, 1) := by decide +kernel
theorem dX0_split_31 : decode cX0_split 31 = .ok (.aload_n 0, 1) := by decide +kernel
theorem dX0_split_32 : decode cX0_split 32 = .ok (.getfield 16, 3) := by decide +kernel
theorem dX0_split_35 : decode cX0_split 35 = .ok (.iconst 4, 1) := by decide +kernel
theorem dX0_split_36 : decode cX0_split 36 = .ok (.iload_n 1, 1) := by decide +kernel
theorem dX0_split_37 : decode cX0_split 37 = .ok (.imul, 1) := by decide +kernel
theorem dX0_split_38 : decode cX0_split 38 = .ok (.iload 4, 2) := by decide +kernel
theorem dX0_split_40 : decode cX0_split 40 = .ok (.iadd, 1) := by decide +kernel
theorem dX0_split_41 : decode cX0_split 41 = .ok (.baload, 1) := by decide +kernel
theorem dX0_split_42 : decode cX0_split 42 = .ok (.bastore, 1) := by decide +kernel
theorem dX0_split_43 : decode cX0_split 43 = .ok (.iinc 4 1, 3) := by decide +kernel
theorem dX0_split_46 : decode cX0_split 46 = .ok (.goto (-31), 3) := by decide +kernel
theorem dX0_split_49 : decode cX0_split 49 = .ok (.aload_n 0, 1) := by decide +kernel
theorem dX0_split_50 : decode cX0_split 50 = .ok (.getfield 19, 3) := by decide +kernel
theorem dX0_split_53 : decode cX0_split 53 = .ok (.iload_n 3, 1) := by decide +kernel
theorem dX0_split_54 : decode cX0_split 54 = .ok (.aload_n 0, 1) := by decide +kernel
theorem dX0_split_55 : decode cX0_split 55 = .ok (.getfield 19, 3) := by decide +kernel
theorem dX0_split_58 : decode cX0_split 58 = .ok (.iload_n 1, 1) := by decide +kernel
theorem dX0_split_59 : decode cX0_split 59 = .ok (.baload, 1) := by decide +kernel
theorem dX0_split_60 : decode cX0_split 60 = .ok (.bastore, 1) := by decide +kernel
theorem dX0_split_61 : decode cX0_split 61 = .ok (.aload_n 0, 1) := by decide +kernel
theorem dX0_split_62 : decode cX0_split 62 = .ok (.getfield 19, 3) := by decide +kernel
theorem dX0_split_65 : decode cX0_split 65 = .ok (.iload_n 1, 1) := by decide +kernel
theorem dX0_split_66 : decode cX0_split 66 = .ok (.iload_n 3, 1) := by decide +kernel
theorem dX0_split_67 : decode cX0_split 67 = .ok (.i2b, 1) := by decide +kernel
theorem dX0_split_68 : decode cX0_split 68 = .ok (.bastore, 1) := by decide +kernel
theorem dX0_split_69 : decode cX0_split 69 = .ok (.iload_n 3, 1) := by decide +kernel
theorem dX0_split_70 : decode cX0_split 70 = .ok (.ireturn, 1) := by decide +kernel
abbrev cX0_orderByLength : ByteArray := prog_1_method_22_code
def yX0_orderByLength : MethodName := ⟨RX0, "orderByLength", "()V"⟩
theorem dX0_orderByLength_0 : decode cX0_orderByLength 0 = .ok (.iconst 0, 1) := by decide +kernel
theorem dX0_orderByLength_1 : decode cX0_orderByLength 1 = .ok (.istore_n 1, 1) := by decide +kernel
theorem dX0_orderByLength_2 : decode cX0_orderByLength 2 = .ok (.iload_n 1, 1) := by decide +kernel
theorem dX0_orderByLength_3 : decode cX0_orderByLength 3 = .ok (.aload_n 0, 1) := by decide +kernel
theorem dX0_orderByLength_4 : decode cX0_orderByLength 4 = .ok (.getfield 56, 3) := by decide +kernel
theorem dX0_orderByLength_7 : decode cX0_orderByLength 7 = .ok (.if_icmp .ge 65, 3) := by decide +kernel
theorem dX0_orderByLength_10 : decode cX0_orderByLength 10 = .ok (.iload_n 1, 1) := by decide +kernel
theorem dX0_orderByLength_11 : decode cX0_orderByLength 11 = .ok (.istore_n 2, 1) := by decide +kernel
theorem dX0_orderByLength_12 : decode cX0_orderByLength 12 = .ok (.iload_n 2, 1) := by decide +kernel
theorem dX0_orderByLength_13 : decode cX0_orderByLength 13 = .ok (.ifCond .le 45, 3) := by decide +kernel
theorem dX0_orderByLength_16 : decode cX0_orderByLength 16 = .ok (.aload_n 0, 1) := by decide +kernel
theorem dX0_orderByLength_17 : decode cX0_orderByLength 17 = .ok (.getfield 22, 3) := by decide +kernel
theorem dX0_orderByLength_20 : decode cX0_orderByLength 20 = .ok (.aload_n 0, 1) := by decide +kernel
theorem dX0_orderByLength_21 : decode cX0_orderByLength 21 = .ok (.getfield 35, 3) := by decide +kernel
theorem dX0_orderByLength_24 : decode cX0_orderByLength 24 = .ok (.iload_n 2, 1) := by decide +kernel
theorem dX0_orderByLength_25 : decode cX0_orderByLength 25 = .ok (.iconst 1, 1) := by decide +kernel
theorem dX0_orderByLength_26 : decode cX0_orderByLength 26 = .ok (.isub, 1) := by decide +kernel
theorem dX0_orderByLength_27 : decode cX0_orderByLength 27 = .ok (.baload, 1) := by decide +kernel
theorem dX0_orderByLength_28 : decode cX0_orderByLength 28 = .ok (.baload, 1) := by decide +kernel
theorem dX0_orderByLength_29 : decode cX0_orderByLength 29 = .ok (.aload_n 0, 1) := by decide +kernel
theorem dX0_orderByLength_30 : decode cX0_orderByLength 30 = .ok (.getfield 22, 3) := by decide +kernel
theorem dX0_orderByLength_33 : decode cX0_orderByLength 33 = .ok (.iload_n 1, 1) := by decide +kernel
theorem dX0_orderByLength_34 : decode cX0_orderByLength 34 = .ok (.baload, 1) := by decide +kernel
theorem dX0_orderByLength_35 : decode cX0_orderByLength 35 = .ok (.if_icmp .le 23, 3) := by decide +kernel
theorem dX0_orderByLength_38 : decode cX0_orderByLength 38 = .ok (.aload_n 0, 1) := by decide +kernel
theorem dX0_orderByLength_39 : decode cX0_orderByLength 39 = .ok (.getfield 35, 3) := by decide +kernel
theorem dX0_orderByLength_42 : decode cX0_orderByLength 42 = .ok (.iload_n 2, 1) := by decide +kernel
theorem dX0_orderByLength_43 : decode cX0_orderByLength 43 = .ok (.aload_n 0, 1) := by decide +kernel
theorem dX0_orderByLength_44 : decode cX0_orderByLength 44 = .ok (.getfield 35, 3) := by decide +kernel
theorem dX0_orderByLength_47 : decode cX0_orderByLength 47 = .ok (.iload_n 2, 1) := by decide +kernel
theorem dX0_orderByLength_48 : decode cX0_orderByLength 48 = .ok (.iconst 1, 1) := by decide +kernel
theorem dX0_orderByLength_49 : decode cX0_orderByLength 49 = .ok (.isub, 1) := by decide +kernel
theorem dX0_orderByLength_50 : decode cX0_orderByLength 50 = .ok (.baload, 1) := by decide +kernel
theorem dX0_orderByLength_51 : decode cX0_orderByLength 51 = .ok (.bastore, 1) := by decide +kernel
theorem dX0_orderByLength_52 : decode cX0_orderByLength 52 = .ok (.iinc 2 (-1), 3) := by decide +kernel
theorem dX0_orderByLength_55 : decode cX0_orderByLength 55 = .ok (.goto (-43), 3) := by decide +kernel
theorem dX0_orderByLength_58 : decode cX0_orderByLength 58 = .ok (.aload_n 0, 1) := by decide +kernel
theorem dX0_orderByLength_59 : decode cX0_orderByLength 59 = .ok (.getfield 35, 3) := by decide +kernel
theorem dX0_orderByLength_62 : decode cX0_orderByLength 62 = .ok (.iload_n 2, 1) := by decide +kernel
theorem dX0_orderByLength_63 : decode cX0_orderByLength 63 = .ok (.iload_n 1, 1) := by decide +kernel
theorem dX0_orderByLength_64 : decode cX0_orderByLength 64 = .ok (.i2b, 1) := by decide +kernel
theorem dX0_orderByLength_65 : decode cX0_orderByLength 65 = .ok (.bastore, 1) := by decide +kernel
theorem dX0_orderByLength_66 : decode cX0_orderByLength 66 = .ok (.iinc 1 1, 3) := by decide +kernel
theorem dX0_orderByLength_69 : decode cX0_orderByLength 69 = .ok (.goto (-67), 3) := by decide +kernel
theorem dX0_orderByLength_72 : decode cX0_orderByLength 72 = .ok (.return_, 1) := by decide +kernel
abbrev cX0_countTimes : ByteArray := prog_1_method_23_code
def yX0_countTimes : MethodName := ⟨RX0, "countTimes", "()V"⟩
theorem dX0_countTimes_0 : decode cX0_countTimes 0 = .ok (.aload_n 0, 1) := by decide +kernel
theorem dX0_countTimes_1 : decode cX0_countTimes 1 = .ok (.getfield 56, 3) := by decide +kernel
theorem dX0_countTimes_4 : decode cX0_countTimes 4 = .ok (.iconst 1, 1) := by decide +kernel
theorem dX0_countTimes_5 : decode cX0_countTimes 5 = .ok (.isub, 1) := by decide +kernel
theorem dX0_countTimes_6 : decode cX0_countTimes 6 = .ok (.istore_n 1, 1) := by decide +kernel
theorem dX0_countTimes_7 : decode cX0_countTimes 7 = .ok (.iload_n 1, 1) := by decide +kernel
theorem dX0_countTimes_8 : decode cX0_countTimes 8 = .ok (.ifCond .le 37, 3) := by decide +kernel
theorem dX0_countTimes_11 : decode cX0_countTimes 11 = .ok (.aload_n 0, 1) := by decide +kernel
theorem dX0_countTimes_12 : decode cX0_countTimes 12 = .ok (.getfield 35, 3) := by decide +kernel
theorem dX0_countTimes_15 : decode cX0_countTimes 15 = .ok (.iload_n 1, 1) := by decide +kernel
theorem dX0_countTimes_16 : decode cX0_countTimes 16 = .ok (.baload, 1) := by decide +kernel
theorem dX0_countTimes_17 : decode cX0_countTimes 17 = .ok (.istore_n 2, 1) := by decide +kernel
theorem dX0_countTimes_18 : decode cX0_countTimes 18 = .ok (.aload_n 0, 1) := by decide +kernel
theorem dX0_countTimes_19 : decode cX0_countTimes 19 = .ok (.getfield 25, 3) := by decide +kernel
theorem dX0_countTimes_22 : decode cX0_countTimes 22 = .ok (.aload_n 0, 1) := by decide +kernel
theorem dX0_countTimes_23 : decode cX0_countTimes 23 = .ok (.getfield 19, 3) := by decide +kernel
theorem dX0_countTimes_26 : decode cX0_countTimes 26 = .ok (.iload_n 2, 1) := by decide +kernel
theorem dX0_countTimes_27 : decode cX0_countTimes 27 = .ok (.baload, 1) := by decide +kernel
theorem dX0_countTimes_28 : decode cX0_countTimes 28 = .ok (.dup2, 1) := by decide +kernel
theorem dX0_countTimes_29 : decode cX0_countTimes 29 = .ok (.baload, 1) := by decide +kernel
theorem dX0_countTimes_30 : decode cX0_countTimes 30 = .ok (.aload_n 0, 1) := by decide +kernel
theorem dX0_countTimes_31 : decode cX0_countTimes 31 = .ok (.getfield 25, 3) := by decide +kernel
theorem dX0_countTimes_34 : decode cX0_countTimes 34 = .ok (.iload_n 2, 1) := by decide +kernel
theorem dX0_countTimes_35 : decode cX0_countTimes 35 = .ok (.baload, 1) := by decide +kernel
theorem dX0_countTimes_36 : decode cX0_countTimes 36 = .ok (.iadd, 1) := by decide +kernel
theorem dX0_countTimes_37 : decode cX0_countTimes 37 = .ok (.i2b, 1) := by decide +kernel
theorem dX0_countTimes_38 : decode cX0_countTimes 38 = .ok (.bastore, 1) := by decide +kernel
theorem dX0_countTimes_39 : decode cX0_countTimes 39 = .ok (.iinc 1 (-1), 3) := by decide +kernel
theorem dX0_countTimes_42 : decode cX0_countTimes 42 = .ok (.goto (-35), 3) := by decide +kernel
theorem dX0_countTimes_45 : decode cX0_countTimes 45 = .ok (.return_, 1) := by decide +kernel
abbrev cX0_countWords : ByteArray := prog_1_method_24_code
def yX0_countWords : MethodName := ⟨RX0, "countWords", "()V"⟩
theorem dX0_countWords_0 : decode cX0_countWords 0 = .ok (.aload_n 0, 1) := by decide +kernel
theorem dX0_countWords_1 : decode cX0_countWords 1 = .ok (.getfield 56, 3) := by decide +kernel
theorem dX0_countWords_4 : decode cX0_countWords 4 = .ok (.iconst 1, 1) := by decide +kernel
theorem dX0_countWords_5 : decode cX0_countWords 5 = .ok (.isub, 1) := by decide +kernel
theorem dX0_countWords_6 : decode cX0_countWords 6 = .ok (.istore_n 1, 1) := by decide +kernel
theorem dX0_countWords_7 : decode cX0_countWords 7 = .ok (.iload_n 1, 1) := by decide +kernel
theorem dX0_countWords_8 : decode cX0_countWords 8 = .ok (.ifCond .lt 71, 3) := by decide +kernel
theorem dX0_countWords_11 : decode cX0_countWords 11 = .ok (.aload_n 0, 1) := by decide +kernel
theorem dX0_countWords_12 : decode cX0_countWords 12 = .ok (.getfield 35, 3) := by decide +kernel
theorem dX0_countWords_15 : decode cX0_countWords 15 = .ok (.iload_n 1, 1) := by decide +kernel
theorem dX0_countWords_16 : decode cX0_countWords 16 = .ok (.baload, 1) := by decide +kernel
theorem dX0_countWords_17 : decode cX0_countWords 17 = .ok (.istore_n 2, 1) := by decide +kernel
theorem dX0_countWords_18 : decode cX0_countWords 18 = .ok (.iconst 0, 1) := by decide +kernel
theorem dX0_countWords_19 : decode cX0_countWords 19 = .ok (.istore_n 3, 1) := by decide +kernel
theorem dX0_countWords_20 : decode cX0_countWords 20 = .ok (.iconst 0, 1) := by decide +kernel
theorem dX0_countWords_21 : decode cX0_countWords 21 = .ok (.istore 4, 2) := by decide +kernel
theorem dX0_countWords_23 : decode cX0_countWords 23 = .ok (.iload 4, 2) := by decide +kernel
theorem dX0_countWords_25 : decode cX0_countWords 25 = .ok (.iconst 4, 1) := by decide +kernel
theorem dX0_countWords_26 : decode cX0_countWords 26 = .ok (.if_icmp .ge 39, 3) := by decide +kernel
theorem dX0_countWords_29 : decode cX0_countWords 29 = .ok (.aload_n 0, 1) := by decide +kernel
theorem dX0_countWords_30 : decode cX0_countWords 30 = .ok (.getfield 16, 3) := by decide +kernel
theorem dX0_countWords_33 : decode cX0_countWords 33 = .ok (.iconst 4, 1) := by decide +kernel
theorem dX0_countWords_34 : decode cX0_countWords 34 = .ok (.iload_n 2, 1) := by decide +kernel
theorem dX0_countWords_35 : decode cX0_countWords 35 = .ok (.imul, 1) := by decide +kernel
theorem dX0_countWords_36 : decode cX0_countWords 36 = .ok (.iload 4, 2) := by decide +kernel
theorem dX0_countWords_38 : decode cX0_countWords 38 = .ok (.iadd, 1) := by decide +kernel
theorem dX0_countWords_39 : decode cX0_countWords 39 = .ok (.baload, 1) := by decide +kernel
theorem dX0_countWords_40 : decode cX0_countWords 40 = .ok (.istore 5, 2) := by decide +kernel
theorem dX0_countWords_42 : decode cX0_countWords 42 = .ok (.iload 5, 2) := by decide +kernel
theorem dX0_countWords_44 : decode cX0_countWords 44 = .ok (.ifCond .eq 15, 3) := by decide +kernel
theorem dX0_countWords_47 : decode cX0_countWords 47 = .ok (.iload_n 3, 1) := by decide +kernel
theorem dX0_countWords_48 : decode cX0_countWords 48 = .ok (.iconst 1, 1) := by decide +kernel
theorem dX0_countWords_49 : decode cX0_countWords 49 = .ok (.aload_n 0, 1) := by decide +kernel
theorem dX0_countWords_50 : decode cX0_countWords 50 = .ok (.getfield 31, 3) := by decide +kernel
theorem dX0_countWords_53 : decode cX0_countWords 53 = .ok (.iload 5, 2) := by decide +kernel
theorem dX0_countWords_55 : decode cX0_countWords 55 = .ok (.saload, 1) := by decide +kernel
theorem dX0_countWords_56 : decode cX0_countWords 56 = .ok (.iadd, 1) := by decide +kernel
theorem dX0_countWords_57 : decode cX0_countWords 57 = .ok (.iadd, 1) := by decide +kernel
theorem dX0_countWords_58 : decode cX0_countWords 58 = .ok (.istore_n 3, 1) := by decide +kernel
theorem dX0_countWords_59 : decode cX0_countWords 59 = .ok (.iinc 4 1, 3) := by decide +kernel
theorem dX0_countWords_62 : decode cX0_countWords 62 = .ok (.goto (-39), 3) := by decide +kernel
theorem dX0_countWords_65 : decode cX0_countWords 65 = .ok (.aload_n 0, 1) := by decide +kernel
theorem dX0_countWords_66 : decode cX0_countWords 66 = .ok (.getfield 31, 3) := by decide +kernel
theorem dX0_countWords_69 : decode cX0_countWords 69 = .ok (.iload_n 2, 1) := by decide +kernel
theorem dX0_countWords_70 : decode cX0_countWords 70 = .ok (.iload_n 3, 1) := by decide +kernel
theorem dX0_countWords_71 : decode cX0_countWords 71 = .ok (.i2s, 1) := by decide +kernel
theorem dX0_countWords_72 : decode cX0_countWords 72 = .ok (.sastore, 1) := by decide +kernel
theorem dX0_countWords_73 : decode cX0_countWords 73 = .ok (.iinc 1 (-1), 3) := by decide +kernel
theorem dX0_countWords_76 : decode cX0_countWords 76 = .ok (.goto (-69), 3) := by decide +kernel
theorem dX0_countWords_79 : decode cX0_countWords 79 = .ok (.return_, 1) := by decide +kernel
abbrev cX0_place : ByteArray := prog_1_method_7_code
def yX0_place : MethodName := ⟨RX0, "place", "()I"⟩
theorem dX0_place_0 : decode cX0_place 0 = .ok (.aload_n 0, 1) := by decide +kernel
theorem dX0_place_1 : decode cX0_place 1 = .ok (.getfield 46, 3) := by decide +kernel
theorem dX0_place_4 : decode cX0_place 4 = .ok (.ifCond .ne 6, 3) := by decide +kernel
theorem dX0_place_7 : decode cX0_place 7 = .ok (.bipush (-3), 2) := by decide +kernel
theorem dX0_place_9 : decode cX0_place 9 = .ok (.ireturn, 1) := by decide +kernel
theorem dX0_place_10 : decode cX0_place 10 = .ok (.aload_n 0, 1) := by decide +kernel
theorem dX0_place_11 : decode cX0_place 11 = .ok (.invokevirtual 49, 3) := by decide +kernel
theorem dX0_place_14 : decode cX0_place 14 = .ok (.istore_n 1, 1) := by decide +kernel
theorem dX0_place_15 : decode cX0_place 15 = .ok (.iload_n 1, 1) := by decide +kernel
theorem dX0_place_16 : decode cX0_place 16 = .ok (.ifCond .ne 8, 3) := by decide +kernel
theorem dX0_place_19 : decode cX0_place 19 = .ok (.bipush (-3), 2) := by decide +kernel
theorem dX0_place_21 : decode cX0_place 21 = .ok (.goto 16, 3) := by decide +kernel
theorem dX0_place_24 : decode cX0_place 24 = .ok (.aload_n 0, 1) := by decide +kernel
theorem dX0_place_25 : decode cX0_place 25 = .ok (.getfield 28, 3) := by decide +kernel
theorem dX0_place_28 : decode cX0_place 28 = .ok (.iload_n 1, 1) := by decide +kernel
theorem dX0_place_29 : decode cX0_place 29 = .ok (.baload, 1) := by decide +kernel
theorem dX0_place_30 : decode cX0_place 30 = .ok (.aload_n 0, 1) := by decide +kernel
theorem dX0_place_31 : decode cX0_place 31 = .ok (.getfield 46, 3) := by decide +kernel
theorem dX0_place_34 : decode cX0_place 34 = .ok (.isub, 1) := by decide +kernel
theorem dX0_place_35 : decode cX0_place 35 = .ok (.iconst 1, 1) := by decide +kernel
theorem dX0_place_36 : decode cX0_place 36 = .ok (.iadd, 1) := by decide +kernel
theorem dX0_place_37 : decode cX0_place 37 = .ok (.ireturn, 1) := by decide +kernel
abbrev cX0_words : ByteArray := prog_1_method_8_code
def yX0_words : MethodName := ⟨RX0, "words", "()I"⟩
theorem dX0_words_0 : decode cX0_words 0 = .ok (.aload_n 0, 1) := by decide +kernel
theorem dX0_words_1 : decode cX0_words 1 = .ok (.invokevirtual 53, 3) := by decide +kernel
theorem dX0_words_4 : decode cX0_words 4 = .ok (.aload_n 0, 1) := by decide +kernel
theorem dX0_words_5 : decode cX0_words 5 = .ok (.getfield 31, 3) := by decide +kernel
theorem dX0_words_8 : decode cX0_words 8 = .ok (.iconst 0, 1) := by decide +kernel
theorem dX0_words_9 : decode cX0_words 9 = .ok (.saload, 1) := by decide +kernel
theorem dX0_words_10 : decode cX0_words 10 = .ok (.ireturn, 1) := by decide +kernel
abbrev cX0_longest : ByteArray := prog_1_method_9_code
def yX0_longest : MethodName := ⟨RX0, "longest", "(I)I"⟩
theorem dX0_longest_0 : decode cX0_longest 0 = .ok (.iload_n 1, 1) := by decide +kernel
theorem dX0_longest_1 : decode cX0_longest 1 = .ok (.iconst 1, 1) := by decide +kernel
theorem dX0_longest_2 : decode cX0_longest 2 = .ok (.if_icmp .lt 9, 3) := by decide +kernel
theorem dX0_longest_5 : decode cX0_longest 5 = .ok (.iload_n 1, 1) := by decide +kernel
theorem dX0_longest_6 : decode cX0_longest 6 = .ok (.bipush 24, 2) := by decide +kernel
theorem dX0_longest_8 : decode cX0_longest 8 = .ok (.if_icmp .le 6, 3) := by decide +kernel
theorem dX0_longest_11 : decode cX0_longest 11 = .ok (.bipush (-2), 2) := by decide +kernel
theorem dX0_longest_13 : decode cX0_longest 13 = .ok (.ireturn, 1) := by decide +kernel
theorem dX0_longest_14 : decode cX0_longest 14 = .ok (.aload_n 0, 1) := by decide +kernel
theorem dX0_longest_15 : decode cX0_longest 15 = .ok (.invokevirtual 53, 3) := by decide +kernel
theorem dX0_longest_18 : decode cX0_longest 18 = .ok (.iconst 0, 1) := by decide +kernel
theorem dX0_longest_19 : decode cX0_longest 19 = .ok (.istore_n 2, 1) := by decide +kernel
theorem dX0_longest_20 : decode cX0_longest 20 = .ok (.iconst 1, 1) := by decide +kernel
theorem dX0_longest_21 : decode cX0_longest 21 = .ok (.istore_n 3, 1) := by decide +kernel
theorem dX0_longest_22 : decode cX0_longest 22 = .ok (.iload_n 3, 1) := by decide +kernel
theorem dX0_longest_23 : decode cX0_longest 23 = .ok (.aload_n 0, 1) := by decide +kernel
theorem dX0_longest_24 : decode cX0_longest 24 = .ok (.getfield 56, 3) := by decide +kernel
theorem dX0_longest_27 : decode cX0_longest 27 = .ok (.if_icmp .ge 36, 3) := by decide +kernel
theorem dX0_longest_30 : decode cX0_longest 30 = .ok (.aload_n 0, 1) := by decide +kernel
theorem dX0_longest_31 : decode cX0_longest 31 = .ok (.getfield 25, 3) := by decide +kernel
theorem dX0_longest_34 : decode cX0_longest 34 = .ok (.iload_n 3, 1) := by decide +kernel
theorem dX0_longest_35 : decode cX0_longest 35 = .ok (.baload, 1) := by decide +kernel
theorem dX0_longest_36 : decode cX0_longest 36 = .ok (.iload_n 1, 1) := by decide +kernel
theorem dX0_longest_37 : decode cX0_longest 37 = .ok (.if_icmp .lt 20, 3) := by decide +kernel
theorem dX0_longest_40 : decode cX0_longest 40 = .ok (.aload_n 0, 1) := by decide +kernel
theorem dX0_longest_41 : decode cX0_longest 41 = .ok (.getfield 22, 3) := by decide +kernel
theorem dX0_longest_44 : decode cX0_longest 44 = .ok (.iload_n 3, 1) := by decide +kernel
theorem dX0_longest_45 : decode cX0_longest 45 = .ok (.baload, 1) := by decide +kernel
theorem dX0_longest_46 : decode cX0_longest 46 = .ok (.iload_n 2, 1) := by decide +kernel
theorem dX0_longest_47 : decode cX0_longest 47 = .ok (.if_icmp .le 10, 3) := by decide +kernel
theorem dX0_longest_50 : decode cX0_longest 50 = .ok (.aload_n 0, 1) := by decide +kernel
theorem dX0_longest_51 : decode cX0_longest 51 = .ok (.getfield 22, 3) := by decide +kernel
theorem dX0_longest_54 : decode cX0_longest 54 = .ok (.iload_n 3, 1) := by decide +kernel
theorem dX0_longest_55 : decode cX0_longest 55 = .ok (.baload, 1) := by decide +kernel
theorem dX0_longest_56 : decode cX0_longest 56 = .ok (.istore_n 2, 1) := by decide +kernel
theorem dX0_longest_57 : decode cX0_longest 57 = .ok (.iinc 3 1, 3) := by decide +kernel
theorem dX0_longest_60 : decode cX0_longest 60 = .ok (.goto (-38), 3) := by decide +kernel
theorem dX0_longest_63 : decode cX0_longest 63 = .ok (.iload_n 2, 1) := by decide +kernel
theorem dX0_longest_64 : decode cX0_longest 64 = .ok (.ireturn, 1) := by decide +kernel
abbrev cX0_repeats : ByteArray := prog_1_method_10_code
def yX0_repeats : MethodName := ⟨RX0, "repeats", "()I"⟩
theorem dX0_repeats_0 : decode cX0_repeats 0 = .ok (.aload_n 0, 1) := by decide +kernel
theorem dX0_repeats_1 : decode cX0_repeats 1 = .ok (.invokevirtual 53, 3) := by decide +kernel
theorem dX0_repeats_4 : decode cX0_repeats 4 = .ok (.iconst 0, 1) := by decide +kernel
theorem dX0_repeats_5 : decode cX0_repeats 5 = .ok (.istore_n 1, 1) := by decide +kernel
theorem dX0_repeats_6 : decode cX0_repeats 6 = .ok (.iconst 1, 1) := by decide +kernel
theorem dX0_repeats_7 : decode cX0_repeats 7 = .ok (.istore_n 2, 1) := by decide +kernel
theorem dX0_repeats_8 : decode cX0_repeats 8 = .ok (.iload_n 2, 1) := by decide +kernel
theorem dX0_repeats_9 : decode cX0_repeats 9 = .ok (.aload_n 0, 1) := by decide +kernel
theorem dX0_repeats_10 : decode cX0_repeats 10 = .ok (.getfield 56, 3) := by decide +kernel
theorem dX0_repeats_13 : decode cX0_repeats 13 = .ok (.if_icmp .ge 30, 3) := by decide +kernel
theorem dX0_repeats_16 : decode cX0_repeats 16 = .ok (.aload_n 0, 1) := by decide +kernel
theorem dX0_repeats_17 : decode cX0_repeats 17 = .ok (.getfield 25, 3) := by decide +kernel
theorem dX0_repeats_20 : decode cX0_repeats 20 = .ok (.iload_n 2, 1) := by decide +kernel
theorem dX0_repeats_21 : decode cX0_repeats 21 = .ok (.baload, 1) := by decide +kernel
theorem dX0_repeats_22 : decode cX0_repeats 22 = .ok (.iconst 2, 1) := by decide +kernel
theorem dX0_repeats_23 : decode cX0_repeats 23 = .ok (.if_icmp .lt 14, 3) := by decide +kernel
theorem dX0_repeats_26 : decode cX0_repeats 26 = .ok (.aload_n 0, 1) := by decide +kernel
theorem dX0_repeats_27 : decode cX0_repeats 27 = .ok (.iload_n 2, 1) := by decide +kernel
theorem dX0_repeats_28 : decode cX0_repeats 28 = .ok (.invokevirtual 59, 3) := by decide +kernel
theorem dX0_repeats_31 : decode cX0_repeats 31 = .ok (.ifCond .eq 6, 3) := by decide +kernel
theorem dX0_repeats_34 : decode cX0_repeats 34 = .ok (.iinc 1 1, 3) := by decide +kernel
theorem dX0_repeats_37 : decode cX0_repeats 37 = .ok (.iinc 2 1, 3) := by decide +kernel
theorem dX0_repeats_40 : decode cX0_repeats 40 = .ok (.goto (-32), 3) := by decide +kernel
theorem dX0_repeats_43 : decode cX0_repeats 43 = .ok (.iload_n 1, 1) := by decide +kernel
theorem dX0_repeats_44 : decode cX0_repeats 44 = .ok (.ireturn, 1) := by decide +kernel
abbrev cX0_losesByEveryLetter : ByteArray := prog_1_method_11_code
def yX0_losesByEveryLetter : MethodName := ⟨RX0, "losesByEveryLetter", "(I)Z"⟩
theorem dX0_losesByEveryLetter_0 : decode cX0_losesByEveryLetter 0 = .ok (.iconst 0, 1) := by decide +kernel
theorem dX0_losesByEveryLetter_1 : decode cX0_losesByEveryLetter 1 = .ok (.istore_n 2, 1) := by decide +kernel
theorem dX0_losesByEveryLetter_2 : decode cX0_losesByEveryLetter 2 = .ok (.iload_n 2, 1) := by decide +kernel
theorem dX0_losesByEveryLetter_3 : decode cX0_losesByEveryLetter 3 = .ok (.iconst 4, 1) := by decide +kernel
theorem dX0_losesByEveryLetter_4 : decode cX0_losesByEveryLetter 4 = .ok (.if_icmp .ge 41, 3) := by decide +kernel
theorem dX0_losesByEveryLetter_7 : decode cX0_losesByEveryLetter 7 = .ok (.aload_n 0, 1) := by decide +kernel
theorem dX0_losesByEveryLetter_8 : decode cX0_losesByEveryLetter 8 = .ok (.getfield 16, 3) := by decide +kernel
theorem dX0_losesByEveryLetter_11 : decode cX0_losesByEveryLetter 11 = .ok (.iconst 4, 1) := by decide +kernel
theorem dX0_losesByEveryLetter_12 : decode cX0_losesByEveryLetter 12 = .ok (.iload_n 1, 1) := by decide +kernel
theorem dX0_losesByEveryLetter_13 : decode cX0_losesByEveryLetter 13 = .ok (.imul, 1) := by decide +kernel
theorem dX0_losesByEveryLetter_14 : decode cX0_losesByEveryLetter 14 = .ok (.iload_n 2, 1) := by decide +kernel
theorem dX0_losesByEveryLetter_15 : decode cX0_losesByEveryLetter 15 = .ok (.iadd, 1) := by decide +kernel
theorem dX0_losesByEveryLetter_16 : decode cX0_losesByEveryLetter 16 = .ok (.baload, 1) := by decide +kernel
theorem dX0_losesByEveryLetter_17 : decode cX0_losesByEveryLetter 17 = .ok (.istore_n 3, 1) := by decide +kernel
theorem dX0_losesByEveryLetter_18 : decode cX0_losesByEveryLetter 18 = .ok (.iload_n 3, 1) := by decide +kernel
theorem dX0_losesByEveryLetter_19 : decode cX0_losesByEveryLetter 19 = .ok (.ifCond .eq 20, 3) := by decide +kernel
theorem dX0_losesByEveryLetter_22 : decode cX0_losesByEveryLetter 22 = .ok (.aload_n 0, 1) := by decide +kernel
theorem dX0_losesByEveryLetter_23 : decode cX0_losesByEveryLetter 23 = .ok (.getfield 25, 3) := by decide +kernel
theorem dX0_losesByEveryLetter_26 : decode cX0_losesByEveryLetter 26 = .ok (.iload_n 3, 1) := by decide +kernel
theorem dX0_losesByEveryLetter_27 : decode cX0_losesByEveryLetter 27 = .ok (.baload, 1) := by decide +kernel
theorem dX0_losesByEveryLetter_28 : decode cX0_losesByEveryLetter 28 = .ok (.aload_n 0, 1) := by decide +kernel
theorem dX0_losesByEveryLetter_29 : decode cX0_losesByEveryLetter 29 = .ok (.getfield 25, 3) := by decide +kernel
theorem dX0_losesByEveryLetter_32 : decode cX0_losesByEveryLetter 32 = .ok (.iload_n 1, 1) := by decide +kernel
theorem dX0_losesByEveryLetter_33 : decode cX0_losesByEveryLetter 33 = .ok (.baload, 1) := by decide +kernel
theorem dX0_losesByEveryLetter_34 : decode cX0_losesByEveryLetter 34 = .ok (.if_icmp .ne 5, 3) := by decide +kernel
theorem dX0_losesByEveryLetter_37 : decode cX0_losesByEveryLetter 37 = .ok (.iconst 0, 1) := by decide +kernel
theorem dX0_losesByEveryLetter_38 : decode cX0_losesByEveryLetter 38 = .ok (.ireturn, 1) := by decide +kernel
theorem dX0_losesByEveryLetter_39 : decode cX0_losesByEveryLetter 39 = .ok (.iinc 2 1, 3) := by decide +kernel
theorem dX0_losesByEveryLetter_42 : decode cX0_losesByEveryLetter 42 = .ok (.goto (-40), 3) := by decide +kernel
theorem dX0_losesByEveryLetter_45 : decode cX0_losesByEveryLetter 45 = .ok (.iconst 1, 1) := by decide +kernel
theorem dX0_losesByEveryLetter_46 : decode cX0_losesByEveryLetter 46 = .ok (.ireturn, 1) := by decide +kernel
abbrev cX0_word : ByteArray := prog_1_method_12_code
def yX0_word : MethodName := ⟨RX0, "word", "(I)I"⟩
theorem dX0_word_0 : decode cX0_word 0 = .ok (.aload_n 0, 1) := by decide +kernel
theorem dX0_word_1 : decode cX0_word 1 = .ok (.invokevirtual 53, 3) := by decide +kernel
theorem dX0_word_4 : decode cX0_word 4 = .ok (.iload_n 1, 1) := by decide +kernel
theorem dX0_word_5 : decode cX0_word 5 = .ok (.ifCond .lt 13, 3) := by decide +kernel
theorem dX0_word_8 : decode cX0_word 8 = .ok (.iload_n 1, 1) := by decide +kernel
theorem dX0_word_9 : decode cX0_word 9 = .ok (.aload_n 0, 1) := by decide +kernel
theorem dX0_word_10 : decode cX0_word 10 = .ok (.getfield 31, 3) := by decide +kernel
theorem dX0_word_13 : decode cX0_word 13 = .ok (.iconst 0, 1) := by decide +kernel
theorem dX0_word_14 : decode cX0_word 14 = .ok (.saload, 1) := by decide +kernel
theorem dX0_word_15 : decode cX0_word 15 = .ok (.if_icmp .lt 6, 3) := by decide +kernel
theorem dX0_word_18 : decode cX0_word 18 = .ok (.bipush (-3), 2) := by decide +kernel
theorem dX0_word_20 : decode cX0_word 20 = .ok (.ireturn, 1) := by decide +kernel
theorem dX0_word_21 : decode cX0_word 21 = .ok (.iload_n 1, 1) := by decide +kernel
theorem dX0_word_22 : decode cX0_word 22 = .ok (.istore_n 2, 1) := by decide +kernel
theorem dX0_word_23 : decode cX0_word 23 = .ok (.iconst 0, 1) := by decide +kernel
theorem dX0_word_24 : decode cX0_word 24 = .ok (.istore_n 3, 1) := by decide +kernel
theorem dX0_word_25 : decode cX0_word 25 = .ok (.iconst 0, 1) := by decide +kernel
theorem dX0_word_26 : decode cX0_word 26 = .ok (.istore 4, 2) := by decide +kernel
theorem dX0_word_28 : decode cX0_word 28 = .ok (.iload_n 2, 1) := by decide +kernel
theorem dX0_word_29 : decode cX0_word 29 = .ok (.ifCond .lt 21, 3) := by decide +kernel
theorem dX0_word_32 : decode cX0_word 32 = .ok (.aload_n 0, 1) := by decide +kernel
theorem dX0_word_33 : decode cX0_word 33 = .ok (.iload_n 3, 1) := by decide +kernel
theorem dX0_word_34 : decode cX0_word 34 = .ok (.iload_n 2, 1) := by decide +kernel
theorem dX0_word_35 : decode cX0_word 35 = .ok (.invokevirtual 63, 3) := by decide +kernel
theorem dX0_word_38 : decode cX0_word 38 = .ok (.istore_n 3, 1) := by decide +kernel
theorem dX0_word_39 : decode cX0_word 39 = .ok (.aload_n 0, 1) := by decide +kernel
theorem dX0_word_40 : decode cX0_word 40 = .ok (.getfield 67, 3) := by decide +kernel
theorem dX0_word_43 : decode cX0_word 43 = .ok (.istore_n 2, 1) := by decide +kernel
theorem dX0_word_44 : decode cX0_word 44 = .ok (.iinc 4 1, 3) := by decide +kernel
theorem dX0_word_47 : decode cX0_word 47 = .ok (.goto (-19), 3) := by decide +kernel
theorem dX0_word_50 : decode cX0_word 50 = .ok (.bipush 25, 2) := by decide +kernel
theorem dX0_word_52 : decode cX0_word 52 = .ok (.aload_n 0, 1) := by decide +kernel
theorem dX0_word_53 : decode cX0_word 53 = .ok (.getfield 28, 3) := by decide +kernel
theorem dX0_word_56 : decode cX0_word 56 = .ok (.iload_n 3, 1) := by decide +kernel
theorem dX0_word_57 : decode cX0_word 57 = .ok (.baload, 1) := by decide +kernel
theorem dX0_word_58 : decode cX0_word 58 = .ok (.iload 4, 2) := by decide +kernel
theorem dX0_word_60 : decode cX0_word 60 = .ok (.isub, 1) := by decide +kernel
theorem dX0_word_61 : decode cX0_word 61 = .ok (.iconst 1, 1) := by decide +kernel
theorem dX0_word_62 : decode cX0_word 62 = .ok (.iadd, 1) := by decide +kernel
theorem dX0_word_63 : decode cX0_word 63 = .ok (.imul, 1) := by decide +kernel
theorem dX0_word_64 : decode cX0_word 64 = .ok (.iload 4, 2) := by decide +kernel
theorem dX0_word_66 : decode cX0_word 66 = .ok (.iadd, 1) := by decide +kernel
theorem dX0_word_67 : decode cX0_word 67 = .ok (.ireturn, 1) := by decide +kernel
abbrev cX0_stepTowards : ByteArray := prog_1_method_13_code
def yX0_stepTowards : MethodName := ⟨RX0, "stepTowards", "(II)I"⟩
theorem dX0_stepTowards_0 : decode cX0_stepTowards 0 = .ok (.iload_n 2, 1) := by decide +kernel
theorem dX0_stepTowards_1 : decode cX0_stepTowards 1 = .ok (.istore_n 3, 1) := by decide +kernel
theorem dX0_stepTowards_2 : decode cX0_stepTowards 2 = .ok (.iconst 0, 1) := by decide +kernel
theorem dX0_stepTowards_3 : decode cX0_stepTowards 3 = .ok (.istore 4, 2) := by decide +kernel
theorem dX0_stepTowards_5 : decode cX0_stepTowards 5 = .ok (.iload 4, 2) := by decide +kernel
theorem dX0_stepTowards_7 : decode cX0_stepTowards 7 = .ok (.iconst 4, 1) := by decide +kernel
theorem dX0_stepTowards_8 : decode cX0_stepTowards 8 = .ok (.if_icmp .ge 62, 3) := by decide +kernel
theorem dX0_stepTowards_11 : decode cX0_stepTowards 11 = .ok (.aload_n 0, 1) := by decide +kernel
theorem dX0_stepTowards_12 : decode cX0_stepTowards 12 = .ok (.getfield 16, 3) := by decide +kernel
theorem dX0_stepTowards_15 : decode cX0_stepTowards 15 = .ok (.iconst 4, 1) := by decide +kernel
theorem dX0_stepTowards_16 : decode cX0_stepTowards 16 = .ok (.iload_n 1, 1) := by decide +kernel
theorem dX0_stepTowards_17 : decode cX0_stepTowards 17 = .ok (.imul, 1) := by decide +kernel
theorem dX0_stepTowards_18 : decode cX0_stepTowards 18 = .ok (.iload 4, 2) := by decide +kernel
theorem dX0_stepTowards_20 : decode cX0_stepTowards 20 = .ok (.iadd, 1) := by decide +kernel
theorem dX0_stepTowards_21 : decode cX0_stepTowards 21 = .ok (.baload, 1) := by decide +kernel
theorem dX0_stepTowards_22 : decode cX0_stepTowards 22 = .ok (.istore 5, 2) := by decide +kernel
theorem dX0_stepTowards_24 : decode cX0_stepTowards 24 = .ok (.iload 5, 2) := by decide +kernel
theorem dX0_stepTowards_26 : decode cX0_stepTowards 26 = .ok (.ifCond .ne 6, 3) := by decide +kernel
theorem dX0_stepTowards_29 : decode cX0_stepTowards 29 = .ok (.goto 35, 3) := by decide +kernel
theorem dX0_stepTowards_32 : decode cX0_stepTowards 32 = .ok (.iconst 1, 1) := by decide +kernel
theorem dX0_stepTowards_33 : decode cX0_stepTowards 33 = .ok (.aload_n 0, 1) := by decide +kernel
theorem dX0_stepTowards_34 : decode cX0_stepTowards 34 = .ok (.getfield 31, 3) := by decide +kernel
theorem dX0_stepTowards_37 : decode cX0_stepTowards 37 = .ok (.iload 5, 2) := by decide +kernel
theorem dX0_stepTowards_39 : decode cX0_stepTowards 39 = .ok (.saload, 1) := by decide +kernel
theorem dX0_stepTowards_40 : decode cX0_stepTowards 40 = .ok (.iadd, 1) := by decide +kernel
theorem dX0_stepTowards_41 : decode cX0_stepTowards 41 = .ok (.istore 6, 2) := by decide +kernel
theorem dX0_stepTowards_43 : decode cX0_stepTowards 43 = .ok (.iload_n 3, 1) := by decide +kernel
theorem dX0_stepTowards_44 : decode cX0_stepTowards 44 = .ok (.iload 6, 2) := by decide +kernel
theorem dX0_stepTowards_46 : decode cX0_stepTowards 46 = .ok (.if_icmp .ge 13, 3) := by decide +kernel
theorem dX0_stepTowards_49 : decode cX0_stepTowards 49 = .ok (.aload_n 0, 1) := by decide +kernel
theorem dX0_stepTowards_50 : decode cX0_stepTowards 50 = .ok (.iload_n 3, 1) := by decide +kernel
theorem dX0_stepTowards_51 : decode cX0_stepTowards 51 = .ok (.iconst 1, 1) := by decide +kernel
theorem dX0_stepTowards_52 : decode cX0_stepTowards 52 = .ok (.isub, 1) := by decide +kernel
theorem dX0_stepTowards_53 : decode cX0_stepTowards 53 = .ok (.putfield 67, 3) := by decide +kernel
theorem dX0_stepTowards_56 : decode cX0_stepTowards 56 = .ok (.iload 5, 2) := by decide +kernel
theorem dX0_stepTowards_58 : decode cX0_stepTowards 58 = .ok (.ireturn, 1) := by decide +kernel
theorem dX0_stepTowards_59 : decode cX0_stepTowards 59 = .ok (.iload_n 3, 1) := by decide +kernel
theorem dX0_stepTowards_60 : decode cX0_stepTowards 60 = .ok (.iload 6, 2) := by decide +kernel
theorem dX0_stepTowards_62 : decode cX0_stepTowards 62 = .ok (.isub, 1) := by decide +kernel
theorem dX0_stepTowards_63 : decode cX0_stepTowards 63 = .ok (.istore_n 3, 1) := by decide +kernel
theorem dX0_stepTowards_64 : decode cX0_stepTowards 64 = .ok (.iinc 4 1, 3) := by decide +kernel
theorem dX0_stepTowards_67 : decode cX0_stepTowards 67 = .ok (.goto (-62), 3) := by decide +kernel
theorem dX0_stepTowards_70 : decode cX0_stepTowards 70 = .ok (.iconst 0, 1) := by decide +kernel
theorem dX0_stepTowards_71 : decode cX0_stepTowards 71 = .ok (.ireturn, 1) := by decide +kernel
abbrev cX0_rank : ByteArray := prog_1_method_14_code
def yX0_rank : MethodName := ⟨RX0, "rank", "()I"⟩
theorem dX0_rank_0 : decode cX0_rank 0 = .ok (.aload_n 0, 1) := by decide +kernel
theorem dX0_rank_1 : decode cX0_rank 1 = .ok (.getfield 46, 3) := by decide +kernel
theorem dX0_rank_4 : decode cX0_rank 4 = .ok (.ifCond .ne 6, 3) := by decide +kernel
theorem dX0_rank_7 : decode cX0_rank 7 = .ok (.bipush (-3), 2) := by decide +kernel
theorem dX0_rank_9 : decode cX0_rank 9 = .ok (.ireturn, 1) := by decide +kernel
theorem dX0_rank_10 : decode cX0_rank 10 = .ok (.aload_n 0, 1) := by decide +kernel
theorem dX0_rank_11 : decode cX0_rank 11 = .ok (.invokevirtual 53, 3) := by decide +kernel
theorem dX0_rank_14 : decode cX0_rank 14 = .ok (.iconst 0, 1) := by decide +kernel
theorem dX0_rank_15 : decode cX0_rank 15 = .ok (.istore_n 1, 1) := by decide +kernel
theorem dX0_rank_16 : decode cX0_rank 16 = .ok (.iconst 0, 1) := by decide +kernel
theorem dX0_rank_17 : decode cX0_rank 17 = .ok (.istore_n 2, 1) := by decide +kernel
theorem dX0_rank_18 : decode cX0_rank 18 = .ok (.iconst 0, 1) := by decide +kernel
theorem dX0_rank_19 : decode cX0_rank 19 = .ok (.istore_n 3, 1) := by decide +kernel
theorem dX0_rank_20 : decode cX0_rank 20 = .ok (.iload_n 3, 1) := by decide +kernel
theorem dX0_rank_21 : decode cX0_rank 21 = .ok (.aload_n 0, 1) := by decide +kernel
theorem dX0_rank_22 : decode cX0_rank 22 = .ok (.getfield 46, 3) := by decide +kernel
theorem dX0_rank_25 : decode cX0_rank 25 = .ok (.if_icmp .ge 88, 3) := by decide +kernel
theorem dX0_rank_28 : decode cX0_rank 28 = .ok (.iload_n 3, 1) := by decide +kernel
theorem dX0_rank_29 : decode cX0_rank 29 = .ok (.ifCond .le 6, 3) := by decide +kernel
theorem dX0_rank_32 : decode cX0_rank 32 = .ok (.iinc 1 1, 3) := by decide +kernel
theorem dX0_rank_35 : decode cX0_rank 35 = .ok (.iconst 0, 1) := by decide +kernel
theorem dX0_rank_36 : decode cX0_rank 36 = .ok (.istore 4, 2) := by decide +kernel
theorem dX0_rank_38 : decode cX0_rank 38 = .ok (.iload 4, 2) := by decide +kernel
theorem dX0_rank_40 : decode cX0_rank 40 = .ok (.aload_n 0, 1) := by decide +kernel
theorem dX0_rank_41 : decode cX0_rank 41 = .ok (.getfield 13, 3) := by decide +kernel
theorem dX0_rank_44 : decode cX0_rank 44 = .ok (.iload_n 3, 1) := by decide +kernel
theorem dX0_rank_45 : decode cX0_rank 45 = .ok (.baload, 1) := by decide +kernel
theorem dX0_rank_46 : decode cX0_rank 46 = .ok (.if_icmp .ge 39, 3) := by decide +kernel
theorem dX0_rank_49 : decode cX0_rank 49 = .ok (.aload_n 0, 1) := by decide +kernel
theorem dX0_rank_50 : decode cX0_rank 50 = .ok (.getfield 16, 3) := by decide +kernel
theorem dX0_rank_53 : decode cX0_rank 53 = .ok (.iconst 4, 1) := by decide +kernel
theorem dX0_rank_54 : decode cX0_rank 54 = .ok (.iload_n 2, 1) := by decide +kernel
theorem dX0_rank_55 : decode cX0_rank 55 = .ok (.imul, 1) := by decide +kernel
theorem dX0_rank_56 : decode cX0_rank 56 = .ok (.iload 4, 2) := by decide +kernel
theorem dX0_rank_58 : decode cX0_rank 58 = .ok (.iadd, 1) := by decide +kernel
theorem dX0_rank_59 : decode cX0_rank 59 = .ok (.baload, 1) := by decide +kernel
theorem dX0_rank_60 : decode cX0_rank 60 = .ok (.istore 5, 2) := by decide +kernel
theorem dX0_rank_62 : decode cX0_rank 62 = .ok (.iload 5, 2) := by decide +kernel
theorem dX0_rank_64 : decode cX0_rank 64 = .ok (.ifCond .eq 15, 3) := by decide +kernel
theorem dX0_rank_67 : decode cX0_rank 67 = .ok (.iload_n 1, 1) := by decide +kernel
theorem dX0_rank_68 : decode cX0_rank 68 = .ok (.iconst 1, 1) := by decide +kernel
theorem dX0_rank_69 : decode cX0_rank 69 = .ok (.aload_n 0, 1) := by decide +kernel
theorem dX0_rank_70 : decode cX0_rank 70 = .ok (.getfield 31, 3) := by decide +kernel
theorem dX0_rank_73 : decode cX0_rank 73 = .ok (.iload 5, 2) := by decide +kernel
theorem dX0_rank_75 : decode cX0_rank 75 = .ok (.saload, 1) := by decide +kernel
theorem dX0_rank_76 : decode cX0_rank 76 = .ok (.iadd, 1) := by decide +kernel
theorem dX0_rank_77 : decode cX0_rank 77 = .ok (.iadd, 1) := by decide +kernel
theorem dX0_rank_78 : decode cX0_rank 78 = .ok (.istore_n 1, 1) := by decide +kernel
theorem dX0_rank_79 : decode cX0_rank 79 = .ok (.iinc 4 1, 3) := by decide +kernel
theorem dX0_rank_82 : decode cX0_rank 82 = .ok (.goto (-44), 3) := by decide +kernel
theorem dX0_rank_85 : decode cX0_rank 85 = .ok (.aload_n 0, 1) := by decide +kernel
theorem dX0_rank_86 : decode cX0_rank 86 = .ok (.getfield 16, 3) := by decide +kernel
theorem dX0_rank_89 : decode cX0_rank 89 = .ok (.iconst 4, 1) := by decide +kernel
theorem dX0_rank_90 : decode cX0_rank 90 = .ok (.iload_n 2, 1) := by decide +kernel
theorem dX0_rank_91 : decode cX0_rank 91 = .ok (.imul, 1) := by decide +kernel
theorem dX0_rank_92 : decode cX0_rank 92 = .ok (.aload_n 0, 1) := by decide +kernel
theorem dX0_rank_93 : decode cX0_rank 93 = .ok (.getfield 13, 3) := by decide +kernel
theorem dX0_rank_96 : decode cX0_rank 96 = .ok (.iload_n 3, 1) := by decide +kernel
theorem dX0_rank_97 : decode cX0_rank 97 = .ok (.baload, 1) := by decide +kernel
theorem dX0_rank_98 : decode cX0_rank 98 = .ok (.iadd, 1) := by decide +kernel
theorem dX0_rank_99 : decode cX0_rank 99 = .ok (.baload, 1) := by decide +kernel
theorem dX0_rank_100 : decode cX0_rank 100 = .ok (.istore_n 2, 1) := by decide +kernel
theorem dX0_rank_101 : decode cX0_rank 101 = .ok (.iload_n 2, 1) := by decide +kernel
theorem dX0_rank_102 : decode cX0_rank 102 = .ok (.ifCond .ne 5, 3) := by decide +kernel
theorem dX0_rank_105 : decode cX0_rank 105 = .ok (.iload_n 1, 1) := by decide +kernel
theorem dX0_rank_106 : decode cX0_rank 106 = .ok (.ireturn, 1) := by decide +kernel
theorem dX0_rank_107 : decode cX0_rank 107 = .ok (.iinc 3 1, 3) := by decide +kernel
theorem dX0_rank_110 : decode cX0_rank 110 = .ok (.goto (-90), 3) := by decide +kernel
theorem dX0_rank_113 : decode cX0_rank 113 = .ok (.iload_n 1, 1) := by decide +kernel
theorem dX0_rank_114 : decode cX0_rank 114 = .ok (.ireturn, 1) := by decide +kernel
abbrev cX0_common : ByteArray := prog_1_method_15_code
def yX0_common : MethodName := ⟨RX0, "common", "()I"⟩
theorem dX0_common_0 : decode cX0_common 0 = .ok (.aload_n 0, 1) := by decide +kernel
theorem dX0_common_1 : decode cX0_common 1 = .ok (.invokevirtual 53, 3) := by decide +kernel
theorem dX0_common_4 : decode cX0_common 4 = .ok (.iconst 0, 1) := by decide +kernel
theorem dX0_common_5 : decode cX0_common 5 = .ok (.istore_n 1, 1) := by decide +kernel
theorem dX0_common_6 : decode cX0_common 6 = .ok (.iconst 0, 1) := by decide +kernel
theorem dX0_common_7 : decode cX0_common 7 = .ok (.istore_n 2, 1) := by decide +kernel
theorem dX0_common_8 : decode cX0_common 8 = .ok (.iconst 0, 1) := by decide +kernel
theorem dX0_common_9 : decode cX0_common 9 = .ok (.istore_n 3, 1) := by decide +kernel
theorem dX0_common_10 : decode cX0_common 10 = .ok (.iconst 0, 1) := by decide +kernel
theorem dX0_common_11 : decode cX0_common 11 = .ok (.istore 4, 2) := by decide +kernel
theorem dX0_common_13 : decode cX0_common 13 = .ok (.iload 4, 2) := by decide +kernel
theorem dX0_common_15 : decode cX0_common 15 = .ok (.aload_n 0, 1) := by decide +kernel
theorem dX0_common_16 : decode cX0_common 16 = .ok (.getfield 46, 3) := by decide +kernel
theorem dX0_common_19 : decode cX0_common 19 = .ok (.if_icmp .ge 88, 3) := by decide +kernel
theorem dX0_common_22 : decode cX0_common 22 = .ok (.iload_n 2, 1) := by decide +kernel
theorem dX0_common_23 : decode cX0_common 23 = .ok (.ifCond .eq 39, 3) := by decide +kernel
theorem dX0_common_26 : decode cX0_common 26 = .ok (.aload_n 0, 1) := by decide +kernel
theorem dX0_common_27 : decode cX0_common 27 = .ok (.getfield 16, 3) := by decide +kernel
theorem dX0_common_30 : decode cX0_common 30 = .ok (.iconst 4, 1) := by decide +kernel
theorem dX0_common_31 : decode cX0_common 31 = .ok (.iload_n 2, 1) := by decide +kernel
theorem dX0_common_32 : decode cX0_common 32 = .ok (.imul, 1) := by decide +kernel
theorem dX0_common_33 : decode cX0_common 33 = .ok (.aload_n 0, 1) := by decide +kernel
theorem dX0_common_34 : decode cX0_common 34 = .ok (.getfield 13, 3) := by decide +kernel
theorem dX0_common_37 : decode cX0_common 37 = .ok (.iload 4, 2) := by decide +kernel
theorem dX0_common_39 : decode cX0_common 39 = .ok (.baload, 1) := by decide +kernel
theorem dX0_common_40 : decode cX0_common 40 = .ok (.iadd, 1) := by decide +kernel
theorem dX0_common_41 : decode cX0_common 41 = .ok (.baload, 1) := by decide +kernel
theorem dX0_common_42 : decode cX0_common 42 = .ok (.ifCond .ne 20, 3) := by decide +kernel
theorem dX0_common_45 : decode cX0_common 45 = .ok (.aload_n 0, 1) := by decide +kernel
theorem dX0_common_46 : decode cX0_common 46 = .ok (.getfield 19, 3) := by decide +kernel
theorem dX0_common_49 : decode cX0_common 49 = .ok (.iload_n 2, 1) := by decide +kernel
theorem dX0_common_50 : decode cX0_common 50 = .ok (.baload, 1) := by decide +kernel
theorem dX0_common_51 : decode cX0_common 51 = .ok (.istore_n 2, 1) := by decide +kernel
theorem dX0_common_52 : decode cX0_common 52 = .ok (.aload_n 0, 1) := by decide +kernel
theorem dX0_common_53 : decode cX0_common 53 = .ok (.getfield 22, 3) := by decide +kernel
theorem dX0_common_56 : decode cX0_common 56 = .ok (.iload_n 2, 1) := by decide +kernel
theorem dX0_common_57 : decode cX0_common 57 = .ok (.baload, 1) := by decide +kernel
theorem dX0_common_58 : decode cX0_common 58 = .ok (.istore_n 3, 1) := by decide +kernel
theorem dX0_common_59 : decode cX0_common 59 = .ok (.goto (-37), 3) := by decide +kernel
theorem dX0_common_62 : decode cX0_common 62 = .ok (.aload_n 0, 1) := by decide +kernel
theorem dX0_common_63 : decode cX0_common 63 = .ok (.getfield 16, 3) := by decide +kernel
theorem dX0_common_66 : decode cX0_common 66 = .ok (.iconst 4, 1) := by decide +kernel
theorem dX0_common_67 : decode cX0_common 67 = .ok (.iload_n 2, 1) := by decide +kernel
theorem dX0_common_68 : decode cX0_common 68 = .ok (.imul, 1) := by decide +kernel
theorem dX0_common_69 : decode cX0_common 69 = .ok (.aload_n 0, 1) := by decide +kernel
theorem dX0_common_70 : decode cX0_common 70 = .ok (.getfield 13, 3) := by decide +kernel
theorem dX0_common_73 : decode cX0_common 73 = .ok (.iload 4, 2) := by decide +kernel
theorem dX0_common_75 : decode cX0_common 75 = .ok (.baload, 1) := by decide +kernel
theorem dX0_common_76 : decode cX0_common 76 = .ok (.iadd, 1) := by decide +kernel
theorem dX0_common_77 : decode cX0_common 77 = .ok (.baload, 1) := by decide +kernel
theorem dX0_common_78 : decode cX0_common 78 = .ok (.istore 5, 2) := by decide +kernel
theorem dX0_common_80 : decode cX0_common 80 = .ok (.iload 5, 2) := by decide +kernel
theorem dX0_common_82 : decode cX0_common 82 = .ok (.ifCond .ne 6, 3) := by decide +kernel
theorem dX0_common_85 : decode cX0_common 85 = .ok (.goto 16, 3) := by decide +kernel
theorem dX0_common_88 : decode cX0_common 88 = .ok (.iload 5, 2) := by decide +kernel
theorem dX0_common_90 : decode cX0_common 90 = .ok (.istore_n 2, 1) := by decide +kernel
theorem dX0_common_91 : decode cX0_common 91 = .ok (.iinc 3 1, 3) := by decide +kernel
theorem dX0_common_94 : decode cX0_common 94 = .ok (.iload_n 3, 1) := by decide +kernel
theorem dX0_common_95 : decode cX0_common 95 = .ok (.iload_n 1, 1) := by decide +kernel
theorem dX0_common_96 : decode cX0_common 96 = .ok (.if_icmp .le 5, 3) := by decide +kernel
theorem dX0_common_99 : decode cX0_common 99 = .ok (.iload_n 3, 1) := by decide +kernel
theorem dX0_common_100 : decode cX0_common 100 = .ok (.istore_n 1, 1) := by decide +kernel
theorem dX0_common_101 : decode cX0_common 101 = .ok (.iinc 4 1, 3) := by decide +kernel
theorem dX0_common_104 : decode cX0_common 104 = .ok (.goto (-91), 3) := by decide +kernel
theorem dX0_common_107 : decode cX0_common 107 = .ok (.iload_n 1, 1) := by decide +kernel
theorem dX0_common_108 : decode cX0_common 108 = .ok (.ireturn, 1) := by decide +kernel
abbrev cX0_unique : ByteArray := prog_1_method_16_code
def yX0_unique : MethodName := ⟨RX0, "unique", "(I)I"⟩
theorem dX0_unique_0 : decode cX0_unique 0 = .ok (.iload_n 1, 1) := by decide +kernel
theorem dX0_unique_1 : decode cX0_unique 1 = .ok (.ifCond .lt 11, 3) := by decide +kernel
theorem dX0_unique_4 : decode cX0_unique 4 = .ok (.iload_n 1, 1) := by decide +kernel
theorem dX0_unique_5 : decode cX0_unique 5 = .ok (.aload_n 0, 1) := by decide +kernel
theorem dX0_unique_6 : decode cX0_unique 6 = .ok (.getfield 38, 3) := by decide +kernel
theorem dX0_unique_9 : decode cX0_unique 9 = .ok (.if_icmp .lt 6, 3) := by decide +kernel
theorem dX0_unique_12 : decode cX0_unique 12 = .ok (.bipush (-2), 2) := by decide +kernel
theorem dX0_unique_14 : decode cX0_unique 14 = .ok (.ireturn, 1) := by decide +kernel
theorem dX0_unique_15 : decode cX0_unique 15 = .ok (.aload_n 0, 1) := by decide +kernel
theorem dX0_unique_16 : decode cX0_unique 16 = .ok (.invokevirtual 53, 3) := by decide +kernel
theorem dX0_unique_19 : decode cX0_unique 19 = .ok (.iconst 0, 1) := by decide +kernel
theorem dX0_unique_20 : decode cX0_unique 20 = .ok (.istore_n 2, 1) := by decide +kernel
theorem dX0_unique_21 : decode cX0_unique 21 = .ok (.iload_n 1, 1) := by decide +kernel
theorem dX0_unique_22 : decode cX0_unique 22 = .ok (.istore_n 3, 1) := by decide +kernel
theorem dX0_unique_23 : decode cX0_unique 23 = .ok (.iload_n 3, 1) := by decide +kernel
theorem dX0_unique_24 : decode cX0_unique 24 = .ok (.aload_n 0, 1) := by decide +kernel
theorem dX0_unique_25 : decode cX0_unique 25 = .ok (.getfield 38, 3) := by decide +kernel
theorem dX0_unique_28 : decode cX0_unique 28 = .ok (.if_icmp .ge 41, 3) := by decide +kernel
theorem dX0_unique_31 : decode cX0_unique 31 = .ok (.aload_n 0, 1) := by decide +kernel
theorem dX0_unique_32 : decode cX0_unique 32 = .ok (.getfield 16, 3) := by decide +kernel
theorem dX0_unique_35 : decode cX0_unique 35 = .ok (.iconst 4, 1) := by decide +kernel
theorem dX0_unique_36 : decode cX0_unique 36 = .ok (.iload_n 2, 1) := by decide +kernel
theorem dX0_unique_37 : decode cX0_unique 37 = .ok (.imul, 1) := by decide +kernel
theorem dX0_unique_38 : decode cX0_unique 38 = .ok (.aload_n 0, 1) := by decide +kernel
theorem dX0_unique_39 : decode cX0_unique 39 = .ok (.getfield 7, 3) := by decide +kernel
theorem dX0_unique_42 : decode cX0_unique 42 = .ok (.iload_n 3, 1) := by decide +kernel
theorem dX0_unique_43 : decode cX0_unique 43 = .ok (.baload, 1) := by decide +kernel
theorem dX0_unique_44 : decode cX0_unique 44 = .ok (.iadd, 1) := by decide +kernel
theorem dX0_unique_45 : decode cX0_unique 45 = .ok (.baload, 1) := by decide +kernel
theorem dX0_unique_46 : decode cX0_unique 46 = .ok (.istore_n 2, 1) := by decide +kernel
theorem dX0_unique_47 : decode cX0_unique 47 = .ok (.aload_n 0, 1) := by decide +kernel
theorem dX0_unique_48 : decode cX0_unique 48 = .ok (.getfield 25, 3) := by decide +kernel
theorem dX0_unique_51 : decode cX0_unique 51 = .ok (.iload_n 2, 1) := by decide +kernel
theorem dX0_unique_52 : decode cX0_unique 52 = .ok (.baload, 1) := by decide +kernel
theorem dX0_unique_53 : decode cX0_unique 53 = .ok (.iconst 1, 1) := by decide +kernel
theorem dX0_unique_54 : decode cX0_unique 54 = .ok (.if_icmp .ne 9, 3) := by decide +kernel
theorem dX0_unique_57 : decode cX0_unique 57 = .ok (.iload_n 3, 1) := by decide +kernel
theorem dX0_unique_58 : decode cX0_unique 58 = .ok (.iload_n 1, 1) := by decide +kernel
theorem dX0_unique_59 : decode cX0_unique 59 = .ok (.isub, 1) := by decide +kernel
theorem dX0_unique_60 : decode cX0_unique 60 = .ok (.iconst 1, 1) := by decide +kernel
theorem dX0_unique_61 : decode cX0_unique 61 = .ok (.iadd, 1) := by decide +kernel
theorem dX0_unique_62 : decode cX0_unique 62 = .ok (.ireturn, 1) := by decide +kernel
theorem dX0_unique_63 : decode cX0_unique 63 = .ok (.iinc 3 1, 3) := by decide +kernel
theorem dX0_unique_66 : decode cX0_unique 66 = .ok (.goto (-43), 3) := by decide +kernel
theorem dX0_unique_69 : decode cX0_unique 69 = .ok (.bipush (-3), 2) := by decide +kernel
theorem dX0_unique_71 : decode cX0_unique 71 = .ok (.ireturn, 1) := by decide +kernel
theorem q19 : (Jvm.Cond.initialized "RepeatFinder") ∈ lw_all := lw_g (lw_at lw_m1 1 rfl) rfl
theorem q22 : (Jvm.Cond.instantiable "RepeatFinder" (15 : Nat)) ∈ lw_all := lw_g (lw_at lw_m1 4 rfl) rfl
theorem q24 : (Jvm.Cond.instanceMethod ({ cls := "RepeatFinder", name := "<init>", desc := "()V" } : Jvm.MethodName)) ∈ lw_all := lw_g (lw_at lw_m1 6 rfl) rfl
theorem q25 : (Jvm.Cond.code ({ cls := "RepeatFinder", name := "<init>", desc := "()V" } : Jvm.MethodName) prog_1_method_1_code (1 : Nat) (Option.none : Option Jvm.ClassFile.FieldType)) ∈ lw_all := lw_g (lw_at lw_m1 7 rfl) rfl
theorem q26 : (Jvm.Cond.methodLink "RepeatFinder" (1 : Nat) ({ cls := "java/lang/Object", name := "<init>", desc := "()V" } : Jvm.MethodName)) ∈ lw_all := lw_g (lw_at lw_m1 8 rfl) rfl
theorem q29 : (Jvm.Cond.fieldLink "RepeatFinder" (38 : Nat) "RepeatFinder" "textLength" "I") ∈ lw_all := lw_g (lw_at lw_m1 11 rfl) rfl
theorem q30 : (Jvm.Cond.fieldLink "RepeatFinder" (7 : Nat) "RepeatFinder" "text" "[B") ∈ lw_all := lw_g (lw_at lw_m1 12 rfl) rfl
theorem q31 : (Jvm.Cond.fieldLink "RepeatFinder" (46 : Nat) "RepeatFinder" "probeLength" "I") ∈ lw_all := lw_g (lw_at lw_m1 13 rfl) rfl
theorem q32 : (Jvm.Cond.fieldLink "RepeatFinder" (13 : Nat) "RepeatFinder" "probe" "[B") ∈ lw_all := lw_g (lw_at lw_m1 14 rfl) rfl
theorem q33 : (Jvm.Cond.fieldLink "RepeatFinder" (42 : Nat) "RepeatFinder" "built" "Z") ∈ lw_all := lw_g (lw_at lw_m1 15 rfl) rfl
theorem q34 : (Jvm.Cond.fieldLink "RepeatFinder" (56 : Nat) "RepeatFinder" "stateCount" "I") ∈ lw_all := lw_g (lw_at lw_m1 16 rfl) rfl
theorem q35 : (Jvm.Cond.fieldLink "RepeatFinder" (73 : Nat) "RepeatFinder" "lastState" "I") ∈ lw_all := lw_g (lw_at lw_m1 17 rfl) rfl
theorem q36 : (Jvm.Cond.fieldLink "RepeatFinder" (16 : Nat) "RepeatFinder" "next" "[B") ∈ lw_all := lw_g (lw_at lw_m1 18 rfl) rfl
theorem q37 : (Jvm.Cond.fieldLink "RepeatFinder" (19 : Nat) "RepeatFinder" "shorter" "[B") ∈ lw_all := lw_g (lw_at lw_m1 19 rfl) rfl
theorem q38 : (Jvm.Cond.fieldLink "RepeatFinder" (22 : Nat) "RepeatFinder" "length" "[B") ∈ lw_all := lw_g (lw_at lw_m1 20 rfl) rfl
theorem q39 : (Jvm.Cond.fieldLink "RepeatFinder" (25 : Nat) "RepeatFinder" "times" "[B") ∈ lw_all := lw_g (lw_at lw_m1 21 rfl) rfl
theorem q40 : (Jvm.Cond.fieldLink "RepeatFinder" (28 : Nat) "RepeatFinder" "firstEnd" "[B") ∈ lw_all := lw_g (lw_at lw_m1 22 rfl) rfl
theorem q41 : (Jvm.Cond.fieldLink "RepeatFinder" (31 : Nat) "RepeatFinder" "wordsOn" "[S") ∈ lw_all := lw_g (lw_at lw_m1 23 rfl) rfl
theorem q42 : (Jvm.Cond.fieldLink "RepeatFinder" (35 : Nat) "RepeatFinder" "byLength" "[B") ∈ lw_all := lw_g (lw_at lw_m1 24 rfl) rfl
theorem q43 : (Jvm.Cond.fieldLink "RepeatFinder" (67 : Nat) "RepeatFinder" "restAfter" "I") ∈ lw_all := lw_g (lw_at lw_m1 25 rfl) rfl
theorem q44 : (Jvm.Cond.lays "RepeatFinder" "RepeatFinder" "textLength" "I") ∈ lw_all := lw_g (lw_at lw_m1 26 rfl) rfl
theorem q45 : (Jvm.Cond.soleField "RepeatFinder" "textLength") ∈ lw_all := lw_g (lw_at lw_m1 27 rfl) rfl
theorem q46 : (Jvm.Cond.laysFinal "RepeatFinder" "RepeatFinder" "text" "[B") ∈ lw_all := lw_g (lw_at lw_m1 28 rfl) rfl
theorem q47 : (Jvm.Cond.soleField "RepeatFinder" "text") ∈ lw_all := lw_g (lw_at lw_m1 29 rfl) rfl
theorem q48 : (Jvm.Cond.lays "RepeatFinder" "RepeatFinder" "probeLength" "I") ∈ lw_all := lw_g (lw_at lw_m1 30 rfl) rfl
theorem q49 : (Jvm.Cond.soleField "RepeatFinder" "probeLength") ∈ lw_all := lw_g (lw_at lw_m1 31 rfl) rfl
theorem q50 : (Jvm.Cond.laysFinal "RepeatFinder" "RepeatFinder" "probe" "[B") ∈ lw_all := lw_g (lw_at lw_m1 32 rfl) rfl
theorem q51 : (Jvm.Cond.soleField "RepeatFinder" "probe") ∈ lw_all := lw_g (lw_at lw_m1 33 rfl) rfl
theorem q52 : (Jvm.Cond.lays "RepeatFinder" "RepeatFinder" "built" "Z") ∈ lw_all := lw_g (lw_at lw_m1 34 rfl) rfl
theorem q53 : (Jvm.Cond.soleField "RepeatFinder" "built") ∈ lw_all := lw_g (lw_at lw_m1 35 rfl) rfl
theorem q54 : (Jvm.Cond.lays "RepeatFinder" "RepeatFinder" "stateCount" "I") ∈ lw_all := lw_g (lw_at lw_m1 36 rfl) rfl
theorem q55 : (Jvm.Cond.soleField "RepeatFinder" "stateCount") ∈ lw_all := lw_g (lw_at lw_m1 37 rfl) rfl
theorem q56 : (Jvm.Cond.lays "RepeatFinder" "RepeatFinder" "lastState" "I") ∈ lw_all := lw_g (lw_at lw_m1 38 rfl) rfl
theorem q57 : (Jvm.Cond.soleField "RepeatFinder" "lastState") ∈ lw_all := lw_g (lw_at lw_m1 39 rfl) rfl
theorem q58 : (Jvm.Cond.laysFinal "RepeatFinder" "RepeatFinder" "next" "[B") ∈ lw_all := lw_g (lw_at lw_m1 40 rfl) rfl
theorem q59 : (Jvm.Cond.soleField "RepeatFinder" "next") ∈ lw_all := lw_g (lw_at lw_m1 41 rfl) rfl
theorem q60 : (Jvm.Cond.laysFinal "RepeatFinder" "RepeatFinder" "shorter" "[B") ∈ lw_all := lw_g (lw_at lw_m1 42 rfl) rfl
theorem q61 : (Jvm.Cond.soleField "RepeatFinder" "shorter") ∈ lw_all := lw_g (lw_at lw_m1 43 rfl) rfl
theorem q62 : (Jvm.Cond.laysFinal "RepeatFinder" "RepeatFinder" "length" "[B") ∈ lw_all := lw_g (lw_at lw_m1 44 rfl) rfl
theorem q63 : (Jvm.Cond.soleField "RepeatFinder" "length") ∈ lw_all := lw_g (lw_at lw_m1 45 rfl) rfl
theorem q64 : (Jvm.Cond.laysFinal "RepeatFinder" "RepeatFinder" "times" "[B") ∈ lw_all := lw_g (lw_at lw_m1 46 rfl) rfl
theorem q65 : (Jvm.Cond.soleField "RepeatFinder" "times") ∈ lw_all := lw_g (lw_at lw_m1 47 rfl) rfl
theorem q66 : (Jvm.Cond.laysFinal "RepeatFinder" "RepeatFinder" "firstEnd" "[B") ∈ lw_all := lw_g (lw_at lw_m1 48 rfl) rfl
theorem q67 : (Jvm.Cond.soleField "RepeatFinder" "firstEnd") ∈ lw_all := lw_g (lw_at lw_m1 49 rfl) rfl
theorem q68 : (Jvm.Cond.laysFinal "RepeatFinder" "RepeatFinder" "wordsOn" "[S") ∈ lw_all := lw_g (lw_at lw_m1 50 rfl) rfl
theorem q69 : (Jvm.Cond.soleField "RepeatFinder" "wordsOn") ∈ lw_all := lw_g (lw_at lw_m1 51 rfl) rfl
theorem q70 : (Jvm.Cond.laysFinal "RepeatFinder" "RepeatFinder" "byLength" "[B") ∈ lw_all := lw_g (lw_at lw_m1 52 rfl) rfl
theorem q71 : (Jvm.Cond.soleField "RepeatFinder" "byLength") ∈ lw_all := lw_g (lw_at lw_m1 53 rfl) rfl
theorem q72 : (Jvm.Cond.lays "RepeatFinder" "RepeatFinder" "restAfter" "I") ∈ lw_all := lw_g (lw_at lw_m1 54 rfl) rfl
theorem q73 : (Jvm.Cond.soleField "RepeatFinder" "restAfter") ∈ lw_all := lw_g (lw_at lw_m1 55 rfl) rfl
theorem q74 : (Jvm.Cond.superclass "RepeatFinder" "java/lang/Object") ∈ lw_all := lw_g (lw_at lw_m1 56 rfl) rfl
theorem q78 : (Jvm.Cond.instanceMethod ({ cls := "RepeatFinder", name := "type", desc := "(I)I" } : Jvm.MethodName)) ∈ lw_all := lw_g (lw_at lw_m1 60 rfl) rfl
theorem q79 : (Jvm.Cond.selects "RepeatFinder" ({ cls := "RepeatFinder", name := "type", desc := "(I)I" } : Jvm.MethodName) ({ cls := "RepeatFinder", name := "type", desc := "(I)I" } : Jvm.MethodName)) ∈ lw_all := lw_g (lw_at lw_m1 61 rfl) rfl
theorem q80 : (Jvm.Cond.code ({ cls := "RepeatFinder", name := "type", desc := "(I)I" } : Jvm.MethodName) prog_1_method_2_code (2 : Nat) (Option.some Jvm.ClassFile.FieldType.int)) ∈ lw_all := lw_g (lw_at lw_m1 62 rfl) rfl
theorem q82 : (Jvm.Cond.instanceMethod ({ cls := "RepeatFinder", name := "shift", desc := "()I" } : Jvm.MethodName)) ∈ lw_all := lw_g (lw_at lw_m1 64 rfl) rfl
theorem q83 : (Jvm.Cond.selects "RepeatFinder" ({ cls := "RepeatFinder", name := "shift", desc := "()I" } : Jvm.MethodName) ({ cls := "RepeatFinder", name := "shift", desc := "()I" } : Jvm.MethodName)) ∈ lw_all := lw_g (lw_at lw_m1 65 rfl) rfl
theorem q84 : (Jvm.Cond.code ({ cls := "RepeatFinder", name := "shift", desc := "()I" } : Jvm.MethodName) prog_1_method_3_code (2 : Nat) (Option.some Jvm.ClassFile.FieldType.int)) ∈ lw_all := lw_g (lw_at lw_m1 66 rfl) rfl
theorem q86 : (Jvm.Cond.instanceMethod ({ cls := "RepeatFinder", name := "ask", desc := "(I)I" } : Jvm.MethodName)) ∈ lw_all := lw_g (lw_at lw_m1 68 rfl) rfl
theorem q87 : (Jvm.Cond.selects "RepeatFinder" ({ cls := "RepeatFinder", name := "ask", desc := "(I)I" } : Jvm.MethodName) ({ cls := "RepeatFinder", name := "ask", desc := "(I)I" } : Jvm.MethodName)) ∈ lw_all := lw_g (lw_at lw_m1 69 rfl) rfl
theorem q88 : (Jvm.Cond.code ({ cls := "RepeatFinder", name := "ask", desc := "(I)I" } : Jvm.MethodName) prog_1_method_4_code (2 : Nat) (Option.some Jvm.ClassFile.FieldType.int)) ∈ lw_all := lw_g (lw_at lw_m1 70 rfl) rfl
theorem q90 : (Jvm.Cond.instanceMethod ({ cls := "RepeatFinder", name := "wipe", desc := "()I" } : Jvm.MethodName)) ∈ lw_all := lw_g (lw_at lw_m1 72 rfl) rfl
theorem q91 : (Jvm.Cond.selects "RepeatFinder" ({ cls := "RepeatFinder", name := "wipe", desc := "()I" } : Jvm.MethodName) ({ cls := "RepeatFinder", name := "wipe", desc := "()I" } : Jvm.MethodName)) ∈ lw_all := lw_g (lw_at lw_m1 73 rfl) rfl
theorem q92 : (Jvm.Cond.code ({ cls := "RepeatFinder", name := "wipe", desc := "()I" } : Jvm.MethodName) prog_1_method_5_code (2 : Nat) (Option.some Jvm.ClassFile.FieldType.int)) ∈ lw_all := lw_g (lw_at lw_m1 74 rfl) rfl
theorem q94 : (Jvm.Cond.instanceMethod ({ cls := "RepeatFinder", name := "count", desc := "()I" } : Jvm.MethodName)) ∈ lw_all := lw_g (lw_at lw_m1 76 rfl) rfl
theorem q95 : (Jvm.Cond.selects "RepeatFinder" ({ cls := "RepeatFinder", name := "count", desc := "()I" } : Jvm.MethodName) ({ cls := "RepeatFinder", name := "count", desc := "()I" } : Jvm.MethodName)) ∈ lw_all := lw_g (lw_at lw_m1 77 rfl) rfl
theorem q96 : (Jvm.Cond.code ({ cls := "RepeatFinder", name := "count", desc := "()I" } : Jvm.MethodName) prog_1_method_6_code (2 : Nat) (Option.some Jvm.ClassFile.FieldType.int)) ∈ lw_all := lw_g (lw_at lw_m1 78 rfl) rfl
theorem q97 : (Jvm.Cond.methodLink "RepeatFinder" (49 : Nat) ({ cls := "RepeatFinder", name := "stateOfProbe", desc := "()I" } : Jvm.MethodName)) ∈ lw_all := lw_g (lw_at lw_m1 79 rfl) rfl
theorem q98 : (Jvm.Cond.privateMethod ({ cls := "RepeatFinder", name := "stateOfProbe", desc := "()I" } : Jvm.MethodName)) ∈ lw_tbl := lw_at lw_m1 80 rfl
theorem q99 : (Jvm.Cond.instanceMethod ({ cls := "RepeatFinder", name := "stateOfProbe", desc := "()I" } : Jvm.MethodName)) ∈ lw_all := lw_g (lw_at lw_m1 81 rfl) rfl
theorem q100 : (Jvm.Cond.code ({ cls := "RepeatFinder", name := "stateOfProbe", desc := "()I" } : Jvm.MethodName) prog_1_method_17_code (3 : Nat) (Option.some Jvm.ClassFile.FieldType.int)) ∈ lw_all := lw_g (lw_at lw_m1 82 rfl) rfl
theorem q101 : (Jvm.Cond.methodLink "RepeatFinder" (53 : Nat) ({ cls := "RepeatFinder", name := "build", desc := "()V" } : Jvm.MethodName)) ∈ lw_all := lw_g (lw_at lw_m1 83 rfl) rfl
theorem q102 : (Jvm.Cond.privateMethod ({ cls := "RepeatFinder", name := "build", desc := "()V" } : Jvm.MethodName)) ∈ lw_tbl := lw_at lw_m1 84 rfl
theorem q103 : (Jvm.Cond.instanceMethod ({ cls := "RepeatFinder", name := "build", desc := "()V" } : Jvm.MethodName)) ∈ lw_all := lw_g (lw_at lw_m1 85 rfl) rfl
theorem q104 : (Jvm.Cond.code ({ cls := "RepeatFinder", name := "build", desc := "()V" } : Jvm.MethodName) prog_1_method_19_code (2 : Nat) (Option.none : Option Jvm.ClassFile.FieldType)) ∈ lw_all := lw_g (lw_at lw_m1 86 rfl) rfl
theorem q105 : (Jvm.Cond.methodLink "RepeatFinder" (70 : Nat) ({ cls := "RepeatFinder", name := "newState", desc := "(II)I" } : Jvm.MethodName)) ∈ lw_all := lw_g (lw_at lw_m1 87 rfl) rfl
theorem q106 : (Jvm.Cond.privateMethod ({ cls := "RepeatFinder", name := "newState", desc := "(II)I" } : Jvm.MethodName)) ∈ lw_tbl := lw_at lw_m1 88 rfl
theorem q107 : (Jvm.Cond.instanceMethod ({ cls := "RepeatFinder", name := "newState", desc := "(II)I" } : Jvm.MethodName)) ∈ lw_all := lw_g (lw_at lw_m1 89 rfl) rfl
theorem q108 : (Jvm.Cond.code ({ cls := "RepeatFinder", name := "newState", desc := "(II)I" } : Jvm.MethodName) prog_1_method_18_code (5 : Nat) (Option.some Jvm.ClassFile.FieldType.int)) ∈ lw_all := lw_g (lw_at lw_m1 90 rfl) rfl
theorem q109 : (Jvm.Cond.methodLink "RepeatFinder" (76 : Nat) ({ cls := "RepeatFinder", name := "extend", desc := "(II)V" } : Jvm.MethodName)) ∈ lw_all := lw_g (lw_at lw_m1 91 rfl) rfl
theorem q110 : (Jvm.Cond.privateMethod ({ cls := "RepeatFinder", name := "extend", desc := "(II)V" } : Jvm.MethodName)) ∈ lw_tbl := lw_at lw_m1 92 rfl
theorem q111 : (Jvm.Cond.instanceMethod ({ cls := "RepeatFinder", name := "extend", desc := "(II)V" } : Jvm.MethodName)) ∈ lw_all := lw_g (lw_at lw_m1 93 rfl) rfl
theorem q112 : (Jvm.Cond.code ({ cls := "RepeatFinder", name := "extend", desc := "(II)V" } : Jvm.MethodName) prog_1_method_20_code (7 : Nat) (Option.none : Option Jvm.ClassFile.FieldType)) ∈ lw_all := lw_g (lw_at lw_m1 94 rfl) rfl
theorem q113 : (Jvm.Cond.methodLink "RepeatFinder" (89 : Nat) ({ cls := "RepeatFinder", name := "split", desc := "(II)I" } : Jvm.MethodName)) ∈ lw_all := lw_g (lw_at lw_m1 95 rfl) rfl
theorem q114 : (Jvm.Cond.privateMethod ({ cls := "RepeatFinder", name := "split", desc := "(II)I" } : Jvm.MethodName)) ∈ lw_tbl := lw_at lw_m1 96 rfl
theorem q115 : (Jvm.Cond.instanceMethod ({ cls := "RepeatFinder", name := "split", desc := "(II)I" } : Jvm.MethodName)) ∈ lw_all := lw_g (lw_at lw_m1 97 rfl) rfl
theorem q116 : (Jvm.Cond.code ({ cls := "RepeatFinder", name := "split", desc := "(II)I" } : Jvm.MethodName) prog_1_method_21_code (5 : Nat) (Option.some Jvm.ClassFile.FieldType.int)) ∈ lw_all := lw_g (lw_at lw_m1 98 rfl) rfl
theorem q117 : (Jvm.Cond.methodLink "RepeatFinder" (80 : Nat) ({ cls := "RepeatFinder", name := "orderByLength", desc := "()V" } : Jvm.MethodName)) ∈ lw_all := lw_g (lw_at lw_m1 99 rfl) rfl
theorem q118 : (Jvm.Cond.privateMethod ({ cls := "RepeatFinder", name := "orderByLength", desc := "()V" } : Jvm.MethodName)) ∈ lw_tbl := lw_at lw_m1 100 rfl
theorem q119 : (Jvm.Cond.instanceMethod ({ cls := "RepeatFinder", name := "orderByLength", desc := "()V" } : Jvm.MethodName)) ∈ lw_all := lw_g (lw_at lw_m1 101 rfl) rfl
theorem q120 : (Jvm.Cond.code ({ cls := "RepeatFinder", name := "orderByLength", desc := "()V" } : Jvm.MethodName) prog_1_method_22_code (3 : Nat) (Option.none : Option Jvm.ClassFile.FieldType)) ∈ lw_all := lw_g (lw_at lw_m1 102 rfl) rfl
theorem q121 : (Jvm.Cond.methodLink "RepeatFinder" (83 : Nat) ({ cls := "RepeatFinder", name := "countTimes", desc := "()V" } : Jvm.MethodName)) ∈ lw_all := lw_g (lw_at lw_m1 103 rfl) rfl
theorem q122 : (Jvm.Cond.privateMethod ({ cls := "RepeatFinder", name := "countTimes", desc := "()V" } : Jvm.MethodName)) ∈ lw_tbl := lw_at lw_m1 104 rfl
theorem q123 : (Jvm.Cond.instanceMethod ({ cls := "RepeatFinder", name := "countTimes", desc := "()V" } : Jvm.MethodName)) ∈ lw_all := lw_g (lw_at lw_m1 105 rfl) rfl
theorem q124 : (Jvm.Cond.code ({ cls := "RepeatFinder", name := "countTimes", desc := "()V" } : Jvm.MethodName) prog_1_method_23_code (3 : Nat) (Option.none : Option Jvm.ClassFile.FieldType)) ∈ lw_all := lw_g (lw_at lw_m1 106 rfl) rfl
theorem q125 : (Jvm.Cond.methodLink "RepeatFinder" (86 : Nat) ({ cls := "RepeatFinder", name := "countWords", desc := "()V" } : Jvm.MethodName)) ∈ lw_all := lw_g (lw_at lw_m1 107 rfl) rfl
theorem q126 : (Jvm.Cond.privateMethod ({ cls := "RepeatFinder", name := "countWords", desc := "()V" } : Jvm.MethodName)) ∈ lw_tbl := lw_at lw_m1 108 rfl
theorem q127 : (Jvm.Cond.instanceMethod ({ cls := "RepeatFinder", name := "countWords", desc := "()V" } : Jvm.MethodName)) ∈ lw_all := lw_g (lw_at lw_m1 109 rfl) rfl
theorem q128 : (Jvm.Cond.code ({ cls := "RepeatFinder", name := "countWords", desc := "()V" } : Jvm.MethodName) prog_1_method_24_code (6 : Nat) (Option.none : Option Jvm.ClassFile.FieldType)) ∈ lw_all := lw_g (lw_at lw_m1 110 rfl) rfl
theorem q130 : (Jvm.Cond.instanceMethod ({ cls := "RepeatFinder", name := "place", desc := "()I" } : Jvm.MethodName)) ∈ lw_all := lw_g (lw_at lw_m1 112 rfl) rfl
theorem q131 : (Jvm.Cond.selects "RepeatFinder" ({ cls := "RepeatFinder", name := "place", desc := "()I" } : Jvm.MethodName) ({ cls := "RepeatFinder", name := "place", desc := "()I" } : Jvm.MethodName)) ∈ lw_all := lw_g (lw_at lw_m1 113 rfl) rfl
theorem q132 : (Jvm.Cond.code ({ cls := "RepeatFinder", name := "place", desc := "()I" } : Jvm.MethodName) prog_1_method_7_code (2 : Nat) (Option.some Jvm.ClassFile.FieldType.int)) ∈ lw_all := lw_g (lw_at lw_m1 114 rfl) rfl
theorem q134 : (Jvm.Cond.instanceMethod ({ cls := "RepeatFinder", name := "words", desc := "()I" } : Jvm.MethodName)) ∈ lw_all := lw_g (lw_at lw_m1 116 rfl) rfl
theorem q135 : (Jvm.Cond.selects "RepeatFinder" ({ cls := "RepeatFinder", name := "words", desc := "()I" } : Jvm.MethodName) ({ cls := "RepeatFinder", name := "words", desc := "()I" } : Jvm.MethodName)) ∈ lw_all := lw_g (lw_at lw_m1 117 rfl) rfl
theorem q136 : (Jvm.Cond.code ({ cls := "RepeatFinder", name := "words", desc := "()I" } : Jvm.MethodName) prog_1_method_8_code (1 : Nat) (Option.some Jvm.ClassFile.FieldType.int)) ∈ lw_all := lw_g (lw_at lw_m1 118 rfl) rfl
theorem q138 : (Jvm.Cond.instanceMethod ({ cls := "RepeatFinder", name := "longest", desc := "(I)I" } : Jvm.MethodName)) ∈ lw_all := lw_g (lw_at lw_m1 120 rfl) rfl
theorem q139 : (Jvm.Cond.selects "RepeatFinder" ({ cls := "RepeatFinder", name := "longest", desc := "(I)I" } : Jvm.MethodName) ({ cls := "RepeatFinder", name := "longest", desc := "(I)I" } : Jvm.MethodName)) ∈ lw_all := lw_g (lw_at lw_m1 121 rfl) rfl
theorem q140 : (Jvm.Cond.code ({ cls := "RepeatFinder", name := "longest", desc := "(I)I" } : Jvm.MethodName) prog_1_method_9_code (4 : Nat) (Option.some Jvm.ClassFile.FieldType.int)) ∈ lw_all := lw_g (lw_at lw_m1 122 rfl) rfl
theorem q142 : (Jvm.Cond.instanceMethod ({ cls := "RepeatFinder", name := "repeats", desc := "()I" } : Jvm.MethodName)) ∈ lw_all := lw_g (lw_at lw_m1 124 rfl) rfl
theorem q143 : (Jvm.Cond.selects "RepeatFinder" ({ cls := "RepeatFinder", name := "repeats", desc := "()I" } : Jvm.MethodName) ({ cls := "RepeatFinder", name := "repeats", desc := "()I" } : Jvm.MethodName)) ∈ lw_all := lw_g (lw_at lw_m1 125 rfl) rfl
theorem q144 : (Jvm.Cond.code ({ cls := "RepeatFinder", name := "repeats", desc := "()I" } : Jvm.MethodName) prog_1_method_10_code (3 : Nat) (Option.some Jvm.ClassFile.FieldType.int)) ∈ lw_all := lw_g (lw_at lw_m1 126 rfl) rfl
theorem q145 : (Jvm.Cond.methodLink "RepeatFinder" (59 : Nat) ({ cls := "RepeatFinder", name := "losesByEveryLetter", desc := "(I)Z" } : Jvm.MethodName)) ∈ lw_all := lw_g (lw_at lw_m1 127 rfl) rfl
theorem q146 : (Jvm.Cond.privateMethod ({ cls := "RepeatFinder", name := "losesByEveryLetter", desc := "(I)Z" } : Jvm.MethodName)) ∈ lw_tbl := lw_at lw_m1 128 rfl
theorem q147 : (Jvm.Cond.instanceMethod ({ cls := "RepeatFinder", name := "losesByEveryLetter", desc := "(I)Z" } : Jvm.MethodName)) ∈ lw_all := lw_g (lw_at lw_m1 129 rfl) rfl
theorem q148 : (Jvm.Cond.code ({ cls := "RepeatFinder", name := "losesByEveryLetter", desc := "(I)Z" } : Jvm.MethodName) prog_1_method_11_code (4 : Nat) (Option.some Jvm.ClassFile.FieldType.boolean)) ∈ lw_all := lw_g (lw_at lw_m1 130 rfl) rfl
theorem q150 : (Jvm.Cond.instanceMethod ({ cls := "RepeatFinder", name := "word", desc := "(I)I" } : Jvm.MethodName)) ∈ lw_all := lw_g (lw_at lw_m1 132 rfl) rfl
theorem q151 : (Jvm.Cond.selects "RepeatFinder" ({ cls := "RepeatFinder", name := "word", desc := "(I)I" } : Jvm.MethodName) ({ cls := "RepeatFinder", name := "word", desc := "(I)I" } : Jvm.MethodName)) ∈ lw_all := lw_g (lw_at lw_m1 133 rfl) rfl
theorem q152 : (Jvm.Cond.code ({ cls := "RepeatFinder", name := "word", desc := "(I)I" } : Jvm.MethodName) prog_1_method_12_code (5 : Nat) (Option.some Jvm.ClassFile.FieldType.int)) ∈ lw_all := lw_g (lw_at lw_m1 134 rfl) rfl
theorem q153 : (Jvm.Cond.methodLink "RepeatFinder" (63 : Nat) ({ cls := "RepeatFinder", name := "stepTowards", desc := "(II)I" } : Jvm.MethodName)) ∈ lw_all := lw_g (lw_at lw_m1 135 rfl) rfl
theorem q154 : (Jvm.Cond.privateMethod ({ cls := "RepeatFinder", name := "stepTowards", desc := "(II)I" } : Jvm.MethodName)) ∈ lw_tbl := lw_at lw_m1 136 rfl
theorem q155 : (Jvm.Cond.instanceMethod ({ cls := "RepeatFinder", name := "stepTowards", desc := "(II)I" } : Jvm.MethodName)) ∈ lw_all := lw_g (lw_at lw_m1 137 rfl) rfl
theorem q156 : (Jvm.Cond.code ({ cls := "RepeatFinder", name := "stepTowards", desc := "(II)I" } : Jvm.MethodName) prog_1_method_13_code (7 : Nat) (Option.some Jvm.ClassFile.FieldType.int)) ∈ lw_all := lw_g (lw_at lw_m1 138 rfl) rfl
theorem q158 : (Jvm.Cond.instanceMethod ({ cls := "RepeatFinder", name := "rank", desc := "()I" } : Jvm.MethodName)) ∈ lw_all := lw_g (lw_at lw_m1 140 rfl) rfl
theorem q159 : (Jvm.Cond.selects "RepeatFinder" ({ cls := "RepeatFinder", name := "rank", desc := "()I" } : Jvm.MethodName) ({ cls := "RepeatFinder", name := "rank", desc := "()I" } : Jvm.MethodName)) ∈ lw_all := lw_g (lw_at lw_m1 141 rfl) rfl
theorem q160 : (Jvm.Cond.code ({ cls := "RepeatFinder", name := "rank", desc := "()I" } : Jvm.MethodName) prog_1_method_14_code (6 : Nat) (Option.some Jvm.ClassFile.FieldType.int)) ∈ lw_all := lw_g (lw_at lw_m1 142 rfl) rfl
theorem q162 : (Jvm.Cond.instanceMethod ({ cls := "RepeatFinder", name := "common", desc := "()I" } : Jvm.MethodName)) ∈ lw_all := lw_g (lw_at lw_m1 144 rfl) rfl
theorem q163 : (Jvm.Cond.selects "RepeatFinder" ({ cls := "RepeatFinder", name := "common", desc := "()I" } : Jvm.MethodName) ({ cls := "RepeatFinder", name := "common", desc := "()I" } : Jvm.MethodName)) ∈ lw_all := lw_g (lw_at lw_m1 145 rfl) rfl
theorem q164 : (Jvm.Cond.code ({ cls := "RepeatFinder", name := "common", desc := "()I" } : Jvm.MethodName) prog_1_method_15_code (6 : Nat) (Option.some Jvm.ClassFile.FieldType.int)) ∈ lw_all := lw_g (lw_at lw_m1 146 rfl) rfl
theorem q166 : (Jvm.Cond.instanceMethod ({ cls := "RepeatFinder", name := "unique", desc := "(I)I" } : Jvm.MethodName)) ∈ lw_all := lw_g (lw_at lw_m1 148 rfl) rfl
theorem q167 : (Jvm.Cond.selects "RepeatFinder" ({ cls := "RepeatFinder", name := "unique", desc := "(I)I" } : Jvm.MethodName) ({ cls := "RepeatFinder", name := "unique", desc := "(I)I" } : Jvm.MethodName)) ∈ lw_all := lw_g (lw_at lw_m1 149 rfl) rfl
theorem q168 : (Jvm.Cond.code ({ cls := "RepeatFinder", name := "unique", desc := "(I)I" } : Jvm.MethodName) prog_1_method_16_code (4 : Nat) (Option.some Jvm.ClassFile.FieldType.int)) ∈ lw_all := lw_g (lw_at lw_m1 150 rfl) rfl
theorem in_X0 : ∀ w ∈ wsX00, w ∈ lw_all := lw_in wsX00 [44, 46, 48, 50, 52, 54, 56, 58, 60, 62, 64, 66, 68, 70, 72] (by decide +kernel) (by decide +kernel)
end
section
/-! RepeatFinderModel -/
set_option maxRecDepth 100000
def RX1 : String := "RepeatFinderModel"
def TX1 : u_T := fun k => match k with
  | 0 => ("RepeatFinderModel", "letters", "[I", true)
  | 1 => ("RepeatFinderModel", "textLength", "I", false)
  | 2 => ("RepeatFinderModel", "probeLength", "I", false)
  | 3 => ("RepeatFinderModel", "listPlace", "[I", true)
  | 4 => ("RepeatFinderModel", "listLength", "[I", true)
  | 5 => ("RepeatFinderModel", "listed", "I", false)
  | _ => ("RepeatFinderModel", "known", "Z", false)
def tyX1 : Nat → FieldType := fun k => match k with
  | 0 => .array .int
  | 1 => .int
  | 2 => .int
  | 3 => .array .int
  | 4 => .array .int
  | 5 => .int
  | _ => .boolean
abbrev wsX10 : List Cond := u_ws RX1 TX1 7
theorem nmX1 : ∀ a, a < 7 → ∀ b, b < 7 → a ≠ b → (TX1 a).2.1 ≠ (TX1 b).2.1 := by decide +kernel
theorem tyX1_ok : ∀ k, k < 7 → parseFieldDescriptor (TX1 k).2.2.1 = some (tyX1 k) := by decide +kernel
abbrev cX1_init : ByteArray := prog_3_method_1_code
def yX1_init : MethodName := ⟨RX1, "<init>", "()V"⟩
theorem dX1_init_0 : decode cX1_init 0 = .ok (.aload_n 0, 1) := by decide +kernel
theorem dX1_init_1 : decode cX1_init 1 = .ok (.invokespecial 1, 3) := by decide +kernel
theorem dX1_init_4 : decode cX1_init 4 = .ok (.aload_n 0, 1) := by decide +kernel
theorem dX1_init_5 : decode cX1_init 5 = .ok (.bipush 36, 2) := by decide +kernel
theorem dX1_init_7 : decode cX1_init 7 = .ok (.newarray .int, 2) := by decide +kernel
theorem dX1_init_9 : decode cX1_init 9 = .ok (.putfield 7, 3) := by decide +kernel
theorem dX1_init_12 : decode cX1_init 12 = .ok (.aload_n 0, 1) := by decide +kernel
theorem dX1_init_13 : decode cX1_init 13 = .ok (.sipush 300, 3) := by decide +kernel
theorem dX1_init_16 : decode cX1_init 16 = .ok (.newarray .int, 2) := by decide +kernel
theorem dX1_init_18 : decode cX1_init 18 = .ok (.putfield 13, 3) := by decide +kernel
theorem dX1_init_21 : decode cX1_init 21 = .ok (.aload_n 0, 1) := by decide +kernel
theorem dX1_init_22 : decode cX1_init 22 = .ok (.sipush 300, 3) := by decide +kernel
theorem dX1_init_25 : decode cX1_init 25 = .ok (.newarray .int, 2) := by decide +kernel
theorem dX1_init_27 : decode cX1_init 27 = .ok (.putfield 16, 3) := by decide +kernel
theorem dX1_init_30 : decode cX1_init 30 = .ok (.return_, 1) := by decide +kernel
abbrev cX1_type : ByteArray := prog_3_method_2_code
def yX1_type : MethodName := ⟨RX1, "type", "(I)I"⟩
theorem dX1_type_0 : decode cX1_type 0 = .ok (.aload_n 0, 1) := by decide +kernel
theorem dX1_type_1 : decode cX1_type 1 = .ok (.getfield 19, 3) := by decide +kernel
theorem dX1_type_4 : decode cX1_type 4 = .ok (.bipush 24, 2) := by decide +kernel
theorem dX1_type_6 : decode cX1_type 6 = .ok (.if_icmp .ne 5, 3) := by decide +kernel
theorem dX1_type_9 : decode cX1_type 9 = .ok (.iconst (-1), 1) := by decide +kernel
theorem dX1_type_10 : decode cX1_type 10 = .ok (.ireturn, 1) := by decide +kernel
theorem dX1_type_11 : decode cX1_type 11 = .ok (.iload_n 1, 1) := by decide +kernel
theorem dX1_type_12 : decode cX1_type 12 = .ok (.ifCond .lt 8, 3) := by decide +kernel
theorem dX1_type_15 : decode cX1_type 15 = .ok (.iload_n 1, 1) := by decide +kernel
theorem dX1_type_16 : decode cX1_type 16 = .ok (.iconst 3, 1) := by decide +kernel
theorem dX1_type_17 : decode cX1_type 17 = .ok (.if_icmp .le 6, 3) := by decide +kernel
theorem dX1_type_20 : decode cX1_type 20 = .ok (.bipush (-2), 2) := by decide +kernel
theorem dX1_type_22 : decode cX1_type 22 = .ok (.ireturn, 1) := by decide +kernel
theorem dX1_type_23 : decode cX1_type 23 = .ok (.aload_n 0, 1) := by decide +kernel
theorem dX1_type_24 : decode cX1_type 24 = .ok (.getfield 7, 3) := by decide +kernel
theorem dX1_type_27 : decode cX1_type 27 = .ok (.aload_n 0, 1) := by decide +kernel
theorem dX1_type_28 : decode cX1_type 28 = .ok (.getfield 19, 3) := by decide +kernel
theorem dX1_type_31 : decode cX1_type 31 = .ok (.iload_n 1, 1) := by decide +kernel
theorem dX1_type_32 : decode cX1_type 32 = .ok (.iastore, 1) := by decide +kernel
theorem dX1_type_33 : decode cX1_type 33 = .ok (.aload_n 0, 1) := by decide +kernel
theorem dX1_type_34 : decode cX1_type 34 = .ok (.dup, 1) := by decide +kernel
theorem dX1_type_35 : decode cX1_type 35 = .ok (.getfield 19, 3) := by decide +kernel
theorem dX1_type_38 : decode cX1_type 38 = .ok (.iconst 1, 1) := by decide +kernel
theorem dX1_type_39 : decode cX1_type 39 = .ok (.iadd, 1) := by decide +kernel
theorem dX1_type_40 : decode cX1_type 40 = .ok (.putfield 19, 3) := by decide +kernel
theorem dX1_type_43 : decode cX1_type 43 = .ok (.aload_n 0, 1) := by decide +kernel
theorem dX1_type_44 : decode cX1_type 44 = .ok (.iconst 0, 1) := by decide +kernel
theorem dX1_type_45 : decode cX1_type 45 = .ok (.putfield 23, 3) := by decide +kernel
theorem dX1_type_48 : decode cX1_type 48 = .ok (.aload_n 0, 1) := by decide +kernel
theorem dX1_type_49 : decode cX1_type 49 = .ok (.getfield 19, 3) := by decide +kernel
theorem dX1_type_52 : decode cX1_type 52 = .ok (.ireturn, 1) := by decide +kernel
abbrev cX1_shift : ByteArray := prog_3_method_3_code
def yX1_shift : MethodName := ⟨RX1, "shift", "()I"⟩
theorem dX1_shift_0 : decode cX1_shift 0 = .ok (.aload_n 0, 1) := by decide +kernel
theorem dX1_shift_1 : decode cX1_shift 1 = .ok (.getfield 19, 3) := by decide +kernel
theorem dX1_shift_4 : decode cX1_shift 4 = .ok (.ifCond .ne 6, 3) := by decide +kernel
theorem dX1_shift_7 : decode cX1_shift 7 = .ok (.bipush (-2), 2) := by decide +kernel
theorem dX1_shift_9 : decode cX1_shift 9 = .ok (.ireturn, 1) := by decide +kernel
theorem dX1_shift_10 : decode cX1_shift 10 = .ok (.aload_n 0, 1) := by decide +kernel
theorem dX1_shift_11 : decode cX1_shift 11 = .ok (.dup, 1) := by decide +kernel
theorem dX1_shift_12 : decode cX1_shift 12 = .ok (.getfield 19, 3) := by decide +kernel
theorem dX1_shift_15 : decode cX1_shift 15 = .ok (.iconst 1, 1) := by decide +kernel
theorem dX1_shift_16 : decode cX1_shift 16 = .ok (.isub, 1) := by decide +kernel
theorem dX1_shift_17 : decode cX1_shift 17 = .ok (.putfield 19, 3) := by decide +kernel
theorem dX1_shift_20 : decode cX1_shift 20 = .ok (.iconst 0, 1) := by decide +kernel
theorem dX1_shift_21 : decode cX1_shift 21 = .ok (.istore_n 1, 1) := by decide +kernel
theorem dX1_shift_22 : decode cX1_shift 22 = .ok (.iload_n 1, 1) := by decide +kernel
theorem dX1_shift_23 : decode cX1_shift 23 = .ok (.aload_n 0, 1) := by decide +kernel
theorem dX1_shift_24 : decode cX1_shift 24 = .ok (.getfield 19, 3) := by decide +kernel
theorem dX1_shift_27 : decode cX1_shift 27 = .ok (.if_icmp .ge 23, 3) := by decide +kernel
theorem dX1_shift_30 : decode cX1_shift 30 = .ok (.aload_n 0, 1) := by decide +kernel
theorem dX1_shift_31 : decode cX1_shift 31 = .ok (.getfield 7, 3) := by decide +kernel
theorem dX1_shift_34 : decode cX1_shift 34 = .ok (.iload_n 1, 1) := by decide +kernel
theorem dX1_shift_35 : decode cX1_shift 35 = .ok (.aload_n 0, 1) := by decide +kernel
theorem dX1_shift_36 : decode cX1_shift 36 = .ok (.getfield 7, 3) := by decide +kernel
theorem dX1_shift_39 : decode cX1_shift 39 = .ok (.iload_n 1, 1) := by decide +kernel
theorem dX1_shift_40 : decode cX1_shift 40 = .ok (.iconst 1, 1) := by decide +kernel
theorem dX1_shift_41 : decode cX1_shift 41 = .ok (.iadd, 1) := by decide +kernel
theorem dX1_shift_42 : decode cX1_shift 42 = .ok (.iaload, 1) := by decide +kernel
theorem dX1_shift_43 : decode cX1_shift 43 = .ok (.iastore, 1) := by decide +kernel
theorem dX1_shift_44 : decode cX1_shift 44 = .ok (.iinc 1 1, 3) := by decide +kernel
theorem dX1_shift_47 : decode cX1_shift 47 = .ok (.goto (-25), 3) := by decide +kernel
theorem dX1_shift_50 : decode cX1_shift 50 = .ok (.aload_n 0, 1) := by decide +kernel
theorem dX1_shift_51 : decode cX1_shift 51 = .ok (.iconst 0, 1) := by decide +kernel
theorem dX1_shift_52 : decode cX1_shift 52 = .ok (.putfield 23, 3) := by decide +kernel
theorem dX1_shift_55 : decode cX1_shift 55 = .ok (.aload_n 0, 1) := by decide +kernel
theorem dX1_shift_56 : decode cX1_shift 56 = .ok (.getfield 19, 3) := by decide +kernel
theorem dX1_shift_59 : decode cX1_shift 59 = .ok (.ireturn, 1) := by decide +kernel
abbrev cX1_ask : ByteArray := prog_3_method_4_code
def yX1_ask : MethodName := ⟨RX1, "ask", "(I)I"⟩
theorem dX1_ask_0 : decode cX1_ask 0 = .ok (.aload_n 0, 1) := by decide +kernel
theorem dX1_ask_1 : decode cX1_ask 1 = .ok (.getfield 27, 3) := by decide +kernel
theorem dX1_ask_4 : decode cX1_ask 4 = .ok (.bipush 12, 2) := by decide +kernel
theorem dX1_ask_6 : decode cX1_ask 6 = .ok (.if_icmp .ne 5, 3) := by decide +kernel
theorem dX1_ask_9 : decode cX1_ask 9 = .ok (.iconst (-1), 1) := by decide +kernel
theorem dX1_ask_10 : decode cX1_ask 10 = .ok (.ireturn, 1) := by decide +kernel
theorem dX1_ask_11 : decode cX1_ask 11 = .ok (.iload_n 1, 1) := by decide +kernel
theorem dX1_ask_12 : decode cX1_ask 12 = .ok (.ifCond .lt 8, 3) := by decide +kernel
theorem dX1_ask_15 : decode cX1_ask 15 = .ok (.iload_n 1, 1) := by decide +kernel
theorem dX1_ask_16 : decode cX1_ask 16 = .ok (.iconst 3, 1) := by decide +kernel
theorem dX1_ask_17 : decode cX1_ask 17 = .ok (.if_icmp .le 6, 3) := by decide +kernel
theorem dX1_ask_20 : decode cX1_ask 20 = .ok (.bipush (-2), 2) := by decide +kernel
theorem dX1_ask_22 : decode cX1_ask 22 = .ok (.ireturn, 1) := by decide +kernel
theorem dX1_ask_23 : decode cX1_ask 23 = .ok (.aload_n 0, 1) := by decide +kernel
theorem dX1_ask_24 : decode cX1_ask 24 = .ok (.getfield 7, 3) := by decide +kernel
theorem dX1_ask_27 : decode cX1_ask 27 = .ok (.bipush 24, 2) := by decide +kernel
theorem dX1_ask_29 : decode cX1_ask 29 = .ok (.aload_n 0, 1) := by decide +kernel
theorem dX1_ask_30 : decode cX1_ask 30 = .ok (.getfield 27, 3) := by decide +kernel
theorem dX1_ask_33 : decode cX1_ask 33 = .ok (.iadd, 1) := by decide +kernel
theorem dX1_ask_34 : decode cX1_ask 34 = .ok (.iload_n 1, 1) := by decide +kernel
theorem dX1_ask_35 : decode cX1_ask 35 = .ok (.iastore, 1) := by decide +kernel
theorem dX1_ask_36 : decode cX1_ask 36 = .ok (.aload_n 0, 1) := by decide +kernel
theorem dX1_ask_37 : decode cX1_ask 37 = .ok (.dup, 1) := by decide +kernel
theorem dX1_ask_38 : decode cX1_ask 38 = .ok (.getfield 27, 3) := by decide +kernel
theorem dX1_ask_41 : decode cX1_ask 41 = .ok (.iconst 1, 1) := by decide +kernel
theorem dX1_ask_42 : decode cX1_ask 42 = .ok (.iadd, 1) := by decide +kernel
theorem dX1_ask_43 : decode cX1_ask 43 = .ok (.putfield 27, 3) := by decide +kernel
theorem dX1_ask_46 : decode cX1_ask 46 = .ok (.aload_n 0, 1) := by decide +kernel
theorem dX1_ask_47 : decode cX1_ask 47 = .ok (.getfield 27, 3) := by decide +kernel
theorem dX1_ask_50 : decode cX1_ask 50 = .ok (.ireturn, 1) := by decide +kernel
abbrev cX1_wipe : ByteArray := prog_3_method_5_code
def yX1_wipe : MethodName := ⟨RX1, "wipe", "()I"⟩
theorem dX1_wipe_0 : decode cX1_wipe 0 = .ok (.aload_n 0, 1) := by decide +kernel
theorem dX1_wipe_1 : decode cX1_wipe 1 = .ok (.getfield 27, 3) := by decide +kernel
theorem dX1_wipe_4 : decode cX1_wipe 4 = .ok (.istore_n 1, 1) := by decide +kernel
theorem dX1_wipe_5 : decode cX1_wipe 5 = .ok (.aload_n 0, 1) := by decide +kernel
theorem dX1_wipe_6 : decode cX1_wipe 6 = .ok (.iconst 0, 1) := by decide +kernel
theorem dX1_wipe_7 : decode cX1_wipe 7 = .ok (.putfield 27, 3) := by decide +kernel
theorem dX1_wipe_10 : decode cX1_wipe 10 = .ok (.iload_n 1, 1) := by decide +kernel
theorem dX1_wipe_11 : decode cX1_wipe 11 = .ok (.ireturn, 1) := by decide +kernel
abbrev cX1_count : ByteArray := prog_3_method_9_code
def yX1_count : MethodName := ⟨RX1, "count", "()I"⟩
theorem dX1_count_0 : decode cX1_count 0 = .ok (.aload_n 0, 1) := by decide +kernel
theorem dX1_count_1 : decode cX1_count 1 = .ok (.getfield 27, 3) := by decide +kernel
theorem dX1_count_4 : decode cX1_count 4 = .ok (.ifCond .ne 8, 3) := by decide +kernel
theorem dX1_count_7 : decode cX1_count 7 = .ok (.bipush (-3), 2) := by decide +kernel
theorem dX1_count_9 : decode cX1_count 9 = .ok (.goto 13, 3) := by decide +kernel
theorem dX1_count_12 : decode cX1_count 12 = .ok (.aload_n 0, 1) := by decide +kernel
theorem dX1_count_13 : decode cX1_count 13 = .ok (.bipush 24, 2) := by decide +kernel
theorem dX1_count_15 : decode cX1_count 15 = .ok (.aload_n 0, 1) := by decide +kernel
theorem dX1_count_16 : decode cX1_count 16 = .ok (.getfield 27, 3) := by decide +kernel
theorem dX1_count_19 : decode cX1_count 19 = .ok (.invokevirtual 34, 3) := by decide +kernel
theorem dX1_count_22 : decode cX1_count 22 = .ok (.ireturn, 1) := by decide +kernel
abbrev cX1_countOf : ByteArray := prog_3_method_7_code
def yX1_countOf : MethodName := ⟨RX1, "countOf", "(II)I"⟩
theorem dX1_countOf_0 : decode cX1_countOf 0 = .ok (.iconst 0, 1) := by decide +kernel
theorem dX1_countOf_1 : decode cX1_countOf 1 = .ok (.istore_n 3, 1) := by decide +kernel
theorem dX1_countOf_2 : decode cX1_countOf 2 = .ok (.iconst 0, 1) := by decide +kernel
theorem dX1_countOf_3 : decode cX1_countOf 3 = .ok (.istore 4, 2) := by decide +kernel
theorem dX1_countOf_5 : decode cX1_countOf 5 = .ok (.iload 4, 2) := by decide +kernel
theorem dX1_countOf_7 : decode cX1_countOf 7 = .ok (.iload_n 2, 1) := by decide +kernel
theorem dX1_countOf_8 : decode cX1_countOf 8 = .ok (.iadd, 1) := by decide +kernel
theorem dX1_countOf_9 : decode cX1_countOf 9 = .ok (.aload_n 0, 1) := by decide +kernel
theorem dX1_countOf_10 : decode cX1_countOf 10 = .ok (.getfield 19, 3) := by decide +kernel
theorem dX1_countOf_13 : decode cX1_countOf 13 = .ok (.if_icmp .gt 23, 3) := by decide +kernel
theorem dX1_countOf_16 : decode cX1_countOf 16 = .ok (.aload_n 0, 1) := by decide +kernel
theorem dX1_countOf_17 : decode cX1_countOf 17 = .ok (.iload_n 1, 1) := by decide +kernel
theorem dX1_countOf_18 : decode cX1_countOf 18 = .ok (.iload 4, 2) := by decide +kernel
theorem dX1_countOf_20 : decode cX1_countOf 20 = .ok (.iload_n 2, 1) := by decide +kernel
theorem dX1_countOf_21 : decode cX1_countOf 21 = .ok (.invokevirtual 30, 3) := by decide +kernel
theorem dX1_countOf_24 : decode cX1_countOf 24 = .ok (.ifCond .eq 6, 3) := by decide +kernel
theorem dX1_countOf_27 : decode cX1_countOf 27 = .ok (.iinc 3 1, 3) := by decide +kernel
theorem dX1_countOf_30 : decode cX1_countOf 30 = .ok (.iinc 4 1, 3) := by decide +kernel
theorem dX1_countOf_33 : decode cX1_countOf 33 = .ok (.goto (-28), 3) := by decide +kernel
theorem dX1_countOf_36 : decode cX1_countOf 36 = .ok (.iload_n 3, 1) := by decide +kernel
theorem dX1_countOf_37 : decode cX1_countOf 37 = .ok (.ireturn, 1) := by decide +kernel
abbrev cX1_same : ByteArray := prog_3_method_6_code
def yX1_same : MethodName := ⟨RX1, "same", "(III)Z"⟩
theorem dX1_same_0 : decode cX1_same 0 = .ok (.iconst 0, 1) := by decide +kernel
theorem dX1_same_1 : decode cX1_same 1 = .ok (.istore 4, 2) := by decide +kernel
theorem dX1_same_3 : decode cX1_same 3 = .ok (.iload 4, 2) := by decide +kernel
theorem dX1_same_5 : decode cX1_same 5 = .ok (.iload_n 3, 1) := by decide +kernel
theorem dX1_same_6 : decode cX1_same 6 = .ok (.if_icmp .ge 32, 3) := by decide +kernel
theorem dX1_same_9 : decode cX1_same 9 = .ok (.aload_n 0, 1) := by decide +kernel
theorem dX1_same_10 : decode cX1_same 10 = .ok (.getfield 7, 3) := by decide +kernel
theorem dX1_same_13 : decode cX1_same 13 = .ok (.iload_n 1, 1) := by decide +kernel
theorem dX1_same_14 : decode cX1_same 14 = .ok (.iload 4, 2) := by decide +kernel
theorem dX1_same_16 : decode cX1_same 16 = .ok (.iadd, 1) := by decide +kernel
theorem dX1_same_17 : decode cX1_same 17 = .ok (.iaload, 1) := by decide +kernel
theorem dX1_same_18 : decode cX1_same 18 = .ok (.aload_n 0, 1) := by decide +kernel
theorem dX1_same_19 : decode cX1_same 19 = .ok (.getfield 7, 3) := by decide +kernel
theorem dX1_same_22 : decode cX1_same 22 = .ok (.iload_n 2, 1) := by decide +kernel
theorem dX1_same_23 : decode cX1_same 23 = .ok (.iload 4, 2) := by decide +kernel
theorem dX1_same_25 : decode cX1_same 25 = .ok (.iadd, 1) := by decide +kernel
theorem dX1_same_26 : decode cX1_same 26 = .ok (.iaload, 1) := by decide +kernel
theorem dX1_same_27 : decode cX1_same 27 = .ok (.if_icmp .eq 5, 3) := by decide +kernel
theorem dX1_same_30 : decode cX1_same 30 = .ok (.iconst 0, 1) := by decide +kernel
theorem dX1_same_31 : decode cX1_same 31 = .ok (.ireturn, 1) := by decide +kernel
theorem dX1_same_32 : decode cX1_same 32 = .ok (.iinc 4 1, 3) := by decide +kernel
theorem dX1_same_35 : decode cX1_same 35 = .ok (.goto (-32), 3) := by decide +kernel
theorem dX1_same_38 : decode cX1_same 38 = .ok (.iconst 1, 1) := by decide +kernel
theorem dX1_same_39 : decode cX1_same 39 = .ok (.ireturn, 1) := by decide +kernel
abbrev cX1_place : ByteArray := prog_3_method_10_code
def yX1_place : MethodName := ⟨RX1, "place", "()I"⟩
theorem dX1_place_0 : decode cX1_place 0 = .ok (.aload_n 0, 1) := by decide +kernel
theorem dX1_place_1 : decode cX1_place 1 = .ok (.getfield 27, 3) := by decide +kernel
theorem dX1_place_4 : decode cX1_place 4 = .ok (.ifCond .ne 8, 3) := by decide +kernel
theorem dX1_place_7 : decode cX1_place 7 = .ok (.bipush (-3), 2) := by decide +kernel
theorem dX1_place_9 : decode cX1_place 9 = .ok (.goto 13, 3) := by decide +kernel
theorem dX1_place_12 : decode cX1_place 12 = .ok (.aload_n 0, 1) := by decide +kernel
theorem dX1_place_13 : decode cX1_place 13 = .ok (.bipush 24, 2) := by decide +kernel
theorem dX1_place_15 : decode cX1_place 15 = .ok (.aload_n 0, 1) := by decide +kernel
theorem dX1_place_16 : decode cX1_place 16 = .ok (.getfield 27, 3) := by decide +kernel
theorem dX1_place_19 : decode cX1_place 19 = .ok (.invokevirtual 38, 3) := by decide +kernel
theorem dX1_place_22 : decode cX1_place 22 = .ok (.ireturn, 1) := by decide +kernel
abbrev cX1_firstOf : ByteArray := prog_3_method_8_code
def yX1_firstOf : MethodName := ⟨RX1, "firstOf", "(II)I"⟩
theorem dX1_firstOf_0 : decode cX1_firstOf 0 = .ok (.iconst 0, 1) := by decide +kernel
theorem dX1_firstOf_1 : decode cX1_firstOf 1 = .ok (.istore_n 3, 1) := by decide +kernel
theorem dX1_firstOf_2 : decode cX1_firstOf 2 = .ok (.iload_n 3, 1) := by decide +kernel
theorem dX1_firstOf_3 : decode cX1_firstOf 3 = .ok (.iload_n 2, 1) := by decide +kernel
theorem dX1_firstOf_4 : decode cX1_firstOf 4 = .ok (.iadd, 1) := by decide +kernel
theorem dX1_firstOf_5 : decode cX1_firstOf 5 = .ok (.aload_n 0, 1) := by decide +kernel
theorem dX1_firstOf_6 : decode cX1_firstOf 6 = .ok (.getfield 19, 3) := by decide +kernel
theorem dX1_firstOf_9 : decode cX1_firstOf 9 = .ok (.if_icmp .gt 21, 3) := by decide +kernel
theorem dX1_firstOf_12 : decode cX1_firstOf 12 = .ok (.aload_n 0, 1) := by decide +kernel
theorem dX1_firstOf_13 : decode cX1_firstOf 13 = .ok (.iload_n 1, 1) := by decide +kernel
theorem dX1_firstOf_14 : decode cX1_firstOf 14 = .ok (.iload_n 3, 1) := by decide +kernel
theorem dX1_firstOf_15 : decode cX1_firstOf 15 = .ok (.iload_n 2, 1) := by decide +kernel
theorem dX1_firstOf_16 : decode cX1_firstOf 16 = .ok (.invokevirtual 30, 3) := by decide +kernel
theorem dX1_firstOf_19 : decode cX1_firstOf 19 = .ok (.ifCond .eq 5, 3) := by decide +kernel
theorem dX1_firstOf_22 : decode cX1_firstOf 22 = .ok (.iload_n 3, 1) := by decide +kernel
theorem dX1_firstOf_23 : decode cX1_firstOf 23 = .ok (.ireturn, 1) := by decide +kernel
theorem dX1_firstOf_24 : decode cX1_firstOf 24 = .ok (.iinc 3 1, 3) := by decide +kernel
theorem dX1_firstOf_27 : decode cX1_firstOf 27 = .ok (.goto (-25), 3) := by decide +kernel
theorem dX1_firstOf_30 : decode cX1_firstOf 30 = .ok (.bipush (-3), 2) := by decide +kernel
theorem dX1_firstOf_32 : decode cX1_firstOf 32 = .ok (.ireturn, 1) := by decide +kernel
abbrev cX1_words : ByteArray := prog_3_method_12_code
def yX1_words : MethodName := ⟨RX1, "words", "()I"⟩
theorem dX1_words_0 : decode cX1_words 0 = .ok (.aload_n 0, 1) := by decide +kernel
theorem dX1_words_1 : decode cX1_words 1 = .ok (.invokevirtual 44, 3) := by decide +kernel
theorem dX1_words_4 : decode cX1_words 4 = .ok (.aload_n 0, 1) := by decide +kernel
theorem dX1_words_5 : decode cX1_words 5 = .ok (.getfield 41, 3) := by decide +kernel
theorem dX1_words_8 : decode cX1_words 8 = .ok (.ireturn, 1) := by decide +kernel
abbrev cX1_list : ByteArray := prog_3_method_11_code
def yX1_list : MethodName := ⟨RX1, "list", "()V"⟩
theorem dX1_list_0 : decode cX1_list 0 = .ok (.aload_n 0, 1) := by decide +kernel
theorem dX1_list_1 : decode cX1_list 1 = .ok (.getfield 23, 3) := by decide +kernel
theorem dX1_list_4 : decode cX1_list 4 = .ok (.ifCond .eq 4, 3) := by decide +kernel
theorem dX1_list_7 : decode cX1_list 7 = .ok (.return_, 1) := by decide +kernel
theorem dX1_list_8 : decode cX1_list 8 = .ok (.aload_n 0, 1) := by decide +kernel
theorem dX1_list_9 : decode cX1_list 9 = .ok (.iconst 1, 1) := by decide +kernel
theorem dX1_list_10 : decode cX1_list 10 = .ok (.putfield 23, 3) := by decide +kernel
theorem dX1_list_13 : decode cX1_list 13 = .ok (.aload_n 0, 1) := by decide +kernel
theorem dX1_list_14 : decode cX1_list 14 = .ok (.iconst 0, 1) := by decide +kernel
theorem dX1_list_15 : decode cX1_list 15 = .ok (.putfield 41, 3) := by decide +kernel
theorem dX1_list_18 : decode cX1_list 18 = .ok (.iconst 0, 1) := by decide +kernel
theorem dX1_list_19 : decode cX1_list 19 = .ok (.istore_n 1, 1) := by decide +kernel
theorem dX1_list_20 : decode cX1_list 20 = .ok (.iload_n 1, 1) := by decide +kernel
theorem dX1_list_21 : decode cX1_list 21 = .ok (.aload_n 0, 1) := by decide +kernel
theorem dX1_list_22 : decode cX1_list 22 = .ok (.getfield 19, 3) := by decide +kernel
theorem dX1_list_25 : decode cX1_list 25 = .ok (.if_icmp .ge 67, 3) := by decide +kernel
theorem dX1_list_28 : decode cX1_list 28 = .ok (.iconst 1, 1) := by decide +kernel
theorem dX1_list_29 : decode cX1_list 29 = .ok (.istore_n 2, 1) := by decide +kernel
theorem dX1_list_30 : decode cX1_list 30 = .ok (.iload_n 1, 1) := by decide +kernel
theorem dX1_list_31 : decode cX1_list 31 = .ok (.iload_n 2, 1) := by decide +kernel
theorem dX1_list_32 : decode cX1_list 32 = .ok (.iadd, 1) := by decide +kernel
theorem dX1_list_33 : decode cX1_list 33 = .ok (.aload_n 0, 1) := by decide +kernel
theorem dX1_list_34 : decode cX1_list 34 = .ok (.getfield 19, 3) := by decide +kernel
theorem dX1_list_37 : decode cX1_list 37 = .ok (.if_icmp .gt 49, 3) := by decide +kernel
theorem dX1_list_40 : decode cX1_list 40 = .ok (.aload_n 0, 1) := by decide +kernel
theorem dX1_list_41 : decode cX1_list 41 = .ok (.iload_n 1, 1) := by decide +kernel
theorem dX1_list_42 : decode cX1_list 42 = .ok (.iload_n 2, 1) := by decide +kernel
theorem dX1_list_43 : decode cX1_list 43 = .ok (.invokevirtual 38, 3) := by decide +kernel
theorem dX1_list_46 : decode cX1_list 46 = .ok (.iload_n 1, 1) := by decide +kernel
theorem dX1_list_47 : decode cX1_list 47 = .ok (.if_icmp .ne 33, 3) := by decide +kernel
theorem dX1_list_50 : decode cX1_list 50 = .ok (.aload_n 0, 1) := by decide +kernel
theorem dX1_list_51 : decode cX1_list 51 = .ok (.getfield 13, 3) := by decide +kernel
theorem dX1_list_54 : decode cX1_list 54 = .ok (.aload_n 0, 1) := by decide +kernel
theorem dX1_list_55 : decode cX1_list 55 = .ok (.getfield 41, 3) := by decide +kernel
theorem dX1_list_58 : decode cX1_list 58 = .ok (.iload_n 1, 1) := by decide +kernel
theorem dX1_list_59 : decode cX1_list 59 = .ok (.iastore, 1) := by decide +kernel
theorem dX1_list_60 : decode cX1_list 60 = .ok (.aload_n 0, 1) := by decide +kernel
theorem dX1_list_61 : decode cX1_list 61 = .ok (.getfield 16, 3) := by decide +kernel
theorem dX1_list_64 : decode cX1_list 64 = .ok (.aload_n 0, 1) := by decide +kernel
theorem dX1_list_65 : decode cX1_list 65 = .ok (.getfield 41, 3) := by decide +kernel
theorem dX1_list_68 : decode cX1_list 68 = .ok (.iload_n 2, 1) := by decide +kernel
theorem dX1_list_69 : decode cX1_list 69 = .ok (.iastore, 1) := by decide +kernel
theorem dX1_list_70 : decode cX1_list 70 = .ok (.aload_n 0, 1) := by decide +kernel
theorem dX1_list_71 : decode cX1_list 71 = .ok (.dup, 1) := by decide +kernel
theorem dX1_list_72 : decode cX1_list 72 = .ok (.getfield 41, 3) := by decide +kernel
theorem dX1_list_75 : decode cX1_list 75 = .ok (.iconst 1, 1) := by decide +kernel
theorem dX1_list_76 : decode cX1_list 76 = .ok (.iadd, 1) := by decide +kernel
theorem dX1_list_77 : decode cX1_list 77 = .ok (.putfield 41, 3) := by decide +kernel
theorem dX1_list_80 : decode cX1_list 80 = .ok (.iinc 2 1, 3) := by decide +kernel
theorem dX1_list_83 : decode cX1_list 83 = .ok (.goto (-53), 3) := by decide +kernel
theorem dX1_list_86 : decode cX1_list 86 = .ok (.iinc 1 1, 3) := by decide +kernel
theorem dX1_list_89 : decode cX1_list 89 = .ok (.goto (-69), 3) := by decide +kernel
theorem dX1_list_92 : decode cX1_list 92 = .ok (.return_, 1) := by decide +kernel
abbrev cX1_longest : ByteArray := prog_3_method_13_code
def yX1_longest : MethodName := ⟨RX1, "longest", "(I)I"⟩
theorem dX1_longest_0 : decode cX1_longest 0 = .ok (.iload_n 1, 1) := by decide +kernel
theorem dX1_longest_1 : decode cX1_longest 1 = .ok (.iconst 1, 1) := by decide +kernel
theorem dX1_longest_2 : decode cX1_longest 2 = .ok (.if_icmp .lt 9, 3) := by decide +kernel
theorem dX1_longest_5 : decode cX1_longest 5 = .ok (.iload_n 1, 1) := by decide +kernel
theorem dX1_longest_6 : decode cX1_longest 6 = .ok (.bipush 24, 2) := by decide +kernel
theorem dX1_longest_8 : decode cX1_longest 8 = .ok (.if_icmp .le 6, 3) := by decide +kernel
theorem dX1_longest_11 : decode cX1_longest 11 = .ok (.bipush (-2), 2) := by decide +kernel
theorem dX1_longest_13 : decode cX1_longest 13 = .ok (.ireturn, 1) := by decide +kernel
theorem dX1_longest_14 : decode cX1_longest 14 = .ok (.iconst 0, 1) := by decide +kernel
theorem dX1_longest_15 : decode cX1_longest 15 = .ok (.istore_n 2, 1) := by decide +kernel
theorem dX1_longest_16 : decode cX1_longest 16 = .ok (.aload_n 0, 1) := by decide +kernel
theorem dX1_longest_17 : decode cX1_longest 17 = .ok (.invokevirtual 44, 3) := by decide +kernel
theorem dX1_longest_20 : decode cX1_longest 20 = .ok (.iconst 0, 1) := by decide +kernel
theorem dX1_longest_21 : decode cX1_longest 21 = .ok (.istore_n 3, 1) := by decide +kernel
theorem dX1_longest_22 : decode cX1_longest 22 = .ok (.iload_n 3, 1) := by decide +kernel
theorem dX1_longest_23 : decode cX1_longest 23 = .ok (.aload_n 0, 1) := by decide +kernel
theorem dX1_longest_24 : decode cX1_longest 24 = .ok (.getfield 41, 3) := by decide +kernel
theorem dX1_longest_27 : decode cX1_longest 27 = .ok (.if_icmp .ge 46, 3) := by decide +kernel
theorem dX1_longest_30 : decode cX1_longest 30 = .ok (.aload_n 0, 1) := by decide +kernel
theorem dX1_longest_31 : decode cX1_longest 31 = .ok (.getfield 16, 3) := by decide +kernel
theorem dX1_longest_34 : decode cX1_longest 34 = .ok (.iload_n 3, 1) := by decide +kernel
theorem dX1_longest_35 : decode cX1_longest 35 = .ok (.iaload, 1) := by decide +kernel
theorem dX1_longest_36 : decode cX1_longest 36 = .ok (.iload_n 2, 1) := by decide +kernel
theorem dX1_longest_37 : decode cX1_longest 37 = .ok (.if_icmp .le 30, 3) := by decide +kernel
theorem dX1_longest_40 : decode cX1_longest 40 = .ok (.aload_n 0, 1) := by decide +kernel
theorem dX1_longest_41 : decode cX1_longest 41 = .ok (.aload_n 0, 1) := by decide +kernel
theorem dX1_longest_42 : decode cX1_longest 42 = .ok (.getfield 13, 3) := by decide +kernel
theorem dX1_longest_45 : decode cX1_longest 45 = .ok (.iload_n 3, 1) := by decide +kernel
theorem dX1_longest_46 : decode cX1_longest 46 = .ok (.iaload, 1) := by decide +kernel
theorem dX1_longest_47 : decode cX1_longest 47 = .ok (.aload_n 0, 1) := by decide +kernel
theorem dX1_longest_48 : decode cX1_longest 48 = .ok (.getfield 16, 3) := by decide +kernel
theorem dX1_longest_51 : decode cX1_longest 51 = .ok (.iload_n 3, 1) := by decide +kernel
theorem dX1_longest_52 : decode cX1_longest 52 = .ok (.iaload, 1) := by decide +kernel
theorem dX1_longest_53 : decode cX1_longest 53 = .ok (.invokevirtual 34, 3) := by decide +kernel
theorem dX1_longest_56 : decode cX1_longest 56 = .ok (.iload_n 1, 1) := by decide +kernel
theorem dX1_longest_57 : decode cX1_longest 57 = .ok (.if_icmp .lt 10, 3) := by decide +kernel
theorem dX1_longest_60 : decode cX1_longest 60 = .ok (.aload_n 0, 1) := by decide +kernel
theorem dX1_longest_61 : decode cX1_longest 61 = .ok (.getfield 16, 3) := by decide +kernel
theorem dX1_longest_64 : decode cX1_longest 64 = .ok (.iload_n 3, 1) := by decide +kernel
theorem dX1_longest_65 : decode cX1_longest 65 = .ok (.iaload, 1) := by decide +kernel
theorem dX1_longest_66 : decode cX1_longest 66 = .ok (.istore_n 2, 1) := by decide +kernel
theorem dX1_longest_67 : decode cX1_longest 67 = .ok (.iinc 3 1, 3) := by decide +kernel
theorem dX1_longest_70 : decode cX1_longest 70 = .ok (.goto (-48), 3) := by decide +kernel
theorem dX1_longest_73 : decode cX1_longest 73 = .ok (.iload_n 2, 1) := by decide +kernel
theorem dX1_longest_74 : decode cX1_longest 74 = .ok (.ireturn, 1) := by decide +kernel
abbrev cX1_repeats : ByteArray := prog_3_method_16_code
def yX1_repeats : MethodName := ⟨RX1, "repeats", "()I"⟩
theorem dX1_repeats_0 : decode cX1_repeats 0 = .ok (.iconst 0, 1) := by decide +kernel
theorem dX1_repeats_1 : decode cX1_repeats 1 = .ok (.istore_n 1, 1) := by decide +kernel
theorem dX1_repeats_2 : decode cX1_repeats 2 = .ok (.aload_n 0, 1) := by decide +kernel
theorem dX1_repeats_3 : decode cX1_repeats 3 = .ok (.invokevirtual 44, 3) := by decide +kernel
theorem dX1_repeats_6 : decode cX1_repeats 6 = .ok (.iconst 0, 1) := by decide +kernel
theorem dX1_repeats_7 : decode cX1_repeats 7 = .ok (.istore_n 2, 1) := by decide +kernel
theorem dX1_repeats_8 : decode cX1_repeats 8 = .ok (.iload_n 2, 1) := by decide +kernel
theorem dX1_repeats_9 : decode cX1_repeats 9 = .ok (.aload_n 0, 1) := by decide +kernel
theorem dX1_repeats_10 : decode cX1_repeats 10 = .ok (.getfield 41, 3) := by decide +kernel
theorem dX1_repeats_13 : decode cX1_repeats 13 = .ok (.if_icmp .ge 20, 3) := by decide +kernel
theorem dX1_repeats_16 : decode cX1_repeats 16 = .ok (.aload_n 0, 1) := by decide +kernel
theorem dX1_repeats_17 : decode cX1_repeats 17 = .ok (.iload_n 2, 1) := by decide +kernel
theorem dX1_repeats_18 : decode cX1_repeats 18 = .ok (.invokevirtual 51, 3) := by decide +kernel
theorem dX1_repeats_21 : decode cX1_repeats 21 = .ok (.ifCond .eq 6, 3) := by decide +kernel
theorem dX1_repeats_24 : decode cX1_repeats 24 = .ok (.iinc 1 1, 3) := by decide +kernel
theorem dX1_repeats_27 : decode cX1_repeats 27 = .ok (.iinc 2 1, 3) := by decide +kernel
theorem dX1_repeats_30 : decode cX1_repeats 30 = .ok (.goto (-22), 3) := by decide +kernel
theorem dX1_repeats_33 : decode cX1_repeats 33 = .ok (.iload_n 1, 1) := by decide +kernel
theorem dX1_repeats_34 : decode cX1_repeats 34 = .ok (.ireturn, 1) := by decide +kernel
abbrev cX1_maximal : ByteArray := prog_3_method_15_code
def yX1_maximal : MethodName := ⟨RX1, "maximal", "(I)Z"⟩
theorem dX1_maximal_0 : decode cX1_maximal 0 = .ok (.aload_n 0, 1) := by decide +kernel
theorem dX1_maximal_1 : decode cX1_maximal 1 = .ok (.aload_n 0, 1) := by decide +kernel
theorem dX1_maximal_2 : decode cX1_maximal 2 = .ok (.getfield 13, 3) := by decide +kernel
theorem dX1_maximal_5 : decode cX1_maximal 5 = .ok (.iload_n 1, 1) := by decide +kernel
theorem dX1_maximal_6 : decode cX1_maximal 6 = .ok (.iaload, 1) := by decide +kernel
theorem dX1_maximal_7 : decode cX1_maximal 7 = .ok (.aload_n 0, 1) := by decide +kernel
theorem dX1_maximal_8 : decode cX1_maximal 8 = .ok (.getfield 16, 3) := by decide +kernel
theorem dX1_maximal_11 : decode cX1_maximal 11 = .ok (.iload_n 1, 1) := by decide +kernel
theorem dX1_maximal_12 : decode cX1_maximal 12 = .ok (.iaload, 1) := by decide +kernel
theorem dX1_maximal_13 : decode cX1_maximal 13 = .ok (.invokevirtual 34, 3) := by decide +kernel
theorem dX1_maximal_16 : decode cX1_maximal 16 = .ok (.istore_n 2, 1) := by decide +kernel
theorem dX1_maximal_17 : decode cX1_maximal 17 = .ok (.iload_n 2, 1) := by decide +kernel
theorem dX1_maximal_18 : decode cX1_maximal 18 = .ok (.iconst 2, 1) := by decide +kernel
theorem dX1_maximal_19 : decode cX1_maximal 19 = .ok (.if_icmp .ge 5, 3) := by decide +kernel
theorem dX1_maximal_22 : decode cX1_maximal 22 = .ok (.iconst 0, 1) := by decide +kernel
theorem dX1_maximal_23 : decode cX1_maximal 23 = .ok (.ireturn, 1) := by decide +kernel
theorem dX1_maximal_24 : decode cX1_maximal 24 = .ok (.iconst 0, 1) := by decide +kernel
theorem dX1_maximal_25 : decode cX1_maximal 25 = .ok (.istore_n 3, 1) := by decide +kernel
theorem dX1_maximal_26 : decode cX1_maximal 26 = .ok (.iload_n 3, 1) := by decide +kernel
theorem dX1_maximal_27 : decode cX1_maximal 27 = .ok (.iconst 4, 1) := by decide +kernel
theorem dX1_maximal_28 : decode cX1_maximal 28 = .ok (.if_icmp .ge 33, 3) := by decide +kernel
theorem dX1_maximal_31 : decode cX1_maximal 31 = .ok (.aload_n 0, 1) := by decide +kernel
theorem dX1_maximal_32 : decode cX1_maximal 32 = .ok (.iload_n 1, 1) := by decide +kernel
theorem dX1_maximal_33 : decode cX1_maximal 33 = .ok (.iload_n 3, 1) := by decide +kernel
theorem dX1_maximal_34 : decode cX1_maximal 34 = .ok (.iconst (-1), 1) := by decide +kernel
theorem dX1_maximal_35 : decode cX1_maximal 35 = .ok (.invokevirtual 47, 3) := by decide +kernel
theorem dX1_maximal_38 : decode cX1_maximal 38 = .ok (.iload_n 2, 1) := by decide +kernel
theorem dX1_maximal_39 : decode cX1_maximal 39 = .ok (.if_icmp .eq 14, 3) := by decide +kernel
theorem dX1_maximal_42 : decode cX1_maximal 42 = .ok (.aload_n 0, 1) := by decide +kernel
theorem dX1_maximal_43 : decode cX1_maximal 43 = .ok (.iload_n 1, 1) := by decide +kernel
theorem dX1_maximal_44 : decode cX1_maximal 44 = .ok (.iload_n 3, 1) := by decide +kernel
theorem dX1_maximal_45 : decode cX1_maximal 45 = .ok (.iconst 1, 1) := by decide +kernel
theorem dX1_maximal_46 : decode cX1_maximal 46 = .ok (.invokevirtual 47, 3) := by decide +kernel
theorem dX1_maximal_49 : decode cX1_maximal 49 = .ok (.iload_n 2, 1) := by decide +kernel
theorem dX1_maximal_50 : decode cX1_maximal 50 = .ok (.if_icmp .ne 5, 3) := by decide +kernel
theorem dX1_maximal_53 : decode cX1_maximal 53 = .ok (.iconst 0, 1) := by decide +kernel
theorem dX1_maximal_54 : decode cX1_maximal 54 = .ok (.ireturn, 1) := by decide +kernel
theorem dX1_maximal_55 : decode cX1_maximal 55 = .ok (.iinc 3 1, 3) := by decide +kernel
theorem dX1_maximal_58 : decode cX1_maximal 58 = .ok (.goto (-32), 3) := by decide +kernel
theorem dX1_maximal_61 : decode cX1_maximal 61 = .ok (.iconst 1, 1) := by decide +kernel
theorem dX1_maximal_62 : decode cX1_maximal 62 = .ok (.ireturn, 1) := by decide +kernel
abbrev cX1_withBeside : ByteArray := prog_3_method_14_code
def yX1_withBeside : MethodName := ⟨RX1, "withBeside", "(III)I"⟩
theorem dX1_withBeside_0 : decode cX1_withBeside 0 = .ok (.iconst 0, 1) := by decide +kernel
theorem dX1_withBeside_1 : decode cX1_withBeside 1 = .ok (.istore 4, 2) := by decide +kernel
theorem dX1_withBeside_3 : decode cX1_withBeside 3 = .ok (.aload_n 0, 1) := by decide +kernel
theorem dX1_withBeside_4 : decode cX1_withBeside 4 = .ok (.getfield 16, 3) := by decide +kernel
theorem dX1_withBeside_7 : decode cX1_withBeside 7 = .ok (.iload_n 1, 1) := by decide +kernel
theorem dX1_withBeside_8 : decode cX1_withBeside 8 = .ok (.iaload, 1) := by decide +kernel
theorem dX1_withBeside_9 : decode cX1_withBeside 9 = .ok (.istore 5, 2) := by decide +kernel
theorem dX1_withBeside_11 : decode cX1_withBeside 11 = .ok (.iconst 0, 1) := by decide +kernel
theorem dX1_withBeside_12 : decode cX1_withBeside 12 = .ok (.istore 6, 2) := by decide +kernel
theorem dX1_withBeside_14 : decode cX1_withBeside 14 = .ok (.iload 6, 2) := by decide +kernel
theorem dX1_withBeside_16 : decode cX1_withBeside 16 = .ok (.iload 5, 2) := by decide +kernel
theorem dX1_withBeside_18 : decode cX1_withBeside 18 = .ok (.iadd, 1) := by decide +kernel
theorem dX1_withBeside_19 : decode cX1_withBeside 19 = .ok (.aload_n 0, 1) := by decide +kernel
theorem dX1_withBeside_20 : decode cX1_withBeside 20 = .ok (.getfield 19, 3) := by decide +kernel
theorem dX1_withBeside_23 : decode cX1_withBeside 23 = .ok (.if_icmp .gt 84, 3) := by decide +kernel
theorem dX1_withBeside_26 : decode cX1_withBeside 26 = .ok (.iload_n 3, 1) := by decide +kernel
theorem dX1_withBeside_27 : decode cX1_withBeside 27 = .ok (.ifCond .ge 10, 3) := by decide +kernel
theorem dX1_withBeside_30 : decode cX1_withBeside 30 = .ok (.iload 6, 2) := by decide +kernel
theorem dX1_withBeside_32 : decode cX1_withBeside 32 = .ok (.iconst 1, 1) := by decide +kernel
theorem dX1_withBeside_33 : decode cX1_withBeside 33 = .ok (.isub, 1) := by decide +kernel
theorem dX1_withBeside_34 : decode cX1_withBeside 34 = .ok (.goto 8, 3) := by decide +kernel
theorem dX1_withBeside_37 : decode cX1_withBeside 37 = .ok (.iload 6, 2) := by decide +kernel
theorem dX1_withBeside_39 : decode cX1_withBeside 39 = .ok (.iload 5, 2) := by decide +kernel
theorem dX1_withBeside_41 : decode cX1_withBeside 41 = .ok (.iadd, 1) := by decide +kernel
theorem dX1_withBeside_42 : decode cX1_withBeside 42 = .ok (.istore 7, 2) := by decide +kernel
theorem dX1_withBeside_44 : decode cX1_withBeside 44 = .ok (.iload 7, 2) := by decide +kernel
theorem dX1_withBeside_46 : decode cX1_withBeside 46 = .ok (.ifCond .lt 16, 3) := by decide +kernel
theorem dX1_withBeside_49 : decode cX1_withBeside 49 = .ok (.iload 7, 2) := by decide +kernel
theorem dX1_withBeside_51 : decode cX1_withBeside 51 = .ok (.aload_n 0, 1) := by decide +kernel
theorem dX1_withBeside_52 : decode cX1_withBeside 52 = .ok (.getfield 19, 3) := by decide +kernel
theorem dX1_withBeside_55 : decode cX1_withBeside 55 = .ok (.if_icmp .ge 7, 3) := by decide +kernel
theorem dX1_withBeside_58 : decode cX1_withBeside 58 = .ok (.iconst 1, 1) := by decide +kernel
theorem dX1_withBeside_59 : decode cX1_withBeside 59 = .ok (.goto 4, 3) := by decide +kernel
theorem dX1_withBeside_62 : decode cX1_withBeside 62 = .ok (.iconst 0, 1) := by decide +kernel
theorem dX1_withBeside_63 : decode cX1_withBeside 63 = .ok (.istore 8, 2) := by decide +kernel
theorem dX1_withBeside_65 : decode cX1_withBeside 65 = .ok (.aload_n 0, 1) := by decide +kernel
theorem dX1_withBeside_66 : decode cX1_withBeside 66 = .ok (.aload_n 0, 1) := by decide +kernel
theorem dX1_withBeside_67 : decode cX1_withBeside 67 = .ok (.getfield 13, 3) := by decide +kernel
theorem dX1_withBeside_70 : decode cX1_withBeside 70 = .ok (.iload_n 1, 1) := by decide +kernel
theorem dX1_withBeside_71 : decode cX1_withBeside 71 = .ok (.iaload, 1) := by decide +kernel
theorem dX1_withBeside_72 : decode cX1_withBeside 72 = .ok (.iload 6, 2) := by decide +kernel
theorem dX1_withBeside_74 : decode cX1_withBeside 74 = .ok (.iload 5, 2) := by decide +kernel
theorem dX1_withBeside_76 : decode cX1_withBeside 76 = .ok (.invokevirtual 30, 3) := by decide +kernel
theorem dX1_withBeside_79 : decode cX1_withBeside 79 = .ok (.ifCond .eq 22, 3) := by decide +kernel
theorem dX1_withBeside_82 : decode cX1_withBeside 82 = .ok (.iload 8, 2) := by decide +kernel
theorem dX1_withBeside_84 : decode cX1_withBeside 84 = .ok (.ifCond .eq 17, 3) := by decide +kernel
theorem dX1_withBeside_87 : decode cX1_withBeside 87 = .ok (.aload_n 0, 1) := by decide +kernel
theorem dX1_withBeside_88 : decode cX1_withBeside 88 = .ok (.getfield 7, 3) := by decide +kernel
theorem dX1_withBeside_91 : decode cX1_withBeside 91 = .ok (.iload 7, 2) := by decide +kernel
theorem dX1_withBeside_93 : decode cX1_withBeside 93 = .ok (.iaload, 1) := by decide +kernel
theorem dX1_withBeside_94 : decode cX1_withBeside 94 = .ok (.iload_n 2, 1) := by decide +kernel
theorem dX1_withBeside_95 : decode cX1_withBeside 95 = .ok (.if_icmp .ne 6, 3) := by decide +kernel
theorem dX1_withBeside_98 : decode cX1_withBeside 98 = .ok (.iinc 4 1, 3) := by decide +kernel
theorem dX1_withBeside_101 : decode cX1_withBeside 101 = .ok (.iinc 6 1, 3) := by decide +kernel
theorem dX1_withBeside_104 : decode cX1_withBeside 104 = .ok (.goto (-90), 3) := by decide +kernel
theorem dX1_withBeside_107 : decode cX1_withBeside 107 = .ok (.iload 4, 2) := by decide +kernel
theorem dX1_withBeside_109 : decode cX1_withBeside 109 = .ok (.ireturn, 1) := by decide +kernel
abbrev cX1_word : ByteArray := prog_3_method_19_code
def yX1_word : MethodName := ⟨RX1, "word", "(I)I"⟩
theorem dX1_word_0 : decode cX1_word 0 = .ok (.aload_n 0, 1) := by decide +kernel
theorem dX1_word_1 : decode cX1_word 1 = .ok (.invokevirtual 44, 3) := by decide +kernel
theorem dX1_word_4 : decode cX1_word 4 = .ok (.iload_n 1, 1) := by decide +kernel
theorem dX1_word_5 : decode cX1_word 5 = .ok (.ifCond .lt 11, 3) := by decide +kernel
theorem dX1_word_8 : decode cX1_word 8 = .ok (.iload_n 1, 1) := by decide +kernel
theorem dX1_word_9 : decode cX1_word 9 = .ok (.aload_n 0, 1) := by decide +kernel
theorem dX1_word_10 : decode cX1_word 10 = .ok (.getfield 41, 3) := by decide +kernel
theorem dX1_word_13 : decode cX1_word 13 = .ok (.if_icmp .lt 6, 3) := by decide +kernel
theorem dX1_word_16 : decode cX1_word 16 = .ok (.bipush (-3), 2) := by decide +kernel
theorem dX1_word_18 : decode cX1_word 18 = .ok (.ireturn, 1) := by decide +kernel
theorem dX1_word_19 : decode cX1_word 19 = .ok (.aload_n 0, 1) := by decide +kernel
theorem dX1_word_20 : decode cX1_word 20 = .ok (.iconst (-1), 1) := by decide +kernel
theorem dX1_word_21 : decode cX1_word 21 = .ok (.invokevirtual 59, 3) := by decide +kernel
theorem dX1_word_24 : decode cX1_word 24 = .ok (.istore_n 2, 1) := by decide +kernel
theorem dX1_word_25 : decode cX1_word 25 = .ok (.iconst 0, 1) := by decide +kernel
theorem dX1_word_26 : decode cX1_word 26 = .ok (.istore_n 3, 1) := by decide +kernel
theorem dX1_word_27 : decode cX1_word 27 = .ok (.iload_n 3, 1) := by decide +kernel
theorem dX1_word_28 : decode cX1_word 28 = .ok (.iload_n 1, 1) := by decide +kernel
theorem dX1_word_29 : decode cX1_word 29 = .ok (.if_icmp .ge 15, 3) := by decide +kernel
theorem dX1_word_32 : decode cX1_word 32 = .ok (.aload_n 0, 1) := by decide +kernel
theorem dX1_word_33 : decode cX1_word 33 = .ok (.iload_n 2, 1) := by decide +kernel
theorem dX1_word_34 : decode cX1_word 34 = .ok (.invokevirtual 59, 3) := by decide +kernel
theorem dX1_word_37 : decode cX1_word 37 = .ok (.istore_n 2, 1) := by decide +kernel
theorem dX1_word_38 : decode cX1_word 38 = .ok (.iinc 3 1, 3) := by decide +kernel
theorem dX1_word_41 : decode cX1_word 41 = .ok (.goto (-14), 3) := by decide +kernel
theorem dX1_word_44 : decode cX1_word 44 = .ok (.bipush 25, 2) := by decide +kernel
theorem dX1_word_46 : decode cX1_word 46 = .ok (.aload_n 0, 1) := by decide +kernel
theorem dX1_word_47 : decode cX1_word 47 = .ok (.getfield 13, 3) := by decide +kernel
theorem dX1_word_50 : decode cX1_word 50 = .ok (.iload_n 2, 1) := by decide +kernel
theorem dX1_word_51 : decode cX1_word 51 = .ok (.iaload, 1) := by decide +kernel
theorem dX1_word_52 : decode cX1_word 52 = .ok (.imul, 1) := by decide +kernel
theorem dX1_word_53 : decode cX1_word 53 = .ok (.aload_n 0, 1) := by decide +kernel
theorem dX1_word_54 : decode cX1_word 54 = .ok (.getfield 16, 3) := by decide +kernel
theorem dX1_word_57 : decode cX1_word 57 = .ok (.iload_n 2, 1) := by decide +kernel
theorem dX1_word_58 : decode cX1_word 58 = .ok (.iaload, 1) := by decide +kernel
theorem dX1_word_59 : decode cX1_word 59 = .ok (.iadd, 1) := by decide +kernel
theorem dX1_word_60 : decode cX1_word 60 = .ok (.ireturn, 1) := by decide +kernel
abbrev cX1_following : ByteArray := prog_3_method_18_code
def yX1_following : MethodName := ⟨RX1, "following", "(I)I"⟩
theorem dX1_following_0 : decode cX1_following 0 = .ok (.iconst (-1), 1) := by decide +kernel
theorem dX1_following_1 : decode cX1_following 1 = .ok (.istore_n 2, 1) := by decide +kernel
theorem dX1_following_2 : decode cX1_following 2 = .ok (.iconst 0, 1) := by decide +kernel
theorem dX1_following_3 : decode cX1_following 3 = .ok (.istore_n 3, 1) := by decide +kernel
theorem dX1_following_4 : decode cX1_following 4 = .ok (.iload_n 3, 1) := by decide +kernel
theorem dX1_following_5 : decode cX1_following 5 = .ok (.aload_n 0, 1) := by decide +kernel
theorem dX1_following_6 : decode cX1_following 6 = .ok (.getfield 41, 3) := by decide +kernel
theorem dX1_following_9 : decode cX1_following 9 = .ok (.if_icmp .ge 93, 3) := by decide +kernel
theorem dX1_following_12 : decode cX1_following 12 = .ok (.iload_n 1, 1) := by decide +kernel
theorem dX1_following_13 : decode cX1_following 13 = .ok (.ifCond .lt 34, 3) := by decide +kernel
theorem dX1_following_16 : decode cX1_following 16 = .ok (.aload_n 0, 1) := by decide +kernel
theorem dX1_following_17 : decode cX1_following 17 = .ok (.aload_n 0, 1) := by decide +kernel
theorem dX1_following_18 : decode cX1_following 18 = .ok (.getfield 13, 3) := by decide +kernel
theorem dX1_following_21 : decode cX1_following 21 = .ok (.iload_n 3, 1) := by decide +kernel
theorem dX1_following_22 : decode cX1_following 22 = .ok (.iaload, 1) := by decide +kernel
theorem dX1_following_23 : decode cX1_following 23 = .ok (.aload_n 0, 1) := by decide +kernel
theorem dX1_following_24 : decode cX1_following 24 = .ok (.getfield 16, 3) := by decide +kernel
theorem dX1_following_27 : decode cX1_following 27 = .ok (.iload_n 3, 1) := by decide +kernel
theorem dX1_following_28 : decode cX1_following 28 = .ok (.iaload, 1) := by decide +kernel
theorem dX1_following_29 : decode cX1_following 29 = .ok (.aload_n 0, 1) := by decide +kernel
theorem dX1_following_30 : decode cX1_following 30 = .ok (.getfield 13, 3) := by decide +kernel
theorem dX1_following_33 : decode cX1_following 33 = .ok (.iload_n 1, 1) := by decide +kernel
theorem dX1_following_34 : decode cX1_following 34 = .ok (.iaload, 1) := by decide +kernel
theorem dX1_following_35 : decode cX1_following 35 = .ok (.aload_n 0, 1) := by decide +kernel
theorem dX1_following_36 : decode cX1_following 36 = .ok (.getfield 16, 3) := by decide +kernel
theorem dX1_following_39 : decode cX1_following 39 = .ok (.iload_n 1, 1) := by decide +kernel
theorem dX1_following_40 : decode cX1_following 40 = .ok (.iaload, 1) := by decide +kernel
theorem dX1_following_41 : decode cX1_following 41 = .ok (.invokevirtual 55, 3) := by decide +kernel
theorem dX1_following_44 : decode cX1_following 44 = .ok (.ifCond .le 7, 3) := by decide +kernel
theorem dX1_following_47 : decode cX1_following 47 = .ok (.iconst 1, 1) := by decide +kernel
theorem dX1_following_48 : decode cX1_following 48 = .ok (.goto 4, 3) := by decide +kernel
theorem dX1_following_51 : decode cX1_following 51 = .ok (.iconst 0, 1) := by decide +kernel
theorem dX1_following_52 : decode cX1_following 52 = .ok (.istore 4, 2) := by decide +kernel
theorem dX1_following_54 : decode cX1_following 54 = .ok (.iload 4, 2) := by decide +kernel
theorem dX1_following_56 : decode cX1_following 56 = .ok (.ifCond .eq 40, 3) := by decide +kernel
theorem dX1_following_59 : decode cX1_following 59 = .ok (.iload_n 2, 1) := by decide +kernel
theorem dX1_following_60 : decode cX1_following 60 = .ok (.ifCond .lt 34, 3) := by decide +kernel
theorem dX1_following_63 : decode cX1_following 63 = .ok (.aload_n 0, 1) := by decide +kernel
theorem dX1_following_64 : decode cX1_following 64 = .ok (.aload_n 0, 1) := by decide +kernel
theorem dX1_following_65 : decode cX1_following 65 = .ok (.getfield 13, 3) := by decide +kernel
theorem dX1_following_68 : decode cX1_following 68 = .ok (.iload_n 3, 1) := by decide +kernel
theorem dX1_following_69 : decode cX1_following 69 = .ok (.iaload, 1) := by decide +kernel
theorem dX1_following_70 : decode cX1_following 70 = .ok (.aload_n 0, 1) := by decide +kernel
theorem dX1_following_71 : decode cX1_following 71 = .ok (.getfield 16, 3) := by decide +kernel
theorem dX1_following_74 : decode cX1_following 74 = .ok (.iload_n 3, 1) := by decide +kernel
theorem dX1_following_75 : decode cX1_following 75 = .ok (.iaload, 1) := by decide +kernel
theorem dX1_following_76 : decode cX1_following 76 = .ok (.aload_n 0, 1) := by decide +kernel
theorem dX1_following_77 : decode cX1_following 77 = .ok (.getfield 13, 3) := by decide +kernel
theorem dX1_following_80 : decode cX1_following 80 = .ok (.iload_n 2, 1) := by decide +kernel
theorem dX1_following_81 : decode cX1_following 81 = .ok (.iaload, 1) := by decide +kernel
theorem dX1_following_82 : decode cX1_following 82 = .ok (.aload_n 0, 1) := by decide +kernel
theorem dX1_following_83 : decode cX1_following 83 = .ok (.getfield 16, 3) := by decide +kernel
theorem dX1_following_86 : decode cX1_following 86 = .ok (.iload_n 2, 1) := by decide +kernel
theorem dX1_following_87 : decode cX1_following 87 = .ok (.iaload, 1) := by decide +kernel
theorem dX1_following_88 : decode cX1_following 88 = .ok (.invokevirtual 55, 3) := by decide +kernel
theorem dX1_following_91 : decode cX1_following 91 = .ok (.ifCond .ge 5, 3) := by decide +kernel
theorem dX1_following_94 : decode cX1_following 94 = .ok (.iload_n 3, 1) := by decide +kernel
theorem dX1_following_95 : decode cX1_following 95 = .ok (.istore_n 2, 1) := by decide +kernel
theorem dX1_following_96 : decode cX1_following 96 = .ok (.iinc 3 1, 3) := by decide +kernel
theorem dX1_following_99 : decode cX1_following 99 = .ok (.goto (-95), 3) := by decide +kernel
theorem dX1_following_102 : decode cX1_following 102 = .ok (.iload_n 2, 1) := by decide +kernel
theorem dX1_following_103 : decode cX1_following 103 = .ok (.ireturn, 1) := by decide +kernel
abbrev cX1_order : ByteArray := prog_3_method_17_code
def yX1_order : MethodName := ⟨RX1, "order", "(IIII)I"⟩
theorem dX1_order_0 : decode cX1_order 0 = .ok (.iconst 0, 1) := by decide +kernel
theorem dX1_order_1 : decode cX1_order 1 = .ok (.istore 5, 2) := by decide +kernel
theorem dX1_order_3 : decode cX1_order 3 = .ok (.iload 5, 2) := by decide +kernel
theorem dX1_order_5 : decode cX1_order 5 = .ok (.iload_n 2, 1) := by decide +kernel
theorem dX1_order_6 : decode cX1_order 6 = .ok (.if_icmp .ge 64, 3) := by decide +kernel
theorem dX1_order_9 : decode cX1_order 9 = .ok (.iload 5, 2) := by decide +kernel
theorem dX1_order_11 : decode cX1_order 11 = .ok (.iload 4, 2) := by decide +kernel
theorem dX1_order_13 : decode cX1_order 13 = .ok (.if_icmp .ge 57, 3) := by decide +kernel
theorem dX1_order_16 : decode cX1_order 16 = .ok (.aload_n 0, 1) := by decide +kernel
theorem dX1_order_17 : decode cX1_order 17 = .ok (.getfield 7, 3) := by decide +kernel
theorem dX1_order_20 : decode cX1_order 20 = .ok (.iload_n 1, 1) := by decide +kernel
theorem dX1_order_21 : decode cX1_order 21 = .ok (.iload 5, 2) := by decide +kernel
theorem dX1_order_23 : decode cX1_order 23 = .ok (.iadd, 1) := by decide +kernel
theorem dX1_order_24 : decode cX1_order 24 = .ok (.iaload, 1) := by decide +kernel
theorem dX1_order_25 : decode cX1_order 25 = .ok (.aload_n 0, 1) := by decide +kernel
theorem dX1_order_26 : decode cX1_order 26 = .ok (.getfield 7, 3) := by decide +kernel
theorem dX1_order_29 : decode cX1_order 29 = .ok (.iload_n 3, 1) := by decide +kernel
theorem dX1_order_30 : decode cX1_order 30 = .ok (.iload 5, 2) := by decide +kernel
theorem dX1_order_32 : decode cX1_order 32 = .ok (.iadd, 1) := by decide +kernel
theorem dX1_order_33 : decode cX1_order 33 = .ok (.iaload, 1) := by decide +kernel
theorem dX1_order_34 : decode cX1_order 34 = .ok (.if_icmp .eq 30, 3) := by decide +kernel
theorem dX1_order_37 : decode cX1_order 37 = .ok (.aload_n 0, 1) := by decide +kernel
theorem dX1_order_38 : decode cX1_order 38 = .ok (.getfield 7, 3) := by decide +kernel
theorem dX1_order_41 : decode cX1_order 41 = .ok (.iload_n 1, 1) := by decide +kernel
theorem dX1_order_42 : decode cX1_order 42 = .ok (.iload 5, 2) := by decide +kernel
theorem dX1_order_44 : decode cX1_order 44 = .ok (.iadd, 1) := by decide +kernel
theorem dX1_order_45 : decode cX1_order 45 = .ok (.iaload, 1) := by decide +kernel
theorem dX1_order_46 : decode cX1_order 46 = .ok (.aload_n 0, 1) := by decide +kernel
theorem dX1_order_47 : decode cX1_order 47 = .ok (.getfield 7, 3) := by decide +kernel
theorem dX1_order_50 : decode cX1_order 50 = .ok (.iload_n 3, 1) := by decide +kernel
theorem dX1_order_51 : decode cX1_order 51 = .ok (.iload 5, 2) := by decide +kernel
theorem dX1_order_53 : decode cX1_order 53 = .ok (.iadd, 1) := by decide +kernel
theorem dX1_order_54 : decode cX1_order 54 = .ok (.iaload, 1) := by decide +kernel
theorem dX1_order_55 : decode cX1_order 55 = .ok (.if_icmp .ge 7, 3) := by decide +kernel
theorem dX1_order_58 : decode cX1_order 58 = .ok (.iconst (-1), 1) := by decide +kernel
theorem dX1_order_59 : decode cX1_order 59 = .ok (.goto 4, 3) := by decide +kernel
theorem dX1_order_62 : decode cX1_order 62 = .ok (.iconst 1, 1) := by decide +kernel
theorem dX1_order_63 : decode cX1_order 63 = .ok (.ireturn, 1) := by decide +kernel
theorem dX1_order_64 : decode cX1_order 64 = .ok (.iinc 5 1, 3) := by decide +kernel
theorem dX1_order_67 : decode cX1_order 67 = .ok (.goto (-64), 3) := by decide +kernel
theorem dX1_order_70 : decode cX1_order 70 = .ok (.iload_n 2, 1) := by decide +kernel
theorem dX1_order_71 : decode cX1_order 71 = .ok (.iload 4, 2) := by decide +kernel
theorem dX1_order_73 : decode cX1_order 73 = .ok (.if_icmp .ne 7, 3) := by decide +kernel
theorem dX1_order_76 : decode cX1_order 76 = .ok (.iconst 0, 1) := by decide +kernel
theorem dX1_order_77 : decode cX1_order 77 = .ok (.goto 14, 3) := by decide +kernel
theorem dX1_order_80 : decode cX1_order 80 = .ok (.iload_n 2, 1) := by decide +kernel
theorem dX1_order_81 : decode cX1_order 81 = .ok (.iload 4, 2) := by decide +kernel
theorem dX1_order_83 : decode cX1_order 83 = .ok (.if_icmp .ge 7, 3) := by decide +kernel
theorem dX1_order_86 : decode cX1_order 86 = .ok (.iconst (-1), 1) := by decide +kernel
theorem dX1_order_87 : decode cX1_order 87 = .ok (.goto 4, 3) := by decide +kernel
theorem dX1_order_90 : decode cX1_order 90 = .ok (.iconst 1, 1) := by decide +kernel
theorem dX1_order_91 : decode cX1_order 91 = .ok (.ireturn, 1) := by decide +kernel
abbrev cX1_rank : ByteArray := prog_3_method_20_code
def yX1_rank : MethodName := ⟨RX1, "rank", "()I"⟩
theorem dX1_rank_0 : decode cX1_rank 0 = .ok (.aload_n 0, 1) := by decide +kernel
theorem dX1_rank_1 : decode cX1_rank 1 = .ok (.getfield 27, 3) := by decide +kernel
theorem dX1_rank_4 : decode cX1_rank 4 = .ok (.ifCond .ne 6, 3) := by decide +kernel
theorem dX1_rank_7 : decode cX1_rank 7 = .ok (.bipush (-3), 2) := by decide +kernel
theorem dX1_rank_9 : decode cX1_rank 9 = .ok (.ireturn, 1) := by decide +kernel
theorem dX1_rank_10 : decode cX1_rank 10 = .ok (.iconst 0, 1) := by decide +kernel
theorem dX1_rank_11 : decode cX1_rank 11 = .ok (.istore_n 1, 1) := by decide +kernel
theorem dX1_rank_12 : decode cX1_rank 12 = .ok (.aload_n 0, 1) := by decide +kernel
theorem dX1_rank_13 : decode cX1_rank 13 = .ok (.invokevirtual 44, 3) := by decide +kernel
theorem dX1_rank_16 : decode cX1_rank 16 = .ok (.iconst 0, 1) := by decide +kernel
theorem dX1_rank_17 : decode cX1_rank 17 = .ok (.istore_n 2, 1) := by decide +kernel
theorem dX1_rank_18 : decode cX1_rank 18 = .ok (.iload_n 2, 1) := by decide +kernel
theorem dX1_rank_19 : decode cX1_rank 19 = .ok (.aload_n 0, 1) := by decide +kernel
theorem dX1_rank_20 : decode cX1_rank 20 = .ok (.getfield 41, 3) := by decide +kernel
theorem dX1_rank_23 : decode cX1_rank 23 = .ok (.if_icmp .ge 37, 3) := by decide +kernel
theorem dX1_rank_26 : decode cX1_rank 26 = .ok (.aload_n 0, 1) := by decide +kernel
theorem dX1_rank_27 : decode cX1_rank 27 = .ok (.aload_n 0, 1) := by decide +kernel
theorem dX1_rank_28 : decode cX1_rank 28 = .ok (.getfield 13, 3) := by decide +kernel
theorem dX1_rank_31 : decode cX1_rank 31 = .ok (.iload_n 2, 1) := by decide +kernel
theorem dX1_rank_32 : decode cX1_rank 32 = .ok (.iaload, 1) := by decide +kernel
theorem dX1_rank_33 : decode cX1_rank 33 = .ok (.aload_n 0, 1) := by decide +kernel
theorem dX1_rank_34 : decode cX1_rank 34 = .ok (.getfield 16, 3) := by decide +kernel
theorem dX1_rank_37 : decode cX1_rank 37 = .ok (.iload_n 2, 1) := by decide +kernel
theorem dX1_rank_38 : decode cX1_rank 38 = .ok (.iaload, 1) := by decide +kernel
theorem dX1_rank_39 : decode cX1_rank 39 = .ok (.bipush 24, 2) := by decide +kernel
theorem dX1_rank_41 : decode cX1_rank 41 = .ok (.aload_n 0, 1) := by decide +kernel
theorem dX1_rank_42 : decode cX1_rank 42 = .ok (.getfield 27, 3) := by decide +kernel
theorem dX1_rank_45 : decode cX1_rank 45 = .ok (.invokevirtual 55, 3) := by decide +kernel
theorem dX1_rank_48 : decode cX1_rank 48 = .ok (.ifCond .ge 6, 3) := by decide +kernel
theorem dX1_rank_51 : decode cX1_rank 51 = .ok (.iinc 1 1, 3) := by decide +kernel
theorem dX1_rank_54 : decode cX1_rank 54 = .ok (.iinc 2 1, 3) := by decide +kernel
theorem dX1_rank_57 : decode cX1_rank 57 = .ok (.goto (-39), 3) := by decide +kernel
theorem dX1_rank_60 : decode cX1_rank 60 = .ok (.iload_n 1, 1) := by decide +kernel
theorem dX1_rank_61 : decode cX1_rank 61 = .ok (.ireturn, 1) := by decide +kernel
abbrev cX1_common : ByteArray := prog_3_method_21_code
def yX1_common : MethodName := ⟨RX1, "common", "()I"⟩
theorem dX1_common_0 : decode cX1_common 0 = .ok (.iconst 0, 1) := by decide +kernel
theorem dX1_common_1 : decode cX1_common 1 = .ok (.istore_n 1, 1) := by decide +kernel
theorem dX1_common_2 : decode cX1_common 2 = .ok (.iconst 0, 1) := by decide +kernel
theorem dX1_common_3 : decode cX1_common 3 = .ok (.istore_n 2, 1) := by decide +kernel
theorem dX1_common_4 : decode cX1_common 4 = .ok (.iload_n 2, 1) := by decide +kernel
theorem dX1_common_5 : decode cX1_common 5 = .ok (.aload_n 0, 1) := by decide +kernel
theorem dX1_common_6 : decode cX1_common 6 = .ok (.getfield 27, 3) := by decide +kernel
theorem dX1_common_9 : decode cX1_common 9 = .ok (.if_icmp .ge 43, 3) := by decide +kernel
theorem dX1_common_12 : decode cX1_common 12 = .ok (.iload_n 1, 1) := by decide +kernel
theorem dX1_common_13 : decode cX1_common 13 = .ok (.iconst 1, 1) := by decide +kernel
theorem dX1_common_14 : decode cX1_common 14 = .ok (.iadd, 1) := by decide +kernel
theorem dX1_common_15 : decode cX1_common 15 = .ok (.istore_n 3, 1) := by decide +kernel
theorem dX1_common_16 : decode cX1_common 16 = .ok (.iload_n 2, 1) := by decide +kernel
theorem dX1_common_17 : decode cX1_common 17 = .ok (.iload_n 3, 1) := by decide +kernel
theorem dX1_common_18 : decode cX1_common 18 = .ok (.iadd, 1) := by decide +kernel
theorem dX1_common_19 : decode cX1_common 19 = .ok (.aload_n 0, 1) := by decide +kernel
theorem dX1_common_20 : decode cX1_common 20 = .ok (.getfield 27, 3) := by decide +kernel
theorem dX1_common_23 : decode cX1_common 23 = .ok (.if_icmp .gt 23, 3) := by decide +kernel
theorem dX1_common_26 : decode cX1_common 26 = .ok (.aload_n 0, 1) := by decide +kernel
theorem dX1_common_27 : decode cX1_common 27 = .ok (.bipush 24, 2) := by decide +kernel
theorem dX1_common_29 : decode cX1_common 29 = .ok (.iload_n 2, 1) := by decide +kernel
theorem dX1_common_30 : decode cX1_common 30 = .ok (.iadd, 1) := by decide +kernel
theorem dX1_common_31 : decode cX1_common 31 = .ok (.iload_n 3, 1) := by decide +kernel
theorem dX1_common_32 : decode cX1_common 32 = .ok (.invokevirtual 34, 3) := by decide +kernel
theorem dX1_common_35 : decode cX1_common 35 = .ok (.ifCond .le 5, 3) := by decide +kernel
theorem dX1_common_38 : decode cX1_common 38 = .ok (.iload_n 3, 1) := by decide +kernel
theorem dX1_common_39 : decode cX1_common 39 = .ok (.istore_n 1, 1) := by decide +kernel
theorem dX1_common_40 : decode cX1_common 40 = .ok (.iinc 3 1, 3) := by decide +kernel
theorem dX1_common_43 : decode cX1_common 43 = .ok (.goto (-27), 3) := by decide +kernel
theorem dX1_common_46 : decode cX1_common 46 = .ok (.iinc 2 1, 3) := by decide +kernel
theorem dX1_common_49 : decode cX1_common 49 = .ok (.goto (-45), 3) := by decide +kernel
theorem dX1_common_52 : decode cX1_common 52 = .ok (.iload_n 1, 1) := by decide +kernel
theorem dX1_common_53 : decode cX1_common 53 = .ok (.ireturn, 1) := by decide +kernel
abbrev cX1_unique : ByteArray := prog_3_method_22_code
def yX1_unique : MethodName := ⟨RX1, "unique", "(I)I"⟩
theorem dX1_unique_0 : decode cX1_unique 0 = .ok (.iload_n 1, 1) := by decide +kernel
theorem dX1_unique_1 : decode cX1_unique 1 = .ok (.ifCond .lt 11, 3) := by decide +kernel
theorem dX1_unique_4 : decode cX1_unique 4 = .ok (.iload_n 1, 1) := by decide +kernel
theorem dX1_unique_5 : decode cX1_unique 5 = .ok (.aload_n 0, 1) := by decide +kernel
theorem dX1_unique_6 : decode cX1_unique 6 = .ok (.getfield 19, 3) := by decide +kernel
theorem dX1_unique_9 : decode cX1_unique 9 = .ok (.if_icmp .lt 6, 3) := by decide +kernel
theorem dX1_unique_12 : decode cX1_unique 12 = .ok (.bipush (-2), 2) := by decide +kernel
theorem dX1_unique_14 : decode cX1_unique 14 = .ok (.ireturn, 1) := by decide +kernel
theorem dX1_unique_15 : decode cX1_unique 15 = .ok (.iconst 1, 1) := by decide +kernel
theorem dX1_unique_16 : decode cX1_unique 16 = .ok (.istore_n 2, 1) := by decide +kernel
theorem dX1_unique_17 : decode cX1_unique 17 = .ok (.iload_n 1, 1) := by decide +kernel
theorem dX1_unique_18 : decode cX1_unique 18 = .ok (.iload_n 2, 1) := by decide +kernel
theorem dX1_unique_19 : decode cX1_unique 19 = .ok (.iadd, 1) := by decide +kernel
theorem dX1_unique_20 : decode cX1_unique 20 = .ok (.aload_n 0, 1) := by decide +kernel
theorem dX1_unique_21 : decode cX1_unique 21 = .ok (.getfield 19, 3) := by decide +kernel
theorem dX1_unique_24 : decode cX1_unique 24 = .ok (.if_icmp .gt 21, 3) := by decide +kernel
theorem dX1_unique_27 : decode cX1_unique 27 = .ok (.aload_n 0, 1) := by decide +kernel
theorem dX1_unique_28 : decode cX1_unique 28 = .ok (.iload_n 1, 1) := by decide +kernel
theorem dX1_unique_29 : decode cX1_unique 29 = .ok (.iload_n 2, 1) := by decide +kernel
theorem dX1_unique_30 : decode cX1_unique 30 = .ok (.invokevirtual 34, 3) := by decide +kernel
theorem dX1_unique_33 : decode cX1_unique 33 = .ok (.iconst 1, 1) := by decide +kernel
theorem dX1_unique_34 : decode cX1_unique 34 = .ok (.if_icmp .ne 5, 3) := by decide +kernel
theorem dX1_unique_37 : decode cX1_unique 37 = .ok (.iload_n 2, 1) := by decide +kernel
theorem dX1_unique_38 : decode cX1_unique 38 = .ok (.ireturn, 1) := by decide +kernel
theorem dX1_unique_39 : decode cX1_unique 39 = .ok (.iinc 2 1, 3) := by decide +kernel
theorem dX1_unique_42 : decode cX1_unique 42 = .ok (.goto (-25), 3) := by decide +kernel
theorem dX1_unique_45 : decode cX1_unique 45 = .ok (.bipush (-3), 2) := by decide +kernel
theorem dX1_unique_47 : decode cX1_unique 47 = .ok (.ireturn, 1) := by decide +kernel
theorem q20 : (Jvm.Cond.initialized "RepeatFinderModel") ∈ lw_all := lw_g (lw_at lw_m1 2 rfl) rfl
theorem q170 : (Jvm.Cond.instantiable "RepeatFinderModel" (7 : Nat)) ∈ lw_all := lw_g (lw_at lw_m1 152 rfl) rfl
theorem q172 : (Jvm.Cond.instanceMethod ({ cls := "RepeatFinderModel", name := "<init>", desc := "()V" } : Jvm.MethodName)) ∈ lw_all := lw_g (lw_at lw_m1 154 rfl) rfl
theorem q173 : (Jvm.Cond.code ({ cls := "RepeatFinderModel", name := "<init>", desc := "()V" } : Jvm.MethodName) prog_3_method_1_code (1 : Nat) (Option.none : Option Jvm.ClassFile.FieldType)) ∈ lw_all := lw_g (lw_at lw_m1 155 rfl) rfl
theorem q174 : (Jvm.Cond.methodLink "RepeatFinderModel" (1 : Nat) ({ cls := "java/lang/Object", name := "<init>", desc := "()V" } : Jvm.MethodName)) ∈ lw_all := lw_g (lw_at lw_m1 156 rfl) rfl
theorem q175 : (Jvm.Cond.fieldLink "RepeatFinderModel" (7 : Nat) "RepeatFinderModel" "letters" "[I") ∈ lw_all := lw_g (lw_at lw_m1 157 rfl) rfl
theorem q176 : (Jvm.Cond.fieldLink "RepeatFinderModel" (19 : Nat) "RepeatFinderModel" "textLength" "I") ∈ lw_all := lw_g (lw_at lw_m1 158 rfl) rfl
theorem q177 : (Jvm.Cond.fieldLink "RepeatFinderModel" (27 : Nat) "RepeatFinderModel" "probeLength" "I") ∈ lw_all := lw_g (lw_at lw_m1 159 rfl) rfl
theorem q178 : (Jvm.Cond.fieldLink "RepeatFinderModel" (13 : Nat) "RepeatFinderModel" "listPlace" "[I") ∈ lw_all := lw_g (lw_at lw_m1 160 rfl) rfl
theorem q179 : (Jvm.Cond.fieldLink "RepeatFinderModel" (16 : Nat) "RepeatFinderModel" "listLength" "[I") ∈ lw_all := lw_g (lw_at lw_m1 161 rfl) rfl
theorem q180 : (Jvm.Cond.fieldLink "RepeatFinderModel" (41 : Nat) "RepeatFinderModel" "listed" "I") ∈ lw_all := lw_g (lw_at lw_m1 162 rfl) rfl
theorem q181 : (Jvm.Cond.fieldLink "RepeatFinderModel" (23 : Nat) "RepeatFinderModel" "known" "Z") ∈ lw_all := lw_g (lw_at lw_m1 163 rfl) rfl
theorem q182 : (Jvm.Cond.laysFinal "RepeatFinderModel" "RepeatFinderModel" "letters" "[I") ∈ lw_all := lw_g (lw_at lw_m1 164 rfl) rfl
theorem q183 : (Jvm.Cond.soleField "RepeatFinderModel" "letters") ∈ lw_all := lw_g (lw_at lw_m1 165 rfl) rfl
theorem q184 : (Jvm.Cond.lays "RepeatFinderModel" "RepeatFinderModel" "textLength" "I") ∈ lw_all := lw_g (lw_at lw_m1 166 rfl) rfl
theorem q185 : (Jvm.Cond.soleField "RepeatFinderModel" "textLength") ∈ lw_all := lw_g (lw_at lw_m1 167 rfl) rfl
theorem q186 : (Jvm.Cond.lays "RepeatFinderModel" "RepeatFinderModel" "probeLength" "I") ∈ lw_all := lw_g (lw_at lw_m1 168 rfl) rfl
theorem q187 : (Jvm.Cond.soleField "RepeatFinderModel" "probeLength") ∈ lw_all := lw_g (lw_at lw_m1 169 rfl) rfl
theorem q188 : (Jvm.Cond.laysFinal "RepeatFinderModel" "RepeatFinderModel" "listPlace" "[I") ∈ lw_all := lw_g (lw_at lw_m1 170 rfl) rfl
theorem q189 : (Jvm.Cond.soleField "RepeatFinderModel" "listPlace") ∈ lw_all := lw_g (lw_at lw_m1 171 rfl) rfl
theorem q190 : (Jvm.Cond.laysFinal "RepeatFinderModel" "RepeatFinderModel" "listLength" "[I") ∈ lw_all := lw_g (lw_at lw_m1 172 rfl) rfl
theorem q191 : (Jvm.Cond.soleField "RepeatFinderModel" "listLength") ∈ lw_all := lw_g (lw_at lw_m1 173 rfl) rfl
theorem q192 : (Jvm.Cond.lays "RepeatFinderModel" "RepeatFinderModel" "listed" "I") ∈ lw_all := lw_g (lw_at lw_m1 174 rfl) rfl
theorem q193 : (Jvm.Cond.soleField "RepeatFinderModel" "listed") ∈ lw_all := lw_g (lw_at lw_m1 175 rfl) rfl
theorem q194 : (Jvm.Cond.lays "RepeatFinderModel" "RepeatFinderModel" "known" "Z") ∈ lw_all := lw_g (lw_at lw_m1 176 rfl) rfl
theorem q195 : (Jvm.Cond.soleField "RepeatFinderModel" "known") ∈ lw_all := lw_g (lw_at lw_m1 177 rfl) rfl
theorem q196 : (Jvm.Cond.superclass "RepeatFinderModel" "java/lang/Object") ∈ lw_all := lw_g (lw_at lw_m1 178 rfl) rfl
theorem q199 : (Jvm.Cond.instanceMethod ({ cls := "RepeatFinderModel", name := "type", desc := "(I)I" } : Jvm.MethodName)) ∈ lw_all := lw_g (lw_at lw_m1 181 rfl) rfl
theorem q200 : (Jvm.Cond.selects "RepeatFinderModel" ({ cls := "RepeatFinderModel", name := "type", desc := "(I)I" } : Jvm.MethodName) ({ cls := "RepeatFinderModel", name := "type", desc := "(I)I" } : Jvm.MethodName)) ∈ lw_all := lw_g (lw_at lw_m1 182 rfl) rfl
theorem q201 : (Jvm.Cond.code ({ cls := "RepeatFinderModel", name := "type", desc := "(I)I" } : Jvm.MethodName) prog_3_method_2_code (2 : Nat) (Option.some Jvm.ClassFile.FieldType.int)) ∈ lw_all := lw_g (lw_at lw_m1 183 rfl) rfl
theorem q203 : (Jvm.Cond.instanceMethod ({ cls := "RepeatFinderModel", name := "shift", desc := "()I" } : Jvm.MethodName)) ∈ lw_all := lw_g (lw_at lw_m1 185 rfl) rfl
theorem q204 : (Jvm.Cond.selects "RepeatFinderModel" ({ cls := "RepeatFinderModel", name := "shift", desc := "()I" } : Jvm.MethodName) ({ cls := "RepeatFinderModel", name := "shift", desc := "()I" } : Jvm.MethodName)) ∈ lw_all := lw_g (lw_at lw_m1 186 rfl) rfl
theorem q205 : (Jvm.Cond.code ({ cls := "RepeatFinderModel", name := "shift", desc := "()I" } : Jvm.MethodName) prog_3_method_3_code (2 : Nat) (Option.some Jvm.ClassFile.FieldType.int)) ∈ lw_all := lw_g (lw_at lw_m1 187 rfl) rfl
theorem q207 : (Jvm.Cond.instanceMethod ({ cls := "RepeatFinderModel", name := "ask", desc := "(I)I" } : Jvm.MethodName)) ∈ lw_all := lw_g (lw_at lw_m1 189 rfl) rfl
theorem q208 : (Jvm.Cond.selects "RepeatFinderModel" ({ cls := "RepeatFinderModel", name := "ask", desc := "(I)I" } : Jvm.MethodName) ({ cls := "RepeatFinderModel", name := "ask", desc := "(I)I" } : Jvm.MethodName)) ∈ lw_all := lw_g (lw_at lw_m1 190 rfl) rfl
theorem q209 : (Jvm.Cond.code ({ cls := "RepeatFinderModel", name := "ask", desc := "(I)I" } : Jvm.MethodName) prog_3_method_4_code (2 : Nat) (Option.some Jvm.ClassFile.FieldType.int)) ∈ lw_all := lw_g (lw_at lw_m1 191 rfl) rfl
theorem q211 : (Jvm.Cond.instanceMethod ({ cls := "RepeatFinderModel", name := "wipe", desc := "()I" } : Jvm.MethodName)) ∈ lw_all := lw_g (lw_at lw_m1 193 rfl) rfl
theorem q212 : (Jvm.Cond.selects "RepeatFinderModel" ({ cls := "RepeatFinderModel", name := "wipe", desc := "()I" } : Jvm.MethodName) ({ cls := "RepeatFinderModel", name := "wipe", desc := "()I" } : Jvm.MethodName)) ∈ lw_all := lw_g (lw_at lw_m1 194 rfl) rfl
theorem q213 : (Jvm.Cond.code ({ cls := "RepeatFinderModel", name := "wipe", desc := "()I" } : Jvm.MethodName) prog_3_method_5_code (2 : Nat) (Option.some Jvm.ClassFile.FieldType.int)) ∈ lw_all := lw_g (lw_at lw_m1 195 rfl) rfl
theorem q215 : (Jvm.Cond.instanceMethod ({ cls := "RepeatFinderModel", name := "count", desc := "()I" } : Jvm.MethodName)) ∈ lw_all := lw_g (lw_at lw_m1 197 rfl) rfl
theorem q216 : (Jvm.Cond.selects "RepeatFinderModel" ({ cls := "RepeatFinderModel", name := "count", desc := "()I" } : Jvm.MethodName) ({ cls := "RepeatFinderModel", name := "count", desc := "()I" } : Jvm.MethodName)) ∈ lw_all := lw_g (lw_at lw_m1 198 rfl) rfl
theorem q217 : (Jvm.Cond.code ({ cls := "RepeatFinderModel", name := "count", desc := "()I" } : Jvm.MethodName) prog_3_method_9_code (1 : Nat) (Option.some Jvm.ClassFile.FieldType.int)) ∈ lw_all := lw_g (lw_at lw_m1 199 rfl) rfl
theorem q218 : (Jvm.Cond.methodLink "RepeatFinderModel" (34 : Nat) ({ cls := "RepeatFinderModel", name := "countOf", desc := "(II)I" } : Jvm.MethodName)) ∈ lw_all := lw_g (lw_at lw_m1 200 rfl) rfl
theorem q219 : (Jvm.Cond.privateMethod ({ cls := "RepeatFinderModel", name := "countOf", desc := "(II)I" } : Jvm.MethodName)) ∈ lw_tbl := lw_at lw_m1 201 rfl
theorem q220 : (Jvm.Cond.instanceMethod ({ cls := "RepeatFinderModel", name := "countOf", desc := "(II)I" } : Jvm.MethodName)) ∈ lw_all := lw_g (lw_at lw_m1 202 rfl) rfl
theorem q221 : (Jvm.Cond.code ({ cls := "RepeatFinderModel", name := "countOf", desc := "(II)I" } : Jvm.MethodName) prog_3_method_7_code (5 : Nat) (Option.some Jvm.ClassFile.FieldType.int)) ∈ lw_all := lw_g (lw_at lw_m1 203 rfl) rfl
theorem q222 : (Jvm.Cond.methodLink "RepeatFinderModel" (30 : Nat) ({ cls := "RepeatFinderModel", name := "same", desc := "(III)Z" } : Jvm.MethodName)) ∈ lw_all := lw_g (lw_at lw_m1 204 rfl) rfl
theorem q223 : (Jvm.Cond.privateMethod ({ cls := "RepeatFinderModel", name := "same", desc := "(III)Z" } : Jvm.MethodName)) ∈ lw_tbl := lw_at lw_m1 205 rfl
theorem q224 : (Jvm.Cond.instanceMethod ({ cls := "RepeatFinderModel", name := "same", desc := "(III)Z" } : Jvm.MethodName)) ∈ lw_all := lw_g (lw_at lw_m1 206 rfl) rfl
theorem q225 : (Jvm.Cond.code ({ cls := "RepeatFinderModel", name := "same", desc := "(III)Z" } : Jvm.MethodName) prog_3_method_6_code (5 : Nat) (Option.some Jvm.ClassFile.FieldType.boolean)) ∈ lw_all := lw_g (lw_at lw_m1 207 rfl) rfl
theorem q227 : (Jvm.Cond.instanceMethod ({ cls := "RepeatFinderModel", name := "place", desc := "()I" } : Jvm.MethodName)) ∈ lw_all := lw_g (lw_at lw_m1 209 rfl) rfl
theorem q228 : (Jvm.Cond.selects "RepeatFinderModel" ({ cls := "RepeatFinderModel", name := "place", desc := "()I" } : Jvm.MethodName) ({ cls := "RepeatFinderModel", name := "place", desc := "()I" } : Jvm.MethodName)) ∈ lw_all := lw_g (lw_at lw_m1 210 rfl) rfl
theorem q229 : (Jvm.Cond.code ({ cls := "RepeatFinderModel", name := "place", desc := "()I" } : Jvm.MethodName) prog_3_method_10_code (1 : Nat) (Option.some Jvm.ClassFile.FieldType.int)) ∈ lw_all := lw_g (lw_at lw_m1 211 rfl) rfl
theorem q230 : (Jvm.Cond.methodLink "RepeatFinderModel" (38 : Nat) ({ cls := "RepeatFinderModel", name := "firstOf", desc := "(II)I" } : Jvm.MethodName)) ∈ lw_all := lw_g (lw_at lw_m1 212 rfl) rfl
theorem q231 : (Jvm.Cond.privateMethod ({ cls := "RepeatFinderModel", name := "firstOf", desc := "(II)I" } : Jvm.MethodName)) ∈ lw_tbl := lw_at lw_m1 213 rfl
theorem q232 : (Jvm.Cond.instanceMethod ({ cls := "RepeatFinderModel", name := "firstOf", desc := "(II)I" } : Jvm.MethodName)) ∈ lw_all := lw_g (lw_at lw_m1 214 rfl) rfl
theorem q233 : (Jvm.Cond.code ({ cls := "RepeatFinderModel", name := "firstOf", desc := "(II)I" } : Jvm.MethodName) prog_3_method_8_code (4 : Nat) (Option.some Jvm.ClassFile.FieldType.int)) ∈ lw_all := lw_g (lw_at lw_m1 215 rfl) rfl
theorem q235 : (Jvm.Cond.instanceMethod ({ cls := "RepeatFinderModel", name := "words", desc := "()I" } : Jvm.MethodName)) ∈ lw_all := lw_g (lw_at lw_m1 217 rfl) rfl
theorem q236 : (Jvm.Cond.selects "RepeatFinderModel" ({ cls := "RepeatFinderModel", name := "words", desc := "()I" } : Jvm.MethodName) ({ cls := "RepeatFinderModel", name := "words", desc := "()I" } : Jvm.MethodName)) ∈ lw_all := lw_g (lw_at lw_m1 218 rfl) rfl
theorem q237 : (Jvm.Cond.code ({ cls := "RepeatFinderModel", name := "words", desc := "()I" } : Jvm.MethodName) prog_3_method_12_code (1 : Nat) (Option.some Jvm.ClassFile.FieldType.int)) ∈ lw_all := lw_g (lw_at lw_m1 219 rfl) rfl
theorem q238 : (Jvm.Cond.methodLink "RepeatFinderModel" (44 : Nat) ({ cls := "RepeatFinderModel", name := "list", desc := "()V" } : Jvm.MethodName)) ∈ lw_all := lw_g (lw_at lw_m1 220 rfl) rfl
theorem q239 : (Jvm.Cond.privateMethod ({ cls := "RepeatFinderModel", name := "list", desc := "()V" } : Jvm.MethodName)) ∈ lw_tbl := lw_at lw_m1 221 rfl
theorem q240 : (Jvm.Cond.instanceMethod ({ cls := "RepeatFinderModel", name := "list", desc := "()V" } : Jvm.MethodName)) ∈ lw_all := lw_g (lw_at lw_m1 222 rfl) rfl
theorem q241 : (Jvm.Cond.code ({ cls := "RepeatFinderModel", name := "list", desc := "()V" } : Jvm.MethodName) prog_3_method_11_code (3 : Nat) (Option.none : Option Jvm.ClassFile.FieldType)) ∈ lw_all := lw_g (lw_at lw_m1 223 rfl) rfl
theorem q243 : (Jvm.Cond.instanceMethod ({ cls := "RepeatFinderModel", name := "longest", desc := "(I)I" } : Jvm.MethodName)) ∈ lw_all := lw_g (lw_at lw_m1 225 rfl) rfl
theorem q244 : (Jvm.Cond.selects "RepeatFinderModel" ({ cls := "RepeatFinderModel", name := "longest", desc := "(I)I" } : Jvm.MethodName) ({ cls := "RepeatFinderModel", name := "longest", desc := "(I)I" } : Jvm.MethodName)) ∈ lw_all := lw_g (lw_at lw_m1 226 rfl) rfl
theorem q245 : (Jvm.Cond.code ({ cls := "RepeatFinderModel", name := "longest", desc := "(I)I" } : Jvm.MethodName) prog_3_method_13_code (4 : Nat) (Option.some Jvm.ClassFile.FieldType.int)) ∈ lw_all := lw_g (lw_at lw_m1 227 rfl) rfl
theorem q247 : (Jvm.Cond.instanceMethod ({ cls := "RepeatFinderModel", name := "repeats", desc := "()I" } : Jvm.MethodName)) ∈ lw_all := lw_g (lw_at lw_m1 229 rfl) rfl
theorem q248 : (Jvm.Cond.selects "RepeatFinderModel" ({ cls := "RepeatFinderModel", name := "repeats", desc := "()I" } : Jvm.MethodName) ({ cls := "RepeatFinderModel", name := "repeats", desc := "()I" } : Jvm.MethodName)) ∈ lw_all := lw_g (lw_at lw_m1 230 rfl) rfl
theorem q249 : (Jvm.Cond.code ({ cls := "RepeatFinderModel", name := "repeats", desc := "()I" } : Jvm.MethodName) prog_3_method_16_code (3 : Nat) (Option.some Jvm.ClassFile.FieldType.int)) ∈ lw_all := lw_g (lw_at lw_m1 231 rfl) rfl
theorem q250 : (Jvm.Cond.methodLink "RepeatFinderModel" (51 : Nat) ({ cls := "RepeatFinderModel", name := "maximal", desc := "(I)Z" } : Jvm.MethodName)) ∈ lw_all := lw_g (lw_at lw_m1 232 rfl) rfl
theorem q251 : (Jvm.Cond.privateMethod ({ cls := "RepeatFinderModel", name := "maximal", desc := "(I)Z" } : Jvm.MethodName)) ∈ lw_tbl := lw_at lw_m1 233 rfl
theorem q252 : (Jvm.Cond.instanceMethod ({ cls := "RepeatFinderModel", name := "maximal", desc := "(I)Z" } : Jvm.MethodName)) ∈ lw_all := lw_g (lw_at lw_m1 234 rfl) rfl
theorem q253 : (Jvm.Cond.code ({ cls := "RepeatFinderModel", name := "maximal", desc := "(I)Z" } : Jvm.MethodName) prog_3_method_15_code (4 : Nat) (Option.some Jvm.ClassFile.FieldType.boolean)) ∈ lw_all := lw_g (lw_at lw_m1 235 rfl) rfl
theorem q254 : (Jvm.Cond.methodLink "RepeatFinderModel" (47 : Nat) ({ cls := "RepeatFinderModel", name := "withBeside", desc := "(III)I" } : Jvm.MethodName)) ∈ lw_all := lw_g (lw_at lw_m1 236 rfl) rfl
theorem q255 : (Jvm.Cond.privateMethod ({ cls := "RepeatFinderModel", name := "withBeside", desc := "(III)I" } : Jvm.MethodName)) ∈ lw_tbl := lw_at lw_m1 237 rfl
theorem q256 : (Jvm.Cond.instanceMethod ({ cls := "RepeatFinderModel", name := "withBeside", desc := "(III)I" } : Jvm.MethodName)) ∈ lw_all := lw_g (lw_at lw_m1 238 rfl) rfl
theorem q257 : (Jvm.Cond.code ({ cls := "RepeatFinderModel", name := "withBeside", desc := "(III)I" } : Jvm.MethodName) prog_3_method_14_code (9 : Nat) (Option.some Jvm.ClassFile.FieldType.int)) ∈ lw_all := lw_g (lw_at lw_m1 239 rfl) rfl
theorem q259 : (Jvm.Cond.instanceMethod ({ cls := "RepeatFinderModel", name := "word", desc := "(I)I" } : Jvm.MethodName)) ∈ lw_all := lw_g (lw_at lw_m2 1 rfl) rfl
theorem q260 : (Jvm.Cond.selects "RepeatFinderModel" ({ cls := "RepeatFinderModel", name := "word", desc := "(I)I" } : Jvm.MethodName) ({ cls := "RepeatFinderModel", name := "word", desc := "(I)I" } : Jvm.MethodName)) ∈ lw_all := lw_g (lw_at lw_m2 2 rfl) rfl
theorem q261 : (Jvm.Cond.code ({ cls := "RepeatFinderModel", name := "word", desc := "(I)I" } : Jvm.MethodName) prog_3_method_19_code (4 : Nat) (Option.some Jvm.ClassFile.FieldType.int)) ∈ lw_all := lw_g (lw_at lw_m2 3 rfl) rfl
theorem q262 : (Jvm.Cond.methodLink "RepeatFinderModel" (59 : Nat) ({ cls := "RepeatFinderModel", name := "following", desc := "(I)I" } : Jvm.MethodName)) ∈ lw_all := lw_g (lw_at lw_m2 4 rfl) rfl
theorem q263 : (Jvm.Cond.privateMethod ({ cls := "RepeatFinderModel", name := "following", desc := "(I)I" } : Jvm.MethodName)) ∈ lw_tbl := lw_at lw_m2 5 rfl
theorem q264 : (Jvm.Cond.instanceMethod ({ cls := "RepeatFinderModel", name := "following", desc := "(I)I" } : Jvm.MethodName)) ∈ lw_all := lw_g (lw_at lw_m2 6 rfl) rfl
theorem q265 : (Jvm.Cond.code ({ cls := "RepeatFinderModel", name := "following", desc := "(I)I" } : Jvm.MethodName) prog_3_method_18_code (5 : Nat) (Option.some Jvm.ClassFile.FieldType.int)) ∈ lw_all := lw_g (lw_at lw_m2 7 rfl) rfl
theorem q266 : (Jvm.Cond.methodLink "RepeatFinderModel" (55 : Nat) ({ cls := "RepeatFinderModel", name := "order", desc := "(IIII)I" } : Jvm.MethodName)) ∈ lw_all := lw_g (lw_at lw_m2 8 rfl) rfl
theorem q267 : (Jvm.Cond.privateMethod ({ cls := "RepeatFinderModel", name := "order", desc := "(IIII)I" } : Jvm.MethodName)) ∈ lw_tbl := lw_at lw_m2 9 rfl
theorem q268 : (Jvm.Cond.instanceMethod ({ cls := "RepeatFinderModel", name := "order", desc := "(IIII)I" } : Jvm.MethodName)) ∈ lw_all := lw_g (lw_at lw_m2 10 rfl) rfl
theorem q269 : (Jvm.Cond.code ({ cls := "RepeatFinderModel", name := "order", desc := "(IIII)I" } : Jvm.MethodName) prog_3_method_17_code (6 : Nat) (Option.some Jvm.ClassFile.FieldType.int)) ∈ lw_all := lw_g (lw_at lw_m2 11 rfl) rfl
theorem q271 : (Jvm.Cond.instanceMethod ({ cls := "RepeatFinderModel", name := "rank", desc := "()I" } : Jvm.MethodName)) ∈ lw_all := lw_g (lw_at lw_m2 13 rfl) rfl
theorem q272 : (Jvm.Cond.selects "RepeatFinderModel" ({ cls := "RepeatFinderModel", name := "rank", desc := "()I" } : Jvm.MethodName) ({ cls := "RepeatFinderModel", name := "rank", desc := "()I" } : Jvm.MethodName)) ∈ lw_all := lw_g (lw_at lw_m2 14 rfl) rfl
theorem q273 : (Jvm.Cond.code ({ cls := "RepeatFinderModel", name := "rank", desc := "()I" } : Jvm.MethodName) prog_3_method_20_code (3 : Nat) (Option.some Jvm.ClassFile.FieldType.int)) ∈ lw_all := lw_g (lw_at lw_m2 15 rfl) rfl
theorem q275 : (Jvm.Cond.instanceMethod ({ cls := "RepeatFinderModel", name := "common", desc := "()I" } : Jvm.MethodName)) ∈ lw_all := lw_g (lw_at lw_m2 17 rfl) rfl
theorem q276 : (Jvm.Cond.selects "RepeatFinderModel" ({ cls := "RepeatFinderModel", name := "common", desc := "()I" } : Jvm.MethodName) ({ cls := "RepeatFinderModel", name := "common", desc := "()I" } : Jvm.MethodName)) ∈ lw_all := lw_g (lw_at lw_m2 18 rfl) rfl
theorem q277 : (Jvm.Cond.code ({ cls := "RepeatFinderModel", name := "common", desc := "()I" } : Jvm.MethodName) prog_3_method_21_code (4 : Nat) (Option.some Jvm.ClassFile.FieldType.int)) ∈ lw_all := lw_g (lw_at lw_m2 19 rfl) rfl
theorem q279 : (Jvm.Cond.instanceMethod ({ cls := "RepeatFinderModel", name := "unique", desc := "(I)I" } : Jvm.MethodName)) ∈ lw_all := lw_g (lw_at lw_m2 21 rfl) rfl
theorem q280 : (Jvm.Cond.selects "RepeatFinderModel" ({ cls := "RepeatFinderModel", name := "unique", desc := "(I)I" } : Jvm.MethodName) ({ cls := "RepeatFinderModel", name := "unique", desc := "(I)I" } : Jvm.MethodName)) ∈ lw_all := lw_g (lw_at lw_m2 22 rfl) rfl
theorem q281 : (Jvm.Cond.code ({ cls := "RepeatFinderModel", name := "unique", desc := "(I)I" } : Jvm.MethodName) prog_3_method_22_code (3 : Nat) (Option.some Jvm.ClassFile.FieldType.int)) ∈ lw_all := lw_g (lw_at lw_m2 23 rfl) rfl
theorem in_X1 : ∀ w ∈ wsX10, w ∈ lw_all := lw_in wsX10 [182, 184, 186, 188, 190, 192, 194] (by decide +kernel) (by decide +kernel)
end
section
/-! java/lang/Object -/
set_option maxRecDepth 100000
def RJ0 : String := "java/lang/Object"
abbrev cJ0_init : ByteArray := object_method_1_code
def yJ0_init : MethodName := ⟨RJ0, "<init>", "()V"⟩
theorem dJ0_init_0 : decode cJ0_init 0 = .ok (.return_, 1) := by decide +kernel
theorem q27 : (Jvm.Cond.instanceMethod ({ cls := "java/lang/Object", name := "<init>", desc := "()V" } : Jvm.MethodName)) ∈ lw_all := lw_g (lw_at lw_m1 9 rfl) rfl
theorem q28 : (Jvm.Cond.code ({ cls := "java/lang/Object", name := "<init>", desc := "()V" } : Jvm.MethodName) object_method_1_code (1 : Nat) (Option.none : Option Jvm.ClassFile.FieldType)) ∈ lw_all := lw_g (lw_at lw_m1 10 rfl) rfl
theorem q75 : (Jvm.Cond.arrayClass Jvm.ClassFile.FieldType.byte) ∈ lw_all := lw_g (lw_at lw_m1 57 rfl) rfl
set_option maxRecDepth 100000
theorem q76 : (Jvm.Cond.arrayClass Jvm.ClassFile.FieldType.short) ∈ lw_all := lw_g (lw_at lw_m1 58 rfl) rfl
theorem q197 : (Jvm.Cond.arrayClass Jvm.ClassFile.FieldType.int) ∈ lw_all := lw_g (lw_at lw_m1 179 rfl) rfl
theorem q18 : (Jvm.Cond.initialized "RepeatFinderLaw") ∈ lw_all := lw_g (lw_at lw_m1 0 rfl) rfl
set_option maxRecDepth 100000
theorem q21 : (Jvm.Cond.classLink "RepeatFinderLaw" (7 : Nat) "RepeatFinder") ∈ lw_all := lw_g (lw_at lw_m1 3 rfl) rfl
theorem q23 : (Jvm.Cond.methodLink "RepeatFinderLaw" (9 : Nat) ({ cls := "RepeatFinder", name := "<init>", desc := "()V" } : Jvm.MethodName)) ∈ lw_all := lw_g (lw_at lw_m1 5 rfl) rfl
theorem q77 : (Jvm.Cond.methodLink "RepeatFinderLaw" (13 : Nat) ({ cls := "RepeatFinder", name := "type", desc := "(I)I" } : Jvm.MethodName)) ∈ lw_all := lw_g (lw_at lw_m1 59 rfl) rfl
theorem q81 : (Jvm.Cond.methodLink "RepeatFinderLaw" (18 : Nat) ({ cls := "RepeatFinder", name := "shift", desc := "()I" } : Jvm.MethodName)) ∈ lw_all := lw_g (lw_at lw_m1 63 rfl) rfl
theorem q85 : (Jvm.Cond.methodLink "RepeatFinderLaw" (23 : Nat) ({ cls := "RepeatFinder", name := "ask", desc := "(I)I" } : Jvm.MethodName)) ∈ lw_all := lw_g (lw_at lw_m1 67 rfl) rfl
theorem q89 : (Jvm.Cond.methodLink "RepeatFinderLaw" (27 : Nat) ({ cls := "RepeatFinder", name := "wipe", desc := "()I" } : Jvm.MethodName)) ∈ lw_all := lw_g (lw_at lw_m1 71 rfl) rfl
theorem q93 : (Jvm.Cond.methodLink "RepeatFinderLaw" (31 : Nat) ({ cls := "RepeatFinder", name := "count", desc := "()I" } : Jvm.MethodName)) ∈ lw_all := lw_g (lw_at lw_m1 75 rfl) rfl
theorem q129 : (Jvm.Cond.methodLink "RepeatFinderLaw" (35 : Nat) ({ cls := "RepeatFinder", name := "place", desc := "()I" } : Jvm.MethodName)) ∈ lw_all := lw_g (lw_at lw_m1 111 rfl) rfl
theorem q133 : (Jvm.Cond.methodLink "RepeatFinderLaw" (39 : Nat) ({ cls := "RepeatFinder", name := "words", desc := "()I" } : Jvm.MethodName)) ∈ lw_all := lw_g (lw_at lw_m1 115 rfl) rfl
theorem q137 : (Jvm.Cond.methodLink "RepeatFinderLaw" (43 : Nat) ({ cls := "RepeatFinder", name := "longest", desc := "(I)I" } : Jvm.MethodName)) ∈ lw_all := lw_g (lw_at lw_m1 119 rfl) rfl
theorem q141 : (Jvm.Cond.methodLink "RepeatFinderLaw" (47 : Nat) ({ cls := "RepeatFinder", name := "repeats", desc := "()I" } : Jvm.MethodName)) ∈ lw_all := lw_g (lw_at lw_m1 123 rfl) rfl
theorem q149 : (Jvm.Cond.methodLink "RepeatFinderLaw" (51 : Nat) ({ cls := "RepeatFinder", name := "word", desc := "(I)I" } : Jvm.MethodName)) ∈ lw_all := lw_g (lw_at lw_m1 131 rfl) rfl
theorem q157 : (Jvm.Cond.methodLink "RepeatFinderLaw" (55 : Nat) ({ cls := "RepeatFinder", name := "rank", desc := "()I" } : Jvm.MethodName)) ∈ lw_all := lw_g (lw_at lw_m1 139 rfl) rfl
theorem q161 : (Jvm.Cond.methodLink "RepeatFinderLaw" (59 : Nat) ({ cls := "RepeatFinder", name := "common", desc := "()I" } : Jvm.MethodName)) ∈ lw_all := lw_g (lw_at lw_m1 143 rfl) rfl
theorem q165 : (Jvm.Cond.methodLink "RepeatFinderLaw" (63 : Nat) ({ cls := "RepeatFinder", name := "unique", desc := "(I)I" } : Jvm.MethodName)) ∈ lw_all := lw_g (lw_at lw_m1 147 rfl) rfl
theorem q169 : (Jvm.Cond.classLink "RepeatFinderLaw" (10 : Nat) "RepeatFinderModel") ∈ lw_all := lw_g (lw_at lw_m1 151 rfl) rfl
theorem q171 : (Jvm.Cond.methodLink "RepeatFinderLaw" (12 : Nat) ({ cls := "RepeatFinderModel", name := "<init>", desc := "()V" } : Jvm.MethodName)) ∈ lw_all := lw_g (lw_at lw_m1 153 rfl) rfl
theorem q198 : (Jvm.Cond.methodLink "RepeatFinderLaw" (17 : Nat) ({ cls := "RepeatFinderModel", name := "type", desc := "(I)I" } : Jvm.MethodName)) ∈ lw_all := lw_g (lw_at lw_m1 180 rfl) rfl
theorem q202 : (Jvm.Cond.methodLink "RepeatFinderLaw" (22 : Nat) ({ cls := "RepeatFinderModel", name := "shift", desc := "()I" } : Jvm.MethodName)) ∈ lw_all := lw_g (lw_at lw_m1 184 rfl) rfl
theorem q206 : (Jvm.Cond.methodLink "RepeatFinderLaw" (26 : Nat) ({ cls := "RepeatFinderModel", name := "ask", desc := "(I)I" } : Jvm.MethodName)) ∈ lw_all := lw_g (lw_at lw_m1 188 rfl) rfl
theorem q210 : (Jvm.Cond.methodLink "RepeatFinderLaw" (30 : Nat) ({ cls := "RepeatFinderModel", name := "wipe", desc := "()I" } : Jvm.MethodName)) ∈ lw_all := lw_g (lw_at lw_m1 192 rfl) rfl
theorem q214 : (Jvm.Cond.methodLink "RepeatFinderLaw" (34 : Nat) ({ cls := "RepeatFinderModel", name := "count", desc := "()I" } : Jvm.MethodName)) ∈ lw_all := lw_g (lw_at lw_m1 196 rfl) rfl
theorem q226 : (Jvm.Cond.methodLink "RepeatFinderLaw" (38 : Nat) ({ cls := "RepeatFinderModel", name := "place", desc := "()I" } : Jvm.MethodName)) ∈ lw_all := lw_g (lw_at lw_m1 208 rfl) rfl
theorem q234 : (Jvm.Cond.methodLink "RepeatFinderLaw" (42 : Nat) ({ cls := "RepeatFinderModel", name := "words", desc := "()I" } : Jvm.MethodName)) ∈ lw_all := lw_g (lw_at lw_m1 216 rfl) rfl
theorem q242 : (Jvm.Cond.methodLink "RepeatFinderLaw" (46 : Nat) ({ cls := "RepeatFinderModel", name := "longest", desc := "(I)I" } : Jvm.MethodName)) ∈ lw_all := lw_g (lw_at lw_m1 224 rfl) rfl
theorem q246 : (Jvm.Cond.methodLink "RepeatFinderLaw" (50 : Nat) ({ cls := "RepeatFinderModel", name := "repeats", desc := "()I" } : Jvm.MethodName)) ∈ lw_all := lw_g (lw_at lw_m1 228 rfl) rfl
theorem q258 : (Jvm.Cond.methodLink "RepeatFinderLaw" (54 : Nat) ({ cls := "RepeatFinderModel", name := "word", desc := "(I)I" } : Jvm.MethodName)) ∈ lw_all := lw_g (lw_at lw_m2 0 rfl) rfl
theorem q270 : (Jvm.Cond.methodLink "RepeatFinderLaw" (58 : Nat) ({ cls := "RepeatFinderModel", name := "rank", desc := "()I" } : Jvm.MethodName)) ∈ lw_all := lw_g (lw_at lw_m2 12 rfl) rfl
theorem q274 : (Jvm.Cond.methodLink "RepeatFinderLaw" (62 : Nat) ({ cls := "RepeatFinderModel", name := "common", desc := "()I" } : Jvm.MethodName)) ∈ lw_all := lw_g (lw_at lw_m2 16 rfl) rfl
theorem q278 : (Jvm.Cond.methodLink "RepeatFinderLaw" (66 : Nat) ({ cls := "RepeatFinderModel", name := "unique", desc := "(I)I" } : Jvm.MethodName)) ∈ lw_all := lw_g (lw_at lw_m2 20 rfl) rfl
/-! the law's own entry -/
set_option maxRecDepth 100000
abbrev cL_law : ByteArray := code
theorem dL_law_0 : decode cL_law 0 = .ok (.new 7, 3) := by decide +kernel
theorem dL_law_3 : decode cL_law 3 = .ok (.dup, 1) := by decide +kernel
theorem dL_law_4 : decode cL_law 4 = .ok (.invokespecial 9, 3) := by decide +kernel
theorem dL_law_7 : decode cL_law 7 = .ok (.astore_n 1, 1) := by decide +kernel
theorem dL_law_8 : decode cL_law 8 = .ok (.new 10, 3) := by decide +kernel
theorem dL_law_11 : decode cL_law 11 = .ok (.dup, 1) := by decide +kernel
theorem dL_law_12 : decode cL_law 12 = .ok (.invokespecial 12, 3) := by decide +kernel
theorem dL_law_15 : decode cL_law 15 = .ok (.astore_n 2, 1) := by decide +kernel
theorem dL_law_16 : decode cL_law 16 = .ok (.iconst 0, 1) := by decide +kernel
theorem dL_law_17 : decode cL_law 17 = .ok (.istore_n 3, 1) := by decide +kernel
theorem dL_law_18 : decode cL_law 18 = .ok (.iload_n 3, 1) := by decide +kernel
theorem dL_law_19 : decode cL_law 19 = .ok (.aload_n 0, 1) := by decide +kernel
theorem dL_law_20 : decode cL_law 20 = .ok (.arraylength, 1) := by decide +kernel
theorem dL_law_21 : decode cL_law 21 = .ok (.iconst 2, 1) := by decide +kernel
theorem dL_law_22 : decode cL_law 22 = .ok (.isub, 1) := by decide +kernel
theorem dL_law_23 : decode cL_law 23 = .ok (.if_icmp .gt 302, 3) := by decide +kernel
theorem dL_law_26 : decode cL_law 26 = .ok (.aload_n 0, 1) := by decide +kernel
theorem dL_law_27 : decode cL_law 27 = .ok (.iload_n 3, 1) := by decide +kernel
theorem dL_law_28 : decode cL_law 28 = .ok (.iaload, 1) := by decide +kernel
theorem dL_law_29 : decode cL_law 29 = .ok (.bipush 15, 2) := by decide +kernel
theorem dL_law_31 : decode cL_law 31 = .ok (.iand, 1) := by decide +kernel
theorem dL_law_32 : decode cL_law 32 = .ok (.tableswitch 287 0 12 #[68, 91, 104, 127, 140, 153, 166, 179, 202, 215, 238, 251, 264], 68) := by decide +kernel
theorem dL_law_100 : decode cL_law 100 = .ok (.aload_n 1, 1) := by decide +kernel
theorem dL_law_101 : decode cL_law 101 = .ok (.aload_n 0, 1) := by decide +kernel
theorem dL_law_102 : decode cL_law 102 = .ok (.iload_n 3, 1) := by decide +kernel
theorem dL_law_103 : decode cL_law 103 = .ok (.iconst 1, 1) := by decide +kernel
theorem dL_law_104 : decode cL_law 104 = .ok (.iadd, 1) := by decide +kernel
theorem dL_law_105 : decode cL_law 105 = .ok (.iaload, 1) := by decide +kernel
theorem dL_law_106 : decode cL_law 106 = .ok (.invokevirtual 13, 3) := by decide +kernel
theorem dL_law_109 : decode cL_law 109 = .ok (.aload_n 2, 1) := by decide +kernel
theorem dL_law_110 : decode cL_law 110 = .ok (.aload_n 0, 1) := by decide +kernel
theorem dL_law_111 : decode cL_law 111 = .ok (.iload_n 3, 1) := by decide +kernel
theorem dL_law_112 : decode cL_law 112 = .ok (.iconst 1, 1) := by decide +kernel
theorem dL_law_113 : decode cL_law 113 = .ok (.iadd, 1) := by decide +kernel
theorem dL_law_114 : decode cL_law 114 = .ok (.iaload, 1) := by decide +kernel
theorem dL_law_115 : decode cL_law 115 = .ok (.invokevirtual 17, 3) := by decide +kernel
theorem dL_law_118 : decode cL_law 118 = .ok (.if_icmp .eq 201, 3) := by decide +kernel
theorem dL_law_121 : decode cL_law 121 = .ok (.iconst 0, 1) := by decide +kernel
theorem dL_law_122 : decode cL_law 122 = .ok (.ireturn, 1) := by decide +kernel
theorem dL_law_123 : decode cL_law 123 = .ok (.aload_n 1, 1) := by decide +kernel
theorem dL_law_124 : decode cL_law 124 = .ok (.invokevirtual 18, 3) := by decide +kernel
theorem dL_law_127 : decode cL_law 127 = .ok (.aload_n 2, 1) := by decide +kernel
theorem dL_law_128 : decode cL_law 128 = .ok (.invokevirtual 22, 3) := by decide +kernel
theorem dL_law_131 : decode cL_law 131 = .ok (.if_icmp .eq 188, 3) := by decide +kernel
theorem dL_law_134 : decode cL_law 134 = .ok (.iconst 0, 1) := by decide +kernel
theorem dL_law_135 : decode cL_law 135 = .ok (.ireturn, 1) := by decide +kernel
theorem dL_law_136 : decode cL_law 136 = .ok (.aload_n 1, 1) := by decide +kernel
theorem dL_law_137 : decode cL_law 137 = .ok (.aload_n 0, 1) := by decide +kernel
theorem dL_law_138 : decode cL_law 138 = .ok (.iload_n 3, 1) := by decide +kernel
theorem dL_law_139 : decode cL_law 139 = .ok (.iconst 1, 1) := by decide +kernel
theorem dL_law_140 : decode cL_law 140 = .ok (.iadd, 1) := by decide +kernel
theorem dL_law_141 : decode cL_law 141 = .ok (.iaload, 1) := by decide +kernel
theorem dL_law_142 : decode cL_law 142 = .ok (.invokevirtual 23, 3) := by decide +kernel
theorem dL_law_145 : decode cL_law 145 = .ok (.aload_n 2, 1) := by decide +kernel
theorem dL_law_146 : decode cL_law 146 = .ok (.aload_n 0, 1) := by decide +kernel
theorem dL_law_147 : decode cL_law 147 = .ok (.iload_n 3, 1) := by decide +kernel
theorem dL_law_148 : decode cL_law 148 = .ok (.iconst 1, 1) := by decide +kernel
theorem dL_law_149 : decode cL_law 149 = .ok (.iadd, 1) := by decide +kernel
theorem dL_law_150 : decode cL_law 150 = .ok (.iaload, 1) := by decide +kernel
theorem dL_law_151 : decode cL_law 151 = .ok (.invokevirtual 26, 3) := by decide +kernel
theorem dL_law_154 : decode cL_law 154 = .ok (.if_icmp .eq 165, 3) := by decide +kernel
theorem dL_law_157 : decode cL_law 157 = .ok (.iconst 0, 1) := by decide +kernel
theorem dL_law_158 : decode cL_law 158 = .ok (.ireturn, 1) := by decide +kernel
theorem dL_law_159 : decode cL_law 159 = .ok (.aload_n 1, 1) := by decide +kernel
theorem dL_law_160 : decode cL_law 160 = .ok (.invokevirtual 27, 3) := by decide +kernel
theorem dL_law_163 : decode cL_law 163 = .ok (.aload_n 2, 1) := by decide +kernel
theorem dL_law_164 : decode cL_law 164 = .ok (.invokevirtual 30, 3) := by decide +kernel
theorem dL_law_167 : decode cL_law 167 = .ok (.if_icmp .eq 152, 3) := by decide +kernel
theorem dL_law_170 : decode cL_law 170 = .ok (.iconst 0, 1) := by decide +kernel
theorem dL_law_171 : decode cL_law 171 = .ok (.ireturn, 1) := by decide +kernel
theorem dL_law_172 : decode cL_law 172 = .ok (.aload_n 1, 1) := by decide +kernel
theorem dL_law_173 : decode cL_law 173 = .ok (.invokevirtual 31, 3) := by decide +kernel
theorem dL_law_176 : decode cL_law 176 = .ok (.aload_n 2, 1) := by decide +kernel
theorem dL_law_177 : decode cL_law 177 = .ok (.invokevirtual 34, 3) := by decide +kernel
theorem dL_law_180 : decode cL_law 180 = .ok (.if_icmp .eq 139, 3) := by decide +kernel
theorem dL_law_183 : decode cL_law 183 = .ok (.iconst 0, 1) := by decide +kernel
theorem dL_law_184 : decode cL_law 184 = .ok (.ireturn, 1) := by decide +kernel
theorem dL_law_185 : decode cL_law 185 = .ok (.aload_n 1, 1) := by decide +kernel
theorem dL_law_186 : decode cL_law 186 = .ok (.invokevirtual 35, 3) := by decide +kernel
theorem dL_law_189 : decode cL_law 189 = .ok (.aload_n 2, 1) := by decide +kernel
theorem dL_law_190 : decode cL_law 190 = .ok (.invokevirtual 38, 3) := by decide +kernel
theorem dL_law_193 : decode cL_law 193 = .ok (.if_icmp .eq 126, 3) := by decide +kernel
theorem dL_law_196 : decode cL_law 196 = .ok (.iconst 0, 1) := by decide +kernel
theorem dL_law_197 : decode cL_law 197 = .ok (.ireturn, 1) := by decide +kernel
theorem dL_law_198 : decode cL_law 198 = .ok (.aload_n 1, 1) := by decide +kernel
theorem dL_law_199 : decode cL_law 199 = .ok (.invokevirtual 39, 3) := by decide +kernel
theorem dL_law_202 : decode cL_law 202 = .ok (.aload_n 2, 1) := by decide +kernel
theorem dL_law_203 : decode cL_law 203 = .ok (.invokevirtual 42, 3) := by decide +kernel
theorem dL_law_206 : decode cL_law 206 = .ok (.if_icmp .eq 113, 3) := by decide +kernel
theorem dL_law_209 : decode cL_law 209 = .ok (.iconst 0, 1) := by decide +kernel
theorem dL_law_210 : decode cL_law 210 = .ok (.ireturn, 1) := by decide +kernel
theorem dL_law_211 : decode cL_law 211 = .ok (.aload_n 1, 1) := by decide +kernel
theorem dL_law_212 : decode cL_law 212 = .ok (.aload_n 0, 1) := by decide +kernel
theorem dL_law_213 : decode cL_law 213 = .ok (.iload_n 3, 1) := by decide +kernel
theorem dL_law_214 : decode cL_law 214 = .ok (.iconst 1, 1) := by decide +kernel
theorem dL_law_215 : decode cL_law 215 = .ok (.iadd, 1) := by decide +kernel
theorem dL_law_216 : decode cL_law 216 = .ok (.iaload, 1) := by decide +kernel
theorem dL_law_217 : decode cL_law 217 = .ok (.invokevirtual 43, 3) := by decide +kernel
theorem dL_law_220 : decode cL_law 220 = .ok (.aload_n 2, 1) := by decide +kernel
theorem dL_law_221 : decode cL_law 221 = .ok (.aload_n 0, 1) := by decide +kernel
theorem dL_law_222 : decode cL_law 222 = .ok (.iload_n 3, 1) := by decide +kernel
theorem dL_law_223 : decode cL_law 223 = .ok (.iconst 1, 1) := by decide +kernel
theorem dL_law_224 : decode cL_law 224 = .ok (.iadd, 1) := by decide +kernel
theorem dL_law_225 : decode cL_law 225 = .ok (.iaload, 1) := by decide +kernel
theorem dL_law_226 : decode cL_law 226 = .ok (.invokevirtual 46, 3) := by decide +kernel
theorem dL_law_229 : decode cL_law 229 = .ok (.if_icmp .eq 90, 3) := by decide +kernel
theorem dL_law_232 : decode cL_law 232 = .ok (.iconst 0, 1) := by decide +kernel
theorem dL_law_233 : decode cL_law 233 = .ok (.ireturn, 1) := by decide +kernel
theorem dL_law_234 : decode cL_law 234 = .ok (.aload_n 1, 1) := by decide +kernel
theorem dL_law_235 : decode cL_law 235 = .ok (.invokevirtual 47, 3) := by decide +kernel
theorem dL_law_238 : decode cL_law 238 = .ok (.aload_n 2, 1) := by decide +kernel
theorem dL_law_239 : decode cL_law 239 = .ok (.invokevirtual 50, 3) := by decide +kernel
theorem dL_law_242 : decode cL_law 242 = .ok (.if_icmp .eq 77, 3) := by decide +kernel
theorem dL_law_245 : decode cL_law 245 = .ok (.iconst 0, 1) := by decide +kernel
theorem dL_law_246 : decode cL_law 246 = .ok (.ireturn, 1) := by decide +kernel
theorem dL_law_247 : decode cL_law 247 = .ok (.aload_n 1, 1) := by decide +kernel
theorem dL_law_248 : decode cL_law 248 = .ok (.aload_n 0, 1) := by decide +kernel
theorem dL_law_249 : decode cL_law 249 = .ok (.iload_n 3, 1) := by decide +kernel
theorem dL_law_250 : decode cL_law 250 = .ok (.iconst 1, 1) := by decide +kernel
theorem dL_law_251 : decode cL_law 251 = .ok (.iadd, 1) := by decide +kernel
theorem dL_law_252 : decode cL_law 252 = .ok (.iaload, 1) := by decide +kernel
theorem dL_law_253 : decode cL_law 253 = .ok (.invokevirtual 51, 3) := by decide +kernel
theorem dL_law_256 : decode cL_law 256 = .ok (.aload_n 2, 1) := by decide +kernel
theorem dL_law_257 : decode cL_law 257 = .ok (.aload_n 0, 1) := by decide +kernel
theorem dL_law_258 : decode cL_law 258 = .ok (.iload_n 3, 1) := by decide +kernel
theorem dL_law_259 : decode cL_law 259 = .ok (.iconst 1, 1) := by decide +kernel
theorem dL_law_260 : decode cL_law 260 = .ok (.iadd, 1) := by decide +kernel
theorem dL_law_261 : decode cL_law 261 = .ok (.iaload, 1) := by decide +kernel
theorem dL_law_262 : decode cL_law 262 = .ok (.invokevirtual 54, 3) := by decide +kernel
theorem dL_law_265 : decode cL_law 265 = .ok (.if_icmp .eq 54, 3) := by decide +kernel
theorem dL_law_268 : decode cL_law 268 = .ok (.iconst 0, 1) := by decide +kernel
theorem dL_law_269 : decode cL_law 269 = .ok (.ireturn, 1) := by decide +kernel
theorem dL_law_270 : decode cL_law 270 = .ok (.aload_n 1, 1) := by decide +kernel
theorem dL_law_271 : decode cL_law 271 = .ok (.invokevirtual 55, 3) := by decide +kernel
theorem dL_law_274 : decode cL_law 274 = .ok (.aload_n 2, 1) := by decide +kernel
theorem dL_law_275 : decode cL_law 275 = .ok (.invokevirtual 58, 3) := by decide +kernel
theorem dL_law_278 : decode cL_law 278 = .ok (.if_icmp .eq 41, 3) := by decide +kernel
theorem dL_law_281 : decode cL_law 281 = .ok (.iconst 0, 1) := by decide +kernel
theorem dL_law_282 : decode cL_law 282 = .ok (.ireturn, 1) := by decide +kernel
theorem dL_law_283 : decode cL_law 283 = .ok (.aload_n 1, 1) := by decide +kernel
theorem dL_law_284 : decode cL_law 284 = .ok (.invokevirtual 59, 3) := by decide +kernel
theorem dL_law_287 : decode cL_law 287 = .ok (.aload_n 2, 1) := by decide +kernel
theorem dL_law_288 : decode cL_law 288 = .ok (.invokevirtual 62, 3) := by decide +kernel
theorem dL_law_291 : decode cL_law 291 = .ok (.if_icmp .eq 28, 3) := by decide +kernel
theorem dL_law_294 : decode cL_law 294 = .ok (.iconst 0, 1) := by decide +kernel
theorem dL_law_295 : decode cL_law 295 = .ok (.ireturn, 1) := by decide +kernel
theorem dL_law_296 : decode cL_law 296 = .ok (.aload_n 1, 1) := by decide +kernel
theorem dL_law_297 : decode cL_law 297 = .ok (.aload_n 0, 1) := by decide +kernel
theorem dL_law_298 : decode cL_law 298 = .ok (.iload_n 3, 1) := by decide +kernel
theorem dL_law_299 : decode cL_law 299 = .ok (.iconst 1, 1) := by decide +kernel
theorem dL_law_300 : decode cL_law 300 = .ok (.iadd, 1) := by decide +kernel
theorem dL_law_301 : decode cL_law 301 = .ok (.iaload, 1) := by decide +kernel
theorem dL_law_302 : decode cL_law 302 = .ok (.invokevirtual 63, 3) := by decide +kernel
theorem dL_law_305 : decode cL_law 305 = .ok (.aload_n 2, 1) := by decide +kernel
theorem dL_law_306 : decode cL_law 306 = .ok (.aload_n 0, 1) := by decide +kernel
theorem dL_law_307 : decode cL_law 307 = .ok (.iload_n 3, 1) := by decide +kernel
theorem dL_law_308 : decode cL_law 308 = .ok (.iconst 1, 1) := by decide +kernel
theorem dL_law_309 : decode cL_law 309 = .ok (.iadd, 1) := by decide +kernel
theorem dL_law_310 : decode cL_law 310 = .ok (.iaload, 1) := by decide +kernel
theorem dL_law_311 : decode cL_law 311 = .ok (.invokevirtual 66, 3) := by decide +kernel
theorem dL_law_314 : decode cL_law 314 = .ok (.if_icmp .eq 5, 3) := by decide +kernel
theorem dL_law_317 : decode cL_law 317 = .ok (.iconst 0, 1) := by decide +kernel
theorem dL_law_318 : decode cL_law 318 = .ok (.ireturn, 1) := by decide +kernel
theorem dL_law_319 : decode cL_law 319 = .ok (.iinc 3 2, 3) := by decide +kernel
theorem dL_law_322 : decode cL_law 322 = .ok (.goto (-304), 3) := by decide +kernel
theorem dL_law_325 : decode cL_law 325 = .ok (.iconst 1, 1) := by decide +kernel
theorem dL_law_326 : decode cL_law 326 = .ok (.ireturn, 1) := by decide +kernel
end
section
/-! ===== the layer: ints by their whole number; a walk's goal with heap, frame and locals packed ===== -/
set_option maxRecDepth 100000
def iI (z : Int) : Int32 := Int32.ofInt z
theorem iI_add (a b : Int) : iI a + iI b = iI (a + b) := (Int32.ofInt_add a b).symm
theorem iI_sub (a b : Int) : iI a - iI b = iI (a - b) := (Int32.ofInt_sub a b).symm
theorem iI_mul (a b : Int) : iI a * iI b = iI (a * b) := (Int32.ofInt_mul a b).symm
abbrev rng (z : Int) : Prop := -2147483648 ≤ z ∧ z < 2147483648
theorem iI_toInt {z : Int} (h : rng z) : (iI z).toInt = z := Int32.toInt_ofInt_of_le (by have := h.1; omega) (by have := h.2; omega)
theorem iI_lt {a b : Int} (ha : rng a) (hb : rng b) : iI a < iI b ↔ a < b := by rw [Int32.lt_iff_toInt_lt, iI_toInt ha, iI_toInt hb]
theorem iI_le {a b : Int} (ha : rng a) (hb : rng b) : iI a ≤ iI b ↔ a ≤ b := by rw [Int32.le_iff_toInt_le, iI_toInt ha, iI_toInt hb]
theorem iI_eq {a b : Int} (ha : rng a) (hb : rng b) : iI a = iI b ↔ a = b := by rw [← Int32.toInt_inj, iI_toInt ha, iI_toInt hb]
theorem iI_x (x : Int32) : iI x.toInt = x := Int32.ofInt_toInt x
theorem iI_rng (x : Int32) : rng x.toInt := ⟨by have := x.le_toInt; omega, by have := x.toInt_lt; omega⟩
theorem iI_nat (n : Nat) : iI (n : Int) = nI n := Int32.ofInt_eq_ofNat
theorem iI_0 : iI 0 = 0 := rfl
theorem rng_0 : rng 0 := by omega
theorem iI_b {z : Int} (h : -128 ≤ z ∧ z < 128) : (iI z).toInt8.toInt32 = iI z := by
  unfold iI
  rw [Int32.toInt8_ofInt, Int8.toInt32_ofInt (by have : Int8.minValue.toInt = -128 := rfl; omega) (by have : Int8.maxValue.toInt = 127 := rfl; omega)]
theorem iI_s {z : Int} (h : -32768 ≤ z ∧ z < 32768) : (iI z).toInt16.toInt32 = iI z := by
  unfold iI
  rw [Int32.toInt16_ofInt, Int16.toInt32_ofInt (by have : Int16.minValue.toInt = -32768 := rfl; omega) (by have : Int16.maxValue.toInt = 32767 := rfl; omega)]
theorem iI_in {k n : Nat} (h : k < n) (hn : n < 2147483648) : vp_in (iI (k : Int)) n := by
  rw [iI_nat]; exact vp_in_nI h hn
theorem iI_cl {k : Nat} (h : k < 2147483648) : (iI (k : Int)).toNatClampNeg = k := by
  rw [iI_nat]; exact nI_clamp h
/-- an array of whole numbers with one place changed -/
def zu (f : Nat → Int) (k : Nat) (v : Int) : Nat → Int := fun i => if i = k then v else f i
theorem zu_s {f : Nat → Int} {k : Nat} {v : Int} : zu f k v k = v := by simp [zu]
theorem zu_n {f : Nat → Int} {k j : Nat} {v : Int} (h : j ≠ k) : zu f k v j = f j := by simp [zu, h]
theorem zu_upd (f : Nat → Int) (k : Nat) (v : Int) : upd (fun i => iI (f i)) k (iI v) = fun i => iI (zu f k v i) := by
  funext i
  unfold upd zu
  split <;> rfl
abbrev vwCl : List vw_C := [(RX0, TX0, 15), (RX1, TX1, 7)]
abbrev XK : Type := Program × Launch × Env × Room × State × MethodId × Array Value × List Frame × Method × Code × (Nat × Nat) × (State → Prop) × (Nat → Prop) × va_G × List (ClassId × FieldType)
abbrev XJ : Type := Launch × va_G × List (ClassId × FieldType)
/-- the walk's goal: at pc, with the world ws, the locals lv and the operand stack st -/
def xw (K : XK) (ws : va_W) (pc : Nat) (lv : List (Nat × Value)) (st : List Value) : Prop :=
  match K with
  | (p, l, e, R, s, m, args, below, meth, c, (cells, slots), Q, A, D, _) =>
    ∀ (H : Heap) (locs : List Loc) (ls : Array Slot), va_P D vwCl ws H → va_D A ws → va_S A s.heap H locs → lv_has ls c.maxLocals lv → W p l e R s m args below meth c H locs cells slots Q (F0 m pc ls st)
/-- what holds all through a method's walk -/
def xok (K : XK) (J : XJ) (R0 : Room) (cc : ByteArray) (own : String) (nL : Nat) : Prop :=
  match K with
  | (p, l, _, R, s, m, args, _, meth, c, (cells, slots), _, A, D, tys) =>
    p.tables.exec = Jvm.exec ∧ c.code = cc ∧ c.maxLocals = nL ∧ s.vm.findClass own = some m.cls ∧ (∀ w ∈ lw_all, w.before args s = true) ∧ va_K D vwCl tys s ∧ (∀ q, s.heap.size ≤ q → A q) ∧ meth.locks = false ∧ l = J.1 ∧ R = R0 ∧ D = J.2.1 ∧ tys = J.2.2 ∧ cells ≤ R.cells ∧ slots ≤ R.slots
abbrev xB (D : va_G) (tys : List (ClassId × FieldType)) (A : Nat → Prop) (u : va_W) (t : State) : Prop := va_P D vwCl u t.heap ∧ va_K D vwCl tys t ∧ va_D A u
def xri (K : XK) (ret : FieldType) (post : Int32 → va_W → Prop) : Prop :=
  match K with
  | (_, _, _, _, s, _, args, below, meth, _, (cells, slots), Q, A, D, tys) =>
    meth.sig.returnType = some ret ∧ Q = MQ below (va_Qi post (xB D tys A) A) args s cells slots A
def xrv (K : XK) (post : va_W → Prop) : Prop :=
  match K with
  | (_, _, _, _, s, _, args, below, meth, _, (cells, slots), Q, A, D, tys) =>
    meth.sig.returnType = none ∧ Q = MQ below (va_Qv post (xB D tys A) A) args s cells slots A
/-- the contract of a method with an int answer, in the world ws -/
def xmi (J : XJ) (y : MethodName) (cc : ByteArray) (nL : Nat) (ret : FieldType) (fr lo : Nat) (av : List Value) (ws : va_W) (post : Int32 → va_W → Prop) : Prop :=
  ∀ sz : Nat, Met J.1 y (ws_ y cc nL (some ret)) ({ frames := fr, cells := 0, slots := 0, locals := lo }) (va_Pc av (fun U => U.heap.size = sz ∧ va_P J.2.1 vwCl ws U.heap ∧ va_K J.2.1 vwCl J.2.2 U ∧ va_D (fun _ => True) ws)) (va_Qi post (xB J.2.1 J.2.2 (va_A ws sz)) (va_A ws sz)) 0 0 (va_A ws sz)
def xmv (J : XJ) (y : MethodName) (cc : ByteArray) (nL : Nat) (fr lo : Nat) (av : List Value) (ws : va_W) (post : va_W → Prop) : Prop :=
  ∀ sz : Nat, Met J.1 y (ws_ y cc nL none) ({ frames := fr, cells := 0, slots := 0, locals := lo }) (va_Pc av (fun U => U.heap.size = sz ∧ va_P J.2.1 vwCl ws U.heap ∧ va_K J.2.1 vwCl J.2.2 U ∧ va_D (fun _ => True) ws)) (va_Qv post (xB J.2.1 J.2.2 (va_A ws sz)) (va_A ws sz)) 0 0 (va_A ws sz)
theorem xmi_of {J : XJ} {y : MethodName} {cc : ByteArray} {nL : Nat} {ret : FieldType} {fr lo : Nat} {av : List Value} {ws : va_W} {post : Int32 → va_W → Prop} (hy : plainName y.cls = true) (hn : (lg_sl av).length ≤ nL)
    (hw : ∀ K : XK, xok K J ({ frames := fr, cells := 0, slots := 0, locals := lo }) cc y.cls nL → xri K ret post → xw K ws 0 (lv_args 0 av) []) : xmi J y cc nL ret fr lo av ws post := by
  intro sz
  refine Met.ofW (cc := cc) (maxL := nL) (ret := some ret) hy rfl ?_
  intro p e s m args below meth c s₁ B hml hv
  obtain ⟨rfl, hsz, hP, hK, hD0⟩ := hv
  have hts := atoms_spec (ws := ws_ y cc nL (some ret)) B.pre
  have hts : ∀ w ∈ lw_all, w.before _ s = true := fun w h => hts w (List.mem_cons_of_mem _ h)
  have hown : s.vm.findClass y.cls = some m.cls := findClass_of_methodNamed B.named
  subst hsz
  have hD := hD0.self (sz := s.heap.size)
  have hl := lv_entry av (n := nL) hn
  rw [lg_entry_eq]
  exact hw (p, J.1, e, { frames := fr, cells := 0, slots := 0, locals := lo }, s, m, av.toArray, below, meth, c, (0, 0), _, va_A ws s.heap.size, J.2.1, J.2.2)
    ⟨B.exec, B.bytes, hml, hown, hts, hK, fun q h => Or.inr h, B.notSynchronized, rfl, rfl, rfl, rfl, Nat.le_refl _, Nat.le_refl _⟩ ⟨B.returns, rfl⟩ s.heap [] _ hP hD va_S.rf (by rw [hml]; exact hl)
theorem xmv_of {J : XJ} {y : MethodName} {cc : ByteArray} {nL : Nat} {fr lo : Nat} {av : List Value} {ws : va_W} {post : va_W → Prop} (hy : plainName y.cls = true) (hn : (lg_sl av).length ≤ nL)
    (hw : ∀ K : XK, xok K J ({ frames := fr, cells := 0, slots := 0, locals := lo }) cc y.cls nL → xrv K post → xw K ws 0 (lv_args 0 av) []) : xmv J y cc nL fr lo av ws post := by
  intro sz
  refine Met.ofW (cc := cc) (maxL := nL) (ret := none) hy rfl ?_
  intro p e s m args below meth c s₁ B hml hv
  obtain ⟨rfl, hsz, hP, hK, hD0⟩ := hv
  have hts := atoms_spec (ws := ws_ y cc nL none) B.pre
  have hts : ∀ w ∈ lw_all, w.before _ s = true := fun w h => hts w (List.mem_cons_of_mem _ h)
  have hown : s.vm.findClass y.cls = some m.cls := findClass_of_methodNamed B.named
  subst hsz
  have hD := hD0.self (sz := s.heap.size)
  have hl := lv_entry av (n := nL) hn
  rw [lg_entry_eq]
  exact hw (p, J.1, e, { frames := fr, cells := 0, slots := 0, locals := lo }, s, m, av.toArray, below, meth, c, (0, 0), _, va_A ws s.heap.size, J.2.1, J.2.2)
    ⟨B.exec, B.bytes, hml, hown, hts, hK, fun q h => Or.inr h, B.notSynchronized, rfl, rfl, rfl, rfl, Nat.le_refl _, Nat.le_refl _⟩ ⟨B.returns, rfl⟩ s.heap [] _ hP hD va_S.rf (by rw [hml]; exact hl)
section XR
variable {K : XK} {J : XJ} {R : Room} {cc : ByteArray} {own : String} {nL : Nat} {ws : va_W} {pc : Nat} {lv : List (Nat × Value)} {st : List Value}
theorem x_iload_n (h : xok K J R cc own nL) {k : Fin 4} {x : Int32} (hd : decode cc pc = .ok (.iload_n k, 1)) (j : Nat) (hv : lv[j]? = some ((k : Nat), .int x)) (kk : xw K ws (pc + 1) lv (.int x :: st)) : xw K ws pc lv st := by
  obtain ⟨p, l, e, R', s, m, args, below, meth, c, ⟨cells, slots⟩, Q, A, D, tys⟩ := K
  obtain ⟨hx, hb, hrest⟩ := h
  intro H locs ls hP hD hS hl
  exact lv_iload_n hx hb hd rfl (lv_at hl j hv) (kk H locs ls hP hD hS hl)
theorem x_iload (h : xok K J R cc own nL) {i : Nat} {x : Int32} (hd : decode cc pc = .ok (.iload i, 2)) (j : Nat) (hv : lv[j]? = some (i, .int x)) (kk : xw K ws (pc + 2) lv (.int x :: st)) : xw K ws pc lv st := by
  obtain ⟨p, l, e, R', s, m, args, below, meth, c, ⟨cells, slots⟩, Q, A, D, tys⟩ := K
  obtain ⟨hx, hb, hrest⟩ := h
  intro H locs ls hP hD hS hl
  exact lv_iload hx hb hd (lv_at hl j hv) (kk H locs ls hP hD hS hl)
theorem x_aload_n (h : xok K J R cc own nL) {k : Fin 4} {x : Nat} (hd : decode cc pc = .ok (.aload_n k, 1)) (j : Nat) (hv : lv[j]? = some ((k : Nat), .ref x)) (kk : xw K ws (pc + 1) lv (.ref x :: st)) : xw K ws pc lv st := by
  obtain ⟨p, l, e, R', s, m, args, below, meth, c, ⟨cells, slots⟩, Q, A, D, tys⟩ := K
  obtain ⟨hx, hb, hrest⟩ := h
  intro H locs ls hP hD hS hl
  exact lv_aload_n hx hb hd rfl (lv_at hl j hv) (kk H locs ls hP hD hS hl)
theorem x_istore_n (h : xok K J R cc own nL) {k : Fin 4} {x : Int32} (hd : decode cc pc = .ok (.istore_n k, 1)) (hn : (k : Nat) < nL) (ks : List Nat) (lv' : List (Nat × Value)) (hl' : lv_pick (((k : Nat), Value.int x) :: lv.filter (fun q => !(q.1 == (k : Nat)) && !(q.1 + 1 == (k : Nat) && q.2.category == 2))) ks = lv') (kk : xw K ws (pc + 1) lv' st) : xw K ws pc lv (.int x :: st) := by
  obtain ⟨p, l, e, R', s, m, args, below, meth, c, ⟨cells, slots⟩, Q, A, D, tys⟩ := K
  obtain ⟨hx, hb, hml, hrest⟩ := h
  intro H locs ls hP hD hS hl
  exact lv_istore_n hx hb hd rfl hl (by rw [hml]; exact hn) rfl (fun ls2 h2 => kk H locs ls2 hP hD hS (lv_sub h2 ks hl'))
theorem x_istore (h : xok K J R cc own nL) {i : Nat} {x : Int32} (hd : decode cc pc = .ok (.istore i, 2)) (hn : i < nL) (ks : List Nat) (lv' : List (Nat × Value)) (hl' : lv_pick ((i, Value.int x) :: lv.filter (fun q => !(q.1 == i) && !(q.1 + 1 == i && q.2.category == 2))) ks = lv') (kk : xw K ws (pc + 2) lv' st) : xw K ws pc lv (.int x :: st) := by
  obtain ⟨p, l, e, R', s, m, args, below, meth, c, ⟨cells, slots⟩, Q, A, D, tys⟩ := K
  obtain ⟨hx, hb, hml, hrest⟩ := h
  intro H locs ls hP hD hS hl
  exact lv_istore hx hb hd hl (by rw [hml]; exact hn) rfl (fun ls2 h2 => kk H locs ls2 hP hD hS (lv_sub h2 ks hl'))
theorem x_iinc (h : xok K J R cc own nL) {i : Nat} {n a : Int} (hd : decode cc pc = .ok (.iinc i n, 3)) (j : Nat) (hv : lv[j]? = some (i, .int (iI a))) (hn : i < nL) (ks : List Nat) (lv' : List (Nat × Value)) (hl' : lv_pick ((i, Value.int (iI (a + n))) :: lv.filter (fun q => !(q.1 == i) && !(q.1 + 1 == i && q.2.category == 2))) ks = lv') (kk : xw K ws (pc + 3) lv' st) : xw K ws pc lv st := by
  obtain ⟨p, l, e, R', s, m, args, below, meth, c, ⟨cells, slots⟩, Q, A, D, tys⟩ := K
  obtain ⟨hx, hb, hml, hrest⟩ := h
  intro H locs ls hP hD hS hl
  exact lv_iinc hx hb hd hl hv (iI_add a n) (by rw [hml]; exact hn) rfl (fun ls2 h2 => kk H locs ls2 hP hD hS (lv_sub h2 ks hl'))
theorem x_sub (ks : List Nat) (lv' : List (Nat × Value)) (hl' : lv_pick lv ks = lv') (kk : xw K ws pc lv' st) : xw K ws pc lv st := by
  obtain ⟨p, l, e, R', s, m, args, below, meth, c, ⟨cells, slots⟩, Q, A, D, tys⟩ := K
  intro H locs ls hP hD hS hl
  exact kk H locs ls hP hD hS (lv_sub hl ks hl')
theorem x_top {a b : Int} (e : a = b) (kk : xw K ws pc lv (.int (iI b) :: st)) : xw K ws pc lv (.int (iI a) :: st) := by
  rw [e]; exact kk
theorem x_iconst (h : xok K J R cc own nL) {n : Int} (hd : decode cc pc = .ok (.iconst n, 1)) (kk : xw K ws (pc + 1) lv (.int (iI n) :: st)) : xw K ws pc lv st := by
  obtain ⟨p, l, e, R', s, m, args, below, meth, c, ⟨cells, slots⟩, Q, A, D, tys⟩ := K
  obtain ⟨hx, hb, hrest⟩ := h
  intro H locs ls hP hD hS hl
  exact lv_iconst hx hb hd rfl (kk H locs ls hP hD hS hl)
theorem x_bipush (h : xok K J R cc own nL) {n : Int} (hd : decode cc pc = .ok (.bipush n, 2)) (hn : -128 ≤ n ∧ n < 128) (kk : xw K ws (pc + 2) lv (.int (iI n) :: st)) : xw K ws pc lv st := by
  obtain ⟨p, l, e, R', s, m, args, below, meth, c, ⟨cells, slots⟩, Q, A, D, tys⟩ := K
  obtain ⟨hx, hb, hrest⟩ := h
  intro H locs ls hP hD hS hl
  exact lv_bipush hx hb hd (Int8.toInt32_ofInt (by have : Int8.minValue.toInt = -128 := rfl; omega) (by have : Int8.maxValue.toInt = 127 := rfl; omega)) (kk H locs ls hP hD hS hl)
theorem x_iadd (h : xok K J R cc own nL) {a b : Int} (hd : decode cc pc = .ok (.iadd, 1)) (kk : xw K ws (pc + 1) lv (.int (iI (a + b)) :: st)) : xw K ws pc lv (.int (iI b) :: .int (iI a) :: st) := by
  obtain ⟨p, l, e, R', s, m, args, below, meth, c, ⟨cells, slots⟩, Q, A, D, tys⟩ := K
  obtain ⟨hx, hb, hrest⟩ := h
  intro H locs ls hP hD hS hl
  exact lv_iadd hx hb hd (by rw [iI_add]; exact kk H locs ls hP hD hS hl)
theorem x_isub (h : xok K J R cc own nL) {a b : Int} (hd : decode cc pc = .ok (.isub, 1)) (kk : xw K ws (pc + 1) lv (.int (iI (a - b)) :: st)) : xw K ws pc lv (.int (iI b) :: .int (iI a) :: st) := by
  obtain ⟨p, l, e, R', s, m, args, below, meth, c, ⟨cells, slots⟩, Q, A, D, tys⟩ := K
  obtain ⟨hx, hb, hrest⟩ := h
  intro H locs ls hP hD hS hl
  exact lv_isub hx hb hd (by rw [iI_sub]; exact kk H locs ls hP hD hS hl)
theorem x_imul (h : xok K J R cc own nL) {a b : Int} (hd : decode cc pc = .ok (.imul, 1)) (kk : xw K ws (pc + 1) lv (.int (iI (a * b)) :: st)) : xw K ws pc lv (.int (iI b) :: .int (iI a) :: st) := by
  obtain ⟨p, l, e, R', s, m, args, below, meth, c, ⟨cells, slots⟩, Q, A, D, tys⟩ := K
  obtain ⟨hx, hb, hrest⟩ := h
  intro H locs ls hP hD hS hl
  exact lv_imul hx hb hd (by rw [iI_mul]; exact kk H locs ls hP hD hS hl)
theorem x_i2b (h : xok K J R cc own nL) {a : Int} (hd : decode cc pc = .ok (.i2b, 1)) (ha : -128 ≤ a ∧ a < 128) (kk : xw K ws (pc + 1) lv (.int (iI a) :: st)) : xw K ws pc lv (.int (iI a) :: st) := by
  obtain ⟨p, l, e, R', s, m, args, below, meth, c, ⟨cells, slots⟩, Q, A, D, tys⟩ := K
  obtain ⟨hx, hb, hrest⟩ := h
  intro H locs ls hP hD hS hl
  exact lv_i2b hx hb hd (iI_b ha) (kk H locs ls hP hD hS hl)
theorem x_i2s (h : xok K J R cc own nL) {a : Int} (hd : decode cc pc = .ok (.i2s, 1)) (ha : -32768 ≤ a ∧ a < 32768) (kk : xw K ws (pc + 1) lv (.int (iI a) :: st)) : xw K ws pc lv (.int (iI a) :: st) := by
  obtain ⟨p, l, e, R', s, m, args, below, meth, c, ⟨cells, slots⟩, Q, A, D, tys⟩ := K
  obtain ⟨hx, hb, hrest⟩ := h
  intro H locs ls hP hD hS hl
  exact lv_i2s hx hb hd (iI_s ha) (kk H locs ls hP hD hS hl)
theorem x_dup (h : xok K J R cc own nL) {va : Value} (hd : decode cc pc = .ok (.dup, 1)) (hva : va.category = 1) (kk : xw K ws (pc + 1) lv (va :: va :: st)) : xw K ws pc lv (va :: st) := by
  obtain ⟨p, l, e, R', s, m, args, below, meth, c, ⟨cells, slots⟩, Q, A, D, tys⟩ := K
  obtain ⟨hx, hb, hrest⟩ := h
  intro H locs ls hP hD hS hl
  exact lv_dup hx hb hd hva (kk H locs ls hP hD hS hl)
theorem x_dup2 (h : xok K J R cc own nL) {va vb : Value} (hd : decode cc pc = .ok (.dup2, 1)) (hva : va.category = 1) (hvb : vb.category = 1) (kk : xw K ws (pc + 1) lv (va :: vb :: va :: vb :: st)) : xw K ws pc lv (va :: vb :: st) := by
  obtain ⟨p, l, e, R', s, m, args, below, meth, c, ⟨cells, slots⟩, Q, A, D, tys⟩ := K
  obtain ⟨hx, hb, hrest⟩ := h
  intro H locs ls hP hD hS hl
  exact lv_dup2_11 hx hb hd hva hvb (kk H locs ls hP hD hS hl)
theorem x_goto (h : xok K J R cc own nL) {off : Int} (tgt : Nat) (hd : decode cc pc = .ok (.goto off, 3)) (ht : (pc : Int) + off = (tgt : Int)) (kk : xw K ws tgt lv st) : xw K ws pc lv st := by
  obtain ⟨p, l, e, R', s, m, args, below, meth, c, ⟨cells, slots⟩, Q, A, D, tys⟩ := K
  obtain ⟨hx, hb, hrest⟩ := h
  intro H locs ls hP hD hS hl
  exact lv_goto hx hb hd ht (kk H locs ls hP hD hS hl)
theorem x_icmp_eq (h : xok K J R cc own nL) {a b : Int} {off : Int} (tgt : Nat) (hd : decode cc pc = .ok (.if_icmp .eq off, 3)) (ht : (pc : Int) + off = (tgt : Int)) (ha : rng a) (hb : rng b) (kt : a = b → xw K ws tgt lv st) (kf : ¬ a = b → xw K ws (pc + 3) lv st) : xw K ws pc lv (.int (iI b) :: .int (iI a) :: st) := by
  obtain ⟨p, l, e, R', s, m, args, below, meth, c, ⟨cells, slots⟩, Q, A, D, tys⟩ := K
  obtain ⟨hx, hb0, hrest⟩ := h
  intro H locs ls hP hD hS hl
  exact lv_icmp_eq hx hb0 hd ht (fun q => kt ((iI_eq ha hb).mp q) H locs ls hP hD hS hl) (fun q => kf (mt (iI_eq ha hb).mpr q) H locs ls hP hD hS hl)
theorem x_if_eq (h : xok K J R cc own nL) {a : Int} {off : Int} (tgt : Nat) (hd : decode cc pc = .ok (.ifCond .eq off, 3)) (ht : (pc : Int) + off = (tgt : Int)) (ha : rng a) (kt : a = 0 → xw K ws tgt lv st) (kf : ¬ a = 0 → xw K ws (pc + 3) lv st) : xw K ws pc lv (.int (iI a) :: st) := by
  obtain ⟨p, l, e, R', s, m, args, below, meth, c, ⟨cells, slots⟩, Q, A, D, tys⟩ := K
  obtain ⟨hx, hb0, hrest⟩ := h
  intro H locs ls hP hD hS hl
  exact lv_if_eq hx hb0 hd ht (fun q => kt ((iI_eq ha rng_0).mp q) H locs ls hP hD hS hl) (fun q => kf (mt (iI_eq ha rng_0).mpr q) H locs ls hP hD hS hl)
theorem x_icmp_ne (h : xok K J R cc own nL) {a b : Int} {off : Int} (tgt : Nat) (hd : decode cc pc = .ok (.if_icmp .ne off, 3)) (ht : (pc : Int) + off = (tgt : Int)) (ha : rng a) (hb : rng b) (kt : ¬ a = b → xw K ws tgt lv st) (kf : a = b → xw K ws (pc + 3) lv st) : xw K ws pc lv (.int (iI b) :: .int (iI a) :: st) := by
  obtain ⟨p, l, e, R', s, m, args, below, meth, c, ⟨cells, slots⟩, Q, A, D, tys⟩ := K
  obtain ⟨hx, hb0, hrest⟩ := h
  intro H locs ls hP hD hS hl
  exact lv_icmp_ne hx hb0 hd ht (fun q => kt (mt (iI_eq ha hb).mpr q) H locs ls hP hD hS hl) (fun q => kf ((iI_eq ha hb).mp q) H locs ls hP hD hS hl)
theorem x_if_ne (h : xok K J R cc own nL) {a : Int} {off : Int} (tgt : Nat) (hd : decode cc pc = .ok (.ifCond .ne off, 3)) (ht : (pc : Int) + off = (tgt : Int)) (ha : rng a) (kt : ¬ a = 0 → xw K ws tgt lv st) (kf : a = 0 → xw K ws (pc + 3) lv st) : xw K ws pc lv (.int (iI a) :: st) := by
  obtain ⟨p, l, e, R', s, m, args, below, meth, c, ⟨cells, slots⟩, Q, A, D, tys⟩ := K
  obtain ⟨hx, hb0, hrest⟩ := h
  intro H locs ls hP hD hS hl
  exact lv_if_ne hx hb0 hd ht (fun q => kt (mt (iI_eq ha rng_0).mpr q) H locs ls hP hD hS hl) (fun q => kf ((iI_eq ha rng_0).mp q) H locs ls hP hD hS hl)
theorem x_icmp_lt (h : xok K J R cc own nL) {a b : Int} {off : Int} (tgt : Nat) (hd : decode cc pc = .ok (.if_icmp .lt off, 3)) (ht : (pc : Int) + off = (tgt : Int)) (ha : rng a) (hb : rng b) (kt : a < b → xw K ws tgt lv st) (kf : ¬ a < b → xw K ws (pc + 3) lv st) : xw K ws pc lv (.int (iI b) :: .int (iI a) :: st) := by
  obtain ⟨p, l, e, R', s, m, args, below, meth, c, ⟨cells, slots⟩, Q, A, D, tys⟩ := K
  obtain ⟨hx, hb0, hrest⟩ := h
  intro H locs ls hP hD hS hl
  exact lv_icmp_lt hx hb0 hd ht (fun q => kt ((iI_lt ha hb).mp q) H locs ls hP hD hS hl) (fun q => kf (mt (iI_lt ha hb).mpr q) H locs ls hP hD hS hl)
theorem x_if_lt (h : xok K J R cc own nL) {a : Int} {off : Int} (tgt : Nat) (hd : decode cc pc = .ok (.ifCond .lt off, 3)) (ht : (pc : Int) + off = (tgt : Int)) (ha : rng a) (kt : a < 0 → xw K ws tgt lv st) (kf : ¬ a < 0 → xw K ws (pc + 3) lv st) : xw K ws pc lv (.int (iI a) :: st) := by
  obtain ⟨p, l, e, R', s, m, args, below, meth, c, ⟨cells, slots⟩, Q, A, D, tys⟩ := K
  obtain ⟨hx, hb0, hrest⟩ := h
  intro H locs ls hP hD hS hl
  exact lv_if_lt hx hb0 hd ht (fun q => kt ((iI_lt ha rng_0).mp q) H locs ls hP hD hS hl) (fun q => kf (mt (iI_lt ha rng_0).mpr q) H locs ls hP hD hS hl)
theorem x_icmp_ge (h : xok K J R cc own nL) {a b : Int} {off : Int} (tgt : Nat) (hd : decode cc pc = .ok (.if_icmp .ge off, 3)) (ht : (pc : Int) + off = (tgt : Int)) (ha : rng a) (hb : rng b) (kt : b ≤ a → xw K ws tgt lv st) (kf : ¬ b ≤ a → xw K ws (pc + 3) lv st) : xw K ws pc lv (.int (iI b) :: .int (iI a) :: st) := by
  obtain ⟨p, l, e, R', s, m, args, below, meth, c, ⟨cells, slots⟩, Q, A, D, tys⟩ := K
  obtain ⟨hx, hb0, hrest⟩ := h
  intro H locs ls hP hD hS hl
  exact lv_icmp_ge hx hb0 hd ht (fun q => kt ((iI_le hb ha).mp q) H locs ls hP hD hS hl) (fun q => kf (mt (iI_le hb ha).mpr q) H locs ls hP hD hS hl)
theorem x_if_ge (h : xok K J R cc own nL) {a : Int} {off : Int} (tgt : Nat) (hd : decode cc pc = .ok (.ifCond .ge off, 3)) (ht : (pc : Int) + off = (tgt : Int)) (ha : rng a) (kt : 0 ≤ a → xw K ws tgt lv st) (kf : ¬ 0 ≤ a → xw K ws (pc + 3) lv st) : xw K ws pc lv (.int (iI a) :: st) := by
  obtain ⟨p, l, e, R', s, m, args, below, meth, c, ⟨cells, slots⟩, Q, A, D, tys⟩ := K
  obtain ⟨hx, hb0, hrest⟩ := h
  intro H locs ls hP hD hS hl
  exact lv_if_ge hx hb0 hd ht (fun q => kt ((iI_le rng_0 ha).mp q) H locs ls hP hD hS hl) (fun q => kf (mt (iI_le rng_0 ha).mpr q) H locs ls hP hD hS hl)
theorem x_icmp_gt (h : xok K J R cc own nL) {a b : Int} {off : Int} (tgt : Nat) (hd : decode cc pc = .ok (.if_icmp .gt off, 3)) (ht : (pc : Int) + off = (tgt : Int)) (ha : rng a) (hb : rng b) (kt : b < a → xw K ws tgt lv st) (kf : ¬ b < a → xw K ws (pc + 3) lv st) : xw K ws pc lv (.int (iI b) :: .int (iI a) :: st) := by
  obtain ⟨p, l, e, R', s, m, args, below, meth, c, ⟨cells, slots⟩, Q, A, D, tys⟩ := K
  obtain ⟨hx, hb0, hrest⟩ := h
  intro H locs ls hP hD hS hl
  exact lv_icmp_gt hx hb0 hd ht (fun q => kt ((iI_lt hb ha).mp q) H locs ls hP hD hS hl) (fun q => kf (mt (iI_lt hb ha).mpr q) H locs ls hP hD hS hl)
theorem x_if_gt (h : xok K J R cc own nL) {a : Int} {off : Int} (tgt : Nat) (hd : decode cc pc = .ok (.ifCond .gt off, 3)) (ht : (pc : Int) + off = (tgt : Int)) (ha : rng a) (kt : 0 < a → xw K ws tgt lv st) (kf : ¬ 0 < a → xw K ws (pc + 3) lv st) : xw K ws pc lv (.int (iI a) :: st) := by
  obtain ⟨p, l, e, R', s, m, args, below, meth, c, ⟨cells, slots⟩, Q, A, D, tys⟩ := K
  obtain ⟨hx, hb0, hrest⟩ := h
  intro H locs ls hP hD hS hl
  exact lv_if_gt hx hb0 hd ht (fun q => kt ((iI_lt rng_0 ha).mp q) H locs ls hP hD hS hl) (fun q => kf (mt (iI_lt rng_0 ha).mpr q) H locs ls hP hD hS hl)
theorem x_icmp_le (h : xok K J R cc own nL) {a b : Int} {off : Int} (tgt : Nat) (hd : decode cc pc = .ok (.if_icmp .le off, 3)) (ht : (pc : Int) + off = (tgt : Int)) (ha : rng a) (hb : rng b) (kt : a ≤ b → xw K ws tgt lv st) (kf : ¬ a ≤ b → xw K ws (pc + 3) lv st) : xw K ws pc lv (.int (iI b) :: .int (iI a) :: st) := by
  obtain ⟨p, l, e, R', s, m, args, below, meth, c, ⟨cells, slots⟩, Q, A, D, tys⟩ := K
  obtain ⟨hx, hb0, hrest⟩ := h
  intro H locs ls hP hD hS hl
  exact lv_icmp_le hx hb0 hd ht (fun q => kt ((iI_le ha hb).mp q) H locs ls hP hD hS hl) (fun q => kf (mt (iI_le ha hb).mpr q) H locs ls hP hD hS hl)
theorem x_if_le (h : xok K J R cc own nL) {a : Int} {off : Int} (tgt : Nat) (hd : decode cc pc = .ok (.ifCond .le off, 3)) (ht : (pc : Int) + off = (tgt : Int)) (ha : rng a) (kt : a ≤ 0 → xw K ws tgt lv st) (kf : ¬ a ≤ 0 → xw K ws (pc + 3) lv st) : xw K ws pc lv (.int (iI a) :: st) := by
  obtain ⟨p, l, e, R', s, m, args, below, meth, c, ⟨cells, slots⟩, Q, A, D, tys⟩ := K
  obtain ⟨hx, hb0, hrest⟩ := h
  intro H locs ls hP hD hS hl
  exact lv_if_le hx hb0 hd ht (fun q => kt ((iI_le ha rng_0).mp q) H locs ls hP hD hS hl) (fun q => kf (mt (iI_le ha rng_0).mpr q) H locs ls hP hD hS hl)
theorem x_ireturn (h : xok K J R cc own nL) {post : Int32 → va_W → Prop} (hr : xri K .int post) {v : Int32} (hd : decode cc pc = .ok (.ireturn, 1)) (hp : post v ws) : xw K ws pc lv [.int v] := by
  obtain ⟨p, l, e, R', s, m, args, below, meth, c, ⟨cells, slots⟩, Q, A, D, tys⟩ := K
  obtain ⟨hx, hb, hml, hown, hts, hK, hA, hlocks, hrest⟩ := h
  obtain ⟨hr, hQ⟩ := hr
  intro H locs ls hP hD hS hl
  subst hQ
  exact W.iret hx hb hr (fun t ht hW => ⟨⟨v, ws, rfl, hp, by rw [ht]; exact hP, va_K.moved hW.alike hK, hD⟩, hS.F ht⟩) hS.2.2 hd
theorem x_zreturn (h : xok K J R cc own nL) {post : Int32 → va_W → Prop} (hr : xri K .boolean post) {v : Int32} (hd : decode cc pc = .ok (.ireturn, 1)) (hn : narrow .boolean (.int v) = .int v) (hp : post v ws) : xw K ws pc lv [.int v] := by
  obtain ⟨p, l, e, R', s, m, args, below, meth, c, ⟨cells, slots⟩, Q, A, D, tys⟩ := K
  obtain ⟨hx, hb, hml, hown, hts, hK, hA, hlocks, hrest⟩ := h
  obtain ⟨hr, hQ⟩ := hr
  intro H locs ls hP hD hS hl
  subst hQ
  exact W.zret hx hb hr hn (fun t ht hW => ⟨⟨v, ws, rfl, hp, by rw [ht]; exact hP, va_K.moved hW.alike hK, hD⟩, hS.F ht⟩) hS.2.2 hd
theorem x_return (h : xok K J R cc own nL) {post : va_W → Prop} (hr : xrv K post) (hd : decode cc pc = .ok (.return_, 1)) (hp : post ws) : xw K ws pc lv [] := by
  obtain ⟨p, l, e, R', s, m, args, below, meth, c, ⟨cells, slots⟩, Q, A, D, tys⟩ := K
  obtain ⟨hx, hb, hml, hown, hts, hK, hA, hlocks, hrest⟩ := h
  obtain ⟨hr, hQ⟩ := hr
  intro H locs ls hP hD hS hl
  subst hQ
  exact W.vret hx hb hr (fun t ht hW => ⟨⟨ws, rfl, hp, by rw [ht]; exact hP, va_K.moved hW.alike hK, hD⟩, hS.F ht⟩) hS.2.2 hd
theorem x_get (h : xok K J R cc own nL) {ref C : String} {T : u_T} {N ci index : Nat} (hin : ∀ w ∈ u_ws C T N, w ∈ lw_all) {a : Nat} {fs : List Value} (he : ws[0]? = some (a, .inr (ci, fs))) (hc : vwCl[ci]? = some (C, T, N)) (k : Nat) (hk : k < N) (hlink : Cond.fieldLink own index ref (T k).2.1 (T k).2.2.1 ∈ lw_all) (href : (T k).1 = ref) {v : Value} (hv : fs[k]? = some v) (hd : decode cc pc = .ok (.getfield index, 3)) (kk : xw K ws (pc + 3) lv (v :: st)) : xw K ws pc lv (.ref a :: st) := by
  obtain ⟨p, l, e, R', s, m, args, below, meth, c, ⟨cells, slots⟩, Q, A, D, tys⟩ := K
  obtain ⟨hx, hb, hml, hown, hts, hK, hA, hlocks, hrest⟩ := h
  intro H locs ls hP hD hS hl
  exact va_get hx hb hts hin hown hK hP 0 he hc k hk (hts _ hlink) (fun x q => by rw [← href]; exact q) hv hd (kk H locs ls hP hD hS hl)
theorem x_put (h : xok K J R cc own nL) {ref C : String} {T : u_T} {N ci index : Nat} (hin : ∀ w ∈ u_ws C T N, w ∈ lw_all) (ty0 : Nat → FieldType) (hty : ∀ k, k < N → parseFieldDescriptor (T k).2.2.1 = some (ty0 k)) (hnm : ∀ a, a < N → ∀ b, b < N → a ≠ b → (T a).2.1 ≠ (T b).2.1) {a : Nat} {fs : List Value} (he : ws[0]? = some (a, .inr (ci, fs))) (hc : vwCl[ci]? = some (C, T, N)) (k : Nat) (hk : k < N) (hlink : Cond.fieldLink own index ref (T k).2.1 (T k).2.2.1 ∈ lw_all) (href : (T k).1 = ref) (hfin : (T k).2.2.2 = false) {v : Value} (hn : narrow (ty0 k) v = v) (hfit : fits (ty0 k) v = true) (hl0 : k < fs.length) {ws' : va_W} (hw : ws.set 0 (a, .inr (ci, fs.set k v)) = ws') (hd : decode cc pc = .ok (.putfield index, 3)) (kk : xw K ws' (pc + 3) lv st) : xw K ws pc lv (v :: .ref a :: st) := by
  obtain ⟨p, l, e, R', s, m, args, below, meth, c, ⟨cells, slots⟩, Q, A, D, tys⟩ := K
  obtain ⟨hx, hb, hml, hown, hts, hK, hA, hlocks, hrest⟩ := h
  intro H locs ls hP hD hS hl
  subst hw
  exact va_put hx hb hts hin ty0 hty hnm hown hK hP hD hS 0 he hc k hk (hts _ hlink) (fun x q => by rw [← href]; exact q) hfin (hty k hk) hn hfit hl0 hd (fun H1 locs1 hP1 hD1 hS1 => kk H1 locs1 ls hP1 hD1 hS1 hl)
theorem x_bald (h : xok K J R cc own nL) (q0 t0 : Nat) {a : Nat} {cA : ClassId} {n : Nat} {f : Nat → Int} (ha : ws[q0]? = some (a, .inl (cA, n, .inl fun i => iI (f i)))) (ht : J.2.2[t0]? = some (cA, .byte)) {z : Int} (k : Nat) (hk : z = (k : Int)) (hkn : k < n) (hn : n < 2147483648) (hd : decode cc pc = .ok (.baload, 1)) (kk : xw K ws (pc + 1) lv (.int (iI (f k)) :: st)) : xw K ws pc lv (.int (iI z) :: .ref a :: st) := by
  obtain ⟨p, l, e, R', s, m, args, below, meth, c, ⟨cells, slots⟩, Q, A, D, tys⟩ := K
  obtain ⟨hx, hb, hml, hown, hts, hK, hA, hlocks, -, -, -, hty, -⟩ := h
  intro H locs ls hP hD hS hl
  subst hk
  refine va_bald hx hb hK hP q0 t0 ha (by rw [hty]; exact ht) (iI_in hkn hn) hd ?_
  rw [iI_cl (by omega)]
  exact kk H locs ls hP hD hS hl
theorem x_sald (h : xok K J R cc own nL) (q0 t0 : Nat) {a : Nat} {cA : ClassId} {n : Nat} {f : Nat → Int} (ha : ws[q0]? = some (a, .inl (cA, n, .inl fun i => iI (f i)))) (ht : J.2.2[t0]? = some (cA, .short)) {z : Int} (k : Nat) (hk : z = (k : Int)) (hkn : k < n) (hn : n < 2147483648) (hd : decode cc pc = .ok (.saload, 1)) (kk : xw K ws (pc + 1) lv (.int (iI (f k)) :: st)) : xw K ws pc lv (.int (iI z) :: .ref a :: st) := by
  obtain ⟨p, l, e, R', s, m, args, below, meth, c, ⟨cells, slots⟩, Q, A, D, tys⟩ := K
  obtain ⟨hx, hb, hml, hown, hts, hK, hA, hlocks, -, -, -, hty, -⟩ := h
  intro H locs ls hP hD hS hl
  subst hk
  refine va_sald hx hb hK hP q0 t0 ha (by rw [hty]; exact ht) (iI_in hkn hn) hd ?_
  rw [iI_cl (by omega)]
  exact kk H locs ls hP hD hS hl
theorem x_iald (h : xok K J R cc own nL) (q0 t0 : Nat) {a : Nat} {cA : ClassId} {n : Nat} {f : Nat → Int} (ha : ws[q0]? = some (a, .inl (cA, n, .inl fun i => iI (f i)))) (ht : J.2.2[t0]? = some (cA, .int)) {z : Int} (k : Nat) (hk : z = (k : Int)) (hkn : k < n) (hn : n < 2147483648) (hd : decode cc pc = .ok (.iaload, 1)) (kk : xw K ws (pc + 1) lv (.int (iI (f k)) :: st)) : xw K ws pc lv (.int (iI z) :: .ref a :: st) := by
  obtain ⟨p, l, e, R', s, m, args, below, meth, c, ⟨cells, slots⟩, Q, A, D, tys⟩ := K
  obtain ⟨hx, hb, hml, hown, hts, hK, hA, hlocks, -, -, -, hty, -⟩ := h
  intro H locs ls hP hD hS hl
  subst hk
  refine va_iald hx hb hK hP q0 t0 ha (by rw [hty]; exact ht) (iI_in hkn hn) hd ?_
  rw [iI_cl (by omega)]
  exact kk H locs ls hP hD hS hl
theorem x_bast (h : xok K J R cc own nL) (q0 t0 : Nat) {a : Nat} {cA : ClassId} {n : Nat} {f : Nat → Int} (ha : ws[q0]? = some (a, .inl (cA, n, .inl fun i => iI (f i)))) (ht : J.2.2[t0]? = some (cA, .byte)) {z v : Int} (k : Nat) (hk : z = (k : Int)) (hkn : k < n) (hn : n < 2147483648) (hv : -128 ≤ v ∧ v < 128) {ws' : va_W} (hw : ws.set q0 (a, .inl (cA, n, .inl fun i => iI (zu f k v i))) = ws') (hd : decode cc pc = .ok (.bastore, 1)) (kk : xw K ws' (pc + 1) lv st) : xw K ws pc lv (.int (iI v) :: .int (iI z) :: .ref a :: st) := by
  obtain ⟨p, l, e, R', s, m, args, below, meth, c, ⟨cells, slots⟩, Q, A, D, tys⟩ := K
  obtain ⟨hx, hb, hml, hown, hts, hK, hA, hlocks, -, -, -, hty, -⟩ := h
  intro H locs ls hP hD hS hl
  subst hk
  subst hw
  refine va_bast hx hb hK hP hD hS q0 t0 ha (by rw [hty]; exact ht) (iI_in hkn hn) hd (fun H1 locs1 hP1 hD1 hS1 => ?_)
  rw [vp_nar_byte, iI_b hv, iI_cl (by omega), zu_upd] at hP1 hD1
  exact kk H1 locs1 ls hP1 hD1 hS1 hl
theorem x_sast (h : xok K J R cc own nL) (q0 t0 : Nat) {a : Nat} {cA : ClassId} {n : Nat} {f : Nat → Int} (ha : ws[q0]? = some (a, .inl (cA, n, .inl fun i => iI (f i)))) (ht : J.2.2[t0]? = some (cA, .short)) {z v : Int} (k : Nat) (hk : z = (k : Int)) (hkn : k < n) (hn : n < 2147483648) (hv : -32768 ≤ v ∧ v < 32768) {ws' : va_W} (hw : ws.set q0 (a, .inl (cA, n, .inl fun i => iI (zu f k v i))) = ws') (hd : decode cc pc = .ok (.sastore, 1)) (kk : xw K ws' (pc + 1) lv st) : xw K ws pc lv (.int (iI v) :: .int (iI z) :: .ref a :: st) := by
  obtain ⟨p, l, e, R', s, m, args, below, meth, c, ⟨cells, slots⟩, Q, A, D, tys⟩ := K
  obtain ⟨hx, hb, hml, hown, hts, hK, hA, hlocks, -, -, -, hty, -⟩ := h
  intro H locs ls hP hD hS hl
  subst hk
  subst hw
  refine va_sast hx hb hK hP hD hS q0 t0 ha (by rw [hty]; exact ht) (iI_in hkn hn) hd (fun H1 locs1 hP1 hD1 hS1 => ?_)
  rw [vp_nar_short, iI_s hv, iI_cl (by omega), zu_upd] at hP1 hD1
  exact kk H1 locs1 ls hP1 hD1 hS1 hl
theorem x_iast (h : xok K J R cc own nL) (q0 t0 : Nat) {a : Nat} {cA : ClassId} {n : Nat} {f : Nat → Int} (ha : ws[q0]? = some (a, .inl (cA, n, .inl fun i => iI (f i)))) (ht : J.2.2[t0]? = some (cA, .int)) {z v : Int} (k : Nat) (hk : z = (k : Int)) (hkn : k < n) (hn : n < 2147483648) {ws' : va_W} (hw : ws.set q0 (a, .inl (cA, n, .inl fun i => iI (zu f k v i))) = ws') (hd : decode cc pc = .ok (.iastore, 1)) (kk : xw K ws' (pc + 1) lv st) : xw K ws pc lv (.int (iI v) :: .int (iI z) :: .ref a :: st) := by
  obtain ⟨p, l, e, R', s, m, args, below, meth, c, ⟨cells, slots⟩, Q, A, D, tys⟩ := K
  obtain ⟨hx, hb, hml, hown, hts, hK, hA, hlocks, -, -, -, hty, -⟩ := h
  intro H locs ls hP hD hS hl
  subst hk
  subst hw
  refine va_iast hx hb hK hP hD hS q0 t0 ha (by rw [hty]; exact ht) (iI_in hkn hn) hd (fun H1 locs1 hP1 hD1 hS1 => ?_)
  rw [iI_cl (by omega), zu_upd] at hP1 hD1
  exact kk H1 locs1 ls hP1 hD1 hS1 hl
/-- a call on the method's own object; the callee's world is the whole world -/
theorem x_calli (h : xok K J R cc own nL) {y : MethodName} {cy : ByteArray} {ny : Nat} {ret : FieldType} {fr lo : Nat} {a : Nat} {As : List Value} {post : Int32 → va_W → Prop} (hM : xmi J y cy ny ret fr lo (.ref a :: As) ws post) {idx : Nat} (n : Nat) {C : String} (hV : GoodIn lw_all (wsV own idx C y (ws_ y cy ny (some ret)))) (hd0 : y.cls = C ∧ y.cls ≠ "java/lang/invoke/MethodHandle" ∧ y.cls ≠ "java/lang/invoke/VarHandle" ∧ (parseMethodDescriptor y.desc).map (fun d => d.parameters.length) = some n) (hR : fr + 1 ≤ R.frames ∧ 8 + (ny + 11) + lo ≤ R.locals) {ci : Nat} {T : u_T} {N : Nat} {fs : List Value} (hc : vwCl[ci]? = some (C, T, N)) (he : ws[0]? = some (a, .inr (ci, fs))) (hn : As.length = n) {stk : List Value} (hst : stk = As.reverse ++ .ref a :: st) (hs8 : (st.map fun v => v.category).sum ≤ 8) (hd : decode cc pc = .ok (.invokevirtual idx, 3)) (kk : ∀ (r : Int32) (ws' : va_W), post r ws' → xw K ws' (pc + 3) lv (.int r :: st)) : xw K ws pc lv stk := by
  obtain ⟨p, l, e, R', s, m, args, below, meth, c, ⟨cells, slots⟩, Q, A, D, tys⟩ := K
  obtain ⟨hx, hb, hml, hown, hts, hK, hA, hlocks, hl0, hR0, hD0, hT0, hc1, hc2⟩ := h
  intro H locs ls hP hD hS hl
  subst hl0; subst hR0; subst hD0; subst hT0; subst hst
  have hFc : ∀ q, va_A ws H.size q → A q := fun q hq => by
    rcases hq with ⟨k, e, hk⟩ | hq
    · exact hD.2 k (q, e) hk
    · exact hA q (Nat.le_trans hS.1 hq)
  refine va_calli (va_runV (As := As) (rest := st) ⟨hx, hb, rfl, hown, hts⟩ (hM H.size) (cwV n hts hV rfl rfl rfl hd0 hR) ⟨fun a U g mk q => by obtain ⟨q0, q1, qP, qK, qD⟩ := q; exact ⟨q0, q1, qP, va_K.moved (u := U) (U := U.calling g mk a) (Vm.Alike.refl U.vm) qK, qD⟩, va_recv hK hP hc he, fun U hU hW => ⟨rfl, by rw [hU], by rw [hU]; exact hP, va_K.moved hW.alike hK, hD.weaken (fun _ _ _ _ => trivial)⟩⟩ rfl hn hl.1 rfl (lv_room hs8) hd ⟨hc1, hc2⟩) hS (fun q _ hq => hFc q hq) hFc (fun r u t H1 locs1 ht hvm hw1 hB hz1 hk1 hS1 => ?_)
  obtain ⟨hP1, hK1, hD1⟩ := hB
  rw [ht] at hP1
  exact kk r u hw1 H1 locs1 ls hP1 (hD1.weaken (fun k q _ hq => hFc q.1 hq)) hS1 hl
theorem x_callv (h : xok K J R cc own nL) {y : MethodName} {cy : ByteArray} {ny : Nat} {fr lo : Nat} {a : Nat} {As : List Value} {post : va_W → Prop} (hM : xmv J y cy ny fr lo (.ref a :: As) ws post) {idx : Nat} (n : Nat) {C : String} (hV : GoodIn lw_all (wsV own idx C y (ws_ y cy ny none))) (hd0 : y.cls = C ∧ y.cls ≠ "java/lang/invoke/MethodHandle" ∧ y.cls ≠ "java/lang/invoke/VarHandle" ∧ (parseMethodDescriptor y.desc).map (fun d => d.parameters.length) = some n) (hR : fr + 1 ≤ R.frames ∧ 8 + (ny + 11) + lo ≤ R.locals) {ci : Nat} {T : u_T} {N : Nat} {fs : List Value} (hc : vwCl[ci]? = some (C, T, N)) (he : ws[0]? = some (a, .inr (ci, fs))) (hn : As.length = n) {stk : List Value} (hst : stk = As.reverse ++ .ref a :: st) (hs8 : (st.map fun v => v.category).sum ≤ 8) (hd : decode cc pc = .ok (.invokevirtual idx, 3)) (kk : ∀ (ws' : va_W), post ws' → xw K ws' (pc + 3) lv st) : xw K ws pc lv stk := by
  obtain ⟨p, l, e, R', s, m, args, below, meth, c, ⟨cells, slots⟩, Q, A, D, tys⟩ := K
  obtain ⟨hx, hb, hml, hown, hts, hK, hA, hlocks, hl0, hR0, hD0, hT0, hc1, hc2⟩ := h
  intro H locs ls hP hD hS hl
  subst hl0; subst hR0; subst hD0; subst hT0; subst hst
  have hFc : ∀ q, va_A ws H.size q → A q := fun q hq => by
    rcases hq with ⟨k, e, hk⟩ | hq
    · exact hD.2 k (q, e) hk
    · exact hA q (Nat.le_trans hS.1 hq)
  refine va_callv (va_runV (As := As) (rest := st) ⟨hx, hb, rfl, hown, hts⟩ (hM H.size) (cwV n hts hV rfl rfl rfl hd0 hR) ⟨fun a U g mk q => by obtain ⟨q0, q1, qP, qK, qD⟩ := q; exact ⟨q0, q1, qP, va_K.moved (u := U) (U := U.calling g mk a) (Vm.Alike.refl U.vm) qK, qD⟩, va_recv hK hP hc he, fun U hU hW => ⟨rfl, by rw [hU], by rw [hU]; exact hP, va_K.moved hW.alike hK, hD.weaken (fun _ _ _ _ => trivial)⟩⟩ rfl hn hl.1 rfl (lv_room hs8) hd ⟨hc1, hc2⟩) hS (fun q _ hq => hFc q hq) hFc (fun u t H1 locs1 ht hvm hw1 hB hz1 hk1 hS1 => ?_)
  obtain ⟨hP1, hK1, hD1⟩ := hB
  rw [ht] at hP1
  exact kk u hw1 H1 locs1 ls hP1 (hD1.weaken (fun k q _ hq => hFc q.1 hq)) hS1 hl
end XR
end
section
/-! ===== the worlds of the two classes, and a row for every field and array ===== -/
set_option maxRecDepth 100000
abbrev aX (d : ClassId) (n : Nat) (f : Nat → Int) : va_E := .inl (d, n, .inl fun i => iI (f i))
def fX (ad : Nat → Nat) (tl pl bu sc la ra : Int) : List Value := [.int (iI tl), .ref (ad 1), .int (iI pl), .ref (ad 2), .int (iI bu), .int (iI sc), .int (iI la), .ref (ad 3), .ref (ad 4), .ref (ad 5), .ref (ad 6), .ref (ad 7), .ref (ad 8), .ref (ad 9), .int (iI ra)]
/-- the world of a RepeatFinder: its object and its nine arrays -/
def wX (ad : Nat → Nat) (dB dS : ClassId) (tl pl bu sc la ra : Int) (tx pr nx sh le ti fe wo bl : Nat → Int) : va_W := [(ad 0, .inr (0, fX ad tl pl bu sc la ra)), (ad 1, aX dB 24 tx), (ad 2, aX dB 12 pr), (ad 3, aX dB 200 nx), (ad 4, aX dB 50 sh), (ad 5, aX dB 50 le), (ad 6, aX dB 50 ti), (ad 7, aX dB 50 fe), (ad 8, aX dS 50 wo), (ad 9, aX dB 50 bl)]
def fM (ad : Nat → Nat) (tl pl li kn : Int) : List Value := [.ref (ad 1), .int (iI tl), .int (iI pl), .ref (ad 2), .ref (ad 3), .int (iI li), .int (iI kn)]
/-- the world of a RepeatFinderModel: its object and its three arrays -/
def wM (ad : Nat → Nat) (dN : ClassId) (tl pl li kn : Int) (gg lp ll : Nat → Int) : va_W := [(ad 0, .inr (1, fM ad tl pl li kn)), (ad 1, aX dN 36 gg), (ad 2, aX dN 300 lp), (ad 3, aX dN 300 ll)]
abbrev JX (l : Launch) (D : va_G) (dB dS : ClassId) : XJ := (l, D, [(dB, .byte), (dS, .short)])
abbrev JM (l : Launch) (D : va_G) (dN : ClassId) : XJ := (l, D, [(dN, .int)])
section WX
variable {K : XK} {l : Launch} {D : va_G} {dB dS : ClassId} {ad : Nat → Nat} {R : Room} {cc : ByteArray} {nL : Nat} {pc : Nat} {lv : List (Nat × Value)} {st : List Value} {tl pl bu sc la ra : Int} {tx pr nx sh le ti fe wo bl : Nat → Int}
theorem xX_tl (h : xok K (JX l D dB dS) R cc RX0 nL) (hd : decode cc pc = .ok (.getfield 38, 3)) (kk : xw K (wX ad dB dS tl pl bu sc la ra tx pr nx sh le ti fe wo bl) (pc + 3) lv (.int (iI tl) :: st)) : xw K (wX ad dB dS tl pl bu sc la ra tx pr nx sh le ti fe wo bl) pc lv (.ref (ad 0) :: st) := x_get h in_X0 rfl rfl 0 (by decide) q29 rfl rfl hd kk
theorem xX_ptl (h : xok K (JX l D dB dS) R cc RX0 nL) {v : Int} (hd : decode cc pc = .ok (.putfield 38, 3)) (kk : xw K (wX ad dB dS v pl bu sc la ra tx pr nx sh le ti fe wo bl) (pc + 3) lv st) : xw K (wX ad dB dS tl pl bu sc la ra tx pr nx sh le ti fe wo bl) pc lv (.int (iI v) :: .ref (ad 0) :: st) := x_put (ci := 0) (fs := fX ad tl pl bu sc la ra) (ws' := wX ad dB dS v pl bu sc la ra tx pr nx sh le ti fe wo bl) h in_X0 tyX0 tyX0_ok nmX0 rfl rfl 0 (by decide) q29 rfl rfl rfl rfl (Nat.le_of_ble_eq_true rfl) rfl hd kk
theorem xX_pl (h : xok K (JX l D dB dS) R cc RX0 nL) (hd : decode cc pc = .ok (.getfield 46, 3)) (kk : xw K (wX ad dB dS tl pl bu sc la ra tx pr nx sh le ti fe wo bl) (pc + 3) lv (.int (iI pl) :: st)) : xw K (wX ad dB dS tl pl bu sc la ra tx pr nx sh le ti fe wo bl) pc lv (.ref (ad 0) :: st) := x_get h in_X0 rfl rfl 2 (by decide) q31 rfl rfl hd kk
theorem xX_ppl (h : xok K (JX l D dB dS) R cc RX0 nL) {v : Int} (hd : decode cc pc = .ok (.putfield 46, 3)) (kk : xw K (wX ad dB dS tl v bu sc la ra tx pr nx sh le ti fe wo bl) (pc + 3) lv st) : xw K (wX ad dB dS tl pl bu sc la ra tx pr nx sh le ti fe wo bl) pc lv (.int (iI v) :: .ref (ad 0) :: st) := x_put (ci := 0) (fs := fX ad tl pl bu sc la ra) (ws' := wX ad dB dS tl v bu sc la ra tx pr nx sh le ti fe wo bl) h in_X0 tyX0 tyX0_ok nmX0 rfl rfl 2 (by decide) q31 rfl rfl rfl rfl (Nat.le_of_ble_eq_true rfl) rfl hd kk
theorem xX_bu (h : xok K (JX l D dB dS) R cc RX0 nL) (hd : decode cc pc = .ok (.getfield 42, 3)) (kk : xw K (wX ad dB dS tl pl bu sc la ra tx pr nx sh le ti fe wo bl) (pc + 3) lv (.int (iI bu) :: st)) : xw K (wX ad dB dS tl pl bu sc la ra tx pr nx sh le ti fe wo bl) pc lv (.ref (ad 0) :: st) := x_get h in_X0 rfl rfl 4 (by decide) q33 rfl rfl hd kk
theorem xX_pbu (h : xok K (JX l D dB dS) R cc RX0 nL) {v : Int} (hv : v = 0 ∨ v = 1) (hd : decode cc pc = .ok (.putfield 42, 3)) (kk : xw K (wX ad dB dS tl pl v sc la ra tx pr nx sh le ti fe wo bl) (pc + 3) lv st) : xw K (wX ad dB dS tl pl bu sc la ra tx pr nx sh le ti fe wo bl) pc lv (.int (iI v) :: .ref (ad 0) :: st) := x_put (ci := 0) (fs := fX ad tl pl bu sc la ra) (ws' := wX ad dB dS tl pl v sc la ra tx pr nx sh le ti fe wo bl) h in_X0 tyX0 tyX0_ok nmX0 rfl rfl 4 (by decide) q33 rfl rfl (by rcases hv with rfl | rfl <;> rfl) (by rcases hv with rfl | rfl <;> rfl) (Nat.le_of_ble_eq_true rfl) rfl hd kk
theorem xX_sc (h : xok K (JX l D dB dS) R cc RX0 nL) (hd : decode cc pc = .ok (.getfield 56, 3)) (kk : xw K (wX ad dB dS tl pl bu sc la ra tx pr nx sh le ti fe wo bl) (pc + 3) lv (.int (iI sc) :: st)) : xw K (wX ad dB dS tl pl bu sc la ra tx pr nx sh le ti fe wo bl) pc lv (.ref (ad 0) :: st) := x_get h in_X0 rfl rfl 5 (by decide) q34 rfl rfl hd kk
theorem xX_psc (h : xok K (JX l D dB dS) R cc RX0 nL) {v : Int} (hd : decode cc pc = .ok (.putfield 56, 3)) (kk : xw K (wX ad dB dS tl pl bu v la ra tx pr nx sh le ti fe wo bl) (pc + 3) lv st) : xw K (wX ad dB dS tl pl bu sc la ra tx pr nx sh le ti fe wo bl) pc lv (.int (iI v) :: .ref (ad 0) :: st) := x_put (ci := 0) (fs := fX ad tl pl bu sc la ra) (ws' := wX ad dB dS tl pl bu v la ra tx pr nx sh le ti fe wo bl) h in_X0 tyX0 tyX0_ok nmX0 rfl rfl 5 (by decide) q34 rfl rfl rfl rfl (Nat.le_of_ble_eq_true rfl) rfl hd kk
theorem xX_la (h : xok K (JX l D dB dS) R cc RX0 nL) (hd : decode cc pc = .ok (.getfield 73, 3)) (kk : xw K (wX ad dB dS tl pl bu sc la ra tx pr nx sh le ti fe wo bl) (pc + 3) lv (.int (iI la) :: st)) : xw K (wX ad dB dS tl pl bu sc la ra tx pr nx sh le ti fe wo bl) pc lv (.ref (ad 0) :: st) := x_get h in_X0 rfl rfl 6 (by decide) q35 rfl rfl hd kk
theorem xX_pla (h : xok K (JX l D dB dS) R cc RX0 nL) {v : Int} (hd : decode cc pc = .ok (.putfield 73, 3)) (kk : xw K (wX ad dB dS tl pl bu sc v ra tx pr nx sh le ti fe wo bl) (pc + 3) lv st) : xw K (wX ad dB dS tl pl bu sc la ra tx pr nx sh le ti fe wo bl) pc lv (.int (iI v) :: .ref (ad 0) :: st) := x_put (ci := 0) (fs := fX ad tl pl bu sc la ra) (ws' := wX ad dB dS tl pl bu sc v ra tx pr nx sh le ti fe wo bl) h in_X0 tyX0 tyX0_ok nmX0 rfl rfl 6 (by decide) q35 rfl rfl rfl rfl (Nat.le_of_ble_eq_true rfl) rfl hd kk
theorem xX_ra (h : xok K (JX l D dB dS) R cc RX0 nL) (hd : decode cc pc = .ok (.getfield 67, 3)) (kk : xw K (wX ad dB dS tl pl bu sc la ra tx pr nx sh le ti fe wo bl) (pc + 3) lv (.int (iI ra) :: st)) : xw K (wX ad dB dS tl pl bu sc la ra tx pr nx sh le ti fe wo bl) pc lv (.ref (ad 0) :: st) := x_get h in_X0 rfl rfl 14 (by decide) q43 rfl rfl hd kk
theorem xX_pra (h : xok K (JX l D dB dS) R cc RX0 nL) {v : Int} (hd : decode cc pc = .ok (.putfield 67, 3)) (kk : xw K (wX ad dB dS tl pl bu sc la v tx pr nx sh le ti fe wo bl) (pc + 3) lv st) : xw K (wX ad dB dS tl pl bu sc la ra tx pr nx sh le ti fe wo bl) pc lv (.int (iI v) :: .ref (ad 0) :: st) := x_put (ci := 0) (fs := fX ad tl pl bu sc la ra) (ws' := wX ad dB dS tl pl bu sc la v tx pr nx sh le ti fe wo bl) h in_X0 tyX0 tyX0_ok nmX0 rfl rfl 14 (by decide) q43 rfl rfl rfl rfl (Nat.le_of_ble_eq_true rfl) rfl hd kk
theorem xX_tx (h : xok K (JX l D dB dS) R cc RX0 nL) (hd : decode cc pc = .ok (.getfield 7, 3)) (kk : xw K (wX ad dB dS tl pl bu sc la ra tx pr nx sh le ti fe wo bl) (pc + 3) lv (.ref (ad 1) :: st)) : xw K (wX ad dB dS tl pl bu sc la ra tx pr nx sh le ti fe wo bl) pc lv (.ref (ad 0) :: st) := x_get h in_X0 rfl rfl 1 (by decide) q30 rfl rfl hd kk
theorem xX_ltx (h : xok K (JX l D dB dS) R cc RX0 nL) {z : Int} (k : Nat) (hk : z = (k : Int)) (hkn : k < 24) (hd : decode cc pc = .ok (.baload, 1)) (kk : xw K (wX ad dB dS tl pl bu sc la ra tx pr nx sh le ti fe wo bl) (pc + 1) lv (.int (iI (tx k)) :: st)) : xw K (wX ad dB dS tl pl bu sc la ra tx pr nx sh le ti fe wo bl) pc lv (.int (iI z) :: .ref (ad 1) :: st) := x_bald h 1 0 rfl rfl k hk hkn (by decide) hd kk
theorem xX_stx (h : xok K (JX l D dB dS) R cc RX0 nL) {z v : Int} (k : Nat) (hk : z = (k : Int)) (hkn : k < 24) (hv : -128 ≤ v ∧ v < 128) (hd : decode cc pc = .ok (.bastore, 1)) (kk : xw K (wX ad dB dS tl pl bu sc la ra (zu tx k v) pr nx sh le ti fe wo bl) (pc + 1) lv st) : xw K (wX ad dB dS tl pl bu sc la ra tx pr nx sh le ti fe wo bl) pc lv (.int (iI v) :: .int (iI z) :: .ref (ad 1) :: st) := x_bast (ws' := wX ad dB dS tl pl bu sc la ra (zu tx k v) pr nx sh le ti fe wo bl) h 1 0 rfl rfl k hk hkn (by decide) hv rfl hd kk
theorem xX_pr (h : xok K (JX l D dB dS) R cc RX0 nL) (hd : decode cc pc = .ok (.getfield 13, 3)) (kk : xw K (wX ad dB dS tl pl bu sc la ra tx pr nx sh le ti fe wo bl) (pc + 3) lv (.ref (ad 2) :: st)) : xw K (wX ad dB dS tl pl bu sc la ra tx pr nx sh le ti fe wo bl) pc lv (.ref (ad 0) :: st) := x_get h in_X0 rfl rfl 3 (by decide) q32 rfl rfl hd kk
theorem xX_lpr (h : xok K (JX l D dB dS) R cc RX0 nL) {z : Int} (k : Nat) (hk : z = (k : Int)) (hkn : k < 12) (hd : decode cc pc = .ok (.baload, 1)) (kk : xw K (wX ad dB dS tl pl bu sc la ra tx pr nx sh le ti fe wo bl) (pc + 1) lv (.int (iI (pr k)) :: st)) : xw K (wX ad dB dS tl pl bu sc la ra tx pr nx sh le ti fe wo bl) pc lv (.int (iI z) :: .ref (ad 2) :: st) := x_bald h 2 0 rfl rfl k hk hkn (by decide) hd kk
theorem xX_spr (h : xok K (JX l D dB dS) R cc RX0 nL) {z v : Int} (k : Nat) (hk : z = (k : Int)) (hkn : k < 12) (hv : -128 ≤ v ∧ v < 128) (hd : decode cc pc = .ok (.bastore, 1)) (kk : xw K (wX ad dB dS tl pl bu sc la ra tx (zu pr k v) nx sh le ti fe wo bl) (pc + 1) lv st) : xw K (wX ad dB dS tl pl bu sc la ra tx pr nx sh le ti fe wo bl) pc lv (.int (iI v) :: .int (iI z) :: .ref (ad 2) :: st) := x_bast (ws' := wX ad dB dS tl pl bu sc la ra tx (zu pr k v) nx sh le ti fe wo bl) h 2 0 rfl rfl k hk hkn (by decide) hv rfl hd kk
theorem xX_nx (h : xok K (JX l D dB dS) R cc RX0 nL) (hd : decode cc pc = .ok (.getfield 16, 3)) (kk : xw K (wX ad dB dS tl pl bu sc la ra tx pr nx sh le ti fe wo bl) (pc + 3) lv (.ref (ad 3) :: st)) : xw K (wX ad dB dS tl pl bu sc la ra tx pr nx sh le ti fe wo bl) pc lv (.ref (ad 0) :: st) := x_get h in_X0 rfl rfl 7 (by decide) q36 rfl rfl hd kk
theorem xX_lnx (h : xok K (JX l D dB dS) R cc RX0 nL) {z : Int} (k : Nat) (hk : z = (k : Int)) (hkn : k < 200) (hd : decode cc pc = .ok (.baload, 1)) (kk : xw K (wX ad dB dS tl pl bu sc la ra tx pr nx sh le ti fe wo bl) (pc + 1) lv (.int (iI (nx k)) :: st)) : xw K (wX ad dB dS tl pl bu sc la ra tx pr nx sh le ti fe wo bl) pc lv (.int (iI z) :: .ref (ad 3) :: st) := x_bald h 3 0 rfl rfl k hk hkn (by decide) hd kk
theorem xX_snx (h : xok K (JX l D dB dS) R cc RX0 nL) {z v : Int} (k : Nat) (hk : z = (k : Int)) (hkn : k < 200) (hv : -128 ≤ v ∧ v < 128) (hd : decode cc pc = .ok (.bastore, 1)) (kk : xw K (wX ad dB dS tl pl bu sc la ra tx pr (zu nx k v) sh le ti fe wo bl) (pc + 1) lv st) : xw K (wX ad dB dS tl pl bu sc la ra tx pr nx sh le ti fe wo bl) pc lv (.int (iI v) :: .int (iI z) :: .ref (ad 3) :: st) := x_bast (ws' := wX ad dB dS tl pl bu sc la ra tx pr (zu nx k v) sh le ti fe wo bl) h 3 0 rfl rfl k hk hkn (by decide) hv rfl hd kk
theorem xX_sh (h : xok K (JX l D dB dS) R cc RX0 nL) (hd : decode cc pc = .ok (.getfield 19, 3)) (kk : xw K (wX ad dB dS tl pl bu sc la ra tx pr nx sh le ti fe wo bl) (pc + 3) lv (.ref (ad 4) :: st)) : xw K (wX ad dB dS tl pl bu sc la ra tx pr nx sh le ti fe wo bl) pc lv (.ref (ad 0) :: st) := x_get h in_X0 rfl rfl 8 (by decide) q37 rfl rfl hd kk
theorem xX_lsh (h : xok K (JX l D dB dS) R cc RX0 nL) {z : Int} (k : Nat) (hk : z = (k : Int)) (hkn : k < 50) (hd : decode cc pc = .ok (.baload, 1)) (kk : xw K (wX ad dB dS tl pl bu sc la ra tx pr nx sh le ti fe wo bl) (pc + 1) lv (.int (iI (sh k)) :: st)) : xw K (wX ad dB dS tl pl bu sc la ra tx pr nx sh le ti fe wo bl) pc lv (.int (iI z) :: .ref (ad 4) :: st) := x_bald h 4 0 rfl rfl k hk hkn (by decide) hd kk
theorem xX_ssh (h : xok K (JX l D dB dS) R cc RX0 nL) {z v : Int} (k : Nat) (hk : z = (k : Int)) (hkn : k < 50) (hv : -128 ≤ v ∧ v < 128) (hd : decode cc pc = .ok (.bastore, 1)) (kk : xw K (wX ad dB dS tl pl bu sc la ra tx pr nx (zu sh k v) le ti fe wo bl) (pc + 1) lv st) : xw K (wX ad dB dS tl pl bu sc la ra tx pr nx sh le ti fe wo bl) pc lv (.int (iI v) :: .int (iI z) :: .ref (ad 4) :: st) := x_bast (ws' := wX ad dB dS tl pl bu sc la ra tx pr nx (zu sh k v) le ti fe wo bl) h 4 0 rfl rfl k hk hkn (by decide) hv rfl hd kk
theorem xX_le (h : xok K (JX l D dB dS) R cc RX0 nL) (hd : decode cc pc = .ok (.getfield 22, 3)) (kk : xw K (wX ad dB dS tl pl bu sc la ra tx pr nx sh le ti fe wo bl) (pc + 3) lv (.ref (ad 5) :: st)) : xw K (wX ad dB dS tl pl bu sc la ra tx pr nx sh le ti fe wo bl) pc lv (.ref (ad 0) :: st) := x_get h in_X0 rfl rfl 9 (by decide) q38 rfl rfl hd kk
theorem xX_lle (h : xok K (JX l D dB dS) R cc RX0 nL) {z : Int} (k : Nat) (hk : z = (k : Int)) (hkn : k < 50) (hd : decode cc pc = .ok (.baload, 1)) (kk : xw K (wX ad dB dS tl pl bu sc la ra tx pr nx sh le ti fe wo bl) (pc + 1) lv (.int (iI (le k)) :: st)) : xw K (wX ad dB dS tl pl bu sc la ra tx pr nx sh le ti fe wo bl) pc lv (.int (iI z) :: .ref (ad 5) :: st) := x_bald h 5 0 rfl rfl k hk hkn (by decide) hd kk
theorem xX_sle (h : xok K (JX l D dB dS) R cc RX0 nL) {z v : Int} (k : Nat) (hk : z = (k : Int)) (hkn : k < 50) (hv : -128 ≤ v ∧ v < 128) (hd : decode cc pc = .ok (.bastore, 1)) (kk : xw K (wX ad dB dS tl pl bu sc la ra tx pr nx sh (zu le k v) ti fe wo bl) (pc + 1) lv st) : xw K (wX ad dB dS tl pl bu sc la ra tx pr nx sh le ti fe wo bl) pc lv (.int (iI v) :: .int (iI z) :: .ref (ad 5) :: st) := x_bast (ws' := wX ad dB dS tl pl bu sc la ra tx pr nx sh (zu le k v) ti fe wo bl) h 5 0 rfl rfl k hk hkn (by decide) hv rfl hd kk
theorem xX_ti (h : xok K (JX l D dB dS) R cc RX0 nL) (hd : decode cc pc = .ok (.getfield 25, 3)) (kk : xw K (wX ad dB dS tl pl bu sc la ra tx pr nx sh le ti fe wo bl) (pc + 3) lv (.ref (ad 6) :: st)) : xw K (wX ad dB dS tl pl bu sc la ra tx pr nx sh le ti fe wo bl) pc lv (.ref (ad 0) :: st) := x_get h in_X0 rfl rfl 10 (by decide) q39 rfl rfl hd kk
theorem xX_lti (h : xok K (JX l D dB dS) R cc RX0 nL) {z : Int} (k : Nat) (hk : z = (k : Int)) (hkn : k < 50) (hd : decode cc pc = .ok (.baload, 1)) (kk : xw K (wX ad dB dS tl pl bu sc la ra tx pr nx sh le ti fe wo bl) (pc + 1) lv (.int (iI (ti k)) :: st)) : xw K (wX ad dB dS tl pl bu sc la ra tx pr nx sh le ti fe wo bl) pc lv (.int (iI z) :: .ref (ad 6) :: st) := x_bald h 6 0 rfl rfl k hk hkn (by decide) hd kk
theorem xX_sti (h : xok K (JX l D dB dS) R cc RX0 nL) {z v : Int} (k : Nat) (hk : z = (k : Int)) (hkn : k < 50) (hv : -128 ≤ v ∧ v < 128) (hd : decode cc pc = .ok (.bastore, 1)) (kk : xw K (wX ad dB dS tl pl bu sc la ra tx pr nx sh le (zu ti k v) fe wo bl) (pc + 1) lv st) : xw K (wX ad dB dS tl pl bu sc la ra tx pr nx sh le ti fe wo bl) pc lv (.int (iI v) :: .int (iI z) :: .ref (ad 6) :: st) := x_bast (ws' := wX ad dB dS tl pl bu sc la ra tx pr nx sh le (zu ti k v) fe wo bl) h 6 0 rfl rfl k hk hkn (by decide) hv rfl hd kk
theorem xX_fe (h : xok K (JX l D dB dS) R cc RX0 nL) (hd : decode cc pc = .ok (.getfield 28, 3)) (kk : xw K (wX ad dB dS tl pl bu sc la ra tx pr nx sh le ti fe wo bl) (pc + 3) lv (.ref (ad 7) :: st)) : xw K (wX ad dB dS tl pl bu sc la ra tx pr nx sh le ti fe wo bl) pc lv (.ref (ad 0) :: st) := x_get h in_X0 rfl rfl 11 (by decide) q40 rfl rfl hd kk
theorem xX_lfe (h : xok K (JX l D dB dS) R cc RX0 nL) {z : Int} (k : Nat) (hk : z = (k : Int)) (hkn : k < 50) (hd : decode cc pc = .ok (.baload, 1)) (kk : xw K (wX ad dB dS tl pl bu sc la ra tx pr nx sh le ti fe wo bl) (pc + 1) lv (.int (iI (fe k)) :: st)) : xw K (wX ad dB dS tl pl bu sc la ra tx pr nx sh le ti fe wo bl) pc lv (.int (iI z) :: .ref (ad 7) :: st) := x_bald h 7 0 rfl rfl k hk hkn (by decide) hd kk
theorem xX_sfe (h : xok K (JX l D dB dS) R cc RX0 nL) {z v : Int} (k : Nat) (hk : z = (k : Int)) (hkn : k < 50) (hv : -128 ≤ v ∧ v < 128) (hd : decode cc pc = .ok (.bastore, 1)) (kk : xw K (wX ad dB dS tl pl bu sc la ra tx pr nx sh le ti (zu fe k v) wo bl) (pc + 1) lv st) : xw K (wX ad dB dS tl pl bu sc la ra tx pr nx sh le ti fe wo bl) pc lv (.int (iI v) :: .int (iI z) :: .ref (ad 7) :: st) := x_bast (ws' := wX ad dB dS tl pl bu sc la ra tx pr nx sh le ti (zu fe k v) wo bl) h 7 0 rfl rfl k hk hkn (by decide) hv rfl hd kk
theorem xX_wo (h : xok K (JX l D dB dS) R cc RX0 nL) (hd : decode cc pc = .ok (.getfield 31, 3)) (kk : xw K (wX ad dB dS tl pl bu sc la ra tx pr nx sh le ti fe wo bl) (pc + 3) lv (.ref (ad 8) :: st)) : xw K (wX ad dB dS tl pl bu sc la ra tx pr nx sh le ti fe wo bl) pc lv (.ref (ad 0) :: st) := x_get h in_X0 rfl rfl 12 (by decide) q41 rfl rfl hd kk
theorem xX_lwo (h : xok K (JX l D dB dS) R cc RX0 nL) {z : Int} (k : Nat) (hk : z = (k : Int)) (hkn : k < 50) (hd : decode cc pc = .ok (.saload, 1)) (kk : xw K (wX ad dB dS tl pl bu sc la ra tx pr nx sh le ti fe wo bl) (pc + 1) lv (.int (iI (wo k)) :: st)) : xw K (wX ad dB dS tl pl bu sc la ra tx pr nx sh le ti fe wo bl) pc lv (.int (iI z) :: .ref (ad 8) :: st) := x_sald h 8 1 rfl rfl k hk hkn (by decide) hd kk
theorem xX_swo (h : xok K (JX l D dB dS) R cc RX0 nL) {z v : Int} (k : Nat) (hk : z = (k : Int)) (hkn : k < 50) (hv : -32768 ≤ v ∧ v < 32768) (hd : decode cc pc = .ok (.sastore, 1)) (kk : xw K (wX ad dB dS tl pl bu sc la ra tx pr nx sh le ti fe (zu wo k v) bl) (pc + 1) lv st) : xw K (wX ad dB dS tl pl bu sc la ra tx pr nx sh le ti fe wo bl) pc lv (.int (iI v) :: .int (iI z) :: .ref (ad 8) :: st) := x_sast (ws' := wX ad dB dS tl pl bu sc la ra tx pr nx sh le ti fe (zu wo k v) bl) h 8 1 rfl rfl k hk hkn (by decide) hv rfl hd kk
theorem xX_bl (h : xok K (JX l D dB dS) R cc RX0 nL) (hd : decode cc pc = .ok (.getfield 35, 3)) (kk : xw K (wX ad dB dS tl pl bu sc la ra tx pr nx sh le ti fe wo bl) (pc + 3) lv (.ref (ad 9) :: st)) : xw K (wX ad dB dS tl pl bu sc la ra tx pr nx sh le ti fe wo bl) pc lv (.ref (ad 0) :: st) := x_get h in_X0 rfl rfl 13 (by decide) q42 rfl rfl hd kk
theorem xX_lbl (h : xok K (JX l D dB dS) R cc RX0 nL) {z : Int} (k : Nat) (hk : z = (k : Int)) (hkn : k < 50) (hd : decode cc pc = .ok (.baload, 1)) (kk : xw K (wX ad dB dS tl pl bu sc la ra tx pr nx sh le ti fe wo bl) (pc + 1) lv (.int (iI (bl k)) :: st)) : xw K (wX ad dB dS tl pl bu sc la ra tx pr nx sh le ti fe wo bl) pc lv (.int (iI z) :: .ref (ad 9) :: st) := x_bald h 9 0 rfl rfl k hk hkn (by decide) hd kk
theorem xX_sbl (h : xok K (JX l D dB dS) R cc RX0 nL) {z v : Int} (k : Nat) (hk : z = (k : Int)) (hkn : k < 50) (hv : -128 ≤ v ∧ v < 128) (hd : decode cc pc = .ok (.bastore, 1)) (kk : xw K (wX ad dB dS tl pl bu sc la ra tx pr nx sh le ti fe wo (zu bl k v)) (pc + 1) lv st) : xw K (wX ad dB dS tl pl bu sc la ra tx pr nx sh le ti fe wo bl) pc lv (.int (iI v) :: .int (iI z) :: .ref (ad 9) :: st) := x_bast (ws' := wX ad dB dS tl pl bu sc la ra tx pr nx sh le ti fe wo (zu bl k v)) h 9 0 rfl rfl k hk hkn (by decide) hv rfl hd kk
theorem xX_calli (h : xok K (JX l D dB dS) R cc RX0 nL) {y : MethodName} {cy : ByteArray} {ny : Nat} {ret : FieldType} {fr lo : Nat} {As : List Value} {post : Int32 → va_W → Prop} (hM : xmi (JX l D dB dS) y cy ny ret fr lo (.ref (ad 0) :: As) (wX ad dB dS tl pl bu sc la ra tx pr nx sh le ti fe wo bl) post) {idx : Nat} (n : Nat) (hV : GoodIn lw_all (wsV RX0 idx RX0 y (ws_ y cy ny (some ret)))) (hd0 : y.cls = RX0 ∧ y.cls ≠ "java/lang/invoke/MethodHandle" ∧ y.cls ≠ "java/lang/invoke/VarHandle" ∧ (parseMethodDescriptor y.desc).map (fun d => d.parameters.length) = some n) (hR : fr + 1 ≤ R.frames ∧ 8 + (ny + 11) + lo ≤ R.locals) (hn : As.length = n) {stk : List Value} (hst : stk = As.reverse ++ .ref (ad 0) :: st) (hs8 : (st.map fun v => v.category).sum ≤ 8) (hd : decode cc pc = .ok (.invokevirtual idx, 3)) (kk : ∀ (r : Int32) (ws' : va_W), post r ws' → xw K ws' (pc + 3) lv (.int r :: st)) : xw K (wX ad dB dS tl pl bu sc la ra tx pr nx sh le ti fe wo bl) pc lv stk := x_calli h hM n hV hd0 hR (C := RX0) (ci := 0) rfl rfl hn hst hs8 hd kk
theorem xX_callv (h : xok K (JX l D dB dS) R cc RX0 nL) {y : MethodName} {cy : ByteArray} {ny : Nat} {fr lo : Nat} {As : List Value} {post : va_W → Prop} (hM : xmv (JX l D dB dS) y cy ny fr lo (.ref (ad 0) :: As) (wX ad dB dS tl pl bu sc la ra tx pr nx sh le ti fe wo bl) post) {idx : Nat} (n : Nat) (hV : GoodIn lw_all (wsV RX0 idx RX0 y (ws_ y cy ny none))) (hd0 : y.cls = RX0 ∧ y.cls ≠ "java/lang/invoke/MethodHandle" ∧ y.cls ≠ "java/lang/invoke/VarHandle" ∧ (parseMethodDescriptor y.desc).map (fun d => d.parameters.length) = some n) (hR : fr + 1 ≤ R.frames ∧ 8 + (ny + 11) + lo ≤ R.locals) (hn : As.length = n) {stk : List Value} (hst : stk = As.reverse ++ .ref (ad 0) :: st) (hs8 : (st.map fun v => v.category).sum ≤ 8) (hd : decode cc pc = .ok (.invokevirtual idx, 3)) (kk : ∀ (ws' : va_W), post ws' → xw K ws' (pc + 3) lv (st)) : xw K (wX ad dB dS tl pl bu sc la ra tx pr nx sh le ti fe wo bl) pc lv stk := x_callv h hM n hV hd0 hR (C := RX0) (ci := 0) rfl rfl hn hst hs8 hd kk
end WX
section WM
variable {K : XK} {l : Launch} {D : va_G} {dN : ClassId} {ad : Nat → Nat} {R : Room} {cc : ByteArray} {nL : Nat} {pc : Nat} {lv : List (Nat × Value)} {st : List Value} {tl pl li kn : Int} {gg lp ll : Nat → Int}
theorem xM_tl (h : xok K (JM l D dN) R cc RX1 nL) (hd : decode cc pc = .ok (.getfield 19, 3)) (kk : xw K (wM ad dN tl pl li kn gg lp ll) (pc + 3) lv (.int (iI tl) :: st)) : xw K (wM ad dN tl pl li kn gg lp ll) pc lv (.ref (ad 0) :: st) := x_get h in_X1 rfl rfl 1 (by decide) q176 rfl rfl hd kk
theorem xM_ptl (h : xok K (JM l D dN) R cc RX1 nL) {v : Int} (hd : decode cc pc = .ok (.putfield 19, 3)) (kk : xw K (wM ad dN v pl li kn gg lp ll) (pc + 3) lv st) : xw K (wM ad dN tl pl li kn gg lp ll) pc lv (.int (iI v) :: .ref (ad 0) :: st) := x_put (ci := 1) (fs := fM ad tl pl li kn) (ws' := wM ad dN v pl li kn gg lp ll) h in_X1 tyX1 tyX1_ok nmX1 rfl rfl 1 (by decide) q176 rfl rfl rfl rfl (Nat.le_of_ble_eq_true rfl) rfl hd kk
theorem xM_pl (h : xok K (JM l D dN) R cc RX1 nL) (hd : decode cc pc = .ok (.getfield 27, 3)) (kk : xw K (wM ad dN tl pl li kn gg lp ll) (pc + 3) lv (.int (iI pl) :: st)) : xw K (wM ad dN tl pl li kn gg lp ll) pc lv (.ref (ad 0) :: st) := x_get h in_X1 rfl rfl 2 (by decide) q177 rfl rfl hd kk
theorem xM_ppl (h : xok K (JM l D dN) R cc RX1 nL) {v : Int} (hd : decode cc pc = .ok (.putfield 27, 3)) (kk : xw K (wM ad dN tl v li kn gg lp ll) (pc + 3) lv st) : xw K (wM ad dN tl pl li kn gg lp ll) pc lv (.int (iI v) :: .ref (ad 0) :: st) := x_put (ci := 1) (fs := fM ad tl pl li kn) (ws' := wM ad dN tl v li kn gg lp ll) h in_X1 tyX1 tyX1_ok nmX1 rfl rfl 2 (by decide) q177 rfl rfl rfl rfl (Nat.le_of_ble_eq_true rfl) rfl hd kk
theorem xM_li (h : xok K (JM l D dN) R cc RX1 nL) (hd : decode cc pc = .ok (.getfield 41, 3)) (kk : xw K (wM ad dN tl pl li kn gg lp ll) (pc + 3) lv (.int (iI li) :: st)) : xw K (wM ad dN tl pl li kn gg lp ll) pc lv (.ref (ad 0) :: st) := x_get h in_X1 rfl rfl 5 (by decide) q180 rfl rfl hd kk
theorem xM_pli (h : xok K (JM l D dN) R cc RX1 nL) {v : Int} (hd : decode cc pc = .ok (.putfield 41, 3)) (kk : xw K (wM ad dN tl pl v kn gg lp ll) (pc + 3) lv st) : xw K (wM ad dN tl pl li kn gg lp ll) pc lv (.int (iI v) :: .ref (ad 0) :: st) := x_put (ci := 1) (fs := fM ad tl pl li kn) (ws' := wM ad dN tl pl v kn gg lp ll) h in_X1 tyX1 tyX1_ok nmX1 rfl rfl 5 (by decide) q180 rfl rfl rfl rfl (Nat.le_of_ble_eq_true rfl) rfl hd kk
theorem xM_kn (h : xok K (JM l D dN) R cc RX1 nL) (hd : decode cc pc = .ok (.getfield 23, 3)) (kk : xw K (wM ad dN tl pl li kn gg lp ll) (pc + 3) lv (.int (iI kn) :: st)) : xw K (wM ad dN tl pl li kn gg lp ll) pc lv (.ref (ad 0) :: st) := x_get h in_X1 rfl rfl 6 (by decide) q181 rfl rfl hd kk
theorem xM_pkn (h : xok K (JM l D dN) R cc RX1 nL) {v : Int} (hv : v = 0 ∨ v = 1) (hd : decode cc pc = .ok (.putfield 23, 3)) (kk : xw K (wM ad dN tl pl li v gg lp ll) (pc + 3) lv st) : xw K (wM ad dN tl pl li kn gg lp ll) pc lv (.int (iI v) :: .ref (ad 0) :: st) := x_put (ci := 1) (fs := fM ad tl pl li kn) (ws' := wM ad dN tl pl li v gg lp ll) h in_X1 tyX1 tyX1_ok nmX1 rfl rfl 6 (by decide) q181 rfl rfl (by rcases hv with rfl | rfl <;> rfl) (by rcases hv with rfl | rfl <;> rfl) (Nat.le_of_ble_eq_true rfl) rfl hd kk
theorem xM_gg (h : xok K (JM l D dN) R cc RX1 nL) (hd : decode cc pc = .ok (.getfield 7, 3)) (kk : xw K (wM ad dN tl pl li kn gg lp ll) (pc + 3) lv (.ref (ad 1) :: st)) : xw K (wM ad dN tl pl li kn gg lp ll) pc lv (.ref (ad 0) :: st) := x_get h in_X1 rfl rfl 0 (by decide) q175 rfl rfl hd kk
theorem xM_lgg (h : xok K (JM l D dN) R cc RX1 nL) {z : Int} (k : Nat) (hk : z = (k : Int)) (hkn : k < 36) (hd : decode cc pc = .ok (.iaload, 1)) (kk : xw K (wM ad dN tl pl li kn gg lp ll) (pc + 1) lv (.int (iI (gg k)) :: st)) : xw K (wM ad dN tl pl li kn gg lp ll) pc lv (.int (iI z) :: .ref (ad 1) :: st) := x_iald h 1 0 rfl rfl k hk hkn (by decide) hd kk
theorem xM_sgg (h : xok K (JM l D dN) R cc RX1 nL) {z v : Int} (k : Nat) (hk : z = (k : Int)) (hkn : k < 36) (hd : decode cc pc = .ok (.iastore, 1)) (kk : xw K (wM ad dN tl pl li kn (zu gg k v) lp ll) (pc + 1) lv st) : xw K (wM ad dN tl pl li kn gg lp ll) pc lv (.int (iI v) :: .int (iI z) :: .ref (ad 1) :: st) := x_iast (ws' := wM ad dN tl pl li kn (zu gg k v) lp ll) h 1 0 rfl rfl k hk hkn (by decide) rfl hd kk
theorem xM_lp (h : xok K (JM l D dN) R cc RX1 nL) (hd : decode cc pc = .ok (.getfield 13, 3)) (kk : xw K (wM ad dN tl pl li kn gg lp ll) (pc + 3) lv (.ref (ad 2) :: st)) : xw K (wM ad dN tl pl li kn gg lp ll) pc lv (.ref (ad 0) :: st) := x_get h in_X1 rfl rfl 3 (by decide) q178 rfl rfl hd kk
theorem xM_llp (h : xok K (JM l D dN) R cc RX1 nL) {z : Int} (k : Nat) (hk : z = (k : Int)) (hkn : k < 300) (hd : decode cc pc = .ok (.iaload, 1)) (kk : xw K (wM ad dN tl pl li kn gg lp ll) (pc + 1) lv (.int (iI (lp k)) :: st)) : xw K (wM ad dN tl pl li kn gg lp ll) pc lv (.int (iI z) :: .ref (ad 2) :: st) := x_iald h 2 0 rfl rfl k hk hkn (by decide) hd kk
theorem xM_slp (h : xok K (JM l D dN) R cc RX1 nL) {z v : Int} (k : Nat) (hk : z = (k : Int)) (hkn : k < 300) (hd : decode cc pc = .ok (.iastore, 1)) (kk : xw K (wM ad dN tl pl li kn gg (zu lp k v) ll) (pc + 1) lv st) : xw K (wM ad dN tl pl li kn gg lp ll) pc lv (.int (iI v) :: .int (iI z) :: .ref (ad 2) :: st) := x_iast (ws' := wM ad dN tl pl li kn gg (zu lp k v) ll) h 2 0 rfl rfl k hk hkn (by decide) rfl hd kk
theorem xM_ll (h : xok K (JM l D dN) R cc RX1 nL) (hd : decode cc pc = .ok (.getfield 16, 3)) (kk : xw K (wM ad dN tl pl li kn gg lp ll) (pc + 3) lv (.ref (ad 3) :: st)) : xw K (wM ad dN tl pl li kn gg lp ll) pc lv (.ref (ad 0) :: st) := x_get h in_X1 rfl rfl 4 (by decide) q179 rfl rfl hd kk
theorem xM_lll (h : xok K (JM l D dN) R cc RX1 nL) {z : Int} (k : Nat) (hk : z = (k : Int)) (hkn : k < 300) (hd : decode cc pc = .ok (.iaload, 1)) (kk : xw K (wM ad dN tl pl li kn gg lp ll) (pc + 1) lv (.int (iI (ll k)) :: st)) : xw K (wM ad dN tl pl li kn gg lp ll) pc lv (.int (iI z) :: .ref (ad 3) :: st) := x_iald h 3 0 rfl rfl k hk hkn (by decide) hd kk
theorem xM_sll (h : xok K (JM l D dN) R cc RX1 nL) {z v : Int} (k : Nat) (hk : z = (k : Int)) (hkn : k < 300) (hd : decode cc pc = .ok (.iastore, 1)) (kk : xw K (wM ad dN tl pl li kn gg lp (zu ll k v)) (pc + 1) lv st) : xw K (wM ad dN tl pl li kn gg lp ll) pc lv (.int (iI v) :: .int (iI z) :: .ref (ad 3) :: st) := x_iast (ws' := wM ad dN tl pl li kn gg lp (zu ll k v)) h 3 0 rfl rfl k hk hkn (by decide) rfl hd kk
theorem xM_calli (h : xok K (JM l D dN) R cc RX1 nL) {y : MethodName} {cy : ByteArray} {ny : Nat} {ret : FieldType} {fr lo : Nat} {As : List Value} {post : Int32 → va_W → Prop} (hM : xmi (JM l D dN) y cy ny ret fr lo (.ref (ad 0) :: As) (wM ad dN tl pl li kn gg lp ll) post) {idx : Nat} (n : Nat) (hV : GoodIn lw_all (wsV RX1 idx RX1 y (ws_ y cy ny (some ret)))) (hd0 : y.cls = RX1 ∧ y.cls ≠ "java/lang/invoke/MethodHandle" ∧ y.cls ≠ "java/lang/invoke/VarHandle" ∧ (parseMethodDescriptor y.desc).map (fun d => d.parameters.length) = some n) (hR : fr + 1 ≤ R.frames ∧ 8 + (ny + 11) + lo ≤ R.locals) (hn : As.length = n) {stk : List Value} (hst : stk = As.reverse ++ .ref (ad 0) :: st) (hs8 : (st.map fun v => v.category).sum ≤ 8) (hd : decode cc pc = .ok (.invokevirtual idx, 3)) (kk : ∀ (r : Int32) (ws' : va_W), post r ws' → xw K ws' (pc + 3) lv (.int r :: st)) : xw K (wM ad dN tl pl li kn gg lp ll) pc lv stk := x_calli h hM n hV hd0 hR (C := RX1) (ci := 1) rfl rfl hn hst hs8 hd kk
theorem xM_callv (h : xok K (JM l D dN) R cc RX1 nL) {y : MethodName} {cy : ByteArray} {ny : Nat} {fr lo : Nat} {As : List Value} {post : va_W → Prop} (hM : xmv (JM l D dN) y cy ny fr lo (.ref (ad 0) :: As) (wM ad dN tl pl li kn gg lp ll) post) {idx : Nat} (n : Nat) (hV : GoodIn lw_all (wsV RX1 idx RX1 y (ws_ y cy ny none))) (hd0 : y.cls = RX1 ∧ y.cls ≠ "java/lang/invoke/MethodHandle" ∧ y.cls ≠ "java/lang/invoke/VarHandle" ∧ (parseMethodDescriptor y.desc).map (fun d => d.parameters.length) = some n) (hR : fr + 1 ≤ R.frames ∧ 8 + (ny + 11) + lo ≤ R.locals) (hn : As.length = n) {stk : List Value} (hst : stk = As.reverse ++ .ref (ad 0) :: st) (hs8 : (st.map fun v => v.category).sum ≤ 8) (hd : decode cc pc = .ok (.invokevirtual idx, 3)) (kk : ∀ (ws' : va_W), post ws' → xw K ws' (pc + 3) lv (st)) : xw K (wM ad dN tl pl li kn gg lp ll) pc lv stk := x_callv h hM n hV hd0 hR (C := RX1) (ci := 1) rfl rfl hn hst hs8 hd kk
end WM
end
section
/-! ===== RepeatFinder, RepeatFinderModel: type, shift, ask, wipe ===== -/
set_option maxRecDepth 100000
theorem cX_type (l : Launch) (D : va_G) (dB dS : ClassId) (ad : Nat → Nat) (pl bu sc la ra : Int) (tx pr nx sh le ti fe wo bl : Nat → Int) (n : Nat) (z : Int) (hn : n ≤ 24) (hz : rng z) : xmi (JX l D dB dS) yX0_type cX0_type 2 .int 0 0 [.ref (ad 0), .int (iI z)] (wX ad dB dS (n : Int) pl bu sc la ra tx pr nx sh le ti fe wo bl) (fun r ws' => (n = 24 ∧ r = iI (-1) ∧ ws' = wX ad dB dS (n : Int) pl bu sc la ra tx pr nx sh le ti fe wo bl) ∨ (n < 24 ∧ (z < 0 ∨ 4 ≤ z) ∧ r = iI (-2) ∧ ws' = wX ad dB dS (n : Int) pl bu sc la ra tx pr nx sh le ti fe wo bl) ∨ (n < 24 ∧ 0 ≤ z ∧ z < 4 ∧ r = iI ((n + 1 : Nat) : Int) ∧ ws' = wX ad dB dS ((n + 1 : Nat) : Int) pl 0 sc la ra (zu tx n z) pr nx sh le ti fe wo bl)) := by
  refine xmi_of (by decide) (Nat.le_of_ble_eq_true rfl) (fun K h hr => ?_)
  show xw K (wX ad dB dS (n : Int) pl bu sc la ra tx pr nx sh le ti fe wo bl) 0 [(0, .ref (ad 0)), (1, .int (iI z))] []
  refine x_aload_n h dX0_type_0 0 rfl ?_
  refine xX_tl h dX0_type_1 ?_
  refine x_bipush h dX0_type_4 (by decide) ?_
  refine x_icmp_lt h 11 dX0_type_6 (by decide) (by omega) (by omega) (fun c_6 => ?_) (fun c_6 => ?_)
  · refine x_iload_n h dX0_type_11 1 rfl ?_
    refine x_if_lt h 20 dX0_type_12 (by decide) (by omega) (fun c_12 => ?_) (fun c_12 => ?_)
    · refine x_bipush h dX0_type_20 (by decide) ?_
      refine x_ireturn h hr dX0_type_22 ?_
      exact Or.inr (Or.inl ⟨by omega, by omega, rfl, rfl⟩)
    · refine x_iload_n h dX0_type_15 1 rfl ?_
      refine x_iconst h dX0_type_16 ?_
      refine x_icmp_lt h 23 dX0_type_17 (by decide) (by omega) (by omega) (fun c_17 => ?_) (fun c_17 => ?_)
      · refine x_aload_n h dX0_type_23 0 rfl ?_
        refine xX_tx h dX0_type_24 ?_
        refine x_aload_n h dX0_type_27 0 rfl ?_
        refine xX_tl h dX0_type_28 ?_
        refine x_iload_n h dX0_type_31 1 rfl ?_
        refine x_i2b h dX0_type_32 (by omega) ?_
        refine xX_stx h n (by omega) (by omega) (by omega) dX0_type_33 ?_
        refine x_aload_n h dX0_type_34 0 rfl ?_
        refine x_dup h dX0_type_35 rfl ?_
        refine xX_tl h dX0_type_36 ?_
        refine x_iconst h dX0_type_39 ?_
        refine x_iadd h dX0_type_40 ?_
        refine xX_ptl h dX0_type_41 ?_
        refine x_aload_n h dX0_type_44 0 rfl ?_
        refine x_iconst h dX0_type_45 ?_
        refine xX_pbu h (by omega) dX0_type_46 ?_
        refine x_aload_n h dX0_type_49 0 rfl ?_
        refine xX_tl h dX0_type_50 ?_
        refine x_ireturn h hr dX0_type_53 ?_
        exact Or.inr (Or.inr ⟨by omega, by omega, by omega, rfl, rfl⟩)
      · refine x_bipush h dX0_type_20 (by decide) ?_
        refine x_ireturn h hr dX0_type_22 ?_
        exact Or.inr (Or.inl ⟨by omega, by omega, rfl, rfl⟩)
  · refine x_iconst h dX0_type_9 ?_
    refine x_ireturn h hr dX0_type_10 ?_
    exact Or.inl ⟨by omega, rfl, rfl⟩
theorem cX_ask (l : Launch) (D : va_G) (dB dS : ClassId) (ad : Nat → Nat) (tl bu sc la ra : Int) (tx pr nx sh le ti fe wo bl : Nat → Int) (m : Nat) (z : Int) (hm : m ≤ 12) (hz : rng z) : xmi (JX l D dB dS) yX0_ask cX0_ask 2 .int 0 0 [.ref (ad 0), .int (iI z)] (wX ad dB dS tl (m : Int) bu sc la ra tx pr nx sh le ti fe wo bl) (fun r ws' => (m = 12 ∧ r = iI (-1) ∧ ws' = wX ad dB dS tl (m : Int) bu sc la ra tx pr nx sh le ti fe wo bl) ∨ (m < 12 ∧ (z < 0 ∨ 4 ≤ z) ∧ r = iI (-2) ∧ ws' = wX ad dB dS tl (m : Int) bu sc la ra tx pr nx sh le ti fe wo bl) ∨ (m < 12 ∧ 0 ≤ z ∧ z < 4 ∧ r = iI ((m + 1 : Nat) : Int) ∧ ws' = wX ad dB dS tl ((m + 1 : Nat) : Int) bu sc la ra tx (zu pr m z) nx sh le ti fe wo bl)) := by
  refine xmi_of (by decide) (Nat.le_of_ble_eq_true rfl) (fun K h hr => ?_)
  show xw K (wX ad dB dS tl (m : Int) bu sc la ra tx pr nx sh le ti fe wo bl) 0 [(0, .ref (ad 0)), (1, .int (iI z))] []
  refine x_aload_n h dX0_ask_0 0 rfl ?_
  refine xX_pl h dX0_ask_1 ?_
  refine x_bipush h dX0_ask_4 (by decide) ?_
  refine x_icmp_lt h 11 dX0_ask_6 (by decide) (by omega) (by omega) (fun c_6 => ?_) (fun c_6 => ?_)
  · refine x_iload_n h dX0_ask_11 1 rfl ?_
    refine x_if_lt h 20 dX0_ask_12 (by decide) (by omega) (fun c_12 => ?_) (fun c_12 => ?_)
    · refine x_bipush h dX0_ask_20 (by decide) ?_
      refine x_ireturn h hr dX0_ask_22 ?_
      exact Or.inr (Or.inl ⟨by omega, by omega, rfl, rfl⟩)
    · refine x_iload_n h dX0_ask_15 1 rfl ?_
      refine x_iconst h dX0_ask_16 ?_
      refine x_icmp_lt h 23 dX0_ask_17 (by decide) (by omega) (by omega) (fun c_17 => ?_) (fun c_17 => ?_)
      · refine x_aload_n h dX0_ask_23 0 rfl ?_
        refine xX_pr h dX0_ask_24 ?_
        refine x_aload_n h dX0_ask_27 0 rfl ?_
        refine xX_pl h dX0_ask_28 ?_
        refine x_iload_n h dX0_ask_31 1 rfl ?_
        refine x_i2b h dX0_ask_32 (by omega) ?_
        refine xX_spr h m (by omega) (by omega) (by omega) dX0_ask_33 ?_
        refine x_aload_n h dX0_ask_34 0 rfl ?_
        refine x_dup h dX0_ask_35 rfl ?_
        refine xX_pl h dX0_ask_36 ?_
        refine x_iconst h dX0_ask_39 ?_
        refine x_iadd h dX0_ask_40 ?_
        refine xX_ppl h dX0_ask_41 ?_
        refine x_aload_n h dX0_ask_44 0 rfl ?_
        refine xX_pl h dX0_ask_45 ?_
        refine x_ireturn h hr dX0_ask_48 ?_
        exact Or.inr (Or.inr ⟨by omega, by omega, by omega, rfl, rfl⟩)
      · refine x_bipush h dX0_ask_20 (by decide) ?_
        refine x_ireturn h hr dX0_ask_22 ?_
        exact Or.inr (Or.inl ⟨by omega, by omega, rfl, rfl⟩)
  · refine x_iconst h dX0_ask_9 ?_
    refine x_ireturn h hr dX0_ask_10 ?_
    exact Or.inl ⟨by omega, rfl, rfl⟩
theorem cX_wipe (l : Launch) (D : va_G) (dB dS : ClassId) (ad : Nat → Nat) (tl bu sc la ra : Int) (tx pr nx sh le ti fe wo bl : Nat → Int) (m : Nat) : xmi (JX l D dB dS) yX0_wipe cX0_wipe 2 .int 0 0 [.ref (ad 0)] (wX ad dB dS tl (m : Int) bu sc la ra tx pr nx sh le ti fe wo bl) (fun r ws' => r = iI (m : Int) ∧ ws' = wX ad dB dS tl 0 bu sc la ra tx pr nx sh le ti fe wo bl) := by
  refine xmi_of (by decide) (Nat.le_of_ble_eq_true rfl) (fun K h hr => ?_)
  show xw K (wX ad dB dS tl (m : Int) bu sc la ra tx pr nx sh le ti fe wo bl) 0 [(0, .ref (ad 0))] []
  refine x_aload_n h dX0_wipe_0 0 rfl ?_
  refine xX_pl h dX0_wipe_1 ?_
  refine x_istore_n h dX0_wipe_4 (by decide) [1, 0] [(0, .ref (ad 0)), (1, .int (iI (m : Int)))] rfl ?_
  refine x_aload_n h dX0_wipe_5 0 rfl ?_
  refine x_iconst h dX0_wipe_6 ?_
  refine xX_ppl h dX0_wipe_7 ?_
  refine x_iload_n h dX0_wipe_10 1 rfl ?_
  refine x_ireturn h hr dX0_wipe_11 ?_
  exact ⟨rfl, rfl⟩
theorem xshift_loop {K : XK} {l : Launch} {D : va_G} {dB dS : ClassId} {ad : Nat → Nat} {pl bu sc la ra : Int} {tx pr nx sh le ti fe wo bl : Nat → Int} {n : Nat} (hn : n ≤ 24) (hn0 : 0 < n) (hb : ∀ i, i < n → 0 ≤ tx i ∧ tx i < 4) (h : xok K (JX l D dB dS) ({ frames := 0, cells := 0, slots := 0, locals := 0 }) cX0_shift RX0 2)
    (hk : ∀ (x : Int) (tx' : Nat → Int), (∀ i, i < n - 1 → tx' i = tx (i + 1)) → (∀ i, n - 1 ≤ i → tx' i = tx i) → xw K (wX ad dB dS ((n : Int) - 1) pl bu sc la ra tx' pr nx sh le ti fe wo bl) 50 [(0, .ref (ad 0)), (1, .int (iI x))] []) :
    ∀ (f p : Nat) (x : Int) (tx' : Nat → Int), n - 1 < p + f → p ≤ n - 1 → x = (p : Int) → (∀ i, i < p → tx' i = tx (i + 1)) → (∀ i, p ≤ i → tx' i = tx i) → xw K (wX ad dB dS ((n : Int) - 1) pl bu sc la ra tx' pr nx sh le ti fe wo bl) 22 [(0, .ref (ad 0)), (1, .int (iI x))] [] := by
  intro f
  induction f with
  | zero => intro p x tx' h1 h2; omega
  | succ f ih =>
    intro p x tx' h1 h2 hx ha hb2
    subst hx
    refine x_iload_n h dX0_shift_22 1 rfl ?_
    refine x_aload_n h dX0_shift_23 0 rfl ?_
    refine xX_tl h dX0_shift_24 ?_
    refine x_icmp_ge h 50 dX0_shift_27 (by decide) (by omega) (by omega) (fun c_27 => ?_) (fun c_27 => ?_)
    · exact hk _ tx' (fun i hi => ha i (by omega)) (fun i hi => hb2 i (by omega))
    · refine x_aload_n h dX0_shift_30 0 rfl ?_
      refine xX_tx h dX0_shift_31 ?_
      refine x_iload_n h dX0_shift_34 1 rfl ?_
      refine x_aload_n h dX0_shift_35 0 rfl ?_
      refine xX_tx h dX0_shift_36 ?_
      refine x_iload_n h dX0_shift_39 1 rfl ?_
      refine x_iconst h dX0_shift_40 ?_
      refine x_iadd h dX0_shift_41 ?_
      refine xX_ltx h (p + 1) (by omega) (by omega) dX0_shift_42 ?_
      refine xX_stx h p (by omega) (by omega) (by rw [hb2 (p + 1) (by omega)]; have := hb (p + 1) (by omega); omega) dX0_shift_43 ?_
      refine x_iinc h dX0_shift_44 1 rfl (by decide) [1, 0] [(0, .ref (ad 0)), (1, .int (iI ((p : Int) + 1)))] rfl ?_
      refine x_goto h 22 dX0_shift_47 (by decide) ?_
      refine ih (p + 1) _ _ (by omega) (by omega) (by omega) (fun i hi => ?_) (fun i hi => ?_)
      · by_cases hip : i = p
        · subst hip; rw [zu_s]; exact hb2 (i + 1) (by omega)
        · rw [zu_n hip]; exact ha i (by omega)
      · rw [zu_n (by omega)]; exact hb2 i (by omega)
theorem cX_shift (l : Launch) (D : va_G) (dB dS : ClassId) (ad : Nat → Nat) (pl bu sc la ra : Int) (tx pr nx sh le ti fe wo bl : Nat → Int) (n : Nat) (hn : n ≤ 24) (hb : ∀ i, i < n → 0 ≤ tx i ∧ tx i < 4)  : xmi (JX l D dB dS) yX0_shift cX0_shift 2 .int 0 0 [.ref (ad 0)] (wX ad dB dS (n : Int) pl bu sc la ra tx pr nx sh le ti fe wo bl) (fun r ws' => (n = 0 ∧ r = iI (-2) ∧ ws' = wX ad dB dS (n : Int) pl bu sc la ra tx pr nx sh le ti fe wo bl) ∨ (0 < n ∧ r = iI ((n : Int) - 1) ∧ ∃ tx' : Nat → Int, (∀ i, i < n - 1 → tx' i = tx (i + 1)) ∧ (∀ i, n - 1 ≤ i → tx' i = tx i) ∧ ws' = wX ad dB dS ((n : Int) - 1) pl 0 sc la ra tx' pr nx sh le ti fe wo bl)) := by
  refine xmi_of (by decide) (Nat.le_of_ble_eq_true rfl) (fun K h hr => ?_)
  show xw K (wX ad dB dS (n : Int) pl bu sc la ra tx pr nx sh le ti fe wo bl) 0 [(0, .ref (ad 0))] []
  refine x_aload_n h dX0_shift_0 0 rfl ?_
  refine xX_tl h dX0_shift_1 ?_
  refine x_if_ne h 10 dX0_shift_4 (by decide) (by omega) (fun c_4 => ?_) (fun c_4 => ?_)
  · refine x_aload_n h dX0_shift_10 0 rfl ?_
    refine x_dup h dX0_shift_11 rfl ?_
    refine xX_tl h dX0_shift_12 ?_
    refine x_iconst h dX0_shift_15 ?_
    refine x_isub h dX0_shift_16 ?_
    refine xX_ptl h dX0_shift_17 ?_
    refine x_iconst h dX0_shift_20 ?_
    refine x_istore_n h dX0_shift_21 (by decide) [1, 0] [(0, .ref (ad 0)), (1, .int (iI 0))] rfl ?_
    refine xshift_loop hn (by omega) hb h (fun x tx' h1 h2 => ?_) n 0 _ tx (by omega) (by omega) rfl (fun i hi => by omega) (fun i hi => rfl)
    refine x_aload_n h dX0_shift_50 0 rfl ?_
    refine x_iconst h dX0_shift_51 ?_
    refine xX_pbu h (by omega) dX0_shift_52 ?_
    refine x_aload_n h dX0_shift_55 0 rfl ?_
    refine xX_tl h dX0_shift_56 ?_
    refine x_ireturn h hr dX0_shift_59 ?_
    exact Or.inr ⟨by omega, rfl, tx', h1, h2, rfl⟩
  · refine x_bipush h dX0_shift_7 (by decide) ?_
    refine x_ireturn h hr dX0_shift_9 ?_
    exact Or.inl ⟨by omega, rfl, rfl⟩
theorem cM_type (l : Launch) (D : va_G) (dN : ClassId) (ad : Nat → Nat) (pl li kn : Int) (gg lp ll : Nat → Int) (n : Nat) (z : Int) (hn : n ≤ 24) (hz : rng z) : xmi (JM l D dN) yX1_type cX1_type 2 .int 0 0 [.ref (ad 0), .int (iI z)] (wM ad dN (n : Int) pl li kn gg lp ll) (fun r ws' => (n = 24 ∧ r = iI (-1) ∧ ws' = wM ad dN (n : Int) pl li kn gg lp ll) ∨ (n < 24 ∧ (z < 0 ∨ 4 ≤ z) ∧ r = iI (-2) ∧ ws' = wM ad dN (n : Int) pl li kn gg lp ll) ∨ (n < 24 ∧ 0 ≤ z ∧ z < 4 ∧ r = iI ((n + 1 : Nat) : Int) ∧ ws' = wM ad dN ((n + 1 : Nat) : Int) pl li 0 (zu gg n z) lp ll)) := by
  refine xmi_of (by decide) (Nat.le_of_ble_eq_true rfl) (fun K h hr => ?_)
  show xw K (wM ad dN (n : Int) pl li kn gg lp ll) 0 [(0, .ref (ad 0)), (1, .int (iI z))] []
  refine x_aload_n h dX1_type_0 0 rfl ?_
  refine xM_tl h dX1_type_1 ?_
  refine x_bipush h dX1_type_4 (by decide) ?_
  refine x_icmp_ne h 11 dX1_type_6 (by decide) (by omega) (by omega) (fun c_6 => ?_) (fun c_6 => ?_)
  · refine x_iload_n h dX1_type_11 1 rfl ?_
    refine x_if_lt h 20 dX1_type_12 (by decide) (by omega) (fun c_12 => ?_) (fun c_12 => ?_)
    · refine x_bipush h dX1_type_20 (by decide) ?_
      refine x_ireturn h hr dX1_type_22 ?_
      exact Or.inr (Or.inl ⟨by omega, by omega, rfl, rfl⟩)
    · refine x_iload_n h dX1_type_15 1 rfl ?_
      refine x_iconst h dX1_type_16 ?_
      refine x_icmp_le h 23 dX1_type_17 (by decide) (by omega) (by omega) (fun c_17 => ?_) (fun c_17 => ?_)
      · refine x_aload_n h dX1_type_23 0 rfl ?_
        refine xM_gg h dX1_type_24 ?_
        refine x_aload_n h dX1_type_27 0 rfl ?_
        refine xM_tl h dX1_type_28 ?_
        refine x_iload_n h dX1_type_31 1 rfl ?_
        refine xM_sgg h n (by omega) (by omega) dX1_type_32 ?_
        refine x_aload_n h dX1_type_33 0 rfl ?_
        refine x_dup h dX1_type_34 rfl ?_
        refine xM_tl h dX1_type_35 ?_
        refine x_iconst h dX1_type_38 ?_
        refine x_iadd h dX1_type_39 ?_
        refine xM_ptl h dX1_type_40 ?_
        refine x_aload_n h dX1_type_43 0 rfl ?_
        refine x_iconst h dX1_type_44 ?_
        refine xM_pkn h (by omega) dX1_type_45 ?_
        refine x_aload_n h dX1_type_48 0 rfl ?_
        refine xM_tl h dX1_type_49 ?_
        refine x_ireturn h hr dX1_type_52 ?_
        exact Or.inr (Or.inr ⟨by omega, by omega, by omega, rfl, rfl⟩)
      · refine x_bipush h dX1_type_20 (by decide) ?_
        refine x_ireturn h hr dX1_type_22 ?_
        exact Or.inr (Or.inl ⟨by omega, by omega, rfl, rfl⟩)
  · refine x_iconst h dX1_type_9 ?_
    refine x_ireturn h hr dX1_type_10 ?_
    exact Or.inl ⟨by omega, rfl, rfl⟩
theorem cM_ask (l : Launch) (D : va_G) (dN : ClassId) (ad : Nat → Nat) (tl li kn : Int) (gg lp ll : Nat → Int) (m : Nat) (z : Int) (hm : m ≤ 12) (hz : rng z) : xmi (JM l D dN) yX1_ask cX1_ask 2 .int 0 0 [.ref (ad 0), .int (iI z)] (wM ad dN tl (m : Int) li kn gg lp ll) (fun r ws' => (m = 12 ∧ r = iI (-1) ∧ ws' = wM ad dN tl (m : Int) li kn gg lp ll) ∨ (m < 12 ∧ (z < 0 ∨ 4 ≤ z) ∧ r = iI (-2) ∧ ws' = wM ad dN tl (m : Int) li kn gg lp ll) ∨ (m < 12 ∧ 0 ≤ z ∧ z < 4 ∧ r = iI ((m + 1 : Nat) : Int) ∧ ws' = wM ad dN tl ((m + 1 : Nat) : Int) li kn (zu gg (24 + m) z) lp ll)) := by
  refine xmi_of (by decide) (Nat.le_of_ble_eq_true rfl) (fun K h hr => ?_)
  show xw K (wM ad dN tl (m : Int) li kn gg lp ll) 0 [(0, .ref (ad 0)), (1, .int (iI z))] []
  refine x_aload_n h dX1_ask_0 0 rfl ?_
  refine xM_pl h dX1_ask_1 ?_
  refine x_bipush h dX1_ask_4 (by decide) ?_
  refine x_icmp_ne h 11 dX1_ask_6 (by decide) (by omega) (by omega) (fun c_6 => ?_) (fun c_6 => ?_)
  · refine x_iload_n h dX1_ask_11 1 rfl ?_
    refine x_if_lt h 20 dX1_ask_12 (by decide) (by omega) (fun c_12 => ?_) (fun c_12 => ?_)
    · refine x_bipush h dX1_ask_20 (by decide) ?_
      refine x_ireturn h hr dX1_ask_22 ?_
      exact Or.inr (Or.inl ⟨by omega, by omega, rfl, rfl⟩)
    · refine x_iload_n h dX1_ask_15 1 rfl ?_
      refine x_iconst h dX1_ask_16 ?_
      refine x_icmp_le h 23 dX1_ask_17 (by decide) (by omega) (by omega) (fun c_17 => ?_) (fun c_17 => ?_)
      · refine x_aload_n h dX1_ask_23 0 rfl ?_
        refine xM_gg h dX1_ask_24 ?_
        refine x_bipush h dX1_ask_27 (by decide) ?_
        refine x_aload_n h dX1_ask_29 0 rfl ?_
        refine xM_pl h dX1_ask_30 ?_
        refine x_iadd h dX1_ask_33 ?_
        refine x_iload_n h dX1_ask_34 1 rfl ?_
        refine xM_sgg h (24 + m) (by omega) (by omega) dX1_ask_35 ?_
        refine x_aload_n h dX1_ask_36 0 rfl ?_
        refine x_dup h dX1_ask_37 rfl ?_
        refine xM_pl h dX1_ask_38 ?_
        refine x_iconst h dX1_ask_41 ?_
        refine x_iadd h dX1_ask_42 ?_
        refine xM_ppl h dX1_ask_43 ?_
        refine x_aload_n h dX1_ask_46 0 rfl ?_
        refine xM_pl h dX1_ask_47 ?_
        refine x_ireturn h hr dX1_ask_50 ?_
        exact Or.inr (Or.inr ⟨by omega, by omega, by omega, rfl, rfl⟩)
      · refine x_bipush h dX1_ask_20 (by decide) ?_
        refine x_ireturn h hr dX1_ask_22 ?_
        exact Or.inr (Or.inl ⟨by omega, by omega, rfl, rfl⟩)
  · refine x_iconst h dX1_ask_9 ?_
    refine x_ireturn h hr dX1_ask_10 ?_
    exact Or.inl ⟨by omega, rfl, rfl⟩
theorem cM_wipe (l : Launch) (D : va_G) (dN : ClassId) (ad : Nat → Nat) (tl li kn : Int) (gg lp ll : Nat → Int) (m : Nat) : xmi (JM l D dN) yX1_wipe cX1_wipe 2 .int 0 0 [.ref (ad 0)] (wM ad dN tl (m : Int) li kn gg lp ll) (fun r ws' => r = iI (m : Int) ∧ ws' = wM ad dN tl 0 li kn gg lp ll) := by
  refine xmi_of (by decide) (Nat.le_of_ble_eq_true rfl) (fun K h hr => ?_)
  show xw K (wM ad dN tl (m : Int) li kn gg lp ll) 0 [(0, .ref (ad 0))] []
  refine x_aload_n h dX1_wipe_0 0 rfl ?_
  refine xM_pl h dX1_wipe_1 ?_
  refine x_istore_n h dX1_wipe_4 (by decide) [1, 0] [(0, .ref (ad 0)), (1, .int (iI (m : Int)))] rfl ?_
  refine x_aload_n h dX1_wipe_5 0 rfl ?_
  refine x_iconst h dX1_wipe_6 ?_
  refine xM_ppl h dX1_wipe_7 ?_
  refine x_iload_n h dX1_wipe_10 1 rfl ?_
  refine x_ireturn h hr dX1_wipe_11 ?_
  exact ⟨rfl, rfl⟩
theorem mshift_loop {K : XK} {l : Launch} {D : va_G} {dN : ClassId} {ad : Nat → Nat} {pl li kn : Int} {gg lp ll : Nat → Int} {n : Nat} (hn : n ≤ 24) (hn0 : 0 < n) (hb : ∀ i, i < n → 0 ≤ gg i ∧ gg i < 4) (h : xok K (JM l D dN) ({ frames := 0, cells := 0, slots := 0, locals := 0 }) cX1_shift RX1 2)
    (hk : ∀ (x : Int) (tx' : Nat → Int), (∀ i, i < n - 1 → tx' i = gg (i + 1)) → (∀ i, n - 1 ≤ i → tx' i = gg i) → xw K (wM ad dN ((n : Int) - 1) pl li kn tx' lp ll) 50 [(0, .ref (ad 0)), (1, .int (iI x))] []) :
    ∀ (f p : Nat) (x : Int) (tx' : Nat → Int), n - 1 < p + f → p ≤ n - 1 → x = (p : Int) → (∀ i, i < p → tx' i = gg (i + 1)) → (∀ i, p ≤ i → tx' i = gg i) → xw K (wM ad dN ((n : Int) - 1) pl li kn tx' lp ll) 22 [(0, .ref (ad 0)), (1, .int (iI x))] [] := by
  intro f
  induction f with
  | zero => intro p x tx' h1 h2; omega
  | succ f ih =>
    intro p x tx' h1 h2 hx ha hb2
    subst hx
    refine x_iload_n h dX1_shift_22 1 rfl ?_
    refine x_aload_n h dX1_shift_23 0 rfl ?_
    refine xM_tl h dX1_shift_24 ?_
    refine x_icmp_ge h 50 dX1_shift_27 (by decide) (by omega) (by omega) (fun c_27 => ?_) (fun c_27 => ?_)
    · exact hk _ tx' (fun i hi => ha i (by omega)) (fun i hi => hb2 i (by omega))
    · refine x_aload_n h dX1_shift_30 0 rfl ?_
      refine xM_gg h dX1_shift_31 ?_
      refine x_iload_n h dX1_shift_34 1 rfl ?_
      refine x_aload_n h dX1_shift_35 0 rfl ?_
      refine xM_gg h dX1_shift_36 ?_
      refine x_iload_n h dX1_shift_39 1 rfl ?_
      refine x_iconst h dX1_shift_40 ?_
      refine x_iadd h dX1_shift_41 ?_
      refine xM_lgg h (p + 1) (by omega) (by omega) dX1_shift_42 ?_
      refine xM_sgg h p (by omega) (by omega) dX1_shift_43 ?_
      refine x_iinc h dX1_shift_44 1 rfl (by decide) [1, 0] [(0, .ref (ad 0)), (1, .int (iI ((p : Int) + 1)))] rfl ?_
      refine x_goto h 22 dX1_shift_47 (by decide) ?_
      refine ih (p + 1) _ _ (by omega) (by omega) (by omega) (fun i hi => ?_) (fun i hi => ?_)
      · by_cases hip : i = p
        · subst hip; rw [zu_s]; exact hb2 (i + 1) (by omega)
        · rw [zu_n hip]; exact ha i (by omega)
      · rw [zu_n (by omega)]; exact hb2 i (by omega)
theorem cM_shift (l : Launch) (D : va_G) (dN : ClassId) (ad : Nat → Nat) (pl li kn : Int) (gg lp ll : Nat → Int) (n : Nat) (hn : n ≤ 24) (hb : ∀ i, i < n → 0 ≤ gg i ∧ gg i < 4)  : xmi (JM l D dN) yX1_shift cX1_shift 2 .int 0 0 [.ref (ad 0)] (wM ad dN (n : Int) pl li kn gg lp ll) (fun r ws' => (n = 0 ∧ r = iI (-2) ∧ ws' = wM ad dN (n : Int) pl li kn gg lp ll) ∨ (0 < n ∧ r = iI ((n : Int) - 1) ∧ ∃ tx' : Nat → Int, (∀ i, i < n - 1 → tx' i = gg (i + 1)) ∧ (∀ i, n - 1 ≤ i → tx' i = gg i) ∧ ws' = wM ad dN ((n : Int) - 1) pl li 0 tx' lp ll)) := by
  refine xmi_of (by decide) (Nat.le_of_ble_eq_true rfl) (fun K h hr => ?_)
  show xw K (wM ad dN (n : Int) pl li kn gg lp ll) 0 [(0, .ref (ad 0))] []
  refine x_aload_n h dX1_shift_0 0 rfl ?_
  refine xM_tl h dX1_shift_1 ?_
  refine x_if_ne h 10 dX1_shift_4 (by decide) (by omega) (fun c_4 => ?_) (fun c_4 => ?_)
  · refine x_aload_n h dX1_shift_10 0 rfl ?_
    refine x_dup h dX1_shift_11 rfl ?_
    refine xM_tl h dX1_shift_12 ?_
    refine x_iconst h dX1_shift_15 ?_
    refine x_isub h dX1_shift_16 ?_
    refine xM_ptl h dX1_shift_17 ?_
    refine x_iconst h dX1_shift_20 ?_
    refine x_istore_n h dX1_shift_21 (by decide) [1, 0] [(0, .ref (ad 0)), (1, .int (iI 0))] rfl ?_
    refine mshift_loop hn (by omega) hb h (fun x tx' h1 h2 => ?_) n 0 _ gg (by omega) (by omega) rfl (fun i hi => by omega) (fun i hi => rfl)
    refine x_aload_n h dX1_shift_50 0 rfl ?_
    refine x_iconst h dX1_shift_51 ?_
    refine xM_pkn h (by omega) dX1_shift_52 ?_
    refine x_aload_n h dX1_shift_55 0 rfl ?_
    refine xM_tl h dX1_shift_56 ?_
    refine x_ireturn h hr dX1_shift_59 ?_
    exact Or.inr ⟨by omega, rfl, tx', h1, h2, rfl⟩
  · refine x_bipush h dX1_shift_7 (by decide) ?_
    refine x_ireturn h hr dX1_shift_9 ?_
    exact Or.inl ⟨by omega, rfl, rfl⟩
end
section
/-! ===== pure: counting and sums ===== -/
/-- how many i below n have P -/
noncomputable def cP (P : Nat → Prop) : Nat → Nat
  | 0 => 0
  | n + 1 => cP P n + @ite Nat (P n) (Classical.propDecidable (P n)) 1 0
theorem cP_t {P : Nat → Prop} {n : Nat} (h : P n) : cP P (n + 1) = cP P n + 1 := by
  show cP P n + @ite Nat (P n) (Classical.propDecidable (P n)) 1 0 = _
  rw [if_pos h]
theorem cP_f {P : Nat → Prop} {n : Nat} (h : ¬ P n) : cP P (n + 1) = cP P n := by
  show cP P n + @ite Nat (P n) (Classical.propDecidable (P n)) 1 0 = _
  rw [if_neg h]; rfl
theorem cP_congr {P Q : Nat → Prop} : ∀ {n : Nat}, (∀ i, i < n → (P i ↔ Q i)) → cP P n = cP Q n
  | 0, _ => rfl
  | n + 1, h => by
    have ih := cP_congr (n := n) (fun i hi => h i (by omega))
    by_cases hp : P n
    · rw [cP_t hp, cP_t ((h n (by omega)).mp hp), ih]
    · rw [cP_f hp, cP_f (fun q => hp ((h n (by omega)).mpr q)), ih]
theorem cP_le (P : Nat → Prop) : ∀ n, cP P n ≤ n
  | 0 => Nat.le_refl 0
  | n + 1 => by
    have ih := cP_le P n
    by_cases hp : P n
    · rw [cP_t hp]; omega
    · rw [cP_f hp]; omega
theorem cP_none {P : Nat → Prop} : ∀ {n : Nat}, (∀ i, i < n → ¬ P i) → cP P n = 0
  | 0, _ => rfl
  | n + 1, h => by rw [cP_f (h n (by omega))]; exact cP_none (fun i hi => h i (by omega))
theorem cP_or {P Q : Nat → Prop} : ∀ {n : Nat}, (∀ i, i < n → ¬ (P i ∧ Q i)) → cP (fun i => P i ∨ Q i) n = cP P n + cP Q n
  | 0, _ => rfl
  | n + 1, h => by
    have ih := cP_or (n := n) (fun i hi => h i (by omega))
    by_cases hp : P n
    · rw [cP_t (P := fun i => P i ∨ Q i) (Or.inl hp), cP_t hp, cP_f (fun q => h n (by omega) ⟨hp, q⟩), ih]; omega
    · by_cases hq : Q n
      · rw [cP_t (P := fun i => P i ∨ Q i) (Or.inr hq), cP_f hp, cP_t hq, ih]; omega
      · rw [cP_f (P := fun i => P i ∨ Q i) (fun z => z.elim hp hq), cP_f hp, cP_f hq, ih]
theorem cP_mono {P Q : Nat → Prop} : ∀ {n : Nat}, (∀ i, i < n → P i → Q i) → cP P n ≤ cP Q n
  | 0, _ => Nat.le_refl 0
  | n + 1, h => by
    have ih := cP_mono (n := n) (fun i hi => h i (by omega))
    by_cases hp : P n
    · rw [cP_t hp, cP_t (h n (by omega) hp)]; omega
    · by_cases hq : Q n
      · rw [cP_f hp, cP_t hq]; omega
      · rw [cP_f hp, cP_f hq]; exact ih
theorem cP_pos {P : Nat → Prop} : ∀ {n : Nat}, 0 < cP P n ↔ ∃ i, i < n ∧ P i
  | 0 => ⟨fun h => absurd h (Nat.lt_irrefl 0), fun ⟨i, h, _⟩ => by omega⟩
  | n + 1 => by
    by_cases hp : P n
    · rw [cP_t hp]; exact ⟨fun _ => ⟨n, by omega, hp⟩, fun _ => by omega⟩
    · rw [cP_f hp, cP_pos]
      constructor
      · rintro ⟨i, h1, h2⟩; exact ⟨i, by omega, h2⟩
      · rintro ⟨i, h1, h2⟩
        refine ⟨i, ?_, h2⟩
        rcases Nat.lt_or_ge i n with q | q
        · exact q
        · exact absurd (by rw [show n = i by omega]; exact h2) hp
theorem cP_one {P : Nat → Prop} {n i : Nat} (hi : i < n) (hp : P i) (hu : ∀ j, j < n → P j → j = i) : cP P n = 1 := by
  induction n with
  | zero => omega
  | succ n ih =>
    by_cases q : i = n
    · subst q
      rw [cP_t hp, cP_none (fun j hj hj2 => by have := hu j (by omega) hj2; omega)]
    · rw [cP_f (fun z => q (hu n (by omega) z).symm)]
      exact ih (by omega) (fun j hj => hu j (by omega))
/-- a smaller set of the same size is the same set -/
theorem cP_same {P Q : Nat → Prop} : ∀ {n : Nat}, (∀ i, i < n → P i → Q i) → cP P n = cP Q n → ∀ i, i < n → Q i → P i
  | 0, _, _, i, hi, _ => by omega
  | n + 1, h, he, i, hi, hq => by
    have hm := cP_mono (n := n) (fun i hi => h i (by omega))
    by_cases hpn : P n
    · rw [cP_t hpn, cP_t (h n (by omega) hpn)] at he
      rcases Nat.lt_or_ge i n with q | q
      · exact cP_same (fun i hi => h i (by omega)) (by omega) i q hq
      · rw [show i = n by omega]; exact hpn
    · by_cases hqn : Q n
      · rw [cP_f hpn, cP_t hqn] at he; omega
      · rw [cP_f hpn, cP_f hqn] at he
        rcases Nat.lt_or_ge i n with q | q
        · exact cP_same (fun i hi => h i (by omega)) he i q hq
        · exact absurd (by rw [show n = i by omega]; exact hq) hqn
/-- a sum -/
def sm (f : Nat → Nat) : Nat → Nat
  | 0 => 0
  | n + 1 => sm f n + f n
theorem sm_congr {f g : Nat → Nat} : ∀ {n : Nat}, (∀ i, i < n → f i = g i) → sm f n = sm g n
  | 0, _ => rfl
  | n + 1, h => by
    show sm f n + f n = sm g n + g n
    rw [sm_congr (fun i hi => h i (by omega)), h n (by omega)]
theorem sm_zero {f : Nat → Nat} : ∀ {n : Nat}, (∀ i, i < n → f i = 0) → sm f n = 0
  | 0, _ => rfl
  | n + 1, h => by
    show sm f n + f n = 0
    rw [sm_zero (fun i hi => h i (by omega)), h n (by omega)]
theorem sm_add (f g : Nat → Nat) : ∀ n, sm (fun i => f i + g i) n = sm f n + sm g n
  | 0 => rfl
  | n + 1 => by
    show sm (fun i => f i + g i) n + (f n + g n) = sm f n + f n + (sm g n + g n)
    rw [sm_add f g n]; omega
theorem sm_head (f : Nat → Nat) : ∀ n, sm f (n + 1) = f 0 + sm (fun i => f (i + 1)) n
  | 0 => by show 0 + f 0 = f 0 + 0; omega
  | n + 1 => by
    show sm f (n + 1) + f (n + 1) = f 0 + (sm (fun i => f (i + 1)) n + f (n + 1))
    rw [sm_head f n]; omega
theorem sm_le {f g : Nat → Nat} : ∀ {n : Nat}, (∀ i, i < n → f i ≤ g i) → sm f n ≤ sm g n
  | 0, _ => Nat.le_refl 0
  | n + 1, h => by
    have ih := sm_le (n := n) (fun i hi => h i (by omega))
    have h2 := h n (by omega)
    show sm f n + f n ≤ sm g n + g n
    omega
theorem sm_const (c : Nat) : ∀ n, sm (fun _ => c) n = n * c
  | 0 => by rw [Nat.zero_mul]; rfl
  | n + 1 => by
    show sm (fun _ => c) n + c = _
    rw [sm_const c n, Nat.succ_mul]
theorem sm_swap (f : Nat → Nat → Nat) (m : Nat) : ∀ n, sm (fun i => sm (fun j => f i j) m) n = sm (fun j => sm (fun i => f i j) n) m
  | 0 => (sm_zero (f := fun j => sm (fun i => f i j) 0) (n := m) (fun _ _ => rfl)).symm
  | n + 1 => by
    show sm (fun i => sm (fun j => f i j) m) n + sm (fun j => f n j) m = sm (fun j => sm (fun i => f i j) n + f n j) m
    rw [sm_swap f m n, sm_add]
/-- the indicator -/
noncomputable def ind (P : Prop) : Nat := @ite Nat P (Classical.propDecidable P) 1 0
theorem ind_t {P : Prop} (h : P) : ind P = 1 := by unfold ind; rw [if_pos h]
theorem ind_f {P : Prop} (h : ¬ P) : ind P = 0 := by unfold ind; rw [if_neg h]
theorem ind_congr {P Q : Prop} (h : P ↔ Q) : ind P = ind Q := by
  by_cases hp : P
  · rw [ind_t hp, ind_t (h.mp hp)]
  · rw [ind_f hp, ind_f (fun q => hp (h.mpr q))]
theorem cP_sm (P : Nat → Prop) : ∀ n, cP P n = sm (fun i => ind (P i)) n
  | 0 => rfl
  | n + 1 => by
    show _ = sm (fun i => ind (P i)) n + ind (P n)
    rw [← cP_sm P n]; rfl
end
section
/-! ===== pure: words by their ends; the suffix automaton's invariant, and how it grows by a letter ===== -/
/-- the l letters that end at a and those that end at b (ends exclusive) are the same -/
def eqv (G : Nat → Nat) (l a b : Nat) : Prop := l ≤ a ∧ l ≤ b ∧ ∀ k, k < l → G (a - 1 - k) = G (b - 1 - k)
theorem eqv_refl {G : Nat → Nat} {l a : Nat} (h : l ≤ a) : eqv G l a a := ⟨h, h, fun _ _ => rfl⟩
theorem eqv_symm {G : Nat → Nat} {l a b : Nat} (h : eqv G l a b) : eqv G l b a := ⟨h.2.1, h.1, fun k hk => (h.2.2 k hk).symm⟩
theorem eqv_trans {G : Nat → Nat} {l a b c : Nat} (h : eqv G l a b) (h' : eqv G l b c) : eqv G l a c := ⟨h.1, h'.2.1, fun k hk => (h.2.2 k hk).trans (h'.2.2 k hk)⟩
theorem eqv_mono {G : Nat → Nat} {l l' a b : Nat} (hl : l' ≤ l) (h : eqv G l a b) : eqv G l' a b := ⟨Nat.le_trans hl h.1, Nat.le_trans hl h.2.1, fun k hk => h.2.2 k (Nat.lt_of_lt_of_le hk hl)⟩
theorem eqv_zero {G : Nat → Nat} {a b : Nat} : eqv G 0 a b := ⟨Nat.zero_le _, Nat.zero_le _, fun k hk => absurd hk (Nat.not_lt_zero _)⟩
theorem eqv_succ {G : Nat → Nat} {l a b : Nat} : eqv G (l + 1) (a + 1) (b + 1) ↔ eqv G l a b ∧ G a = G b := by
  constructor
  · rintro ⟨h1, h2, h3⟩
    refine ⟨⟨by omega, by omega, fun k hk => ?_⟩, ?_⟩
    · have := h3 (k + 1) (by omega)
      rw [show a + 1 - 1 - (k + 1) = a - 1 - k by omega, show b + 1 - 1 - (k + 1) = b - 1 - k by omega] at this
      exact this
    · have := h3 0 (by omega)
      simpa using this
  · rintro ⟨⟨h1, h2, h3⟩, h4⟩
    refine ⟨by omega, by omega, fun k hk => ?_⟩
    cases k with
    | zero => simpa using h4
    | succ k =>
      rw [show a + 1 - 1 - (k + 1) = a - 1 - k by omega, show b + 1 - 1 - (k + 1) = b - 1 - k by omega]
      exact h3 k (by omega)
theorem eqv_pred {G : Nat → Nat} {l a b : Nat} (h : eqv G (l + 1) a b) : ∃ a' b', a = a' + 1 ∧ b = b' + 1 ∧ eqv G l a' b' ∧ G a' = G b' := by
  have h1 := h.1
  have h2 := h.2.1
  obtain ⟨a', rfl⟩ : ∃ a', a = a' + 1 := ⟨a - 1, by omega⟩
  obtain ⟨b', rfl⟩ : ∃ b', b = b' + 1 := ⟨b - 1, by omega⟩
  exact ⟨a', b', rfl, rfl, eqv_succ.mp h⟩
/-- the automaton of the first n letters: state s has the words that end at EE s, longer than LE (SH s), of at most LE s letters -/
def Sam (G : Nat → Nat) (n sc : Nat) (NX : Nat → Nat → Nat) (SH LE EE : Nat → Nat) : Prop :=
  (0 < sc ∧ LE 0 = 0 ∧ EE 0 = 0) ∧
  (∀ s, s < sc → LE s ≤ EE s ∧ EE s ≤ n) ∧
  (∀ s, 0 < s → s < sc → SH s < sc ∧ LE (SH s) < LE s ∧ eqv G (LE (SH s)) (EE (SH s)) (EE s)) ∧
  (∀ e l, 0 < l → l ≤ e → e ≤ n → ∃ s, 0 < s ∧ s < sc ∧ LE (SH s) < l ∧ l ≤ LE s ∧ eqv G l (EE s) e) ∧
  (∀ s e l, 0 < s → s < sc → LE (SH s) < l → l ≤ LE s → e ≤ n → eqv G l (EE s) e → eqv G (LE s) (EE s) e) ∧
  (∀ s e, s < sc → e ≤ n → eqv G (LE s) (EE s) e → EE s ≤ e) ∧
  (∀ s s' l, 0 < s → s < sc → 0 < s' → s' < sc → LE (SH s) < l → l ≤ LE s → LE (SH s') < l → l ≤ LE s' → eqv G l (EE s) (EE s') → s = s') ∧
  (∀ s, 0 < s → s < sc → ∃ e, e ≤ n ∧ eqv G (LE s) (EE s) e ∧ ¬ eqv G (LE s + 1) (EE s) e) ∧
  (∀ s c, s < sc → c < 4 → NX s c = 0 → ∀ e, e < n → eqv G (LE s) (EE s) e → G e ≠ c) ∧
  (∀ s c, s < sc → c < 4 → NX s c ≠ 0 → NX s c < sc ∧ LE (SH (NX s c)) < LE s + 1 ∧ LE s + 1 ≤ LE (NX s c) ∧ ∃ e, e < n ∧ eqv G (LE s) (EE s) e ∧ G e = c ∧ eqv G (LE s + 1) (EE (NX s c)) (e + 1))
section SAM
variable {G : Nat → Nat} {n sc : Nat} {NX : Nat → Nat → Nat} {SH LE EE : Nat → Nat}
theorem Sam.pos (h : Sam G n sc NX SH LE EE) : 0 < sc ∧ LE 0 = 0 ∧ EE 0 = 0 := h.1
theorem Sam.wf (h : Sam G n sc NX SH LE EE) {s : Nat} (hs : s < sc) : LE s ≤ EE s ∧ EE s ≤ n := h.2.1 s hs
theorem Sam.S (h : Sam G n sc NX SH LE EE) {s : Nat} (h0 : 0 < s) (hs : s < sc) : SH s < sc ∧ LE (SH s) < LE s ∧ eqv G (LE (SH s)) (EE (SH s)) (EE s) := h.2.2.1 s h0 hs
theorem Sam.A (h : Sam G n sc NX SH LE EE) {e l : Nat} (h0 : 0 < l) (hl : l ≤ e) (he : e ≤ n) : ∃ s, 0 < s ∧ s < sc ∧ LE (SH s) < l ∧ l ≤ LE s ∧ eqv G l (EE s) e := h.2.2.2.1 e l h0 hl he
theorem Sam.B (h : Sam G n sc NX SH LE EE) {s e l : Nat} (h0 : 0 < s) (hs : s < sc) (h1 : LE (SH s) < l) (h2 : l ≤ LE s) (he : e ≤ n) (hq : eqv G l (EE s) e) : eqv G (LE s) (EE s) e := h.2.2.2.2.1 s e l h0 hs h1 h2 he hq
theorem Sam.C (h : Sam G n sc NX SH LE EE) {s e : Nat} (hs : s < sc) (he : e ≤ n) (hq : eqv G (LE s) (EE s) e) : EE s ≤ e := h.2.2.2.2.2.1 s e hs he hq
theorem Sam.D (h : Sam G n sc NX SH LE EE) {s s' l : Nat} (h0 : 0 < s) (hs : s < sc) (h0' : 0 < s') (hs' : s' < sc) (h1 : LE (SH s) < l) (h2 : l ≤ LE s) (h1' : LE (SH s') < l) (h2' : l ≤ LE s') (hq : eqv G l (EE s) (EE s')) : s = s' := h.2.2.2.2.2.2.1 s s' l h0 hs h0' hs' h1 h2 h1' h2' hq
theorem Sam.L (h : Sam G n sc NX SH LE EE) {s : Nat} (h0 : 0 < s) (hs : s < sc) : ∃ e, e ≤ n ∧ eqv G (LE s) (EE s) e ∧ ¬ eqv G (LE s + 1) (EE s) e := h.2.2.2.2.2.2.2.1 s h0 hs
theorem Sam.T0 (h : Sam G n sc NX SH LE EE) {s c : Nat} (hs : s < sc) (hc : c < 4) (hz : NX s c = 0) {e : Nat} (he : e < n) (hq : eqv G (LE s) (EE s) e) : G e ≠ c := h.2.2.2.2.2.2.2.2.1 s c hs hc hz e he hq
theorem Sam.T1 (h : Sam G n sc NX SH LE EE) {s c : Nat} (hs : s < sc) (hc : c < 4) (hz : NX s c ≠ 0) : NX s c < sc ∧ LE (SH (NX s c)) < LE s + 1 ∧ LE s + 1 ≤ LE (NX s c) ∧ ∃ e, e < n ∧ eqv G (LE s) (EE s) e ∧ G e = c ∧ eqv G (LE s + 1) (EE (NX s c)) (e + 1) := h.2.2.2.2.2.2.2.2.2 s c hs hc hz
/-- the automaton of no letters -/
theorem sam_0 (G : Nat → Nat) {NX : Nat → Nat → Nat} {SH LE EE : Nat → Nat} (hN : ∀ d, d < 4 → NX 0 d = 0) (hL : LE 0 = 0) (hE : EE 0 = 0) : Sam G 0 1 NX SH LE EE := by
  refine ⟨⟨by omega, hL, hE⟩, fun s hs => ?_, fun s h0 hs => by omega, fun e l h0 hl he => by omega, fun s e l h0 hs => by omega, fun s e hs he hq => ?_, fun s s' l h0 hs => by omega, fun s h0 hs => by omega, fun s c hs hc hz e he => by omega, fun s c hs hc hz => ?_⟩
  · rw [show s = 0 by omega]; omega
  · rw [show s = 0 by omega]; omega
  · rw [show s = 0 by omega] at hz; exact absurd (hN c hc) hz
/-- the state of the suffix of l letters -/
theorem sam_suffix (h : Sam G n sc NX SH LE EE) {l : Nat} (hl : l ≤ n) : ∃ s, s < sc ∧ eqv G (LE s) (EE s) n ∧ l ≤ LE s ∧ (0 < s → LE (SH s) < l) ∧ ∀ e, e ≤ n → eqv G l e n → eqv G (LE s) (EE s) e := by
  rcases Nat.eq_zero_or_pos l with rfl | hp
  · refine ⟨0, h.pos.1, ?_, by omega, by omega, fun e he hq => ?_⟩
    · rw [h.pos.2.1]; exact eqv_zero
    · rw [h.pos.2.1]; exact eqv_zero
  · obtain ⟨s, h0, hs, h1, h2, hq⟩ := h.A hp hl (Nat.le_refl n)
    exact ⟨s, hs, h.B h0 hs h1 h2 (Nat.le_refl n) hq, h2, fun _ => h1, fun e he hq2 => h.B h0 hs h1 h2 he (eqv_trans hq (eqv_symm hq2))⟩
/-- the longest suffix of n + 1 letters that was there before -/
theorem sam_K (h : Sam G n sc NX SH LE EE) (hc : G n < 4) {ls : Nat} (hk : ∀ s, s < sc → eqv G (LE s) (EE s) n → NX s (G n) ≠ 0 → LE s + 1 ≤ ls) : ∀ e l, e ≤ n → eqv G l e (n + 1) → l ≤ ls := by
  intro e l he hq
  cases l with
  | zero => omega
  | succ j =>
    obtain ⟨e', b', rfl, hb, hq2, hG⟩ := eqv_pred hq
    obtain rfl : b' = n := by omega
    have hj := hq2.2.1
    obtain ⟨s, hs, hch, hl, -, hall⟩ := sam_suffix h hj
    have hE := hall e' (by omega) hq2
    have hn : NX s (G b') ≠ 0 := fun hz => h.T0 hs hc hz (by omega) hE hG
    have := hk s hs hch hn
    omega
theorem sam_u1 (h : Sam G n sc NX SH LE EE) (hc : G n < 4) {ls x : Nat} (hx : x ≤ n) (F2 : eqv G ls x (n + 1)) {s : Nat} (hs : s < sc) (hch : eqv G (LE s) (EE s) n) (h0 : NX s (G n) = 0) : ls < LE s + 1 := by
  rcases Nat.lt_or_ge ls (LE s + 1) with q | q
  · exact q
  · exfalso
    obtain ⟨x', b', rfl, hb, hq2, hG⟩ := eqv_pred (eqv_mono q F2)
    obtain rfl : b' = n := by omega
    exact h.T0 hs hc h0 (by omega) (eqv_trans hch (eqv_symm hq2)) hG
/-- a letter more, no state split -/
theorem sam_ext1 (h : Sam G n sc NX SH LE EE) (hc : G n < 4) {ls r : Nat} (hr : r < sc) (hLr : LE r = ls) (F2 : eqv G ls (EE r) (n + 1)) (hK : ∀ e l, e ≤ n → eqv G l e (n + 1) → l ≤ ls)
    {NX' : Nat → Nat → Nat} {SH' LE' EE' : Nat → Nat} (hN1 : ∀ s d, s < sc → d < 4 → d ≠ G n → NX' s d = NX s d) (hN2 : ∀ s, s < sc → eqv G (LE s) (EE s) n → NX s (G n) = 0 → NX' s (G n) = sc) (hN3 : ∀ s, s < sc → ¬ (eqv G (LE s) (EE s) n ∧ NX s (G n) = 0) → NX' s (G n) = NX s (G n)) (hN4 : ∀ d, d < 4 → NX' sc d = 0)
    (hL1 : ∀ s, s < sc → LE' s = LE s) (hL2 : LE' sc = n + 1) (hE1 : ∀ s, s < sc → EE' s = EE s) (hE2 : EE' sc = n + 1) (hS1 : ∀ s, 0 < s → s < sc → SH' s = SH s) (hS2 : SH' sc = r) : Sam G (n + 1) (sc + 1) NX' SH' LE' EE' := by
  have hEr := (h.wf hr).2
  have hlsn : ls ≤ n := Nat.le_trans F2.1 hEr
  have hpos := h.pos
  have hLS : ∀ s, 0 < s → s < sc → LE' (SH' s) = LE (SH s) := fun s h0 hs => by rw [hS1 s h0 hs, hL1 _ (h.S h0 hs).1]
  have hLSc : LE' (SH' sc) = ls := by rw [hS2, hL1 r hr, hLr]
  refine ⟨⟨by omega, by rw [hL1 0 hpos.1]; exact hpos.2.1, by rw [hE1 0 hpos.1]; exact hpos.2.2⟩, fun s hs => ?_, fun s h0 hs => ?_, fun e l h0 hl he => ?_, fun s e l h0 hs h1 h2 he hq => ?_, fun s e hs he hq => ?_, fun s s' l h0 hs h0' hs' h1 h2 h1' h2' hq => ?_, fun s h0 hs => ?_, fun s d hs hd hz e he hq => ?_, fun s d hs hd hz => ?_⟩
  · rcases Nat.lt_or_ge s sc with q | q
    · rw [hL1 s q, hE1 s q]; have := h.wf q; omega
    · rw [show s = sc by omega, hL2, hE2]; omega
  · rcases Nat.lt_or_ge s sc with q | q
    · have hs3 := h.S h0 q
      rw [hS1 s h0 q, hL1 _ hs3.1, hE1 _ hs3.1, hL1 s q, hE1 s q]
      exact ⟨by omega, hs3.2⟩
    · obtain rfl : s = sc := by omega
      rw [hS2, hL1 r hr, hE1 r hr, hL2, hE2, hLr]
      exact ⟨by omega, by omega, F2⟩
  · rcases Nat.lt_or_ge n e with q | q
    · obtain rfl : e = n + 1 := by omega
      rcases Nat.lt_or_ge ls l with q2 | q2
      · exact ⟨sc, hpos.1, by omega, by rw [hLSc]; exact q2, by rw [hL2]; exact hl, by rw [hE2]; exact eqv_refl hl⟩
      · obtain ⟨s, g0, g1, g2, g3, g4⟩ := h.A (e := EE r) h0 (Nat.le_trans q2 F2.1) hEr
        exact ⟨s, g0, by omega, by rw [hLS s g0 g1]; exact g2, by rw [hL1 s g1]; exact g3, by rw [hE1 s g1]; exact eqv_trans g4 (eqv_mono q2 F2)⟩
    · obtain ⟨s, g0, g1, g2, g3, g4⟩ := h.A h0 hl q
      exact ⟨s, g0, by omega, by rw [hLS s g0 g1]; exact g2, by rw [hL1 s g1]; exact g3, by rw [hE1 s g1]; exact g4⟩
  · rcases Nat.lt_or_ge s sc with q | q
    · rw [hLS s h0 q] at h1
      rw [hL1 s q] at h2 ⊢
      rw [hE1 s q] at hq ⊢
      rcases Nat.lt_or_ge n e with q2 | q2
      · obtain rfl : e = n + 1 := by omega
        have hl := hK _ _ (h.wf q).2 hq
        have hB := h.B h0 q h1 h2 hEr (eqv_trans hq (eqv_symm (eqv_mono hl F2)))
        rcases Nat.lt_or_ge ls (LE s) with q3 | q3
        · exfalso
          rcases Nat.eq_zero_or_pos r with rfl | hr0
          · omega
          · have := h.D (l := ls) h0 q hr0 hr (by omega) (by omega) (by rw [← hLr]; exact (h.S hr0 hr).2.1) (by omega) (eqv_mono (by omega) hB)
            subst this; omega
        · exact eqv_trans hB (eqv_mono q3 F2)
      · exact h.B h0 q h1 h2 q2 hq
    · obtain rfl : s = sc := by omega
      rw [hLSc] at h1
      rw [hE2] at hq ⊢
      rw [hL2] at h2 ⊢
      rcases Nat.lt_or_ge n e with q2 | q2
      · rw [show e = n + 1 by omega]; exact eqv_refl (Nat.le_refl _)
      · have := hK e l q2 (eqv_symm hq); omega
  · rcases Nat.lt_or_ge s sc with q | q
    · rw [hE1 s q]
      rw [hE1 s q, hL1 s q] at hq
      rcases Nat.lt_or_ge n e with q2 | q2
      · have := (h.wf q).2; omega
      · exact h.C q q2 hq
    · obtain rfl : s = sc := by omega
      rw [hE2, hL2] at hq
      rw [hE2]; exact hq.2.1
  · rcases Nat.lt_or_ge s sc with q | q
    · rcases Nat.lt_or_ge s' sc with q' | q'
      · rw [hLS s h0 q] at h1
        rw [hLS s' h0' q'] at h1'
        rw [hL1 s q] at h2
        rw [hL1 s' q'] at h2'
        rw [hE1 s q, hE1 s' q'] at hq
        exact h.D h0 q h0' q' h1 h2 h1' h2' hq
      · obtain rfl : s' = sc := by omega
        rw [hLSc] at h1'
        rw [hE1 s q, hE2] at hq
        have := hK _ _ (h.wf q).2 hq; omega
    · obtain rfl : s = sc := by omega
      rcases Nat.lt_or_ge s' s with q' | q'
      · rw [hLSc] at h1
        rw [hE1 s' q', hE2] at hq
        have := hK _ _ (h.wf q').2 (eqv_symm hq); omega
      · omega
  · rcases Nat.lt_or_ge s sc with q | q
    · rw [hL1 s q, hE1 s q]
      obtain ⟨e, g1, g2, g3⟩ := h.L h0 q
      exact ⟨e, by omega, g2, g3⟩
    · obtain rfl : s = sc := by omega
      rw [hL2, hE2]
      exact ⟨n + 1, Nat.le_refl _, eqv_refl (Nat.le_refl _), fun q => by have := q.1; omega⟩
  · rcases Nat.lt_or_ge s sc with q | q
    · rw [hL1 s q, hE1 s q] at hq
      by_cases hdc : d = G n
      · subst hdc
        by_cases hu : eqv G (LE s) (EE s) n ∧ NX s (G n) = 0
        · rw [hN2 s q hu.1 hu.2] at hz; omega
        · rw [hN3 s q hu] at hz
          rcases Nat.lt_or_ge e n with q2 | q2
          · exact h.T0 q hd hz q2 hq
          · obtain rfl : e = n := by omega
            exact absurd ⟨hq, hz⟩ hu
      · rw [hN1 s d q hd hdc] at hz
        rcases Nat.lt_or_ge e n with q2 | q2
        · exact h.T0 q hd hz q2 hq
        · obtain rfl : e = n := by omega
          exact fun z => hdc z.symm
    · obtain rfl : s = sc := by omega
      rw [hL2, hE2] at hq
      have := hq.2.1; omega
  · rcases Nat.lt_or_ge s sc with q | q
    · have hold : NX' s d = NX s d → NX s d ≠ 0 → NX' s d < sc + 1 ∧ LE' (SH' (NX' s d)) < LE' s + 1 ∧ LE' s + 1 ≤ LE' (NX' s d) ∧ ∃ e, e < n + 1 ∧ eqv G (LE' s) (EE' s) e ∧ G e = d ∧ eqv G (LE' s + 1) (EE' (NX' s d)) (e + 1) := by
        intro hE hz0
        obtain ⟨g1, g2, g3, e, g4, g5, g6, g7⟩ := h.T1 q hd hz0
        rw [hE, hLS _ (by omega) g1, hL1 s q, hE1 s q, hL1 _ g1, hE1 _ g1]
        exact ⟨by omega, g2, g3, e, by omega, g5, g6, g7⟩
      by_cases hdc : d = G n
      · subst hdc
        by_cases hu : eqv G (LE s) (EE s) n ∧ NX s (G n) = 0
        · have hlt := sam_u1 h hc hEr F2 q hu.1 hu.2
          rw [hN2 s q hu.1 hu.2, hLSc, hL1 s q, hE1 s q, hL2, hE2]
          have := h.wf q
          exact ⟨by omega, by omega, by omega, n, by omega, hu.1, rfl, eqv_refl (by omega)⟩
        · have hE := hN3 s q hu
          exact hold hE (by rw [← hE]; exact hz)
      · have hE := hN1 s d q hd hdc
        exact hold hE (by rw [← hE]; exact hz)
    · obtain rfl : s = sc := by omega
      exact absurd (hN4 d hd) hz
end SAM
end
section
/-! ===== pure: the automaton grows by a letter, and a state is split ===== -/
section SAM
variable {G : Nat → Nat} {n sc : Nat} {NX : Nat → Nat → Nat} {SH LE EE : Nat → Nat}
theorem sam_ext2 (h : Sam G n sc NX SH LE EE) (hc : G n < 4) {ls q : Nat} (hq0 : 0 < q) (hqs : q < sc) (hls0 : 0 < ls) (hlq : LE (SH q) < ls) (hlq2 : ls < LE q) (F2 : eqv G ls (EE q) (n + 1)) (hK : ∀ e l, e ≤ n → eqv G l e (n + 1) → l ≤ ls)
    {NX' : Nat → Nat → Nat} {SH' LE' EE' : Nat → Nat} (hN1 : ∀ s d, s < sc → d < 4 → d ≠ G n → NX' s d = NX s d) (hN2 : ∀ s, s < sc → eqv G (LE s) (EE s) n → NX s (G n) = 0 → NX' s (G n) = sc) (hN5 : ∀ s, s < sc → eqv G (LE s) (EE s) n → NX s (G n) = q → NX' s (G n) = sc + 1) (hN3 : ∀ s, s < sc → ¬ (eqv G (LE s) (EE s) n ∧ (NX s (G n) = 0 ∨ NX s (G n) = q)) → NX' s (G n) = NX s (G n)) (hN4 : ∀ d, d < 4 → NX' sc d = 0) (hN6 : ∀ d, d < 4 → NX' (sc + 1) d = NX' q d)
    (hL1 : ∀ s, s < sc → LE' s = LE s) (hL2 : LE' sc = n + 1) (hL3 : LE' (sc + 1) = ls) (hE1 : ∀ s, s < sc → EE' s = EE s) (hE2 : EE' sc = n + 1) (hE3 : EE' (sc + 1) = EE q) (hS1 : ∀ s, 0 < s → s < sc → s ≠ q → SH' s = SH s) (hS2 : SH' sc = sc + 1) (hS3 : SH' (sc + 1) = SH q) (hS4 : SH' q = sc + 1) : Sam G (n + 1) (sc + 2) NX' SH' LE' EE' := by
  have hEq := (h.wf hqs).2
  have hlsn : ls ≤ n := Nat.le_trans F2.1 hEq
  have hpos := h.pos
  have hSq := h.S hq0 hqs
  have hLS : ∀ s, 0 < s → s < sc → s ≠ q → LE' (SH' s) = LE (SH s) := fun s h0 hs hne => by rw [hS1 s h0 hs hne, hL1 _ (h.S h0 hs).1]
  have hLSq : LE' (SH' q) = ls := by rw [hS4, hL3]
  have hLSc : LE' (SH' sc) = ls := by rw [hS2, hL3]
  have hLSd : LE' (SH' (sc + 1)) = LE (SH q) := by rw [hS3, hL1 _ hSq.1]
  have hLSlt : ∀ s l, 0 < s → s < sc → LE' (SH' s) < l → LE (SH s) < l := fun s l h0 hs h1 => by
    by_cases hne : s = q
    · subst hne; rw [hLSq] at h1; omega
    · rw [hLS s h0 hs hne] at h1; exact h1
  have hqq : NX q (G n) ≠ q := fun hz => by
    have := (h.T1 hqs hc (by omega : NX q (G n) ≠ 0)).2.2.1
    rw [hz] at this; omega
  have hA : ∀ e l, 0 < l → l ≤ e → e ≤ n → ∃ s, 0 < s ∧ s < sc + 2 ∧ LE' (SH' s) < l ∧ l ≤ LE' s ∧ eqv G l (EE' s) e := by
    intro e l h0 hl he
    obtain ⟨s, g0, g1, g2, g3, g4⟩ := h.A h0 hl he
    by_cases hne : s = q
    · subst hne
      rcases Nat.lt_or_ge ls l with q2 | q2
      · exact ⟨s, g0, by omega, by rw [hLSq]; exact q2, by rw [hL1 s g1]; exact g3, by rw [hE1 s g1]; exact g4⟩
      · exact ⟨sc + 1, by omega, by omega, by rw [hLSd]; exact g2, by rw [hL3]; exact q2, by rw [hE3]; exact g4⟩
    · exact ⟨s, g0, by omega, by rw [hLS s g0 g1 hne]; exact g2, by rw [hL1 s g1]; exact g3, by rw [hE1 s g1]; exact g4⟩
  have hwf : ∀ s, s < sc + 2 → LE' s ≤ EE' s ∧ EE' s ≤ n + 1 ∧ (s ≠ sc → EE' s ≤ n) := by
    intro s hs
    rcases Nat.lt_or_ge s sc with q1 | q1
    · rw [hL1 s q1, hE1 s q1]; have := h.wf q1; omega
    · rcases Nat.lt_or_ge sc s with q2 | q2
      · rw [show s = sc + 1 by omega, hL3, hE3]; have := F2.1; omega
      · rw [show s = sc by omega, hL2, hE2]; omega
  have hT1old : ∀ s d, s < sc → d < 4 → NX' s d = NX s d → NX s d ≠ 0 → (NX s d = q → ls < LE s + 1) → NX' s d < sc + 2 ∧ LE' (SH' (NX' s d)) < LE' s + 1 ∧ LE' s + 1 ≤ LE' (NX' s d) ∧ ∃ e, e < n + 1 ∧ eqv G (LE' s) (EE' s) e ∧ G e = d ∧ eqv G (LE' s + 1) (EE' (NX' s d)) (e + 1) := by
    intro s d hs hd hE hz0 hqx
    obtain ⟨g1, g2, g3, e, g4, g5, g6, g7⟩ := h.T1 hs hd hz0
    rw [hE, hL1 s hs, hE1 s hs, hL1 _ g1, hE1 _ g1]
    refine ⟨by omega, ?_, g3, e, by omega, g5, g6, g7⟩
    by_cases hne : NX s d = q
    · rw [hne, hLSq]; exact hqx hne
    · rw [hLS _ (by omega) g1 hne]; exact g2
  have hNq : ∀ d, d < 4 → (d = G n ∧ eqv G (LE q) (EE q) n ∧ NX q (G n) = 0 ∧ NX' q d = sc) ∨ (NX' q d = NX q d ∧ ¬ (d = G n ∧ eqv G (LE q) (EE q) n ∧ NX q (G n) = 0)) := by
    intro d hd
    by_cases hdc : d = G n
    · subst hdc
      by_cases hu : eqv G (LE q) (EE q) n ∧ NX q (G n) = 0
      · exact Or.inl ⟨rfl, hu.1, hu.2, hN2 q hqs hu.1 hu.2⟩
      · refine Or.inr ⟨hN3 q hqs (fun hh => ?_), fun hh => hu hh.2⟩
        rcases hh.2 with hz | hz
        · exact hu ⟨hh.1, hz⟩
        · exact hqq hz
    · exact Or.inr ⟨hN1 q d hqs hd hdc, fun hh => hdc hh.1⟩
  refine ⟨⟨by omega, by rw [hL1 0 hpos.1]; exact hpos.2.1, by rw [hE1 0 hpos.1]; exact hpos.2.2⟩, fun s hs => ⟨(hwf s hs).1, (hwf s hs).2.1⟩, fun s h0 hs => ?_, fun e l h0 hl he => ?_, fun s e l h0 hs h1 h2 he hq => ?_, fun s e hs he hq => ?_, fun s s' l h0 hs h0' hs' h1 h2 h1' h2' hq => ?_, fun s h0 hs => ?_, fun s d hs hd hz e he hq => ?_, fun s d hs hd hz => ?_⟩
  · rcases Nat.lt_or_ge s sc with q1 | q1
    · by_cases hne : s = q
      · subst hne
        rw [hS4, hL3, hE3, hL1 s q1, hE1 s q1]
        exact ⟨by omega, hlq2, eqv_refl F2.1⟩
      · have hs3 := h.S h0 q1
        rw [hS1 s h0 q1 hne, hL1 _ hs3.1, hE1 _ hs3.1, hL1 s q1, hE1 s q1]
        exact ⟨by omega, hs3.2⟩
    · rcases Nat.lt_or_ge sc s with q2 | q2
      · obtain rfl : s = sc + 1 := by omega
        rw [hS3, hL1 _ hSq.1, hE1 _ hSq.1, hL3, hE3]
        exact ⟨by omega, hlq, hSq.2.2⟩
      · obtain rfl : s = sc := by omega
        rw [hS2, hL3, hE3, hL2, hE2]
        exact ⟨by omega, by omega, F2⟩
  · rcases Nat.lt_or_ge n e with q1 | q1
    · obtain rfl : e = n + 1 := by omega
      rcases Nat.lt_or_ge ls l with q2 | q2
      · exact ⟨sc, hpos.1, by omega, by rw [hLSc]; exact q2, by rw [hL2]; exact hl, by rw [hE2]; exact eqv_refl hl⟩
      · obtain ⟨s, g0, g1, g2, g3, g4⟩ := hA (EE q) l h0 (Nat.le_trans q2 F2.1) hEq
        exact ⟨s, g0, g1, g2, g3, eqv_trans g4 (eqv_mono q2 F2)⟩
    · exact hA e l h0 hl q1
  · rcases Nat.lt_or_ge s sc with q1 | q1
    · have h1o := hLSlt s l h0 q1 h1
      rw [hL1 s q1] at h2 ⊢
      rw [hE1 s q1] at hq ⊢
      rcases Nat.lt_or_ge n e with q2 | q2
      · obtain rfl : e = n + 1 := by omega
        have hl := hK _ _ (h.wf q1).2 hq
        by_cases hne : s = q
        · subst hne; rw [hLSq] at h1; omega
        · have hB := h.B h0 q1 h1o h2 hEq (eqv_trans hq (eqv_symm (eqv_mono hl F2)))
          rcases Nat.lt_or_ge ls (LE s) with q3 | q3
          · exact absurd (h.D (l := ls) h0 q1 hq0 hqs (by omega) (by omega) hlq (by omega) (eqv_mono (by omega) hB)) hne
          · exact eqv_trans hB (eqv_mono q3 F2)
      · exact h.B h0 q1 h1o h2 q2 hq
    · rcases Nat.lt_or_ge sc s with q2 | q2
      · obtain rfl : s = sc + 1 := by omega
        rw [hLSd] at h1
        rw [hE3] at hq ⊢
        rw [hL3] at h2 ⊢
        rcases Nat.lt_or_ge n e with q3 | q3
        · rw [show e = n + 1 by omega]; exact F2
        · exact eqv_mono (by omega) (h.B hq0 hqs h1 (by omega) q3 hq)
      · obtain rfl : s = sc := by omega
        rw [hLSc] at h1
        rw [hE2] at hq ⊢
        rw [hL2] at h2 ⊢
        rcases Nat.lt_or_ge n e with q3 | q3
        · rw [show e = n + 1 by omega]; exact eqv_refl (Nat.le_refl _)
        · have := hK e l q3 (eqv_symm hq); omega
  · rcases Nat.lt_or_ge s sc with q1 | q1
    · rw [hE1 s q1]
      rw [hE1 s q1, hL1 s q1] at hq
      rcases Nat.lt_or_ge n e with q2 | q2
      · have := (h.wf q1).2; omega
      · exact h.C q1 q2 hq
    · rcases Nat.lt_or_ge sc s with q2 | q2
      · obtain rfl : s = sc + 1 := by omega
        rw [hE3, hL3] at hq
        rw [hE3]
        rcases Nat.lt_or_ge n e with q3 | q3
        · omega
        · exact h.C hqs q3 (h.B hq0 hqs hlq (by omega) q3 hq)
      · obtain rfl : s = sc := by omega
        rw [hE2, hL2] at hq
        rw [hE2]; exact hq.2.1
  · by_cases hsc : s = sc
    · by_cases hsc' : s' = sc
      · omega
      · subst hsc
        rw [hLSc] at h1
        rw [hE2] at hq
        have := hK _ _ ((hwf s' hs').2.2 hsc') (eqv_symm hq); omega
    · by_cases hsc' : s' = sc
      · subst hsc'
        rw [hLSc] at h1'
        rw [hE2] at hq
        have := hK _ _ ((hwf s hs).2.2 hsc) hq; omega
      · rcases Nat.lt_or_ge s sc with q1 | q1
        · have h1o := hLSlt s l h0 q1 h1
          rw [hL1 s q1] at h2
          rw [hE1 s q1] at hq
          rcases Nat.lt_or_ge s' sc with q2 | q2
          · rw [hL1 s' q2] at h2'
            rw [hE1 s' q2] at hq
            exact h.D h0 q1 h0' q2 h1o h2 (hLSlt s' l h0' q2 h1') h2' hq
          · obtain rfl : s' = sc + 1 := by omega
            rw [hLSd] at h1'
            rw [hL3] at h2'
            rw [hE3] at hq
            have := h.D h0 q1 hq0 hqs h1o h2 h1' (by omega) hq
            subst this
            rw [hLSq] at h1; omega
        · obtain rfl : s = sc + 1 := by omega
          rcases Nat.lt_or_ge s' sc with q2 | q2
          · rw [hLSd] at h1
            rw [hL3] at h2
            rw [hE3, hE1 s' q2] at hq
            rw [hL1 s' q2] at h2'
            have := h.D h0' q2 hq0 hqs (hLSlt s' l h0' q2 h1') h2' h1 (by omega) (eqv_symm hq)
            subst this
            rw [hLSq] at h1'; omega
          · omega
  · rcases Nat.lt_or_ge s sc with q1 | q1
    · rw [hL1 s q1, hE1 s q1]
      obtain ⟨e, g1, g2, g3⟩ := h.L h0 q1
      exact ⟨e, by omega, g2, g3⟩
    · rcases Nat.lt_or_ge sc s with q2 | q2
      · obtain rfl : s = sc + 1 := by omega
        rw [hL3, hE3]
        exact ⟨n + 1, Nat.le_refl _, F2, fun z => by have := hK _ _ hEq z; omega⟩
      · obtain rfl : s = sc := by omega
        rw [hL2, hE2]
        exact ⟨n + 1, Nat.le_refl _, eqv_refl (Nat.le_refl _), fun z => by have := z.1; omega⟩
  · rcases Nat.lt_or_ge s sc with q1 | q1
    · rw [hL1 s q1, hE1 s q1] at hq
      by_cases hdc : d = G n
      · subst hdc
        by_cases hu : eqv G (LE s) (EE s) n ∧ (NX s (G n) = 0 ∨ NX s (G n) = q)
        · rcases hu.2 with hz2 | hz2
          · rw [hN2 s q1 hu.1 hz2] at hz; omega
          · rw [hN5 s q1 hu.1 hz2] at hz; omega
        · rw [hN3 s q1 hu] at hz
          rcases Nat.lt_or_ge e n with q2 | q2
          · exact h.T0 q1 hd hz q2 hq
          · obtain rfl : e = n := by omega
            exact absurd ⟨hq, Or.inl hz⟩ hu
      · rw [hN1 s d q1 hd hdc] at hz
        rcases Nat.lt_or_ge e n with q2 | q2
        · exact h.T0 q1 hd hz q2 hq
        · obtain rfl : e = n := by omega
          exact fun z => hdc z.symm
    · rcases Nat.lt_or_ge sc s with q2 | q2
      · obtain rfl : s = sc + 1 := by omega
        rw [hL3, hE3] at hq
        rw [hN6 d hd] at hz
        have hB := h.B hq0 hqs hlq (by omega) (by omega : e ≤ n) hq
        rcases hNq d hd with ⟨-, -, -, hx⟩ | ⟨hx, hnu⟩
        · rw [hx] at hz; omega
        · rw [hx] at hz
          rcases Nat.lt_or_ge e n with q3 | q3
          · exact h.T0 hqs hd hz q3 hB
          · obtain rfl : e = n := by omega
            exact fun hdc => hnu ⟨hdc.symm, hB, by rw [hdc]; exact hz⟩
      · obtain rfl : s = sc := by omega
        rw [hL2, hE2] at hq
        have := hq.2.1; omega
  · rcases Nat.lt_or_ge s sc with q1 | q1
    · by_cases hdc : d = G n
      · subst hdc
        by_cases hu : eqv G (LE s) (EE s) n ∧ (NX s (G n) = 0 ∨ NX s (G n) = q)
        · rcases hu.2 with hz2 | hz2
          · have hlt := sam_u1 h hc hEq F2 q1 hu.1 hz2
            rw [hN2 s q1 hu.1 hz2, hLSc, hL1 s q1, hE1 s q1, hL2, hE2]
            have := h.wf q1
            exact ⟨by omega, by omega, by omega, n, by omega, hu.1, rfl, eqv_refl (by omega)⟩
          · obtain ⟨g1, g2, g3, e, g4, g5, g6, g7⟩ := h.T1 q1 hd (by omega : NX s (G n) ≠ 0)
            rw [hz2] at g2 g3 g7
            have hk := hK (e + 1) (LE s + 1) (by omega) (eqv_succ.mpr ⟨eqv_trans (eqv_symm g5) hu.1, g6⟩)
            rw [hN5 s q1 hu.1 hz2, hLSd, hL1 s q1, hE1 s q1, hL3, hE3]
            exact ⟨by omega, g2, hk, e, by omega, g5, g6, g7⟩
        · have hE := hN3 s q1 hu
          have hz0 : NX s (G n) ≠ 0 := by rw [← hE]; exact hz
          refine hT1old s _ q1 hd hE hz0 (fun hq2 => ?_)
          rcases Nat.lt_or_ge ls (LE s + 1) with q3 | q3
          · exact q3
          · exfalso
            obtain ⟨g1, g2, g3, e, g4, g5, g6, g7⟩ := h.T1 q1 hd hz0
            rw [hq2] at g7
            have := eqv_succ.mp (eqv_trans (eqv_symm g7) (eqv_mono q3 F2))
            exact hu ⟨eqv_trans g5 this.1, Or.inr hq2⟩
      · have hE := hN1 s d q1 hd hdc
        have hz0 : NX s d ≠ 0 := by rw [← hE]; exact hz
        refine hT1old s d q1 hd hE hz0 (fun hq2 => ?_)
        exfalso
        obtain ⟨g1, g2, g3, e, g4, g5, g6, g7⟩ := h.T1 q1 hd hz0
        rw [hq2] at g7
        have a1 : eqv G 1 (e + 1) (EE q) := eqv_symm (eqv_mono (by omega) g7)
        have a2 : eqv G (0 + 1) (e + 1) (n + 1) := eqv_trans a1 (eqv_mono hls0 F2)
        exact hdc (by rw [← g6]; exact (eqv_succ.mp a2).2)
    · rcases Nat.lt_or_ge sc s with q2 | q2
      · obtain rfl : s = sc + 1 := by omega
        rw [hN6 d hd] at hz ⊢
        rw [hL3, hE3]
        rcases hNq d hd with ⟨hdc, hch, -, hx⟩ | ⟨hx, hnu⟩
        · rw [hx, hLSc, hL2, hE2]
          subst hdc
          exact ⟨by omega, by omega, by omega, n, by omega, eqv_mono (by omega) hch, rfl, eqv_refl (by omega)⟩
        · have hz0 : NX q d ≠ 0 := by rw [← hx]; exact hz
          obtain ⟨g1, g2, g3, e, g4, g5, g6, g7⟩ := h.T1 hqs hd hz0
          rw [hx, hL1 _ g1, hE1 _ g1]
          refine ⟨by omega, ?_, by omega, e, by omega, eqv_mono (by omega) g5, g6, eqv_mono (by omega) g7⟩
          have hr0 : 0 < NX q d := by omega
          by_cases hne : NX q d = q
          · rw [hne, hLSq]; omega
          · rw [hLS _ hr0 g1 hne]
            rcases Nat.lt_or_ge (LE (SH (NX q d))) (ls + 1) with q3 | q3
            · exact q3
            · exfalso
              have hSr := h.S hr0 g1
              have hp0 : 0 < SH (NX q d) := by
                rcases Nat.eq_zero_or_pos (SH (NX q d)) with z | z
                · rw [z, hpos.2.1] at q3; omega
                · exact z
              have hZ : ∀ x, x ≤ n → eqv G (ls + 1) (EE (NX q d)) x → eqv G (LE q + 1) (EE (NX q d)) x := by
                intro x hx2 hqx
                have b1 := eqv_trans (eqv_symm (eqv_mono (by omega : ls + 1 ≤ LE q + 1) g7)) hqx
                obtain ⟨e', x', he', rfl, b2, b3⟩ := eqv_pred b1
                obtain rfl : e' = e := by omega
                have b4 := h.B hq0 hqs hlq (by omega) (by omega : x' ≤ n) (eqv_trans (eqv_mono (by omega) g5) b2)
                exact eqv_trans g7 (eqv_succ.mpr ⟨eqv_trans (eqv_symm g5) b4, b3⟩)
              obtain ⟨e', m1, m2, m3⟩ := h.L hp0 hSr.1
              have c1 := hZ _ (h.wf hSr.1).2 (eqv_mono q3 (eqv_symm hSr.2.2))
              have c2 := hZ e' m1 (eqv_mono q3 (eqv_trans (eqv_symm hSr.2.2) m2))
              exact m3 (eqv_mono (by omega) (eqv_trans (eqv_symm c1) c2))
      · obtain rfl : s = sc := by omega
        exact absurd (hN4 d hd) hz
end SAM
end
section
/-! ===== pure: the automaton in the class's arrays; what the two loops of 'extend' do to it ===== -/
def nN (nx : Nat → Int) (s d : Nat) : Nat := (nx (4 * s + d)).toNat
def vN (f : Nat → Int) (s : Nat) : Nat := (f s).toNat
def eN (fe : Nat → Int) (s : Nat) : Nat := (fe s + 1).toNat
/-- the arrays hold the automaton of the first n letters, k states, la the last; ti: 1 for the states of whole beginnings -/
def Aut (G : Nat → Nat) (n k la : Nat) (nx sh le ti fe : Nat → Int) : Prop :=
  Sam G n k (nN nx) (vN sh) (vN le) (eN fe) ∧ (∀ s c, s < k → c < 4 → 0 ≤ nx (4 * s + c)) ∧ (∀ s, 0 < s → s < k → 0 ≤ sh s) ∧ sh 0 = -1 ∧ (∀ s, s < k → 0 ≤ le s) ∧ (∀ s, s < k → -1 ≤ fe s) ∧ (la < k ∧ vN le la = n ∧ eN fe la = n) ∧
  (∀ s, s < k → ti s = if 0 < s ∧ eN fe s = vN le s then 1 else 0)
section SAM
variable {G : Nat → Nat} {n sc : Nat} {NX : Nat → Nat → Nat} {SH LE EE : Nat → Nat}
theorem sam_LE0 (h : Sam G n sc NX SH LE EE) {s : Nat} (hs : s < sc) (h0 : LE s = 0) : s = 0 := by
  rcases Nat.eq_zero_or_pos s with q | q
  · exact q
  · have := (h.S q hs).2.1; omega
theorem ch_uniq (h : Sam G n sc NX SH LE EE) {t s : Nat} (ht0 : 0 < t) (ht : t < sc) (hs : s < sc) (ct : eqv G (LE t) (EE t) n) (cs : eqv G (LE s) (EE s) n) (h1 : LE (SH t) < LE s) (h2 : LE s ≤ LE t) : s = t := by
  have hs0 : 0 < s := by
    rcases Nat.eq_zero_or_pos s with q | q
    · subst q; have := h.pos.2.1; omega
    · exact q
  exact h.D (l := LE s) hs0 hs ht0 ht (h.S hs0 hs).2.1 (Nat.le_refl _) h1 h2 (eqv_trans cs (eqv_symm (eqv_mono h2 ct)))
theorem ch_link (h : Sam G n sc NX SH LE EE) {t : Nat} (ht0 : 0 < t) (ht : t < sc) (ct : eqv G (LE t) (EE t) n) : eqv G (LE (SH t)) (EE (SH t)) n := by
  have := h.S ht0 ht
  exact eqv_trans this.2.2 (eqv_mono (by omega) ct)
theorem ch_last (h : Sam G n sc NX SH LE EE) {la s : Nat} (hla : la < sc) (h1 : LE la = n) (hs : s < sc) (cs : eqv G (LE s) (EE s) n) : LE s ≤ LE la := by
  have := cs.2.1; omega
theorem sam_F2 (h : Sam G n sc NX SH LE EE) (hc : G n < 4) {t : Nat} (ht : t < sc) (ct : eqv G (LE t) (EE t) n) (hz : NX t (G n) ≠ 0) : eqv G (LE t + 1) (EE (NX t (G n))) (n + 1) := by
  obtain ⟨g1, g2, g3, e, g4, g5, g6, g7⟩ := h.T1 ht hc hz
  exact eqv_trans g7 (eqv_succ.mpr ⟨eqv_trans (eqv_symm g5) ct, g6⟩)
theorem loop2_stop (h : Sam G n sc NX SH LE EE) (hc : G n < 4) {ls q : Nat} (hq0 : 0 < q) (hqs : q < sc) (hlq2 : ls ≤ LE q) (F2 : eqv G ls (EE q) (n + 1)) {t : Nat} (ht : t < sc) (ct : eqv G (LE t) (EE t) n) (hls : LE t + 1 ≤ ls) (hne : NX t (G n) ≠ q) :
    ∀ s, s < sc → eqv G (LE s) (EE s) n → LE s ≤ LE t → NX s (G n) ≠ q := by
  intro s hs cs hle hq
  have hz : NX t (G n) ≠ 0 := fun hz => by
    have := sam_u1 h hc (h.wf hqs).2 F2 ht ct hz; omega
  have f1 := sam_F2 h hc ht ct hz
  obtain ⟨g1, g2, g3, -⟩ := h.T1 ht hc hz
  obtain ⟨k1, k2, k3, -⟩ := h.T1 hs hc (by omega : NX s (G n) ≠ 0)
  rw [hq] at k2 k3
  exact hne (h.D (l := LE t + 1) (by omega) g1 hq0 hqs g2 g3 (by omega) (by omega) (eqv_trans f1 (eqv_symm (eqv_mono hls F2))))
end SAM
section AUT
variable {G : Nat → Nat} {n k la : Nat} {nx sh le ti fe : Nat → Int}
theorem Aut.vnx (h : Aut G n k la nx sh le ti fe) {s c : Nat} (hs : s < k) (hc : c < 4) : nx (4 * s + c) = (nN nx s c : Int) := by
  have := h.2.1 s c hs hc; unfold nN; omega
theorem Aut.nxlt (h : Aut G n k la nx sh le ti fe) {s c : Nat} (hs : s < k) (hc : c < 4) : nN nx s c < k := by
  by_cases hz : nN nx s c = 0
  · rw [hz]; exact h.1.pos.1
  · exact (h.1.T1 hs hc hz).1
theorem Aut.vle (h : Aut G n k la nx sh le ti fe) {s : Nat} (hs : s < k) : le s = (vN le s : Int) ∧ vN le s ≤ n := by
  have h1 := h.2.2.2.2.1 s hs
  have h2 := h.1.wf hs
  refine ⟨?_, by omega⟩
  unfold vN; omega
theorem Aut.vfe (h : Aut G n k la nx sh le ti fe) {s : Nat} (hs : s < k) : fe s = (eN fe s : Int) - 1 ∧ eN fe s ≤ n := by
  have h1 := h.2.2.2.2.2.1 s hs
  have h2 := h.1.wf hs
  refine ⟨?_, by omega⟩
  unfold eN; omega
theorem Aut.vsh (h : Aut G n k la nx sh le ti fe) {s : Nat} (h0 : 0 < s) (hs : s < k) : sh s = (vN sh s : Int) ∧ vN sh s < k := by
  have h1 := h.2.2.1 s h0 hs
  have h2 := (h.1.S h0 hs).1
  refine ⟨?_, h2⟩
  unfold vN; omega
theorem Aut.vti (h : Aut G n k la nx sh le ti fe) {s : Nat} (hs : s < k) : ti s = if 0 < s ∧ eN fe s = vN le s then 1 else 0 := h.2.2.2.2.2.2.2 s hs
theorem nN_z {f g : Nat → Int} {s d : Nat} (h : f (4 * s + d) = g (4 * s + d)) : nN f s d = nN g s d := by unfold nN; rw [h]
theorem nN_v {f : Nat → Int} {s d v : Nat} (h : f (4 * s + d) = (v : Int)) : nN f s d = v := by unfold nN; rw [h]; omega
theorem vN_z {f g : Nat → Int} {s : Nat} (h : f s = g s) : vN f s = vN g s := by unfold vN; rw [h]
theorem vN_v {f : Nat → Int} {s v : Nat} (h : f s = (v : Int)) : vN f s = v := by unfold vN; rw [h]; omega
theorem eN_z {f g : Nat → Int} {s : Nat} (h : f s = g s) : eN f s = eN g s := by unfold eN; rw [h]
theorem eN_v {f : Nat → Int} {s v : Nat} (h : f s = (v : Int) - 1) : eN f s = v := by unfold eN; rw [h]; omega
/-- the automaton of no letters, as newState leaves it -/
theorem aut_0 (G : Nat → Nat) {nx sh le ti fe : Nat → Int} (hN : ∀ d, d < 4 → nx (4 * 0 + d) = 0) (hs : sh 0 = -1) (hl : le 0 = 0) (ht : ti 0 = 0) (hf : fe 0 = -1) : Aut G 0 1 0 nx sh le ti fe := by
  have e0 : eN fe 0 = 0 := eN_v (by rw [hf]; rfl)
  have l0 : vN le 0 = 0 := vN_v (by rw [hl]; rfl)
  refine ⟨sam_0 G (fun d hd => nN_v (by rw [hN d hd]; rfl)) l0 e0, fun s c hs hc => ?_, fun s h0 hs => by omega, hs, fun s hs => ?_, fun s hs => ?_, ⟨by omega, l0, e0⟩, fun s hs => ?_⟩
  · rw [show s = 0 by omega, hN c hc]; exact Int.le_refl 0
  · rw [show s = 0 by omega, hl]; exact Int.le_refl 0
  · rw [show s = 0 by omega, hf]; exact Int.le_refl _
  · rw [show s = 0 by omega, ht, if_neg (by omega)]
theorem aut_ext1 (h : Aut G n k la nx sh le ti fe) (hc : G n < 4) {b r : Nat} {nx' : Nat → Int}
    (P0 : ∀ s, s < k → eqv G (vN le s) (eN fe s) n → b ≤ vN le s → nN nx s (G n) = 0)
    (P1 : ∀ s, s < k → eqv G (vN le s) (eN fe s) n → b ≤ vN le s → nx' (4 * s + G n) = (k : Int))
    (P2 : ∀ s d, s < k → d < 4 → ¬ (d = G n ∧ eqv G (vN le s) (eN fe s) n ∧ b ≤ vN le s) → nx' (4 * s + d) = nx (4 * s + d))
    (P3 : ∀ d, d < 4 → nx' (4 * k + d) = 0)
    (hE : (b = 0 ∧ r = 0) ∨ ∃ t, t < k ∧ eqv G (vN le t) (eN fe t) n ∧ b = vN le t + 1 ∧ nN nx t (G n) ≠ 0 ∧ r = nN nx t (G n) ∧ vN le r = vN le t + 1) :
    Aut G (n + 1) (k + 1) k nx' (zu (zu sh k (-1)) k (r : Int)) (zu le k ((n : Int) + 1)) (zu (zu ti k 0) k 1) (zu fe k (n : Int)) := by
  have hpos := h.1.pos
  have L1 : ∀ s, s < k → vN (zu le k ((n : Int) + 1)) s = vN le s := fun s hs => vN_z (zu_n (by omega))
  have L2 : vN (zu le k ((n : Int) + 1)) k = n + 1 := vN_v (by rw [zu_s]; omega)
  have E1 : ∀ s, s < k → eN (zu fe k (n : Int)) s = eN fe s := fun s hs => eN_z (zu_n (by omega))
  have E2 : eN (zu fe k (n : Int)) k = n + 1 := eN_v (by rw [zu_s]; omega)
  have S1 : ∀ s, s < k → zu (zu sh k (-1)) k (r : Int) s = sh s := fun s hs => by rw [zu_n (by omega), zu_n (by omega)]
  have hrk : r < k ∧ eqv G (vN le r) (eN fe r) (n + 1) ∧ ∀ e l, e ≤ n → eqv G l e (n + 1) → l ≤ vN le r := by
    rcases hE with ⟨hb, hr⟩ | ⟨t, ht, ct, hb, hz, hr, hL⟩
    · subst hr
      refine ⟨hpos.1, by rw [hpos.2.1]; exact eqv_zero, sam_K h.1 hc (fun s hs cs hne => ?_)⟩
      exact absurd (P0 s hs cs (by omega)) hne
    · subst hr
      refine ⟨(h.1.T1 ht hc hz).1, by rw [hL]; exact sam_F2 h.1 hc ht ct hz, sam_K h.1 hc (fun s hs cs hne => ?_)⟩
      rcases Nat.lt_or_ge (vN le s) b with q | q
      · omega
      · exact absurd (P0 s hs cs q) hne
  have hcond : ∀ s, s < k → eqv G (vN le s) (eN fe s) n → nN nx s (G n) = 0 → b ≤ vN le s := fun s hs cs hz => by
    have := sam_u1 h.1 hc (h.1.wf hrk.1).2 hrk.2.1 hs cs hz
    rcases hE with ⟨hb, hr⟩ | ⟨t, ht, ct, hb, hz, hr, hL⟩
    · omega
    · omega
  refine ⟨sam_ext1 h.1 hc hrk.1 rfl hrk.2.1 hrk.2.2 (fun s d hs hd hne => nN_z (P2 s d hs hd (fun q => hne q.1))) (fun s hs cs hz => nN_v (P1 s hs cs (hcond s hs cs hz))) (fun s hs hu => nN_z (P2 s _ hs hc (fun q => hu ⟨q.2.1, P0 s hs q.2.1 q.2.2⟩))) (fun d hd => nN_v (by rw [P3 d hd]; rfl)) L1 L2 E1 E2 (fun s h0 hs => vN_z (S1 s hs)) (vN_v zu_s), fun s c hs hc2 => ?_, fun s h0 hs => ?_, ?_, fun s hs => ?_, fun s hs => ?_, ⟨by omega, L2, E2⟩, fun s hs => ?_⟩
  · rcases Nat.lt_or_ge s k with q | q
    · by_cases hu : c = G n ∧ eqv G (vN le s) (eN fe s) n ∧ b ≤ vN le s
      · obtain ⟨rfl, u2, u3⟩ := hu
        rw [P1 s q u2 u3]; omega
      · rw [P2 s c q hc2 hu]; exact h.2.1 s c q hc2
    · rw [show s = k by omega, P3 c hc2]; exact Int.le_refl 0
  · rcases Nat.lt_or_ge s k with q | q
    · rw [S1 s q]; exact h.2.2.1 s h0 q
    · rw [show s = k by omega, zu_s]; omega
  · rw [S1 0 hpos.1]; exact h.2.2.2.1
  · rcases Nat.lt_or_ge s k with q | q
    · rw [zu_n (by omega)]; exact h.2.2.2.2.1 s q
    · rw [show s = k by omega, zu_s]; omega
  · rcases Nat.lt_or_ge s k with q | q
    · rw [zu_n (by omega)]; exact h.2.2.2.2.2.1 s q
    · rw [show s = k by omega, zu_s]; omega
  · rcases Nat.lt_or_ge s k with q | q
    · rw [zu_n (by omega), zu_n (by omega), E1 s q, L1 s q]; exact h.vti q
    · obtain rfl : s = k := by omega
      rw [zu_s, E2, L2, if_pos ⟨hpos.1, rfl⟩]
theorem aut_ext2 (h : Aut G n k la nx sh le ti fe) (hc : G n < 4) {b t q b2 : Nat} {nx' nx'' : Nat → Int}
    (P0 : ∀ s, s < k → eqv G (vN le s) (eN fe s) n → b ≤ vN le s → nN nx s (G n) = 0)
    (P1 : ∀ s, s < k → eqv G (vN le s) (eN fe s) n → b ≤ vN le s → nx' (4 * s + G n) = (k : Int))
    (P2 : ∀ s d, s < k → d < 4 → ¬ (d = G n ∧ eqv G (vN le s) (eN fe s) n ∧ b ≤ vN le s) → nx' (4 * s + d) = nx (4 * s + d))
    (ht : t < k) (ct : eqv G (vN le t) (eN fe t) n) (hb : b = vN le t + 1) (hz : nN nx t (G n) ≠ 0) (hq : q = nN nx t (G n)) (hL : vN le q ≠ vN le t + 1)
    (R1 : ∀ s, s < k → eqv G (vN le s) (eN fe s) n → nN nx s (G n) = q → b2 ≤ vN le s → nx'' (4 * s + G n) = ((k + 1 : Nat) : Int))
    (R2 : ∀ s d, s < k → d < 4 → ¬ (d = G n ∧ eqv G (vN le s) (eN fe s) n ∧ nN nx s (G n) = q ∧ b2 ≤ vN le s) → nx'' (4 * s + d) = nx' (4 * s + d))
    (R3 : ∀ d, d < 4 → nx'' (4 * k + d) = 0) (R4 : ∀ d, d < 4 → nx'' (4 * (k + 1) + d) = nx' (4 * q + d))
    (hE : b2 = 0 ∨ ∃ t2, t2 < k ∧ eqv G (vN le t2) (eN fe t2) n ∧ b2 = vN le t2 + 1 ∧ vN le t2 ≤ vN le t ∧ nN nx t2 (G n) ≠ q)
    {sh' le' ti' fe' : Nat → Int} (hs' : sh' = zu (zu (zu (zu (zu sh k (-1)) (k + 1) (-1)) (k + 1) (sh q)) q ((k + 1 : Nat) : Int)) k ((k + 1 : Nat) : Int)) (hl' : le' = zu (zu le k ((n : Int) + 1)) (k + 1) ((vN le t + 1 : Nat) : Int)) (ht' : ti' = zu (zu (zu ti k 0) k 1) (k + 1) 0) (hf' : fe' = zu (zu fe k (n : Int)) (k + 1) (fe q)) :
    Aut G (n + 1) (k + 2) k nx'' sh' le' ti' fe' := by
  subst hs'; subst hl'; subst ht'; subst hf'
  have hpos := h.1.pos
  obtain ⟨g1, g2, g3, -⟩ := h.1.T1 ht hc hz
  have F2 := sam_F2 h.1 hc ht ct hz
  rw [← hq] at g1 g2 g3 F2
  have hq0 : 0 < q := by omega
  have hls : vN le t + 1 < vN le q := by omega
  have hK : ∀ e l, e ≤ n → eqv G l e (n + 1) → l ≤ vN le t + 1 := sam_K h.1 hc (fun s hs cs hne => by
    rcases Nat.lt_or_ge (vN le s) b with q | q
    · omega
    · exact absurd (P0 s hs cs q) hne)
  have hcond : ∀ s, s < k → eqv G (vN le s) (eN fe s) n → nN nx s (G n) = 0 → b ≤ vN le s := fun s hs cs hz => by
    have := sam_u1 h.1 hc (h.1.wf g1).2 F2 hs cs hz; omega
  have hcq : ∀ s, s < k → eqv G (vN le s) (eN fe s) n → nN nx s (G n) = q → b2 ≤ vN le s := fun s hs cs hq2 => by
    rcases hE with hb2 | ⟨t2, ht2, ct2, hb2, hle, hne⟩
    · omega
    · rcases Nat.lt_or_ge (vN le s) b2 with q2 | q2
      · exact absurd hq2 (loop2_stop h.1 hc hq0 g1 (Nat.le_of_lt hls) F2 ht2 ct2 (by omega) hne s hs cs (by omega))
      · exact q2
  have hqn : nN nx q (G n) ≠ q := fun hz2 => by
    have := (h.1.T1 g1 hc (by omega : nN nx q (G n) ≠ 0)).2.2.1
    rw [hz2] at this; omega
  have L1 : ∀ s, s < k → vN (zu (zu le k ((n : Int) + 1)) (k + 1) ((vN le t + 1 : Nat) : Int)) s = vN le s := fun s hs => vN_z (by rw [zu_n (by omega), zu_n (by omega)])
  have L2 : vN (zu (zu le k ((n : Int) + 1)) (k + 1) ((vN le t + 1 : Nat) : Int)) k = n + 1 := vN_v (by rw [zu_n (by omega), zu_s]; omega)
  have L3 : vN (zu (zu le k ((n : Int) + 1)) (k + 1) ((vN le t + 1 : Nat) : Int)) (k + 1) = vN le t + 1 := vN_v zu_s
  have E1 : ∀ s, s < k → eN (zu (zu fe k (n : Int)) (k + 1) (fe q)) s = eN fe s := fun s hs => eN_z (by rw [zu_n (by omega), zu_n (by omega)])
  have E2 : eN (zu (zu fe k (n : Int)) (k + 1) (fe q)) k = n + 1 := eN_v (by rw [zu_n (by omega), zu_s]; omega)
  have E3 : eN (zu (zu fe k (n : Int)) (k + 1) (fe q)) (k + 1) = eN fe q := by unfold eN; rw [zu_s]
  have S1 : ∀ s, s < k → s ≠ q → zu (zu (zu (zu (zu sh k (-1)) (k + 1) (-1)) (k + 1) (sh q)) q ((k + 1 : Nat) : Int)) k ((k + 1 : Nat) : Int) s = sh s := fun s hs hne => by rw [zu_n (by omega), zu_n hne, zu_n (by omega), zu_n (by omega), zu_n (by omega)]
  have S2 : zu (zu (zu (zu (zu sh k (-1)) (k + 1) (-1)) (k + 1) (sh q)) q ((k + 1 : Nat) : Int)) k ((k + 1 : Nat) : Int) k = ((k + 1 : Nat) : Int) := zu_s
  have S3 : zu (zu (zu (zu (zu sh k (-1)) (k + 1) (-1)) (k + 1) (sh q)) q ((k + 1 : Nat) : Int)) k ((k + 1 : Nat) : Int) (k + 1) = sh q := by rw [zu_n (by omega), zu_n (by omega), zu_s]
  have S4 : zu (zu (zu (zu (zu sh k (-1)) (k + 1) (-1)) (k + 1) (sh q)) q ((k + 1 : Nat) : Int)) k ((k + 1 : Nat) : Int) q = ((k + 1 : Nat) : Int) := by rw [zu_n (by omega), zu_s]
  have hrow : ∀ s d, s < k → d < 4 → (d = G n ∧ eqv G (vN le s) (eN fe s) n ∧ nN nx s (G n) = 0 ∧ nx'' (4 * s + d) = (k : Int)) ∨ (d = G n ∧ eqv G (vN le s) (eN fe s) n ∧ nN nx s (G n) = q ∧ nx'' (4 * s + d) = ((k + 1 : Nat) : Int)) ∨ (¬ (d = G n ∧ eqv G (vN le s) (eN fe s) n ∧ (nN nx s (G n) = 0 ∨ nN nx s (G n) = q)) ∧ nx'' (4 * s + d) = nx (4 * s + d)) := by
    intro s d hs hd
    by_cases h1 : d = G n ∧ eqv G (vN le s) (eN fe s) n ∧ nN nx s (G n) = q
    · obtain ⟨rfl, u2, u3⟩ := h1
      exact Or.inr (Or.inl ⟨rfl, u2, u3, R1 s hs u2 u3 (hcq s hs u2 u3)⟩)
    · have e1 := R2 s d hs hd (fun u => h1 ⟨u.1, u.2.1, u.2.2.1⟩)
      by_cases h2 : d = G n ∧ eqv G (vN le s) (eN fe s) n ∧ nN nx s (G n) = 0
      · obtain ⟨rfl, u2, u3⟩ := h2
        exact Or.inl ⟨rfl, u2, u3, by rw [e1]; exact P1 s hs u2 (hcond s hs u2 u3)⟩
      · refine Or.inr (Or.inr ⟨fun u => ?_, ?_⟩)
        · rcases u.2.2 with v | v
          · exact h2 ⟨u.1, u.2.1, v⟩
          · exact h1 ⟨u.1, u.2.1, v⟩
        · rw [e1]; exact P2 s d hs hd (fun u => h2 ⟨u.1, u.2.1, P0 s hs u.2.1 u.2.2⟩)
  have hrowq : ∀ d, d < 4 → nx'' (4 * q + d) = nx' (4 * q + d) := fun d hd => R2 q d g1 hd (fun u => hqn u.2.2.1)
  have hnn : ∀ s d, s < k → d < 4 → 0 ≤ nx'' (4 * s + d) := fun s d hs hd => by
    rcases hrow s d hs hd with ⟨-, -, -, u⟩ | ⟨-, -, -, u⟩ | ⟨-, u⟩
    · rw [u]; omega
    · rw [u]; omega
    · rw [u]; exact h.2.1 s d hs hd
  refine ⟨sam_ext2 h.1 hc hq0 g1 (by omega) g2 hls F2 hK (fun s d hs hd hne => ?_) (fun s hs cs hz2 => ?_) (fun s hs cs hz2 => ?_) (fun s hs hu => ?_) (fun d hd => nN_v (by rw [R3 d hd]; rfl)) (fun d hd => ?_) L1 L2 L3 E1 E2 E3 (fun s h0 hs hne => vN_z (S1 s hs hne)) (vN_v S2) (vN_z S3 : vN _ (k + 1) = vN (fun _ => sh q) (k + 1)) (vN_v S4), fun s c hs hc2 => ?_, fun s h0 hs => ?_, ?_, fun s hs => ?_, fun s hs => ?_, ⟨by omega, L2, E2⟩, fun s hs => ?_⟩
  · rcases hrow s d hs hd with ⟨u, -⟩ | ⟨u, -⟩ | ⟨-, u⟩
    · exact absurd u hne
    · exact absurd u hne
    · exact nN_z u
  · rcases hrow s _ hs hc with ⟨-, -, -, u⟩ | ⟨-, -, u3, -⟩ | ⟨u, -⟩
    · exact nN_v u
    · omega
    · exact absurd ⟨rfl, cs, Or.inl hz2⟩ u
  · rcases hrow s _ hs hc with ⟨-, -, u3, -⟩ | ⟨-, -, -, u⟩ | ⟨u, -⟩
    · omega
    · exact nN_v u
    · exact absurd ⟨rfl, cs, Or.inr hz2⟩ u
  · rcases hrow s _ hs hc with ⟨-, u2, u3, -⟩ | ⟨-, u2, u3, -⟩ | ⟨-, u⟩
    · exact absurd ⟨u2, Or.inl u3⟩ hu
    · exact absurd ⟨u2, Or.inr u3⟩ hu
    · exact nN_z u
  · unfold nN; rw [R4 d hd, hrowq d hd]
  · rcases Nat.lt_or_ge s k with q1 | q1
    · exact hnn s c q1 hc2
    · rcases Nat.lt_or_ge k s with q2 | q2
      · rw [show s = k + 1 by omega, R4 c hc2, ← hrowq c hc2]; exact hnn q c g1 hc2
      · rw [show s = k by omega, R3 c hc2]; exact Int.le_refl 0
  · rcases Nat.lt_or_ge s k with q1 | q1
    · by_cases hne : s = q
      · rw [hne, S4]; omega
      · rw [S1 s q1 hne]; exact h.2.2.1 s h0 q1
    · rcases Nat.lt_or_ge k s with q2 | q2
      · rw [show s = k + 1 by omega, S3]; exact h.2.2.1 q hq0 g1
      · rw [show s = k by omega, S2]; omega
  · rw [S1 0 hpos.1 (by omega)]; exact h.2.2.2.1
  · rcases Nat.lt_or_ge s k with q1 | q1
    · rw [zu_n (by omega), zu_n (by omega)]; exact h.2.2.2.2.1 s q1
    · rcases Nat.lt_or_ge k s with q2 | q2
      · rw [show s = k + 1 by omega, zu_s]; omega
      · rw [show s = k by omega, zu_n (by omega), zu_s]; omega
  · rcases Nat.lt_or_ge s k with q1 | q1
    · rw [zu_n (by omega), zu_n (by omega)]; exact h.2.2.2.2.2.1 s q1
    · rcases Nat.lt_or_ge k s with q2 | q2
      · rw [show s = k + 1 by omega, zu_s]; exact h.2.2.2.2.2.1 q g1
      · rw [show s = k by omega, zu_n (by omega), zu_s]; omega
  · rcases Nat.lt_or_ge s k with q1 | q1
    · rw [zu_n (by omega), zu_n (by omega), zu_n (by omega), E1 s q1, L1 s q1]; exact h.vti q1
    · rcases Nat.lt_or_ge k s with q2 | q2
      · obtain rfl : s = k + 1 := by omega
        have := (h.1.wf g1).1
        rw [zu_s, E3, L3, if_neg (by omega)]
      · obtain rfl : s = k := by omega
        rw [zu_n (by omega), zu_s, E2, L2, if_pos ⟨hpos.1, rfl⟩]
end AUT
end
section
/-! ===== pure: a step along the chain of shorter endings; the invariants of the two loops of 'extend' ===== -/
def L1I (G : Nat → Nat) (n k : Nat) (nx le fe nxc : Nat → Int) (b : Nat) : Prop :=
  (∀ s, s < k → eqv G (vN le s) (eN fe s) n → b ≤ vN le s → nN nx s (G n) = 0) ∧
  (∀ s, s < k → eqv G (vN le s) (eN fe s) n → b ≤ vN le s → nxc (4 * s + G n) = (k : Int)) ∧
  (∀ s d, s < k → d < 4 → ¬ (d = G n ∧ eqv G (vN le s) (eN fe s) n ∧ b ≤ vN le s) → nxc (4 * s + d) = nx (4 * s + d)) ∧
  (∀ d, d < 4 → nxc (4 * k + d) = 0)
def L2I (G : Nat → Nat) (n k q : Nat) (nx le fe nxc nxd : Nat → Int) (b : Nat) : Prop :=
  (∀ s, s < k → eqv G (vN le s) (eN fe s) n → nN nx s (G n) = q → b ≤ vN le s → nxd (4 * s + G n) = ((k + 1 : Nat) : Int)) ∧
  (∀ s d, s < k → d < 4 → ¬ (d = G n ∧ eqv G (vN le s) (eN fe s) n ∧ nN nx s (G n) = q ∧ b ≤ vN le s) → nxd (4 * s + d) = nxc (4 * s + d)) ∧
  (∀ d, d < 4 → nxd (4 * k + d) = 0) ∧ (∀ d, d < 4 → nxd (4 * (k + 1) + d) = nxc (4 * q + d))
section AUT
variable {G : Nat → Nat} {n k la : Nat} {nx sh le ti fe nxc nxd : Nat → Int}
theorem ch_step (h : Aut G n k la nx sh le ti fe) {t : Nat} (ht : t < k) (ct : eqv G (vN le t) (eN fe t) n) : ∃ b', b' ≤ vN le t ∧ (∀ s, s < k → eqv G (vN le s) (eN fe s) n → (b' ≤ vN le s ↔ (vN le t + 1 ≤ vN le s ∨ s = t))) ∧ ((sh t = -1 ∧ b' = 0) ∨ ∃ t', t' < k ∧ sh t = (t' : Int) ∧ eqv G (vN le t') (eN fe t') n ∧ b' = vN le t' + 1) := by
  rcases Nat.eq_zero_or_pos t with rfl | h0
  · have hz := h.1.pos.2.1
    refine ⟨0, by omega, fun s hs cs => ⟨fun _ => ?_, fun _ => by omega⟩, Or.inl ⟨h.2.2.2.1, rfl⟩⟩
    rcases Nat.eq_zero_or_pos (vN le s) with q | q
    · exact Or.inr (sam_LE0 h.1 hs q)
    · exact Or.inl (by omega)
  · have hS := h.1.S h0 ht
    refine ⟨vN le (vN sh t) + 1, by omega, fun s hs cs => ⟨fun q => ?_, fun q => ?_⟩, Or.inr ⟨vN sh t, hS.1, (h.vsh h0 ht).1, ch_link h.1 h0 ht ct, rfl⟩⟩
    · rcases Nat.lt_or_ge (vN le t) (vN le s) with q2 | q2
      · exact Or.inl q2
      · exact Or.inr (ch_uniq h.1 h0 ht hs ct cs q q2)
    · rcases q with q | q
      · omega
      · subst q; omega
theorem l1_step (h : Aut G n k la nx sh le ti fe) (hc : G n < 4) {t b' : Nat} (ht : t < k) (ct : eqv G (vN le t) (eN fe t) n) (hz : nN nx t (G n) = 0) (hI : L1I G n k nx le fe nxc (vN le t + 1)) (hU : ∀ s, s < k → eqv G (vN le s) (eN fe s) n → (b' ≤ vN le s ↔ (vN le t + 1 ≤ vN le s ∨ s = t))) : L1I G n k nx le fe (zu nxc (4 * t + G n) (k : Int)) b' := by
  obtain ⟨P0, P1, P2, P3⟩ := hI
  refine ⟨fun s hs cs hb => ?_, fun s hs cs hb => ?_, fun s d hs hd hn => ?_, fun d hd => ?_⟩
  · rcases (hU s hs cs).mp hb with q | q
    · exact P0 s hs cs q
    · rw [q]; exact hz
  · by_cases q : s = t
    · rw [q]; exact zu_s
    · rw [zu_n (by omega)]
      rcases (hU s hs cs).mp hb with q2 | q2
      · exact P1 s hs cs q2
      · exact absurd q2 q
  · have hne : 4 * s + d ≠ 4 * t + G n := fun e => by
      obtain rfl : s = t := by omega
      exact hn ⟨by omega, ct, (hU s hs ct).mpr (Or.inr rfl)⟩
    rw [zu_n hne]
    exact P2 s d hs hd (fun u => hn ⟨u.1, u.2.1, (hU s hs u.2.1).mpr (Or.inl u.2.2)⟩)
  · rw [zu_n (by omega)]; exact P3 d hd
theorem l2_step (h : Aut G n k la nx sh le ti fe) (hc : G n < 4) {t b' q : Nat} (ht : t < k) (ct : eqv G (vN le t) (eN fe t) n) (hz : nN nx t (G n) = q) (hI : L2I G n k q nx le fe nxc nxd (vN le t + 1)) (hU : ∀ s, s < k → eqv G (vN le s) (eN fe s) n → (b' ≤ vN le s ↔ (vN le t + 1 ≤ vN le s ∨ s = t))) : L2I G n k q nx le fe nxc (zu nxd (4 * t + G n) ((k + 1 : Nat) : Int)) b' := by
  obtain ⟨P1, P2, P3, P4⟩ := hI
  refine ⟨fun s hs cs hq hb => ?_, fun s d hs hd hn => ?_, fun d hd => ?_, fun d hd => ?_⟩
  · by_cases q : s = t
    · rw [q]; exact zu_s
    · rw [zu_n (by omega)]
      rcases (hU s hs cs).mp hb with q2 | q2
      · exact P1 s hs cs hq q2
      · exact absurd q2 q
  · have hne : 4 * s + d ≠ 4 * t + G n := fun e => by
      obtain rfl : s = t := by omega
      exact hn ⟨by omega, ct, hz, (hU s hs ct).mpr (Or.inr rfl)⟩
    rw [zu_n hne]
    exact P2 s d hs hd (fun u => hn ⟨u.1, u.2.1, u.2.2.1, (hU s hs u.2.1).mpr (Or.inl u.2.2.2)⟩)
  · rw [zu_n (by omega)]; exact P3 d hd
  · rw [zu_n (by omega)]; exact P4 d hd
end AUT
end
section
/-! ===== pure: an order of the first i states by a number LE; putting one more in ===== -/
def Ord (i : Nat) (bl : Nat → Int) (pos LE : Nat → Nat) : Prop :=
  (∀ s, s < i → pos s < i ∧ bl (pos s) = (s : Int)) ∧ (∀ j, j < i → vN bl j < i ∧ bl j = (vN bl j : Int) ∧ pos (vN bl j) = j) ∧ (∀ j j', j ≤ j' → j' < i → LE (vN bl j) ≤ LE (vN bl j'))
theorem ord_0 (bl : Nat → Int) (pos LE : Nat → Nat) : Ord 0 bl pos LE := ⟨fun s h => by omega, fun j h => by omega, fun j j' h1 h2 => by omega⟩
theorem ord_lt {i : Nat} {bl : Nat → Int} {pos LE : Nat → Nat} (h : Ord i bl pos LE) {s s' : Nat} (hs : s < i) (hs' : s' < i) (hl : LE s < LE s') : pos s < pos s' := by
  rcases Nat.lt_or_ge (pos s) (pos s') with q | q
  · exact q
  · have h1 := h.1 s hs
    have h2 := h.1 s' hs'
    have h3 := h.2.2 _ _ q h1.1
    rw [vN_v h1.2, vN_v h2.2] at h3
    omega
theorem ord_ins {i a : Nat} {bl bl' : Nat → Int} {pos LE : Nat → Nat} (h : Ord i bl pos LE) (ha : a ≤ i) (h1 : ∀ j, a ≤ j → j < i → LE i ≤ LE (vN bl j)) (h2 : a = 0 ∨ LE (vN bl (a - 1)) ≤ LE i)
    (e1 : ∀ j, j < a → bl' j = bl j) (e2 : bl' a = (i : Int)) (e3 : ∀ j, a ≤ j → j < i → bl' (j + 1) = bl j) : ∃ pos', Ord (i + 1) bl' pos' LE := by
  obtain ⟨o1, o2, o3⟩ := h
  have v1 : ∀ j, j < a → vN bl' j = vN bl j := fun j hj => vN_z (e1 j hj)
  have v2 : vN bl' a = i := vN_v e2
  have v3 : ∀ j, a < j → j ≤ i → vN bl' j = vN bl (j - 1) ∧ bl' j = bl (j - 1) := fun j hj hj2 => by
    have := e3 (j - 1) (by omega) (by omega)
    rw [show j - 1 + 1 = j by omega] at this
    exact ⟨by unfold vN; rw [this], this⟩
  have low : ∀ j, j < a → LE (vN bl j) ≤ LE i := fun j hj => by
    rcases h2 with q | q
    · omega
    · exact Nat.le_trans (o3 j (a - 1) (by omega) (by omega)) q
  refine ⟨fun s => if s = i then a else if pos s < a then pos s else pos s + 1, fun s hs => ?_, fun j hj => ?_, fun j j' hjj hj => ?_⟩
  · by_cases q : s = i
    · simp only [q, if_true]; exact ⟨by omega, e2⟩
    · have g := o1 s (by omega)
      simp only [q, if_false]
      by_cases q2 : pos s < a
      · simp only [q2, if_true]; exact ⟨by omega, by rw [e1 _ q2]; exact g.2⟩
      · simp only [q2, if_false]; exact ⟨by omega, by rw [e3 _ (by omega) g.1]; exact g.2⟩
  · rcases Nat.lt_trichotomy j a with q | q | q
    · have g := o2 j (by omega)
      rw [v1 j q]
      refine ⟨by omega, by rw [e1 j q]; exact g.2.1, ?_⟩
      have g1 : vN bl j ≠ i := by omega
      simp only [g1, if_false, g.2.2, q, if_true]
    · subst q
      rw [v2]
      exact ⟨by omega, e2, by simp⟩
    · have g := o2 (j - 1) (by omega)
      have v := v3 j q (by omega)
      rw [v.1]
      refine ⟨by omega, by rw [v.2]; exact g.2.1, ?_⟩
      have g1 : vN bl (j - 1) ≠ i := by omega
      have g2 : ¬ j - 1 < a := by omega
      simp only [g1, if_false, g.2.2, g2]
      omega
  · rcases Nat.lt_trichotomy j' a with q | q | q
    · rw [v1 j' q, v1 j (by omega)]; exact o3 j j' hjj (by omega)
    · subst q
      rw [v2]
      rcases Nat.lt_or_ge j j' with q2 | q2
      · rw [v1 j q2]; exact low j q2
      · rw [show j = j' by omega, v2]; exact Nat.le_refl _
    · rw [(v3 j' q (by omega)).1]
      rcases Nat.lt_trichotomy j a with q2 | q2 | q2
      · rw [v1 j q2]; exact Nat.le_trans (low j q2) (h1 (j' - 1) (by omega) (by omega))
      · subst q2; rw [v2]; exact h1 (j' - 1) (by omega) (by omega)
      · rw [(v3 j q2 (by omega)).1]; exact o3 (j - 1) (j' - 1) (by omega) (by omega)
end
section
/-! ===== pure: how often a state's words occur, summed up from the longest states to the shortest ===== -/
/-- in how many ends the words of state s occur -/
noncomputable def cnt (G : Nat → Nat) (n : Nat) (LE EE : Nat → Nat) (s : Nat) : Nat := cP (fun j => eqv G (LE s) (EE s) (j + 1)) n
def CT (G : Nat → Nat) (n k : Nat) (LE EE pos : Nat → Nat) (ti : Nat → Int) (i : Nat) : Prop := ∀ s, s < k → (i < pos s → ti s = (cnt G n LE EE s : Int)) ∧ (pos s ≤ i → ti s = (cP (fun j => eqv G (LE s) (EE s) (j + 1) ∧ ∀ s', s' < k → eqv G (LE s') (EE s') (j + 1) → LE s < LE s' → i < pos s') n : Int))
section SAM
variable {G : Nat → Nat} {n k : Nat} {NX : Nat → Nat → Nat} {SH LE EE : Nat → Nat}
theorem ch_uniq' (h : Sam G n k NX SH LE EE) {t s e : Nat} (ht0 : 0 < t) (ht : t < k) (hs : s < k) (ct : eqv G (LE t) (EE t) e) (cs : eqv G (LE s) (EE s) e) (h1 : LE (SH t) < LE s) (h2 : LE s ≤ LE t) : s = t := by
  have hs0 : 0 < s := by
    rcases Nat.eq_zero_or_pos s with q | q
    · subst q; have := h.pos.2.1; omega
    · exact q
  exact h.D (l := LE s) hs0 hs ht0 ht (h.S hs0 hs).2.1 (Nat.le_refl _) h1 h2 (eqv_trans cs (eqv_symm (eqv_mono h2 ct)))
theorem ch_same (h : Sam G n k NX SH LE EE) {t s e : Nat} (ht : t < k) (hs : s < k) (ct : eqv G (LE t) (EE t) e) (cs : eqv G (LE s) (EE s) e) (he : LE s = LE t) : s = t := by
  rcases Nat.eq_zero_or_pos t with q | q
  · subst q
    exact sam_LE0 h hs (by rw [he]; exact h.pos.2.1)
  · exact ch_uniq' h q ht hs ct cs (by rw [he]; exact (h.S q ht).2.1) (by omega)
theorem ct_step (h : Sam G n k NX SH LE EE) {bl ti : Nat → Int} {pos : Nat → Nat} (hO : Ord k bl pos LE) {i s : Nat} (hi0 : 0 < i) (hik : i < k) (hC : CT G n k LE EE pos ti i) (hs : s = vN bl i) :
    0 < s ∧ s < k ∧ ti s = (cnt G n LE EE s : Int) ∧ CT G n k LE EE pos (zu ti (SH s) (ti (SH s) + ti s)) (i - 1) := by
  obtain ⟨b1, b2, b3⟩ := hO.2.1 i hik
  rw [← hs] at b1 b2 b3
  have hinj : ∀ u, u < k → pos u = i → u = s := fun u hu e => by
    have := (hO.1 u hu).2
    rw [e, b2] at this; omega
  have hs0 : 0 < s := by
    rcases Nat.eq_zero_or_pos s with q | q
    · exfalso
      obtain ⟨c1, c2, c3⟩ := hO.2.1 0 (by omega)
      have hne : vN bl 0 ≠ 0 := fun e => by rw [e, ← q, b3] at c3; omega
      have hp := h.pos.2.1
      have hl : 0 < LE (vN bl 0) := by
        rcases Nat.eq_zero_or_pos (LE (vN bl 0)) with z | z
        · exact absurd (sam_LE0 h c1 z) hne
        · exact z
      have := ord_lt hO (s := 0) (s' := vN bl 0) (by omega) c1 (by omega)
      omega
    · exact q
  have hS := h.S hs0 b1
  have hcs : ti s = (cnt G n LE EE s : Int) := by
    rw [(hC s b1).2 (by omega)]
    congr 1
    refine cP_congr (fun j hj => ⟨fun q => q.1, fun q => ⟨q, fun s' hs' _ hl => ?_⟩⟩)
    have := ord_lt hO b1 hs' hl
    omega
  have hpp : pos (SH s) < i := by
    have := ord_lt hO hS.1 b1 hS.2.1; omega
  refine ⟨hs0, b1, hcs, fun u hu => ⟨fun hpu => ?_, fun hpu => ?_⟩⟩
  · have hne : u ≠ SH s := fun e => by subst e; omega
    rw [zu_n hne]
    by_cases q : pos u = i
    · rw [hinj u hu q]; exact hcs
    · exact (hC u hu).1 (by omega)
  · have hold := (hC u hu).2 (by omega)
    by_cases hus : u = SH s
    · subst hus
      rw [zu_s, hold, hcs]
      unfold cnt
      rw [← Int.natCast_add, ← cP_or]
      · congr 1
        refine cP_congr (fun j hj => ⟨fun q => ?_, fun q => ?_⟩)
        · rcases q with q | q
          · exact ⟨q.1, fun s' a1 a2 a3 => by have := q.2 s' a1 a2 a3; omega⟩
          · refine ⟨eqv_trans hS.2.2 (eqv_mono (by omega) q), fun s' a1 a2 a3 => ?_⟩
            rcases Nat.lt_or_ge (LE s) (LE s') with z | z
            · have := ord_lt hO b1 a1 z; omega
            · rw [ch_uniq' h hs0 b1 a1 q a2 a3 z]; omega
        · by_cases z : eqv G (LE s) (EE s) (j + 1)
          · exact Or.inr z
          · refine Or.inl ⟨q.1, fun s' a1 a2 a3 => ?_⟩
            have := q.2 s' a1 a2 a3
            by_cases w : pos s' = i
            · rw [hinj s' a1 w] at a2; exact absurd a2 z
            · omega
      · intro j hj q
        have := q.1.2 s b1 q.2 hS.2.1
        omega
    · rw [zu_n hus, hold]
      congr 1
      refine cP_congr (fun j hj => ⟨fun q => ⟨q.1, fun s' a1 a2 a3 => by have := q.2 s' a1 a2 a3; omega⟩, fun q => ⟨q.1, fun s' a1 a2 a3 => ?_⟩⟩)
      have hlt := q.2 s' a1 a2 a3
      by_cases w : pos s' = i
      · exfalso
        obtain rfl := hinj s' a1 w
        have cp := eqv_trans hS.2.2 (eqv_mono (by omega) a2)
        rcases Nat.lt_trichotomy (LE u) (LE (SH s')) with z | z | z
        · have := q.2 _ hS.1 cp z; omega
        · exact hus (ch_same h hS.1 hu cp q.1 z)
        · have := ch_uniq' h hs0 a1 hu a2 q.1 z (by omega)
          subst this; omega
      · omega
theorem ct_end (h : Sam G n k NX SH LE EE) {bl ti : Nat → Int} {pos : Nat → Nat} (hO : Ord k bl pos LE) (hC : CT G n k LE EE pos ti 0) : ∀ s, s < k → ti s = (cnt G n LE EE s : Int) := by
  intro s hs
  rcases Nat.eq_zero_or_pos (pos s) with q | q
  · rw [(hC s hs).2 (by omega)]
    congr 1
    refine cP_congr (fun j hj => ⟨fun z => z.1, fun z => ⟨z, fun s' a1 _ a3 => ?_⟩⟩)
    have := ord_lt hO hs a1 a3; omega
  · exact (hC s hs).1 q
theorem ct_init (h : Sam G n k NX SH LE EE) {bl ti : Nat → Int} {pos : Nat → Nat} (hO : Ord k bl pos LE) (ht : ∀ s, s < k → ti s = if 0 < s ∧ EE s = LE s then 1 else 0) : CT G n k LE EE pos ti (k - 1) := by
  intro s hs
  have hp := (hO.1 s hs).1
  refine ⟨fun q => by omega, fun _ => ?_⟩
  rw [ht s hs]
  have key : ∀ j, j < n → (eqv G (LE s) (EE s) (j + 1) ∧ ∀ s', s' < k → eqv G (LE s') (EE s') (j + 1) → LE s < LE s' → k - 1 < pos s') → LE s = j + 1 ∧ EE s = j + 1 := by
    intro j hj q
    obtain ⟨s1, g0, g1, g2, g3, g4⟩ := h.A (e := j + 1) (l := j + 1) (by omega) (Nat.le_refl _) (by omega)
    have c1 := h.B g0 g1 g2 g3 (by omega) g4
    have hle : LE s1 ≤ LE s := by
      rcases Nat.lt_or_ge (LE s) (LE s1) with z | z
      · have := q.2 s1 g1 c1 z
        have := (hO.1 s1 g1).1; omega
      · exact z
    have := q.1.2.1
    have := h.C hs (by omega) q.1
    have := h.wf hs
    omega
  by_cases q : 0 < s ∧ EE s = LE s
  · rw [if_pos q]
    have h0 : 0 < LE s := by have := (h.S q.1 hs).2.1; omega
    have hn := (h.wf hs).2
    rw [cP_one (i := LE s - 1) (by omega) ⟨by rw [show LE s - 1 + 1 = LE s by omega, q.2]; exact eqv_refl (Nat.le_refl _), fun s' a1 a2 a3 => by have := a2.2.1; omega⟩ (fun j hj z => by have := key j hj z; omega)]
    rfl
  · rw [if_neg q, cP_none (fun j hj z => ?_)]
    · rfl
    · have h1 := key j hj z
      refine q ⟨?_, by omega⟩
      rcases Nat.eq_zero_or_pos s with w | w
      · subst w; have := h.pos.2.1; omega
      · exact w
theorem cnt_le (s : Nat) : cnt G n LE EE s ≤ n := cP_le _ _
end SAM
end
section
/-! ===== pure: how many words lead on from a state ===== -/
/-- the word that ends at e, m letters behind the words of s, at its first end -/
def Cw (G : Nat → Nat) (LE EE : Nat → Nat) (s e m : Nat) : Prop := m ≤ e ∧ eqv G (LE s) (EE s) (e - m) ∧ ∀ e', e' < e → ¬ eqv G (LE s + m) e' e
noncomputable def Fw (G : Nat → Nat) (n : Nat) (LE EE : Nat → Nat) (s m : Nat) : Nat := cP (fun e => Cw G LE EE s e (m + 1)) (n + 1)
noncomputable def Dw (G : Nat → Nat) (n : Nat) (LE EE : Nat → Nat) (s : Nat) : Nat := sm (fun m => Fw G n LE EE s m) n
theorem eqv_drop {G : Nat → Nat} {l m a b : Nat} (h : eqv G (l + m) a b) : eqv G l (a - m) (b - m) := by
  obtain ⟨h1, h2, h3⟩ := h
  refine ⟨by omega, by omega, fun k hk => ?_⟩
  have := h3 (m + k) (by omega)
  rw [show a - 1 - (m + k) = a - m - 1 - k by omega, show b - 1 - (m + k) = b - m - 1 - k by omega] at this
  exact this
theorem eqv_app {G : Nat → Nat} {l m a b : Nat} (h : eqv G l (a - m) (b - m)) (h' : eqv G m a b) : eqv G (l + m) a b := by
  obtain ⟨h1, h2, h3⟩ := h
  obtain ⟨g1, g2, g3⟩ := h'
  refine ⟨by omega, by omega, fun k hk => ?_⟩
  rcases Nat.lt_or_ge k m with q | q
  · exact g3 k q
  · have := h3 (k - m) (by omega)
    rw [show a - m - 1 - (k - m) = a - 1 - k by omega, show b - m - 1 - (k - m) = b - 1 - k by omega] at this
    exact this
/-- a count by the values of g below 4 -/
theorem cP_part {P : Nat → Prop} {g : Nat → Nat} {N : Nat} (h : ∀ e, e < N → P e → g e < 4) : cP P N = sm (fun d => cP (fun e => P e ∧ g e = d) N) 4 := by
  have e1 : ∀ d, cP (fun e => P e ∧ g e < d) N = sm (fun d => cP (fun e => P e ∧ g e = d) N) d := by
    intro d
    induction d with
    | zero => exact cP_none (fun i hi q => by omega)
    | succ d ih =>
      show _ = sm (fun d => cP (fun e => P e ∧ g e = d) N) d + cP (fun e => P e ∧ g e = d) N
      rw [← ih, ← cP_or (fun i hi q => by omega)]
      refine cP_congr (fun i hi => ⟨fun q => ?_, fun q => ?_⟩)
      · rcases Nat.lt_or_ge (g i) d with z | z
        · exact Or.inl ⟨q.1, z⟩
        · exact Or.inr ⟨q.1, by omega⟩
      · rcases q with q | q
        · exact ⟨q.1, by omega⟩
        · exact ⟨q.1, by omega⟩
  rw [← e1]
  exact cP_congr (fun i hi => ⟨fun q => ⟨q, h i hi q⟩, fun q => q.1⟩)
section SAM
variable {G : Nat → Nat} {n k : Nat} {NX : Nat → Nat → Nat} {SH LE EE : Nat → Nat}
theorem sam_to (h : Sam G n k NX SH LE EE) {s d : Nat} (hs : s < k) (hd : d < 4) (hz : NX s d ≠ 0) {a : Nat} (ha : a < n) : (eqv G (LE s) (EE s) a ∧ G a = d) ↔ eqv G (LE (NX s d)) (EE (NX s d)) (a + 1) := by
  obtain ⟨g1, g2, g3, e, g4, g5, g6, g7⟩ := h.T1 hs hd hz
  constructor
  · rintro ⟨h1, h2⟩
    exact h.B (by omega) g1 g2 g3 (by omega) (eqv_trans g7 (eqv_succ.mpr ⟨eqv_trans (eqv_symm g5) h1, by omega⟩))
  · intro h1
    have := eqv_succ.mp (eqv_trans (eqv_symm g7) (eqv_mono g3 h1))
    exact ⟨eqv_trans g5 this.1, by omega⟩
theorem Dw_le (s : Nat) : Dw G n LE EE s ≤ n * (n + 1) := by
  unfold Dw
  rw [← sm_const]
  exact sm_le (fun i hi => cP_le _ _)
theorem Dw_rec (h : Sam G n k NX SH LE EE) (hG : ∀ e, e < n → G e < 4) {s : Nat} (hs : s < k) : Dw G n LE EE s = sm (fun d => if NX s d = 0 then 0 else 1 + Dw G n LE EE (NX s d)) 4 := by
  have e1 : Dw G n LE EE s = sm (fun d => sm (fun m => cP (fun e => Cw G LE EE s e (m + 1) ∧ G (e - (m + 1)) = d) (n + 1)) n) 4 := by
    unfold Dw
    rw [sm_swap]
    refine sm_congr (fun m hm => ?_)
    exact cP_part (g := fun e => G (e - (m + 1))) (fun e he q => hG _ (by have := q.1; omega))
  rw [e1]
  refine sm_congr (fun d hd => ?_)
  by_cases hz : NX s d = 0
  · rw [if_pos hz]
    refine sm_zero (fun m hm => cP_none (fun e he q => ?_))
    exact h.T0 hs hd hz (by have := q.1.1; omega) q.1.2.1 q.2
  · rw [if_neg hz]
    obtain ⟨g1, g2, g3, e0, g4, g5, g6, g7⟩ := h.T1 hs hd hz
    obtain ⟨n', rfl⟩ : ∃ n', n = n' + 1 := ⟨n - 1, by omega⟩
    have hwq := h.wf g1
    rw [sm_head]
    congr 1
    · have hp : eqv G (LE s + 1) (EE (NX s d)) (e0 + 1) := g7
      obtain ⟨x, y, hx, hy, q1, q2⟩ := eqv_pred hp
      obtain rfl : y = e0 := by omega
      refine cP_one (i := EE (NX s d)) (by omega) ⟨⟨by omega, ?_, fun e' he' q => ?_⟩, ?_⟩ (fun e he q => ?_)
      · rw [show EE (NX s d) - (0 + 1) = x by omega]; exact eqv_trans g5 (eqv_symm q1)
      · have := h.C g1 (by omega) (h.B (by omega) g1 g2 g3 (by omega : e' ≤ n' + 1) (eqv_symm q)); omega
      · rw [show EE (NX s d) - (0 + 1) = x by omega, q2]; exact g6
      · obtain ⟨⟨c1, c2, c3⟩, c4⟩ := q
        have hE := (sam_to h hs hd hz (a := e - (0 + 1)) (by omega)).mp ⟨c2, c4⟩
        rw [show e - (0 + 1) + 1 = e by omega] at hE
        have hle := h.C g1 (by omega) hE
        rcases Nat.lt_or_ge (EE (NX s d)) e with z | z
        · exact absurd (eqv_mono g3 hE) (c3 _ z)
        · omega
    · have e2 : sm (fun i => cP (fun e => Cw G LE EE s e (i + 1 + 1) ∧ G (e - (i + 1 + 1)) = d) (n' + 1 + 1)) n' = sm (fun m => Fw G (n' + 1) LE EE (NX s d) m) n' := by
        refine sm_congr (fun m hm => cP_congr (fun e he => ⟨fun q => ?_, fun q => ?_⟩))
        · obtain ⟨⟨c1, c2, c3⟩, c4⟩ := q
          refine ⟨by omega, ?_, fun e' he' z => c3 e' he' (eqv_mono (by omega) z)⟩
          have := (sam_to h hs hd hz (a := e - (m + 1 + 1)) (by omega)).mp ⟨c2, c4⟩
          rw [show e - (m + 1 + 1) + 1 = e - (m + 1) by omega] at this
          exact this
        · obtain ⟨c1, c2, c3⟩ := q
          have c4 := c2.2.1
          have c5 := (sam_to h hs hd hz (a := e - (m + 1 + 1)) (by omega)).mpr (by rw [show e - (m + 1 + 1) + 1 = e - (m + 1) by omega]; exact c2)
          refine ⟨⟨by omega, c5.1, fun e' he' z => c3 e' he' ?_⟩, c5.2⟩
          have z1 : eqv G (LE s + 1 + (m + 1)) e' e := by rw [show LE s + 1 + (m + 1) = LE s + (m + 1 + 1) by omega]; exact z
          have z2 := eqv_drop z1
          have z3 := h.B (by omega) g1 g2 g3 (by omega : e' - (m + 1) ≤ n' + 1) (eqv_trans (eqv_mono g3 c2) (eqv_symm z2))
          exact eqv_app (eqv_trans (eqv_symm z3) c2) (eqv_mono (by omega) z)
      rw [e2]
      unfold Dw
      show _ = sm (fun m => Fw G (n' + 1) LE EE (NX s d) m) n' + Fw G (n' + 1) LE EE (NX s d) n'
      have e3 : Fw G (n' + 1) LE EE (NX s d) n' = 0 := cP_none (fun e he q => by
        have := q.2.1.2.1
        have := q.1
        omega)
      omega
end SAM
end
section
/-! ===== RepeatFinder: newState, split ===== -/
set_option maxRecDepth 100000
theorem newState_loop {K : XK} {l : Launch} {D : va_G} {dB dS : ClassId} {ad : Nat → Nat} {tl pl bu la ra a b : Int} {tx pr nx sh le ti fe wo bl : Nat → Int} {k : Nat} (hk : k ≤ 49) (h : xok K (JX l D dB dS) ({ frames := 0, cells := 0, slots := 0, locals := 0 }) cX0_newState RX0 5)
    (hx : ∀ (x : Int) (nx' : Nat → Int), (∀ i, i < 4 * k ∨ 4 * k + 4 ≤ i → nx' i = nx i) → (∀ j, j < 4 → nx' (4 * k + j) = 0) → xw K (wX ad dB dS tl pl bu ((k : Int) + 1) la ra tx pr nx' (zu sh k (-1)) (zu le k a) (zu ti k 0) (zu fe k b) wo bl) 72 [(0, .ref (ad 0)), (1, .int (iI a)), (2, .int (iI b)), (3, .int (iI (k : Int))), (4, .int (iI x))] []) :
    ∀ (f c : Nat) (x : Int) (nx' : Nat → Int), 4 < c + f → c ≤ 4 → x = (c : Int) → (∀ i, i < 4 * k ∨ 4 * k + 4 ≤ i → nx' i = nx i) → (∀ j, j < c → nx' (4 * k + j) = 0) → xw K (wX ad dB dS tl pl bu ((k : Int) + 1) la ra tx pr nx' (zu sh k (-1)) (zu le k a) (zu ti k 0) (zu fe k b) wo bl) 48 [(0, .ref (ad 0)), (1, .int (iI a)), (2, .int (iI b)), (3, .int (iI (k : Int))), (4, .int (iI x))] [] := by
  intro f
  induction f with
  | zero => intro c x nx' h1 h2; omega
  | succ f ih =>
    intro c x nx' h1 h2 hcx ha hb
    subst hcx
    refine x_iload h dX0_newState_48 4 rfl ?_
    refine x_iconst h dX0_newState_50 ?_
    refine x_icmp_ge h 72 dX0_newState_51 (by decide) (by omega) (by omega) (fun c_51 => ?_) (fun c_51 => ?_)
    · exact hx _ nx' ha (fun j hj => hb j (by omega))
    · refine x_aload_n h dX0_newState_54 0 rfl ?_
      refine xX_nx h dX0_newState_55 ?_
      refine x_iconst h dX0_newState_58 ?_
      refine x_iload_n h dX0_newState_59 3 rfl ?_
      refine x_imul h dX0_newState_60 ?_
      refine x_iload h dX0_newState_61 4 rfl ?_
      refine x_iadd h dX0_newState_63 ?_
      refine x_iconst h dX0_newState_64 ?_
      refine xX_snx h ((4 * k) + c) (by omega) (by omega) (by omega) dX0_newState_65 ?_
      refine x_iinc h dX0_newState_66 4 rfl (by decide) [1, 2, 3, 4, 0] [(0, .ref (ad 0)), (1, .int (iI a)), (2, .int (iI b)), (3, .int (iI (k : Int))), (4, .int (iI ((c : Int) + 1)))] rfl ?_
      refine x_goto h 48 dX0_newState_69 (by decide) ?_
      refine ih (c + 1) _ _ (by omega) (by omega) (by omega) (fun i hi => ?_) (fun j hj => ?_)
      · rw [zu_n (by omega)]; exact ha i hi
      · by_cases hjc : j = c
        · subst hjc; exact zu_s
        · rw [zu_n (by omega)]; exact hb j (by omega)
theorem cX_newState (l : Launch) (D : va_G) (dB dS : ClassId) (ad : Nat → Nat) (tl pl bu la ra : Int) (tx pr nx sh le ti fe wo bl : Nat → Int) (k : Nat) (a b : Int) (hk : k ≤ 49) (ha : -128 ≤ a ∧ a < 128) (hb : -128 ≤ b ∧ b < 128) : xmi (JX l D dB dS) yX0_newState cX0_newState 5 .int 0 0 [.ref (ad 0), .int (iI a), .int (iI b)] (wX ad dB dS tl pl bu (k : Int) la ra tx pr nx sh le ti fe wo bl) (fun r ws' => r = iI (k : Int) ∧ ∃ nx' : Nat → Int, (∀ i, i < 4 * k ∨ 4 * k + 4 ≤ i → nx' i = nx i) ∧ (∀ j, j < 4 → nx' (4 * k + j) = 0) ∧ ws' = wX ad dB dS tl pl bu ((k : Int) + 1) la ra tx pr nx' (zu sh k (-1)) (zu le k a) (zu ti k 0) (zu fe k b) wo bl) := by
  refine xmi_of (by decide) (Nat.le_of_ble_eq_true rfl) (fun K h hr => ?_)
  show xw K (wX ad dB dS tl pl bu (k : Int) la ra tx pr nx sh le ti fe wo bl) 0 [(0, .ref (ad 0)), (1, .int (iI a)), (2, .int (iI b))] []
  refine x_aload_n h dX0_newState_0 0 rfl ?_
  refine xX_sc h dX0_newState_1 ?_
  refine x_istore_n h dX0_newState_4 (by decide) [1, 2, 3, 0] [(0, .ref (ad 0)), (1, .int (iI a)), (2, .int (iI b)), (3, .int (iI (k : Int)))] rfl ?_
  refine x_aload_n h dX0_newState_5 0 rfl ?_
  refine x_dup h dX0_newState_6 rfl ?_
  refine xX_sc h dX0_newState_7 ?_
  refine x_iconst h dX0_newState_10 ?_
  refine x_iadd h dX0_newState_11 ?_
  refine xX_psc h dX0_newState_12 ?_
  refine x_aload_n h dX0_newState_15 0 rfl ?_
  refine xX_le h dX0_newState_16 ?_
  refine x_iload_n h dX0_newState_19 3 rfl ?_
  refine x_iload_n h dX0_newState_20 1 rfl ?_
  refine x_i2b h dX0_newState_21 (by omega) ?_
  refine xX_sle h k (by omega) (by omega) (by omega) dX0_newState_22 ?_
  refine x_aload_n h dX0_newState_23 0 rfl ?_
  refine xX_fe h dX0_newState_24 ?_
  refine x_iload_n h dX0_newState_27 3 rfl ?_
  refine x_iload_n h dX0_newState_28 2 rfl ?_
  refine x_i2b h dX0_newState_29 (by omega) ?_
  refine xX_sfe h k (by omega) (by omega) (by omega) dX0_newState_30 ?_
  refine x_aload_n h dX0_newState_31 0 rfl ?_
  refine xX_ti h dX0_newState_32 ?_
  refine x_iload_n h dX0_newState_35 3 rfl ?_
  refine x_iconst h dX0_newState_36 ?_
  refine xX_sti h k (by omega) (by omega) (by omega) dX0_newState_37 ?_
  refine x_aload_n h dX0_newState_38 0 rfl ?_
  refine xX_sh h dX0_newState_39 ?_
  refine x_iload_n h dX0_newState_42 3 rfl ?_
  refine x_iconst h dX0_newState_43 ?_
  refine xX_ssh h k (by omega) (by omega) (by omega) dX0_newState_44 ?_
  refine x_iconst h dX0_newState_45 ?_
  refine x_istore h dX0_newState_46 (by decide) [1, 2, 3, 4, 0] [(0, .ref (ad 0)), (1, .int (iI a)), (2, .int (iI b)), (3, .int (iI (k : Int))), (4, .int (iI 0))] rfl ?_
  refine newState_loop hk h (fun x nx' h1 h2 => ?_) 5 0 _ nx (by omega) (by omega) rfl (fun i hi => rfl) (fun j hj => by omega)
  refine x_iload_n h dX0_newState_72 3 rfl ?_
  refine x_ireturn h hr dX0_newState_73 ?_
  exact ⟨rfl, nx', h1, h2, rfl⟩
theorem split_loop {K : XK} {l : Launch} {D : va_G} {dB dS : ClassId} {ad : Nat → Nat} {tl pl bu la ra a : Int} {tx pr nx sh le ti fe wo bl : Nat → Int} {k q : Nat} (hk : k ≤ 49) (hq : q < k) (hb0 : ∀ j, j < 4 → 0 ≤ nx (4 * q + j) ∧ nx (4 * q + j) < 128) (h : xok K (JX l D dB dS) ({ frames := 1, cells := 0, slots := 0, locals := 24 }) cX0_split RX0 5)
    (hx : ∀ (x : Int) (nx' : Nat → Int), (∀ i, i < 4 * k ∨ 4 * k + 4 ≤ i → nx' i = nx i) → (∀ j, j < 4 → nx' (4 * k + j) = nx (4 * q + j)) → xw K (wX ad dB dS tl pl bu ((k : Int) + 1) la ra tx pr nx' (zu sh k (-1)) (zu le k a) (zu ti k 0) (zu fe k (fe q)) wo bl) 49 [(0, .ref (ad 0)), (1, .int (iI (q : Int))), (2, .int (iI a)), (3, .int (iI (k : Int))), (4, .int (iI x))] []) :
    ∀ (f c : Nat) (x : Int) (nx' : Nat → Int), 4 < c + f → c ≤ 4 → x = (c : Int) → (∀ i, i < 4 * k ∨ 4 * k + 4 ≤ i → nx' i = nx i) → (∀ j, j < c → nx' (4 * k + j) = nx (4 * q + j)) → xw K (wX ad dB dS tl pl bu ((k : Int) + 1) la ra tx pr nx' (zu sh k (-1)) (zu le k a) (zu ti k 0) (zu fe k (fe q)) wo bl) 15 [(0, .ref (ad 0)), (1, .int (iI (q : Int))), (2, .int (iI a)), (3, .int (iI (k : Int))), (4, .int (iI x))] [] := by
  intro f
  induction f with
  | zero => intro c x nx' h1 h2; omega
  | succ f ih =>
    intro c x nx' h1 h2 hcx ha hb
    subst hcx
    refine x_iload h dX0_split_15 4 rfl ?_
    refine x_iconst h dX0_split_17 ?_
    refine x_icmp_ge h 49 dX0_split_18 (by decide) (by omega) (by omega) (fun c_18 => ?_) (fun c_18 => ?_)
    · exact hx _ nx' ha (fun j hj => hb j (by omega))
    · refine x_aload_n h dX0_split_21 0 rfl ?_
      refine xX_nx h dX0_split_22 ?_
      refine x_iconst h dX0_split_25 ?_
      refine x_iload_n h dX0_split_26 3 rfl ?_
      refine x_imul h dX0_split_27 ?_
      refine x_iload h dX0_split_28 4 rfl ?_
      refine x_iadd h dX0_split_30 ?_
      refine x_aload_n h dX0_split_31 0 rfl ?_
      refine xX_nx h dX0_split_32 ?_
      refine x_iconst h dX0_split_35 ?_
      refine x_iload_n h dX0_split_36 1 rfl ?_
      refine x_imul h dX0_split_37 ?_
      refine x_iload h dX0_split_38 4 rfl ?_
      refine x_iadd h dX0_split_40 ?_
      refine xX_lnx h ((4 * q) + c) (by omega) (by omega) dX0_split_41 ?_
      refine xX_snx h ((4 * k) + c) (by omega) (by omega) (by rw [ha (4 * q + c) (by omega)]; have := hb0 c (by omega); omega) dX0_split_42 ?_
      refine x_iinc h dX0_split_43 4 rfl (by decide) [1, 2, 3, 4, 0] [(0, .ref (ad 0)), (1, .int (iI (q : Int))), (2, .int (iI a)), (3, .int (iI (k : Int))), (4, .int (iI ((c : Int) + 1)))] rfl ?_
      refine x_goto h 15 dX0_split_46 (by decide) ?_
      refine ih (c + 1) _ _ (by omega) (by omega) (by omega) (fun i hi => ?_) (fun j hj => ?_)
      · rw [zu_n (by omega)]; exact ha i hi
      · by_cases hjc : j = c
        · subst hjc; rw [zu_s]; exact ha (4 * q + j) (by omega)
        · rw [zu_n (by omega)]; exact hb j (by omega)
theorem cX_split (l : Launch) (D : va_G) (dB dS : ClassId) (ad : Nat → Nat) (tl pl bu la ra : Int) (tx pr nx sh le ti fe wo bl : Nat → Int) (k q : Nat) (a : Int) (hk : k ≤ 49) (hq : q < k) (ha : -128 ≤ a ∧ a < 128) (hb0 : ∀ j, j < 4 → 0 ≤ nx (4 * q + j) ∧ nx (4 * q + j) < 128) (hsh : -128 ≤ sh q ∧ sh q < 128) (hfe : -128 ≤ fe q ∧ fe q < 128) : xmi (JX l D dB dS) yX0_split cX0_split 5 .int 1 24 [.ref (ad 0), .int (iI (q : Int)), .int (iI a)] (wX ad dB dS tl pl bu (k : Int) la ra tx pr nx sh le ti fe wo bl) (fun r ws' => r = iI (k : Int) ∧ ∃ nx' : Nat → Int, (∀ i, i < 4 * k ∨ 4 * k + 4 ≤ i → nx' i = nx i) ∧ (∀ j, j < 4 → nx' (4 * k + j) = nx (4 * q + j)) ∧ ws' = wX ad dB dS tl pl bu ((k : Int) + 1) la ra tx pr nx' (zu (zu (zu sh k (-1)) k (sh q)) q (k : Int)) (zu le k a) (zu ti k 0) (zu fe k (fe q)) wo bl) := by
  refine xmi_of (by decide) (Nat.le_of_ble_eq_true rfl) (fun K h hr => ?_)
  show xw K (wX ad dB dS tl pl bu (k : Int) la ra tx pr nx sh le ti fe wo bl) 0 [(0, .ref (ad 0)), (1, .int (iI (q : Int))), (2, .int (iI a))] []
  refine x_aload_n h dX0_split_0 0 rfl ?_
  refine x_iload_n h dX0_split_1 2 rfl ?_
  refine x_aload_n h dX0_split_2 0 rfl ?_
  refine xX_fe h dX0_split_3 ?_
  refine x_iload_n h dX0_split_6 1 rfl ?_
  refine xX_lfe h q (by omega) (by omega) dX0_split_7 ?_
  refine xX_calli h (cX_newState l D dB dS ad tl pl bu la ra tx pr nx sh le ti fe wo bl k a (fe q) hk ha hfe) 2 (lw_V q105 q107 qs2 q19 q108) (by decide +kernel) ⟨Nat.le_of_ble_eq_true rfl, Nat.le_of_ble_eq_true rfl⟩ rfl rfl (Nat.le_of_ble_eq_true rfl) dX0_split_8 (fun r_8 ws_ hp_8 => ?_)
  obtain ⟨rfl, nx', hn1, hn2, rfl⟩ := hp_8
  refine x_istore_n h dX0_split_11 (by decide) [1, 2, 3, 0] [(0, .ref (ad 0)), (1, .int (iI (q : Int))), (2, .int (iI a)), (3, .int (iI (k : Int)))] rfl ?_
  refine x_iconst h dX0_split_12 ?_
  refine x_istore h dX0_split_13 (by decide) [1, 2, 3, 4, 0] [(0, .ref (ad 0)), (1, .int (iI (q : Int))), (2, .int (iI a)), (3, .int (iI (k : Int))), (4, .int (iI 0))] rfl ?_
  refine split_loop hk hq hb0 h (fun x nx'' h1 h2 => ?_) 5 0 _ nx' (by omega) (by omega) rfl hn1 (fun j hj => by omega)
  refine x_aload_n h dX0_split_49 0 rfl ?_
  refine xX_sh h dX0_split_50 ?_
  refine x_iload_n h dX0_split_53 3 rfl ?_
  refine x_aload_n h dX0_split_54 0 rfl ?_
  refine xX_sh h dX0_split_55 ?_
  refine x_iload_n h dX0_split_58 1 rfl ?_
  refine xX_lsh h q (by omega) (by omega) dX0_split_59 ?_
  refine xX_ssh h k (by omega) (by omega) (by rw [zu_n (by omega)]; exact hsh) dX0_split_60 ?_
  refine x_aload_n h dX0_split_61 0 rfl ?_
  refine xX_sh h dX0_split_62 ?_
  refine x_iload_n h dX0_split_65 1 rfl ?_
  refine x_iload_n h dX0_split_66 3 rfl ?_
  refine x_i2b h dX0_split_67 (by omega) ?_
  refine xX_ssh h q (by omega) (by omega) (by omega) dX0_split_68 ?_
  refine x_iload_n h dX0_split_69 3 rfl ?_
  refine x_ireturn h hr dX0_split_70 ?_
  exact ⟨rfl, nx'', h1, h2, by rw [zu_n (by omega)]⟩
end
section
/-! ===== RepeatFinder: extend ===== -/
set_option maxRecDepth 100000
theorem ext_loop1 {K : XK} {l : Launch} {D : va_G} {dB dS : ClassId} {ad : Nat → Nat} {tl pl bu ra : Int} {tx pr nx sh le ti fe wo bl : Nat → Int} {G : Nat → Nat} {p k la : Nat} (hA : Aut G p k la nx sh le ti fe) (hp : p < 24) (hk : k ≤ 47) (hc : G p < 4) (h : xok K (JX l D dB dS) ({ frames := 2, cells := 0, slots := 0, locals := 48 }) cX0_extend RX0 7)
    (hx : ∀ (x : Int) (b : Nat) (nxc : Nat → Int), L1I G p k nx le fe nxc b → ((x = -1 ∧ b = 0) ∨ ∃ t : Nat, t < k ∧ x = (t : Int) ∧ eqv G (vN le t) (eN fe t) p ∧ b = vN le t + 1 ∧ nN nx t (G p) ≠ 0) → xw K (wX ad dB dS tl pl bu ((k : Int) + 1) (k : Int) ra tx pr nxc (zu sh k (-1)) (zu le k ((p : Int) + 1)) (zu (zu ti k 0) k 1) (zu fe k (p : Int)) wo bl) 71 [(0, .ref (ad 0)), (1, .int (iI (G p : Int))), (2, .int (iI (p : Int))), (3, .int (iI (k : Int))), (4, .int (iI x))] []) :
    ∀ (f b : Nat) (x : Int) (nxc : Nat → Int), b < f → L1I G p k nx le fe nxc b → ((x = -1 ∧ b = 0) ∨ ∃ t : Nat, t < k ∧ x = (t : Int) ∧ eqv G (vN le t) (eN fe t) p ∧ b = vN le t + 1) → xw K (wX ad dB dS tl pl bu ((k : Int) + 1) (k : Int) ra tx pr nxc (zu sh k (-1)) (zu le k ((p : Int) + 1)) (zu (zu ti k 0) k 1) (zu fe k (p : Int)) wo bl) 27 [(0, .ref (ad 0)), (1, .int (iI (G p : Int))), (2, .int (iI (p : Int))), (3, .int (iI (k : Int))), (4, .int (iI x))] [] := by
  intro f
  induction f with
  | zero => intro b x nxc h1; omega
  | succ f ih =>
    intro b x nxc hbf hI hX
    rcases hX with ⟨rfl, rfl⟩ | ⟨t, ht, rfl, ct, rfl⟩
    · refine x_iload h dX0_extend_27 4 rfl ?_
      refine x_if_lt h 71 dX0_extend_29 (by decide) (by omega) (fun c_29 => ?_) (fun c_29 => ?_)
      · exact hx (-1) 0 nxc hI (Or.inl ⟨rfl, rfl⟩)
      · omega
    · refine x_iload h dX0_extend_27 4 rfl ?_
      refine x_if_lt h 71 dX0_extend_29 (by decide) (by omega) (fun c_29 => ?_) (fun c_29 => ?_)
      · omega
      · refine x_aload_n h dX0_extend_32 0 rfl ?_
        refine xX_nx h dX0_extend_33 ?_
        refine x_iconst h dX0_extend_36 ?_
        refine x_iload h dX0_extend_37 4 rfl ?_
        refine x_imul h dX0_extend_39 ?_
        refine x_iload_n h dX0_extend_40 1 rfl ?_
        refine x_iadd h dX0_extend_41 ?_
        refine xX_lnx h ((4 * t) + (G p)) (by omega) (by omega) dX0_extend_42 ?_
        have hv : nxc (4 * t + G p) = (nN nx t (G p) : Int) := by
          rw [hI.2.2.1 t (G p) ht hc (fun u => by omega)]; exact hA.vnx ht hc
        have hv2 := hA.nxlt ht hc
        refine x_if_ne h 71 dX0_extend_43 (by decide) (by omega) (fun c_43 => ?_) (fun c_43 => ?_)
        · exact hx _ _ nxc hI (Or.inr ⟨t, ht, rfl, ct, rfl, by omega⟩)
        · refine x_aload_n h dX0_extend_46 0 rfl ?_
          refine xX_nx h dX0_extend_47 ?_
          refine x_iconst h dX0_extend_50 ?_
          refine x_iload h dX0_extend_51 4 rfl ?_
          refine x_imul h dX0_extend_53 ?_
          refine x_iload_n h dX0_extend_54 1 rfl ?_
          refine x_iadd h dX0_extend_55 ?_
          refine x_iload_n h dX0_extend_56 3 rfl ?_
          refine x_i2b h dX0_extend_57 (by omega) ?_
          refine xX_snx h ((4 * t) + (G p)) (by omega) (by omega) (by omega) dX0_extend_58 ?_
          refine x_aload_n h dX0_extend_59 0 rfl ?_
          refine xX_sh h dX0_extend_60 ?_
          refine x_iload h dX0_extend_63 4 rfl ?_
          refine xX_lsh h t (by omega) (by omega) dX0_extend_65 ?_
          refine x_istore h dX0_extend_66 (by decide) [1, 2, 3, 4, 0] [(0, .ref (ad 0)), (1, .int (iI (G p : Int))), (2, .int (iI (p : Int))), (3, .int (iI (k : Int))), (4, .int (iI ((zu sh k (-1)) t)))] rfl ?_
          refine x_goto h 27 dX0_extend_68 (by decide) ?_
          obtain ⟨b', hb1, hU, hX2⟩ := ch_step hA ht ct
          refine ih b' _ _ (by omega) (l1_step hA hc ht ct (by omega) hI hU) ?_
          rw [zu_n (by omega)]
          rcases hX2 with ⟨e1, e2⟩ | ⟨t', e1, e2, e3, e4⟩
          · exact Or.inl ⟨e1, e2⟩
          · exact Or.inr ⟨t', e1, e2, e3, e4⟩
theorem ext_loop2 {K : XK} {l : Launch} {D : va_G} {dB dS : ClassId} {ad : Nat → Nat} {tl pl bu ra : Int} {tx pr nx sh le ti fe wo bl : Nat → Int} {G : Nat → Nat} {p k la : Nat} {nxc sh2 le2 ti2 fe2 : Nat → Int} {t0 q : Nat} (hA : Aut G p k la nx sh le ti fe) (hp : p < 24) (hk : k ≤ 47) (hc : G p < 4) (hq : q < k) (hI1 : L1I G p k nx le fe nxc (vN le t0 + 1)) (hs2 : ∀ t, t < k → vN le t ≤ vN le t0 → sh2 t = sh t) (h : xok K (JX l D dB dS) ({ frames := 2, cells := 0, slots := 0, locals := 48 }) cX0_extend RX0 7)
    (hx : ∀ (x : Int) (b : Nat) (nxd : Nat → Int), L2I G p k q nx le fe nxc nxd b → (b = 0 ∨ ∃ t : Nat, t < k ∧ eqv G (vN le t) (eN fe t) p ∧ b = vN le t + 1 ∧ vN le t ≤ vN le t0 ∧ nN nx t (G p) ≠ q) → xw K (wX ad dB dS tl pl bu ((k : Int) + 1 + 1) (k : Int) ra tx pr nxd sh2 le2 ti2 fe2 wo bl) 190 [(0, .ref (ad 0)), (1, .int (iI (G p : Int))), (2, .int (iI (p : Int))), (3, .int (iI (k : Int))), (4, .int (iI x)), (5, .int (iI (q : Int))), (6, .int (iI ((k + 1 : Nat) : Int)))] []) :
    ∀ (f b : Nat) (x : Int) (nxd : Nat → Int), b < f → L2I G p k q nx le fe nxc nxd b → ((x = -1 ∧ b = 0) ∨ ∃ t : Nat, t < k ∧ x = (t : Int) ∧ eqv G (vN le t) (eN fe t) p ∧ b = vN le t + 1 ∧ vN le t ≤ vN le t0) → xw K (wX ad dB dS tl pl bu ((k : Int) + 1 + 1) (k : Int) ra tx pr nxd sh2 le2 ti2 fe2 wo bl) 143 [(0, .ref (ad 0)), (1, .int (iI (G p : Int))), (2, .int (iI (p : Int))), (3, .int (iI (k : Int))), (4, .int (iI x)), (5, .int (iI (q : Int))), (6, .int (iI ((k + 1 : Nat) : Int)))] [] := by
  intro f
  induction f with
  | zero => intro b x nxd h1; omega
  | succ f ih =>
    intro b x nxd hbf hI hX
    rcases hX with ⟨rfl, rfl⟩ | ⟨t, ht, rfl, ct, rfl, hle⟩
    · refine x_iload h dX0_extend_143 4 rfl ?_
      refine x_if_lt h 190 dX0_extend_145 (by decide) (by omega) (fun c_145 => ?_) (fun c_145 => ?_)
      · exact hx (-1) 0 nxd hI (Or.inl rfl)
      · omega
    · refine x_iload h dX0_extend_143 4 rfl ?_
      refine x_if_lt h 190 dX0_extend_145 (by decide) (by omega) (fun c_145 => ?_) (fun c_145 => ?_)
      · omega
      · refine x_aload_n h dX0_extend_148 0 rfl ?_
        refine xX_nx h dX0_extend_149 ?_
        refine x_iconst h dX0_extend_152 ?_
        refine x_iload h dX0_extend_153 4 rfl ?_
        refine x_imul h dX0_extend_155 ?_
        refine x_iload_n h dX0_extend_156 1 rfl ?_
        refine x_iadd h dX0_extend_157 ?_
        refine xX_lnx h ((4 * t) + (G p)) (by omega) (by omega) dX0_extend_158 ?_
        have hv : nxd (4 * t + G p) = (nN nx t (G p) : Int) := by
          rw [hI.2.1 t (G p) ht hc (fun u => by omega), hI1.2.2.1 t (G p) ht hc (fun u => by omega)]; exact hA.vnx ht hc
        have hv2 := hA.nxlt ht hc
        refine x_iload h dX0_extend_159 5 rfl ?_
        refine x_icmp_ne h 190 dX0_extend_161 (by decide) (by omega) (by omega) (fun c_161 => ?_) (fun c_161 => ?_)
        · exact hx _ _ nxd hI (Or.inr ⟨t, ht, ct, rfl, hle, by omega⟩)
        · refine x_aload_n h dX0_extend_164 0 rfl ?_
          refine xX_nx h dX0_extend_165 ?_
          refine x_iconst h dX0_extend_168 ?_
          refine x_iload h dX0_extend_169 4 rfl ?_
          refine x_imul h dX0_extend_171 ?_
          refine x_iload_n h dX0_extend_172 1 rfl ?_
          refine x_iadd h dX0_extend_173 ?_
          refine x_iload h dX0_extend_174 6 rfl ?_
          refine x_i2b h dX0_extend_176 (by omega) ?_
          refine xX_snx h ((4 * t) + (G p)) (by omega) (by omega) (by omega) dX0_extend_177 ?_
          refine x_aload_n h dX0_extend_178 0 rfl ?_
          refine xX_sh h dX0_extend_179 ?_
          refine x_iload h dX0_extend_182 4 rfl ?_
          refine xX_lsh h t (by omega) (by omega) dX0_extend_184 ?_
          refine x_istore h dX0_extend_185 (by decide) [1, 2, 3, 4, 0, 5, 6] [(0, .ref (ad 0)), (1, .int (iI (G p : Int))), (2, .int (iI (p : Int))), (3, .int (iI (k : Int))), (4, .int (iI (sh2 t))), (5, .int (iI (q : Int))), (6, .int (iI ((k + 1 : Nat) : Int)))] rfl ?_
          refine x_goto h 143 dX0_extend_187 (by decide) ?_
          obtain ⟨b', hb1, hU, hX2⟩ := ch_step hA ht ct
          refine ih b' _ _ (by omega) (l2_step hA hc ht ct (by omega) hI hU) ?_
          rw [hs2 t ht hle]
          rcases hX2 with ⟨e1, e2⟩ | ⟨t', e1, e2, e3, e4⟩
          · exact Or.inl ⟨e1, e2⟩
          · exact Or.inr ⟨t', e1, e2, e3, e4, by omega⟩
theorem cX_extend (l : Launch) (D : va_G) (dB dS : ClassId) (ad : Nat → Nat) (tl pl bu ra : Int) (tx pr nx sh le ti fe wo bl : Nat → Int) (G : Nat → Nat) (p k la : Nat) (hA : Aut G p k la nx sh le ti fe) (hp : p < 24) (hk : k ≤ 47) (hc : G p < 4) : xmv (JX l D dB dS) yX0_extend cX0_extend 7 2 48 [.ref (ad 0), .int (iI (G p : Int)), .int (iI (p : Int))] (wX ad dB dS tl pl bu (k : Int) (la : Int) ra tx pr nx sh le ti fe wo bl) (fun ws' => ∃ (k' : Nat) (nx' sh' le' ti' fe' : Nat → Int), k' ≤ k + 2 ∧ Aut G (p + 1) k' k nx' sh' le' ti' fe' ∧ ws' = wX ad dB dS tl pl bu (k' : Int) (k : Int) ra tx pr nx' sh' le' ti' fe' wo bl) := by
  refine xmv_of (by decide) (Nat.le_of_ble_eq_true rfl) (fun K h hr => ?_)
  show xw K (wX ad dB dS tl pl bu (k : Int) (la : Int) ra tx pr nx sh le ti fe wo bl) 0 [(0, .ref (ad 0)), (1, .int (iI (G p : Int))), (2, .int (iI (p : Int)))] []
  refine x_aload_n h dX0_extend_0 0 rfl ?_
  refine x_iload_n h dX0_extend_1 2 rfl ?_
  refine x_iconst h dX0_extend_2 ?_
  refine x_iadd h dX0_extend_3 ?_
  refine x_iload_n h dX0_extend_4 2 rfl ?_
  refine xX_calli h (cX_newState l D dB dS ad tl pl bu (la : Int) ra tx pr nx sh le ti fe wo bl k ((p : Int) + 1) (p : Int) (by omega) (by omega) (by omega)) 2 (lw_V q105 q107 qs2 q19 q108) (by decide +kernel) ⟨Nat.le_of_ble_eq_true rfl, Nat.le_of_ble_eq_true rfl⟩ rfl rfl (Nat.le_of_ble_eq_true rfl) dX0_extend_5 (fun r_5 ws_ hp_5 => ?_)
  obtain ⟨rfl, nx1, hn1, hn2, rfl⟩ := hp_5
  refine x_istore_n h dX0_extend_8 (by decide) [1, 2, 3, 0] [(0, .ref (ad 0)), (1, .int (iI (G p : Int))), (2, .int (iI (p : Int))), (3, .int (iI (k : Int)))] rfl ?_
  refine x_aload_n h dX0_extend_9 0 rfl ?_
  refine xX_ti h dX0_extend_10 ?_
  refine x_iload_n h dX0_extend_13 3 rfl ?_
  refine x_iconst h dX0_extend_14 ?_
  refine xX_sti h k (by omega) (by omega) (by omega) dX0_extend_15 ?_
  refine x_aload_n h dX0_extend_16 0 rfl ?_
  refine xX_la h dX0_extend_17 ?_
  refine x_istore h dX0_extend_20 (by decide) [1, 2, 3, 4, 0] [(0, .ref (ad 0)), (1, .int (iI (G p : Int))), (2, .int (iI (p : Int))), (3, .int (iI (k : Int))), (4, .int (iI (la : Int)))] rfl ?_
  refine x_aload_n h dX0_extend_22 0 rfl ?_
  refine x_iload_n h dX0_extend_23 3 rfl ?_
  refine xX_pla h dX0_extend_24 ?_
  refine ext_loop1 hA hp hk hc h (fun x b nxc hI hX => ?_) (vN le la + 2) (vN le la + 1) _ nx1 (by omega) ⟨fun s hs cs hb => ?_, fun s hs cs hb => ?_, fun s d hs hd hn => ?_, hn2⟩ (Or.inr ⟨la, hA.2.2.2.2.2.2.1.1, rfl, ?_, rfl⟩)
  rotate_left
  · have := cs.2.1; have := hA.2.2.2.2.2.2.1.2.1; omega
  · have := cs.2.1; have := hA.2.2.2.2.2.2.1.2.1; omega
  · exact hn1 _ (by omega)
  · rw [hA.2.2.2.2.2.2.1.2.1, hA.2.2.2.2.2.2.1.2.2]; exact eqv_refl (Nat.le_refl _)
  obtain ⟨P0, P1, P2, P3⟩ := hI
  rcases hX with ⟨rfl, rfl⟩ | ⟨t, ht, rfl, ct, rfl, hz⟩
  · refine x_iload h dX0_extend_71 4 rfl ?_
    refine x_if_ge h 84 dX0_extend_73 (by decide) (by omega) (fun c_73 => ?_) (fun c_73 => ?_)
    · omega
    · refine x_aload_n h dX0_extend_76 0 rfl ?_
      refine xX_sh h dX0_extend_77 ?_
      refine x_iload_n h dX0_extend_80 3 rfl ?_
      refine x_iconst h dX0_extend_81 ?_
      refine xX_ssh h k (by omega) (by omega) (by omega) dX0_extend_82 ?_
      refine x_return h hr dX0_extend_83 ?_
      exact ⟨k + 1, _, _, _, _, _, by omega, aut_ext1 hA hc P0 P1 P2 P3 (Or.inl ⟨rfl, rfl⟩), rfl⟩
  · refine x_iload h dX0_extend_71 4 rfl ?_
    refine x_if_ge h 84 dX0_extend_73 (by decide) (by omega) (fun c_73 => ?_) (fun c_73 => ?_)
    · refine x_aload_n h dX0_extend_84 0 rfl ?_
      refine xX_nx h dX0_extend_85 ?_
      refine x_iconst h dX0_extend_88 ?_
      refine x_iload h dX0_extend_89 4 rfl ?_
      refine x_imul h dX0_extend_91 ?_
      refine x_iload_n h dX0_extend_92 1 rfl ?_
      refine x_iadd h dX0_extend_93 ?_
      refine xX_lnx h ((4 * t) + (G p)) (by omega) (by omega) dX0_extend_94 ?_
      obtain ⟨q, hq⟩ : ∃ q, q = nN nx t (G p) := ⟨_, rfl⟩
      have hv : nxc (4 * t + G p) = (q : Int) := by rw [P2 t (G p) ht hc (fun u => by omega), hq]; exact hA.vnx ht hc
      have hqk : q < k := by rw [hq]; exact hA.nxlt ht hc
      have hlq := hA.vle hqk
      have hlt := hA.vle ht
      refine x_top hv ?_
      refine x_istore h dX0_extend_95 (by decide) [1, 2, 3, 4, 5, 0] [(0, .ref (ad 0)), (1, .int (iI (G p : Int))), (2, .int (iI (p : Int))), (3, .int (iI (k : Int))), (4, .int (iI (t : Int))), (5, .int (iI (q : Int)))] rfl ?_
      refine x_aload_n h dX0_extend_97 0 rfl ?_
      refine xX_le h dX0_extend_98 ?_
      refine x_iload h dX0_extend_101 5 rfl ?_
      refine xX_lle h q (by omega) (by omega) dX0_extend_103 ?_
      refine x_top (show zu le k ((p : Int) + 1) q = (vN le q : Int) by rw [zu_n (by omega)]; exact hlq.1) ?_
      refine x_aload_n h dX0_extend_104 0 rfl ?_
      refine xX_le h dX0_extend_105 ?_
      refine x_iload h dX0_extend_108 4 rfl ?_
      refine xX_lle h t (by omega) (by omega) dX0_extend_110 ?_
      refine x_top (show zu le k ((p : Int) + 1) t = (vN le t : Int) by rw [zu_n (by omega)]; exact hlt.1) ?_
      refine x_iconst h dX0_extend_111 ?_
      refine x_iadd h dX0_extend_112 ?_
      refine x_icmp_ne h 126 dX0_extend_113 (by decide) (by omega) (by omega) (fun c_113 => ?_) (fun c_113 => ?_)
      · have hj0 : ∀ j, j < 4 → 0 ≤ nxc (4 * q + j) ∧ nxc (4 * q + j) < 128 := fun j hj => by
          by_cases hu : j = G p ∧ eqv G (vN le q) (eN fe q) p ∧ vN le t + 1 ≤ vN le q
          · rw [hu.1, P1 q hqk hu.2.1 hu.2.2]; omega
          · rw [P2 q j hqk hj hu, hA.vnx hqk hj]; have := hA.nxlt hqk hj; omega
        have hsh0 : -128 ≤ zu sh k (-1) q ∧ zu sh k (-1) q < 128 := by
          have hq0 : 0 < q := by omega
          have := hA.vsh hq0 hqk
          rw [zu_n (by omega), this.1]; omega
        have hfe0 : -128 ≤ zu fe k (p : Int) q ∧ zu fe k (p : Int) q < 128 := by
          have := hA.vfe hqk
          rw [zu_n (by omega), this.1]; omega
        refine x_aload_n h dX0_extend_126 0 rfl ?_
        refine x_iload h dX0_extend_127 5 rfl ?_
        refine x_aload_n h dX0_extend_129 0 rfl ?_
        refine xX_le h dX0_extend_130 ?_
        refine x_iload h dX0_extend_133 4 rfl ?_
        refine xX_lle h t (by omega) (by omega) dX0_extend_135 ?_
        refine x_top (show zu le k ((p : Int) + 1) t = (vN le t : Int) by rw [zu_n (by omega)]; exact hlt.1) ?_
        refine x_iconst h dX0_extend_136 ?_
        refine x_iadd h dX0_extend_137 ?_
        refine xX_calli h (cX_split l D dB dS ad tl pl bu (k : Int) ra tx pr nxc (zu sh k (-1)) (zu le k ((p : Int) + 1)) (zu (zu ti k 0) k 1) (zu fe k (p : Int)) wo bl (k + 1) q ((vN le t : Int) + 1) (by omega) (by omega) (by omega) hj0 hsh0 hfe0) 2 (lw_V q113 q115 qs4 q19 q116) (by decide +kernel) ⟨Nat.le_of_ble_eq_true rfl, Nat.le_of_ble_eq_true rfl⟩ rfl rfl (Nat.le_of_ble_eq_true rfl) dX0_extend_138 (fun r_138 ws_ hp_138 => ?_)
        obtain ⟨rfl, nx2, hm1, hm2, rfl⟩ := hp_138
        refine x_istore h dX0_extend_141 (by decide) [1, 2, 3, 4, 5, 6, 0] [(0, .ref (ad 0)), (1, .int (iI (G p : Int))), (2, .int (iI (p : Int))), (3, .int (iI (k : Int))), (4, .int (iI (t : Int))), (5, .int (iI (q : Int))), (6, .int (iI ((k + 1 : Nat) : Int)))] rfl ?_
        refine ext_loop2 (t0 := t) (q := q) hA hp hk hc hqk ⟨P0, P1, P2, P3⟩ (fun s hs hle => ?_) h (fun x b nxd hI hX => ?_) (vN le t + 2) (vN le t + 1) _ nx2 (by omega) ⟨fun s hs cs hz2 hb => ?_, fun s d hs hd hn => ?_, fun d hd => ?_, hm2⟩ (Or.inr ⟨t, ht, rfl, ct, rfl, Nat.le_refl _⟩)
        · have hne : s ≠ q := fun e => by
            have := (hA.1.T1 ht hc hz).2.2.1
            rw [← hq] at this; subst e; omega
          rw [zu_n hne, zu_n (by omega), zu_n (by omega), zu_n (by omega)]
        rotate_left
        · have := sam_K hA.1 hc (ls := vN le t + 1) (fun s2 hs2 cs2 hne => by
            rcases Nat.lt_or_ge (vN le t) (vN le s2) with q2 | q2
            · exact absurd (P0 s2 hs2 cs2 q2) hne
            · omega)
          have hz3 := P0 s hs cs hb
          omega
        · exact hm1 _ (by omega)
        · rw [hm1 _ (by omega)]; exact P3 d hd
        obtain ⟨R1, R2, R3, R4⟩ := hI
        refine x_aload_n h dX0_extend_190 0 rfl ?_
        refine xX_sh h dX0_extend_191 ?_
        refine x_iload_n h dX0_extend_194 3 rfl ?_
        refine x_iload h dX0_extend_195 6 rfl ?_
        refine x_i2b h dX0_extend_197 (by omega) ?_
        refine xX_ssh h k (by omega) (by omega) (by omega) dX0_extend_198 ?_
        refine x_return h hr dX0_extend_199 ?_
        refine ⟨k + 2, _, _, _, _, _, by omega, aut_ext2 hA hc P0 P1 P2 ht ct rfl hz hq (by omega) R1 R2 R3 R4 hX ?_ ?_ ?_ ?_, rfl⟩
        · rw [zu_n (show q ≠ k by omega)]
        · rfl
        · rfl
        · rw [zu_n (show q ≠ k by omega)]
      · refine x_aload_n h dX0_extend_116 0 rfl ?_
        refine xX_sh h dX0_extend_117 ?_
        refine x_iload_n h dX0_extend_120 3 rfl ?_
        refine x_iload h dX0_extend_121 5 rfl ?_
        refine x_i2b h dX0_extend_123 (by omega) ?_
        refine xX_ssh h k (by omega) (by omega) (by omega) dX0_extend_124 ?_
        refine x_return h hr dX0_extend_125 ?_
        refine ⟨k + 1, _, _, _, _, _, by omega, aut_ext1 (r := q) hA hc P0 P1 P2 P3 (Or.inr ⟨t, ht, ct, rfl, hz, hq, by omega⟩), rfl⟩
    · omega
end
section
/-! ===== RepeatFinder: orderByLength ===== -/
set_option maxRecDepth 100000
theorem order_inner {K : XK} {l : Launch} {D : va_G} {dB dS : ClassId} {ad : Nat → Nat} {tl pl bu la ra : Int} {tx pr nx sh le ti fe wo : Nat → Int} {k : Nat} (hk : k ≤ 49) (hle : ∀ s, s < k → le s = (vN le s : Int) ∧ vN le s ≤ 24) {i : Nat} {b0 : Nat → Int} {pos : Nat → Nat} (hi : i < k) (hO : Ord i b0 pos (vN le)) (h : xok K (JX l D dB dS) ({ frames := 0, cells := 0, slots := 0, locals := 0 }) cX0_orderByLength RX0 3)
    (hx : ∀ (a : Nat) (y : Int) (b : Nat → Int), a ≤ i → y = (a : Int) → (∀ j, j < a → b j = b0 j) → (∀ j, a ≤ j → j < i → b (j + 1) = b0 j) → (∀ j, a ≤ j → j < i → vN le i ≤ vN le (vN b0 j)) → (a = 0 ∨ vN le (vN b0 (a - 1)) ≤ vN le i) → xw K (wX ad dB dS tl pl bu (k : Int) la ra tx pr nx sh le ti fe wo b) 58 [(0, .ref (ad 0)), (1, .int (iI (i : Int))), (2, .int (iI y))] []) :
    ∀ (f a : Nat) (y : Int) (b : Nat → Int), a < f → a ≤ i → y = (a : Int) → (∀ j, j < a → b j = b0 j) → (∀ j, a ≤ j → j < i → b (j + 1) = b0 j) → (∀ j, a ≤ j → j < i → vN le i ≤ vN le (vN b0 j)) → xw K (wX ad dB dS tl pl bu (k : Int) la ra tx pr nx sh le ti fe wo b) 12 [(0, .ref (ad 0)), (1, .int (iI (i : Int))), (2, .int (iI y))] [] := by
  intro f
  induction f with
  | zero => intro a y b h1; omega
  | succ f ih =>
    intro a y b hf ha hy e1 e3 e4
    subst hy
    refine x_iload_n h dX0_orderByLength_12 2 rfl ?_
    refine x_if_le h 58 dX0_orderByLength_13 (by decide) (by omega) (fun c_13 => ?_) (fun c_13 => ?_)
    · exact hx a _ b ha rfl e1 e3 e4 (Or.inl (by omega))
    · refine x_aload_n h dX0_orderByLength_16 0 rfl ?_
      refine xX_le h dX0_orderByLength_17 ?_
      refine x_aload_n h dX0_orderByLength_20 0 rfl ?_
      refine xX_bl h dX0_orderByLength_21 ?_
      refine x_iload_n h dX0_orderByLength_24 2 rfl ?_
      refine x_iconst h dX0_orderByLength_25 ?_
      refine x_isub h dX0_orderByLength_26 ?_
      refine xX_lbl h (a - 1) (by omega) (by omega) dX0_orderByLength_27 ?_
      have g := hO.2.1 (a - 1) (by omega)
      refine x_top (show b (a - 1) = (vN b0 (a - 1) : Int) by rw [e1 _ (by omega)]; exact g.2.1) ?_
      have g1 := hle (vN b0 (a - 1)) (by omega)
      have g2 := hle i hi
      refine xX_lle h (vN b0 (a - 1)) (by omega) (by omega) dX0_orderByLength_28 ?_
      refine x_aload_n h dX0_orderByLength_29 0 rfl ?_
      refine xX_le h dX0_orderByLength_30 ?_
      refine x_iload_n h dX0_orderByLength_33 1 rfl ?_
      refine xX_lle h i (by omega) (by omega) dX0_orderByLength_34 ?_
      refine x_icmp_le h 58 dX0_orderByLength_35 (by decide) (by omega) (by omega) (fun c_35 => ?_) (fun c_35 => ?_)
      · exact hx a _ b ha rfl e1 e3 e4 (Or.inr (by omega))
      · refine x_aload_n h dX0_orderByLength_38 0 rfl ?_
        refine xX_bl h dX0_orderByLength_39 ?_
        refine x_iload_n h dX0_orderByLength_42 2 rfl ?_
        refine x_aload_n h dX0_orderByLength_43 0 rfl ?_
        refine xX_bl h dX0_orderByLength_44 ?_
        refine x_iload_n h dX0_orderByLength_47 2 rfl ?_
        refine x_iconst h dX0_orderByLength_48 ?_
        refine x_isub h dX0_orderByLength_49 ?_
        refine xX_lbl h (a - 1) (by omega) (by omega) dX0_orderByLength_50 ?_
        refine xX_sbl h a (by omega) (by omega) (by rw [e1 _ (by omega), g.2.1]; omega) dX0_orderByLength_51 ?_
        refine x_iinc h dX0_orderByLength_52 2 rfl (by decide) [1, 2, 0] [(0, .ref (ad 0)), (1, .int (iI (i : Int))), (2, .int (iI ((a : Int) + (-1))))] rfl ?_
        refine x_goto h 12 dX0_orderByLength_55 (by decide) ?_
        refine ih (a - 1) _ _ (by omega) (by omega) (by omega) (fun j hj => ?_) (fun j hj hj2 => ?_) (fun j hj hj2 => ?_)
        · rw [zu_n (by omega)]; exact e1 j (by omega)
        · by_cases q : j + 1 = a
          · rw [q, zu_s, show a - 1 = j by omega]; exact e1 j (by omega)
          · rw [zu_n q]; exact e3 j (by omega) hj2
        · by_cases q : j + 1 = a
          · rw [show j = a - 1 by omega]; omega
          · exact e4 j (by omega) hj2
theorem order_outer {K : XK} {l : Launch} {D : va_G} {dB dS : ClassId} {ad : Nat → Nat} {tl pl bu la ra : Int} {tx pr nx sh le ti fe wo : Nat → Int} {k : Nat} (hk : k ≤ 49) (hle : ∀ s, s < k → le s = (vN le s : Int) ∧ vN le s ≤ 24) (h : xok K (JX l D dB dS) ({ frames := 0, cells := 0, slots := 0, locals := 0 }) cX0_orderByLength RX0 3)
    (hx : ∀ (b : Nat → Int) (lvx : List (Nat × Value)) (pos : Nat → Nat), Ord k b pos (vN le) → xw K (wX ad dB dS tl pl bu (k : Int) la ra tx pr nx sh le ti fe wo b) 72 lvx []) :
    ∀ (f i : Nat) (x : Int) (b : Nat → Int) (pos : Nat → Nat), k < i + f → i ≤ k → x = (i : Int) → Ord i b pos (vN le) → xw K (wX ad dB dS tl pl bu (k : Int) la ra tx pr nx sh le ti fe wo b) 2 [(0, .ref (ad 0)), (1, .int (iI x))] [] := by
  intro f
  induction f with
  | zero => intro i x b pos h1 h2; omega
  | succ f ih =>
    intro i x b pos hf hi hxx hO
    subst hxx
    refine x_iload_n h dX0_orderByLength_2 1 rfl ?_
    refine x_aload_n h dX0_orderByLength_3 0 rfl ?_
    refine xX_sc h dX0_orderByLength_4 ?_
    refine x_icmp_ge h 72 dX0_orderByLength_7 (by decide) (by omega) (by omega) (fun c_7 => ?_) (fun c_7 => ?_)
    · exact hx b _ pos (by rw [show k = i by omega]; exact hO)
    · refine x_iload_n h dX0_orderByLength_10 1 rfl ?_
      refine x_istore_n h dX0_orderByLength_11 (by decide) [1, 2, 0] [(0, .ref (ad 0)), (1, .int (iI (i : Int))), (2, .int (iI (i : Int)))] rfl ?_
      refine order_inner hk hle (by omega) hO h (fun a y b' ha hy e1 e3 e4 e5 => ?_) (i + 1) i _ b (by omega) (by omega) rfl (fun j hj => rfl) (fun j hj hj2 => by omega) (fun j hj hj2 => by omega)
      subst hy
      refine x_aload_n h dX0_orderByLength_58 0 rfl ?_
      refine xX_bl h dX0_orderByLength_59 ?_
      refine x_iload_n h dX0_orderByLength_62 2 rfl ?_
      refine x_iload_n h dX0_orderByLength_63 1 rfl ?_
      refine x_i2b h dX0_orderByLength_64 (by omega) ?_
      refine xX_sbl h a (by omega) (by omega) (by omega) dX0_orderByLength_65 ?_
      refine x_iinc h dX0_orderByLength_66 1 rfl (by decide) [1, 0, 2] [(0, .ref (ad 0)), (1, .int (iI ((i : Int) + 1))), (2, .int (iI (a : Int)))] rfl ?_
      refine x_goto h 2 dX0_orderByLength_69 (by decide) ?_
      obtain ⟨pos', hO'⟩ := ord_ins (bl' := zu b' a (i : Int)) hO ha e4 e5 (fun j hj => by rw [zu_n (by omega)]; exact e1 j hj) zu_s (fun j hj hj2 => by rw [zu_n (by omega)]; exact e3 j hj hj2)
      refine x_sub [0, 1] [(0, .ref (ad 0)), (1, .int (iI ((i : Int) + 1)))] rfl ?_
      exact ih (i + 1) _ _ pos' (by omega) (by omega) (by omega) hO'
theorem cX_order (l : Launch) (D : va_G) (dB dS : ClassId) (ad : Nat → Nat) (tl pl bu la ra : Int) (tx pr nx sh le ti fe wo bl : Nat → Int) (k : Nat) (hk : k ≤ 49) (hle : ∀ s, s < k → le s = (vN le s : Int) ∧ vN le s ≤ 24) : xmv (JX l D dB dS) yX0_orderByLength cX0_orderByLength 3 0 0 [.ref (ad 0)] (wX ad dB dS tl pl bu (k : Int) la ra tx pr nx sh le ti fe wo bl) (fun ws' => ∃ (bl' : Nat → Int) (pos : Nat → Nat), Ord k bl' pos (vN le) ∧ ws' = wX ad dB dS tl pl bu (k : Int) la ra tx pr nx sh le ti fe wo bl') := by
  refine xmv_of (by decide) (Nat.le_of_ble_eq_true rfl) (fun K h hr => ?_)
  show xw K (wX ad dB dS tl pl bu (k : Int) la ra tx pr nx sh le ti fe wo bl) 0 [(0, .ref (ad 0))] []
  refine x_iconst h dX0_orderByLength_0 ?_
  refine x_istore_n h dX0_orderByLength_1 (by decide) [1, 0] [(0, .ref (ad 0)), (1, .int (iI 0))] rfl ?_
  refine order_outer hk hle h (fun b lvx pos hO => ?_) (k + 1) 0 _ bl (fun s => s) (by omega) (by omega) rfl (ord_0 _ _ _)
  exact x_return h hr dX0_orderByLength_72 ⟨b, pos, hO, rfl⟩
end
section
/-! ===== RepeatFinder: countTimes ===== -/
set_option maxRecDepth 100000
theorem times_loop {K : XK} {l : Launch} {D : va_G} {dB dS : ClassId} {ad : Nat → Nat} {tl pl bu la ra : Int} {tx pr nx sh le fe wo bl : Nat → Int} {G : Nat → Nat} {n k : Nat} {NX : Nat → Nat → Nat} {SH LE EE pos : Nat → Nat} (hS : Sam G n k NX SH LE EE) (hk : k ≤ 49) (hn : n ≤ 24) (hsh : ∀ s, 0 < s → s < k → sh s = (SH s : Int)) (hO : Ord k bl pos LE) (h : xok K (JX l D dB dS) ({ frames := 0, cells := 0, slots := 0, locals := 0 }) cX0_countTimes RX0 3)
    (hx : ∀ (t : Nat → Int) (lvx : List (Nat × Value)), CT G n k LE EE pos t 0 → xw K (wX ad dB dS tl pl bu (k : Int) la ra tx pr nx sh le t fe wo bl) 45 lvx []) :
    ∀ (i : Nat) (x : Int) (t : Nat → Int), i < k → x = (i : Int) → CT G n k LE EE pos t i → xw K (wX ad dB dS tl pl bu (k : Int) la ra tx pr nx sh le t fe wo bl) 7 [(0, .ref (ad 0)), (1, .int (iI x))] [] := by
  intro i
  induction i with
  | zero =>
    intro x t hi hxx hC
    subst hxx
    refine x_iload_n h dX0_countTimes_7 1 rfl ?_
    refine x_if_le h 45 dX0_countTimes_8 (by decide) (by omega) (fun c_8 => ?_) (fun c_8 => ?_)
    · exact hx t _ hC
    · omega
  | succ i ih =>
    intro x t hi hxx hC
    subst hxx
    refine x_iload_n h dX0_countTimes_7 1 rfl ?_
    refine x_if_le h 45 dX0_countTimes_8 (by decide) (by omega) (fun c_8 => ?_) (fun c_8 => ?_)
    · omega
    · refine x_aload_n h dX0_countTimes_11 0 rfl ?_
      refine xX_bl h dX0_countTimes_12 ?_
      refine x_iload_n h dX0_countTimes_15 1 rfl ?_
      refine xX_lbl h (i + 1) (by omega) (by omega) dX0_countTimes_16 ?_
      obtain ⟨s, hs⟩ : ∃ s, s = vN bl (i + 1) := ⟨_, rfl⟩
      obtain ⟨g0, g1, g2, g3⟩ := ct_step hS hO (by omega) hi hC hs
      have g4 := (hS.S g0 g1).1
      have b1 : t s ≤ 24 ∧ 0 ≤ t s := by have := cnt_le (G := G) (n := n) (LE := LE) (EE := EE) s; omega
      have b2 : t (SH s) + t s ≤ 24 ∧ 0 ≤ t (SH s) := by
        have c1 := (hC _ g4).1
        have c2 := (hC _ g4).2
        have c3 := ord_lt hO g4 g1 (hS.S g0 g1).2.1
        have c4 : pos s = i + 1 := by rw [hs]; exact (hO.2.1 (i + 1) hi).2.2
        have d1 := (g3 _ g4).2 (by omega)
        rw [zu_s] at d1
        have d2 := c2 (by omega)
        rw [d1, d2]
        exact ⟨by have := cP_le (fun j => eqv G (LE (SH s)) (EE (SH s)) (j + 1) ∧ ∀ s', s' < k → eqv G (LE s') (EE s') (j + 1) → LE (SH s) < LE s' → i + 1 - 1 < pos s') n; omega, by omega⟩
      refine x_top (show bl (i + 1) = (s : Int) by rw [hs]; exact (hO.2.1 (i + 1) hi).2.1) ?_
      refine x_istore_n h dX0_countTimes_17 (by decide) [1, 2, 0] [(0, .ref (ad 0)), (1, .int (iI ((i + 1 : Nat) : Int))), (2, .int (iI (s : Int)))] rfl ?_
      refine x_aload_n h dX0_countTimes_18 0 rfl ?_
      refine xX_ti h dX0_countTimes_19 ?_
      refine x_aload_n h dX0_countTimes_22 0 rfl ?_
      refine xX_sh h dX0_countTimes_23 ?_
      refine x_iload_n h dX0_countTimes_26 2 rfl ?_
      refine xX_lsh h s (by omega) (by omega) dX0_countTimes_27 ?_
      refine x_top (hsh s g0 g1) ?_
      refine x_dup2 h dX0_countTimes_28 rfl rfl ?_
      refine xX_lti h (SH s) (by omega) (by omega) dX0_countTimes_29 ?_
      refine x_aload_n h dX0_countTimes_30 0 rfl ?_
      refine xX_ti h dX0_countTimes_31 ?_
      refine x_iload_n h dX0_countTimes_34 2 rfl ?_
      refine xX_lti h s (by omega) (by omega) dX0_countTimes_35 ?_
      refine x_iadd h dX0_countTimes_36 ?_
      refine x_i2b h dX0_countTimes_37 (by omega) ?_
      refine xX_sti h (SH s) (by omega) (by omega) (by omega) dX0_countTimes_38 ?_
      refine x_iinc h dX0_countTimes_39 1 rfl (by decide) [1, 0, 2] [(0, .ref (ad 0)), (1, .int (iI (((i + 1 : Nat) : Int) + (-1)))), (2, .int (iI (s : Int)))] rfl ?_
      refine x_goto h 7 dX0_countTimes_42 (by decide) ?_
      refine x_sub [0, 1] [(0, .ref (ad 0)), (1, .int (iI (((i + 1 : Nat) : Int) + (-1))))] rfl ?_
      exact ih _ _ (by omega) (by omega) g3
theorem cX_countTimes (l : Launch) (D : va_G) (dB dS : ClassId) (ad : Nat → Nat) (tl pl bu la ra : Int) (tx pr nx sh le ti fe wo bl : Nat → Int) (G : Nat → Nat) (n k : Nat) (NX : Nat → Nat → Nat) (SH LE EE pos : Nat → Nat) (hS : Sam G n k NX SH LE EE) (hk : k ≤ 49) (hn : n ≤ 24) (hsh : ∀ s, 0 < s → s < k → sh s = (SH s : Int)) (hO : Ord k bl pos LE) (ht : ∀ s, s < k → ti s = if 0 < s ∧ EE s = LE s then 1 else 0) : xmv (JX l D dB dS) yX0_countTimes cX0_countTimes 3 0 0 [.ref (ad 0)] (wX ad dB dS tl pl bu (k : Int) la ra tx pr nx sh le ti fe wo bl) (fun ws' => ∃ ti' : Nat → Int, (∀ s, s < k → ti' s = (cnt G n LE EE s : Int)) ∧ ws' = wX ad dB dS tl pl bu (k : Int) la ra tx pr nx sh le ti' fe wo bl) := by
  refine xmv_of (by decide) (Nat.le_of_ble_eq_true rfl) (fun K h hr => ?_)
  show xw K (wX ad dB dS tl pl bu (k : Int) la ra tx pr nx sh le ti fe wo bl) 0 [(0, .ref (ad 0))] []
  refine x_aload_n h dX0_countTimes_0 0 rfl ?_
  refine xX_sc h dX0_countTimes_1 ?_
  refine x_iconst h dX0_countTimes_4 ?_
  refine x_isub h dX0_countTimes_5 ?_
  refine x_istore_n h dX0_countTimes_6 (by decide) [1, 0] [(0, .ref (ad 0)), (1, .int (iI ((k : Int) - 1)))] rfl ?_
  have hk0 := hS.pos.1
  refine times_loop hS hk hn hsh hO h (fun t lvx hC => ?_) (k - 1) _ ti (by omega) (by omega) (ct_init hS hO ht)
  exact x_return h hr dX0_countTimes_45 ⟨t, ct_end hS hO hC, rfl⟩
end
section
/-! ===== RepeatFinder: countWords ===== -/
set_option maxRecDepth 100000
theorem words_inner {K : XK} {l : Launch} {D : va_G} {dB dS : ClassId} {ad : Nat → Nat} {tl pl bu la ra : Int} {tx pr nx sh le ti fe bl : Nat → Int} {G : Nat → Nat} {n k : Nat} {NX : Nat → Nat → Nat} {SH LE EE pos : Nat → Nat} (hS : Sam G n k NX SH LE EE) (hk : k ≤ 49) (hn : n ≤ 24) (hG : ∀ e, e < n → G e < 4) (hnx : ∀ s c, s < k → c < 4 → nx (4 * s + c) = (NX s c : Int)) (hO : Ord k bl pos LE) {wo : Nat → Int} {i s : Nat} (hs : s < k) (hw : ∀ u, u < k → LE s < LE u → wo u = (Dw G n LE EE u : Int)) (h : xok K (JX l D dB dS) ({ frames := 0, cells := 0, slots := 0, locals := 0 }) cX0_countWords RX0 6)
    (hx : ∀ (a c : Int), a = (Dw G n LE EE s : Int) → xw K (wX ad dB dS tl pl bu (k : Int) la ra tx pr nx sh le ti fe wo bl) 65 [(0, .ref (ad 0)), (1, .int (iI (i : Int))), (2, .int (iI (s : Int))), (3, .int (iI a)), (4, .int (iI c))] []) :
    ∀ (f c : Nat) (a x : Int), 4 < c + f → c ≤ 4 → x = (c : Int) → a = (sm (fun d => if NX s d = 0 then 0 else 1 + Dw G n LE EE (NX s d)) c : Int) → xw K (wX ad dB dS tl pl bu (k : Int) la ra tx pr nx sh le ti fe wo bl) 23 [(0, .ref (ad 0)), (1, .int (iI (i : Int))), (2, .int (iI (s : Int))), (3, .int (iI a)), (4, .int (iI x))] [] := by
  intro f
  induction f with
  | zero => intro c a x h1 h2; omega
  | succ f ih =>
    intro c a x hf hc hxx ha
    subst hxx
    refine x_iload h dX0_countWords_23 4 rfl ?_
    refine x_iconst h dX0_countWords_25 ?_
    refine x_icmp_ge h 65 dX0_countWords_26 (by decide) (by omega) (by omega) (fun c_26 => ?_) (fun c_26 => ?_)
    · refine hx a _ ?_
      rw [ha, Dw_rec hS hG hs, show c = 4 by omega]
    · refine x_aload_n h dX0_countWords_29 0 rfl ?_
      refine xX_nx h dX0_countWords_30 ?_
      refine x_iconst h dX0_countWords_33 ?_
      refine x_iload_n h dX0_countWords_34 2 rfl ?_
      refine x_imul h dX0_countWords_35 ?_
      refine x_iload h dX0_countWords_36 4 rfl ?_
      refine x_iadd h dX0_countWords_38 ?_
      refine xX_lnx h ((4 * s) + c) (by omega) (by omega) dX0_countWords_39 ?_
      refine x_top (hnx s c hs (by omega)) ?_
      have hstep : sm (fun d => if NX s d = 0 then 0 else 1 + Dw G n LE EE (NX s d)) (c + 1) = sm (fun d => if NX s d = 0 then 0 else 1 + Dw G n LE EE (NX s d)) c + (if NX s c = 0 then 0 else 1 + Dw G n LE EE (NX s c)) := rfl
      have hNk : NX s c < k := by
        by_cases hz : NX s c = 0
        · rw [hz]; exact hS.pos.1
        · exact (hS.T1 hs (by omega) hz).1
      refine x_istore h dX0_countWords_40 (by decide) [1, 2, 3, 4, 5, 0] [(0, .ref (ad 0)), (1, .int (iI (i : Int))), (2, .int (iI (s : Int))), (3, .int (iI a)), (4, .int (iI (c : Int))), (5, .int (iI (NX s c : Int)))] rfl ?_
      refine x_iload h dX0_countWords_42 5 rfl ?_
      refine x_if_eq h 59 dX0_countWords_44 (by decide) (by omega) (fun c_44 => ?_) (fun c_44 => ?_)
      · refine x_iinc h dX0_countWords_59 4 rfl (by decide) [1, 2, 3, 4, 0, 5] [(0, .ref (ad 0)), (1, .int (iI (i : Int))), (2, .int (iI (s : Int))), (3, .int (iI a)), (4, .int (iI ((c : Int) + 1))), (5, .int (iI (NX s c : Int)))] rfl ?_
        refine x_goto h 23 dX0_countWords_62 (by decide) ?_
        refine x_sub [0, 1, 2, 3, 4] [(0, .ref (ad 0)), (1, .int (iI (i : Int))), (2, .int (iI (s : Int))), (3, .int (iI a)), (4, .int (iI ((c : Int) + 1)))] rfl ?_
        refine ih (c + 1) _ _ (by omega) (by omega) (by omega) ?_
        rw [hstep]
        rw [if_pos (by omega)]; omega
      · have hwv := hw (NX s c) hNk (by have := (hS.T1 hs (by omega : c < 4) (by omega)).2.2.1; omega)
        refine x_iload_n h dX0_countWords_47 3 rfl ?_
        refine x_iconst h dX0_countWords_48 ?_
        refine x_aload_n h dX0_countWords_49 0 rfl ?_
        refine xX_wo h dX0_countWords_50 ?_
        refine x_iload h dX0_countWords_53 5 rfl ?_
        refine xX_lwo h (NX s c) (by omega) (by omega) dX0_countWords_55 ?_
        refine x_iadd h dX0_countWords_56 ?_
        refine x_iadd h dX0_countWords_57 ?_
        refine x_istore_n h dX0_countWords_58 (by decide) [1, 2, 3, 0, 4, 5] [(0, .ref (ad 0)), (1, .int (iI (i : Int))), (2, .int (iI (s : Int))), (3, .int (iI (a + (1 + (wo (NX s c)))))), (4, .int (iI (c : Int))), (5, .int (iI (NX s c : Int)))] rfl ?_
        refine x_iinc h dX0_countWords_59 4 rfl (by decide) [1, 2, 3, 4, 0, 5] [(0, .ref (ad 0)), (1, .int (iI (i : Int))), (2, .int (iI (s : Int))), (3, .int (iI (a + (1 + (wo (NX s c)))))), (4, .int (iI ((c : Int) + 1))), (5, .int (iI (NX s c : Int)))] rfl ?_
        refine x_goto h 23 dX0_countWords_62 (by decide) ?_
        refine x_sub [0, 1, 2, 3, 4] [(0, .ref (ad 0)), (1, .int (iI (i : Int))), (2, .int (iI (s : Int))), (3, .int (iI (a + (1 + (wo (NX s c)))))), (4, .int (iI ((c : Int) + 1)))] rfl ?_
        refine ih (c + 1) _ _ (by omega) (by omega) (by omega) ?_
        rw [hstep]
        rw [if_neg (by omega), hwv]; omega
theorem words_outer {K : XK} {l : Launch} {D : va_G} {dB dS : ClassId} {ad : Nat → Nat} {tl pl bu la ra : Int} {tx pr nx sh le ti fe bl : Nat → Int} {G : Nat → Nat} {n k : Nat} {NX : Nat → Nat → Nat} {SH LE EE pos : Nat → Nat} (hS : Sam G n k NX SH LE EE) (hk : k ≤ 49) (hn : n ≤ 24) (hG : ∀ e, e < n → G e < 4) (hnx : ∀ s c, s < k → c < 4 → nx (4 * s + c) = (NX s c : Int)) (hO : Ord k bl pos LE) (h : xok K (JX l D dB dS) ({ frames := 0, cells := 0, slots := 0, locals := 0 }) cX0_countWords RX0 6)
    (hx : ∀ (t : Nat → Int) (lvx : List (Nat × Value)), (∀ s, s < k → t s = (Dw G n LE EE s : Int)) → xw K (wX ad dB dS tl pl bu (k : Int) la ra tx pr nx sh le ti fe t bl) 79 lvx []) :
    ∀ (i : Nat) (x : Int) (t : Nat → Int), i ≤ k → x = (i : Int) - 1 → (∀ s, s < k → i ≤ pos s → t s = (Dw G n LE EE s : Int)) → xw K (wX ad dB dS tl pl bu (k : Int) la ra tx pr nx sh le ti fe t bl) 7 [(0, .ref (ad 0)), (1, .int (iI x))] [] := by
  intro i
  induction i with
  | zero =>
    intro x t hi hxx hC
    subst hxx
    refine x_iload_n h dX0_countWords_7 1 rfl ?_
    refine x_if_lt h 79 dX0_countWords_8 (by decide) (by omega) (fun c_8 => ?_) (fun c_8 => ?_)
    · exact hx t _ (fun s hs => hC s hs (Nat.zero_le _))
    · omega
  | succ i ih =>
    intro x t hi hxx hC
    obtain rfl : x = (i : Int) := by omega
    refine x_iload_n h dX0_countWords_7 1 rfl ?_
    refine x_if_lt h 79 dX0_countWords_8 (by decide) (by omega) (fun c_8 => ?_) (fun c_8 => ?_)
    · omega
    · refine x_aload_n h dX0_countWords_11 0 rfl ?_
      refine xX_bl h dX0_countWords_12 ?_
      refine x_iload_n h dX0_countWords_15 1 rfl ?_
      refine xX_lbl h i (by omega) (by omega) dX0_countWords_16 ?_
      obtain ⟨s, hs⟩ : ∃ s, s = vN bl i := ⟨_, rfl⟩
      obtain ⟨b1, b2, b3⟩ := hO.2.1 i (by omega)
      rw [← hs] at b1 b2 b3
      refine x_top b2 ?_
      refine x_istore_n h dX0_countWords_17 (by decide) [1, 2, 0] [(0, .ref (ad 0)), (1, .int (iI (i : Int))), (2, .int (iI (s : Int)))] rfl ?_
      refine x_iconst h dX0_countWords_18 ?_
      refine x_istore_n h dX0_countWords_19 (by decide) [1, 2, 3, 0] [(0, .ref (ad 0)), (1, .int (iI (i : Int))), (2, .int (iI (s : Int))), (3, .int (iI 0))] rfl ?_
      refine x_iconst h dX0_countWords_20 ?_
      refine x_istore h dX0_countWords_21 (by decide) [1, 2, 3, 4, 0] [(0, .ref (ad 0)), (1, .int (iI (i : Int))), (2, .int (iI (s : Int))), (3, .int (iI 0)), (4, .int (iI 0))] rfl ?_
      refine words_inner hS hk hn hG hnx hO b1 (fun u hu hl => hC u hu (by have := ord_lt hO b1 hu hl; omega)) h (fun a c ha => ?_) 5 0 _ _ (by omega) (by omega) rfl rfl
      subst ha
      have hD := Dw_le (G := G) (n := n) (LE := LE) (EE := EE) s
      have hD2 : n * (n + 1) ≤ 24 * 25 := Nat.mul_le_mul (by omega) (by omega)
      refine x_aload_n h dX0_countWords_65 0 rfl ?_
      refine xX_wo h dX0_countWords_66 ?_
      refine x_iload_n h dX0_countWords_69 2 rfl ?_
      refine x_iload_n h dX0_countWords_70 3 rfl ?_
      refine x_i2s h dX0_countWords_71 (by omega) ?_
      refine xX_swo h s (by omega) (by omega) (by omega) dX0_countWords_72 ?_
      refine x_iinc h dX0_countWords_73 1 rfl (by decide) [1, 0, 2, 3, 4] [(0, .ref (ad 0)), (1, .int (iI ((i : Int) + (-1)))), (2, .int (iI (s : Int))), (3, .int (iI (Dw G n LE EE s : Int))), (4, .int (iI c))] rfl ?_
      refine x_goto h 7 dX0_countWords_76 (by decide) ?_
      refine x_sub [0, 1] [(0, .ref (ad 0)), (1, .int (iI ((i : Int) + (-1))))] rfl ?_
      refine ih _ _ (by omega) (by omega) (fun u hu hp => ?_)
      by_cases hus : u = s
      · rw [hus, zu_s]
      · rw [zu_n hus]
        refine hC u hu ?_
        have : pos u ≠ i := fun e => hus (by
          have e2 := (hO.1 u hu).2
          rw [e, b2] at e2; omega)
        omega
theorem cX_countWords (l : Launch) (D : va_G) (dB dS : ClassId) (ad : Nat → Nat) (tl pl bu la ra : Int) (tx pr nx sh le ti fe wo bl : Nat → Int) (G : Nat → Nat) (n k : Nat) (NX : Nat → Nat → Nat) (SH LE EE pos : Nat → Nat) (hS : Sam G n k NX SH LE EE) (hk : k ≤ 49) (hn : n ≤ 24) (hG : ∀ e, e < n → G e < 4) (hnx : ∀ s c, s < k → c < 4 → nx (4 * s + c) = (NX s c : Int)) (hO : Ord k bl pos LE) : xmv (JX l D dB dS) yX0_countWords cX0_countWords 6 0 0 [.ref (ad 0)] (wX ad dB dS tl pl bu (k : Int) la ra tx pr nx sh le ti fe wo bl) (fun ws' => ∃ wo' : Nat → Int, (∀ s, s < k → wo' s = (Dw G n LE EE s : Int)) ∧ ws' = wX ad dB dS tl pl bu (k : Int) la ra tx pr nx sh le ti fe wo' bl) := by
  refine xmv_of (by decide) (Nat.le_of_ble_eq_true rfl) (fun K h hr => ?_)
  show xw K (wX ad dB dS tl pl bu (k : Int) la ra tx pr nx sh le ti fe wo bl) 0 [(0, .ref (ad 0))] []
  refine x_aload_n h dX0_countWords_0 0 rfl ?_
  refine xX_sc h dX0_countWords_1 ?_
  refine x_iconst h dX0_countWords_4 ?_
  refine x_isub h dX0_countWords_5 ?_
  refine x_istore_n h dX0_countWords_6 (by decide) [1, 0] [(0, .ref (ad 0)), (1, .int (iI ((k : Int) - 1)))] rfl ?_
  refine words_outer hS hk hn hG hnx hO h (fun t lvx hC => ?_) k _ wo (Nat.le_refl _) rfl (fun s hs hp => by have := (hO.1 s hs).1; omega)
  exact x_return h hr dX0_countWords_79 ⟨t, hC, rfl⟩
end
section
/-! ===== RepeatFinder: build ===== -/
set_option maxRecDepth 100000
/-- the arrays hold the whole automaton of the n letters of G, with its counts -/
def Bt (G : Nat → Nat) (n k : Nat) (NX : Nat → Nat → Nat) (SH LE EE : Nat → Nat) (nx sh le ti fe wo : Nat → Int) : Prop :=
  Sam G n k NX SH LE EE ∧ k ≤ 49 ∧ (∀ s c, s < k → c < 4 → nx (4 * s + c) = (NX s c : Int)) ∧ (∀ s, 0 < s → s < k → sh s = (SH s : Int)) ∧ (∀ s, s < k → le s = (LE s : Int)) ∧ (∀ s, s < k → fe s = (EE s : Int) - 1) ∧ (∀ s, s < k → ti s = (cnt G n LE EE s : Int)) ∧ (∀ s, s < k → wo s = (Dw G n LE EE s : Int))
def Bu (G : Nat → Nat) (n : Nat) (bu sc : Int) (nx sh le ti fe wo : Nat → Int) : Prop := bu = 0 ∨ (bu = 1 ∧ ∃ (k : Nat) (NX : Nat → Nat → Nat) (SH LE EE : Nat → Nat), sc = (k : Int) ∧ Bt G n k NX SH LE EE nx sh le ti fe wo)
theorem build_loop {K : XK} {l : Launch} {D : va_G} {dB dS : ClassId} {ad : Nat → Nat} {pl ra : Int} {tx pr wo bl : Nat → Int} {G : Nat → Nat} {n : Nat} (hn : n ≤ 24) (hG : ∀ i, i < n → G i < 4) (htx : ∀ i, i < n → tx i = (G i : Int)) (h : xok K (JX l D dB dS) ({ frames := 3, cells := 0, slots := 0, locals := 74 }) cX0_build RX0 2)
    (hx : ∀ (k la : Nat) (nx sh le ti fe : Nat → Int) (lvx : List (Nat × Value)), lvx[0]? = some (0, .ref (ad 0)) → k ≤ 49 → Aut G n k la nx sh le ti fe → xw K (wX ad dB dS (n : Int) pl 1 (k : Int) (la : Int) ra tx pr nx sh le ti fe wo bl) 55 lvx []) :
    ∀ (f p k la : Nat) (x sc lb : Int) (nx sh le ti fe : Nat → Int), n < p + f → p ≤ n → x = (p : Int) → sc = (k : Int) → lb = (la : Int) → k ≤ 1 + 2 * p → Aut G p k la nx sh le ti fe → xw K (wX ad dB dS (n : Int) pl 1 sc lb ra tx pr nx sh le ti fe wo bl) 30 [(0, .ref (ad 0)), (1, .int (iI x))] [] := by
  intro f
  induction f with
  | zero => intro p k la x sc lb nx sh le ti fe h1 h2; omega
  | succ f ih =>
    intro p k la x sc lb nx sh le ti fe hf hp hxx hsc hlb hk hA
    subst hxx; subst hsc; subst hlb
    refine x_iload_n h dX0_build_30 1 rfl ?_
    refine x_aload_n h dX0_build_31 0 rfl ?_
    refine xX_tl h dX0_build_32 ?_
    refine x_icmp_ge h 55 dX0_build_35 (by decide) (by omega) (by omega) (fun c_35 => ?_) (fun c_35 => ?_)
    · obtain rfl : p = n := by omega
      exact hx k la nx sh le ti fe _ rfl (by omega) hA
    · refine x_aload_n h dX0_build_38 0 rfl ?_
      refine x_aload_n h dX0_build_39 0 rfl ?_
      refine xX_tx h dX0_build_40 ?_
      refine x_iload_n h dX0_build_43 1 rfl ?_
      refine xX_ltx h p (by omega) (by omega) dX0_build_44 ?_
      refine x_top (htx p (by omega)) ?_
      refine x_iload_n h dX0_build_45 1 rfl ?_
      refine xX_callv h (cX_extend l D dB dS ad (n : Int) pl 1 ra tx pr nx sh le ti fe wo bl G p k la hA (by omega) (by omega) (hG p (by omega))) 2 (lw_V q109 q111 qs3 q19 q112) (by decide +kernel) ⟨Nat.le_of_ble_eq_true rfl, Nat.le_of_ble_eq_true rfl⟩ rfl rfl (Nat.le_of_ble_eq_true rfl) dX0_build_46 (fun ws_ hp_46 => ?_)
      obtain ⟨k', nx', sh', le', ti', fe', hk', hA', rfl⟩ := hp_46
      refine x_iinc h dX0_build_49 1 rfl (by decide) [1, 0] [(0, .ref (ad 0)), (1, .int (iI ((p : Int) + 1)))] rfl ?_
      refine x_goto h 30 dX0_build_52 (by decide) ?_
      exact ih (p + 1) k' k _ _ _ _ _ _ _ _ (by omega) (by omega) (by omega) rfl rfl (by omega) hA'
theorem cX_build (l : Launch) (D : va_G) (dB dS : ClassId) (ad : Nat → Nat) (pl bu sc la ra : Int) (tx pr nx sh le ti fe wo bl : Nat → Int) (G : Nat → Nat) (n : Nat) (hn : n ≤ 24) (hG : ∀ i, i < n → G i < 4) (htx : ∀ i, i < n → tx i = (G i : Int)) (hb : Bu G n bu sc nx sh le ti fe wo) : xmv (JX l D dB dS) yX0_build cX0_build 2 3 74 [.ref (ad 0)] (wX ad dB dS (n : Int) pl bu sc la ra tx pr nx sh le ti fe wo bl) (fun ws' => ∃ (k : Nat) (NX : Nat → Nat → Nat) (SH LE EE : Nat → Nat) (lb : Int) (nx' sh' le' ti' fe' wo' bl' : Nat → Int), Bt G n k NX SH LE EE nx' sh' le' ti' fe' wo' ∧ ws' = wX ad dB dS (n : Int) pl 1 (k : Int) lb ra tx pr nx' sh' le' ti' fe' wo' bl') := by
  refine xmv_of (by decide) (Nat.le_of_ble_eq_true rfl) (fun K h hr => ?_)
  show xw K (wX ad dB dS (n : Int) pl bu sc la ra tx pr nx sh le ti fe wo bl) 0 [(0, .ref (ad 0))] []
  rcases hb with rfl | ⟨rfl, k, NX, SH, LE, EE, rfl, hB⟩
  · refine x_aload_n h dX0_build_0 0 rfl ?_
    refine xX_bu h dX0_build_1 ?_
    refine x_if_eq h 8 dX0_build_4 (by decide) (by omega) (fun c_4 => ?_) (fun c_4 => ?_)
    · refine x_aload_n h dX0_build_8 0 rfl ?_
      refine x_iconst h dX0_build_9 ?_
      refine xX_pbu h (by omega) dX0_build_10 ?_
      refine x_aload_n h dX0_build_13 0 rfl ?_
      refine x_iconst h dX0_build_14 ?_
      refine xX_psc h dX0_build_15 ?_
      refine x_aload_n h dX0_build_18 0 rfl ?_
      refine x_aload_n h dX0_build_19 0 rfl ?_
      refine x_iconst h dX0_build_20 ?_
      refine x_iconst h dX0_build_21 ?_
      refine xX_calli h (cX_newState l D dB dS ad (n : Int) pl 1 la ra tx pr nx sh le ti fe wo bl 0 0 (-1) (by omega) (by omega) (by omega)) 2 (lw_V q105 q107 qs2 q19 q108) (by decide +kernel) ⟨Nat.le_of_ble_eq_true rfl, Nat.le_of_ble_eq_true rfl⟩ rfl rfl (Nat.le_of_ble_eq_true rfl) dX0_build_22 (fun r_22 ws_ hp_22 => ?_)
      obtain ⟨rfl, nx1, hn1, hn2, rfl⟩ := hp_22
      refine xX_pla h dX0_build_25 ?_
      refine x_iconst h dX0_build_28 ?_
      refine x_istore_n h dX0_build_29 (by decide) [1, 0] [(0, .ref (ad 0)), (1, .int (iI 0))] rfl ?_
      refine build_loop hn hG htx h (fun k la2 nx2 sh2 le2 ti2 fe2 lvx hlv hk2 hA => ?_) (n + 1) 0 1 0 _ _ _ _ _ _ _ _ (by omega) (by omega) rfl rfl rfl (by omega) (aut_0 G hn2 zu_s zu_s zu_s zu_s)
      have hle2 : ∀ s, s < k → le2 s = (vN le2 s : Int) ∧ vN le2 s ≤ 24 := fun s hs => by have := hA.vle hs; exact ⟨this.1, by omega⟩
      refine x_sub [0] [(0, .ref (ad 0))] (by simp [lv_pick, hlv]) ?_
      refine x_aload_n h dX0_build_55 0 rfl ?_
      refine xX_callv h (cX_order l D dB dS ad (n : Int) pl 1 (la2 : Int) ra tx pr nx2 sh2 le2 ti2 fe2 wo bl k hk2 hle2) 0 (lw_V q117 q119 qs5 q19 q120) (by decide +kernel) ⟨Nat.le_of_ble_eq_true rfl, Nat.le_of_ble_eq_true rfl⟩ rfl rfl (Nat.le_of_ble_eq_true rfl) dX0_build_56 (fun ws_ hp_56 => ?_)
      obtain ⟨bl2, pos, hO, rfl⟩ := hp_56
      refine x_aload_n h dX0_build_59 0 rfl ?_
      refine xX_callv h (cX_countTimes l D dB dS ad (n : Int) pl 1 (la2 : Int) ra tx pr nx2 sh2 le2 ti2 fe2 wo bl2 G n k (nN nx2) (vN sh2) (vN le2) (eN fe2) pos hA.1 hk2 hn (fun s h0 hs => (hA.vsh h0 hs).1) hO (fun s hs => hA.vti hs)) 0 (lw_V q121 q123 qs6 q19 q124) (by decide +kernel) ⟨Nat.le_of_ble_eq_true rfl, Nat.le_of_ble_eq_true rfl⟩ rfl rfl (Nat.le_of_ble_eq_true rfl) dX0_build_60 (fun ws_ hp_60 => ?_)
      obtain ⟨ti3, ht3, rfl⟩ := hp_60
      refine x_aload_n h dX0_build_63 0 rfl ?_
      refine xX_callv h (cX_countWords l D dB dS ad (n : Int) pl 1 (la2 : Int) ra tx pr nx2 sh2 le2 ti3 fe2 wo bl2 G n k (nN nx2) (vN sh2) (vN le2) (eN fe2) pos hA.1 hk2 hn hG (fun s c hs hc => hA.vnx hs hc) hO) 0 (lw_V q125 q127 qs7 q19 q128) (by decide +kernel) ⟨Nat.le_of_ble_eq_true rfl, Nat.le_of_ble_eq_true rfl⟩ rfl rfl (Nat.le_of_ble_eq_true rfl) dX0_build_64 (fun ws_ hp_64 => ?_)
      obtain ⟨wo3, hw3, rfl⟩ := hp_64
      refine x_return h hr dX0_build_67 ?_
      exact ⟨k, nN nx2, vN sh2, vN le2, eN fe2, _, _, _, _, _, _, _, _, ⟨hA.1, hk2, fun s c hs hc => hA.vnx hs hc, fun s h0 hs => (hA.vsh h0 hs).1, fun s hs => (hA.vle hs).1, fun s hs => (hA.vfe hs).1, ht3, hw3⟩, rfl⟩
    · omega
  · refine x_aload_n h dX0_build_0 0 rfl ?_
    refine xX_bu h dX0_build_1 ?_
    refine x_if_eq h 8 dX0_build_4 (by decide) (by omega) (fun c_4 => ?_) (fun c_4 => ?_)
    · omega
    · refine x_return h hr dX0_build_7 ?_
      exact ⟨k, NX, SH, LE, EE, _, _, _, _, _, _, _, _, hB, rfl⟩
end
section
/-! ===== pure: the state of a word, and a letter more ===== -/
/-- the word of l letters that ends at e (anywhere in G) is one of state s -/
def At (G : Nat → Nat) (k : Nat) (SH LE EE : Nat → Nat) (s e l : Nat) : Prop := (s = 0 ∧ l = 0) ∨ (0 < s ∧ s < k ∧ LE (SH s) < l ∧ l ≤ LE s ∧ eqv G l (EE s) e)
/-- in how many ends of the first n letters the word of l letters that ends at e occurs -/
noncomputable def oc (G : Nat → Nat) (n l e : Nat) : Nat := cP (fun j => eqv G l (j + 1) e) n
section SAM
variable {G : Nat → Nat} {n k : Nat} {NX : Nat → Nat → Nat} {SH LE EE : Nat → Nat}
theorem at_lt (h : Sam G n k NX SH LE EE) {s e l : Nat} (ha : At G k SH LE EE s e l) : s < k := by
  rcases ha with ⟨rfl, -⟩ | ⟨-, h1, -⟩
  · exact h.pos.1
  · exact h1
theorem at_le (h : Sam G n k NX SH LE EE) {s e l : Nat} (ha : At G k SH LE EE s e l) : l ≤ LE s := by
  rcases ha with ⟨rfl, rfl⟩ | ⟨-, -, -, h1, -⟩
  · omega
  · exact h1
theorem at_pos {s e l : Nat} (ha : At G k SH LE EE s e l) (hl : 0 < l) : 0 < s := by
  rcases ha with ⟨rfl, rfl⟩ | ⟨h1, -⟩
  · omega
  · exact h1
/-- where the word occurs, all words of the state do -/
theorem at_iff (h : Sam G n k NX SH LE EE) {s e l e' : Nat} (ha : At G k SH LE EE s e l) (he : e' ≤ n) : eqv G l e' e ↔ eqv G (LE s) (EE s) e' := by
  rcases ha with ⟨rfl, rfl⟩ | ⟨h0, h1, h2, h3, h4⟩
  · rw [h.pos.2.1]; exact ⟨fun _ => eqv_zero, fun _ => eqv_zero⟩
  · exact ⟨fun q => h.B h0 h1 h2 h3 he (eqv_trans h4 (eqv_symm q)), fun q => eqv_trans (eqv_symm (eqv_mono h3 q)) h4⟩
theorem at_oc (h : Sam G n k NX SH LE EE) {s e l : Nat} (ha : At G k SH LE EE s e l) : oc G n l e = cnt G n LE EE s := cP_congr (fun j hj => at_iff h ha (by omega))
theorem at_first (h : Sam G n k NX SH LE EE) {s e l : Nat} (ha : At G k SH LE EE s e l) : EE s ≤ n ∧ eqv G l (EE s) e ∧ ∀ e', e' < EE s → ¬ eqv G l e' e := by
  have hs := at_lt h ha
  have hw := h.wf hs
  refine ⟨hw.2, (at_iff h ha hw.2).mpr (eqv_refl hw.1), fun e' he' q => ?_⟩
  have := h.C hs (by omega) ((at_iff h ha (by omega)).mp q)
  omega
/-- every word of the text has a state -/
theorem at_ex (h : Sam G n k NX SH LE EE) {e l : Nat} (hl : l ≤ e) (he : e ≤ n) : ∃ s, At G k SH LE EE s e l := by
  rcases Nat.eq_zero_or_pos l with rfl | q
  · exact ⟨0, Or.inl ⟨rfl, rfl⟩⟩
  · obtain ⟨s, g0, g1, g2, g3, g4⟩ := h.A q hl he
    exact ⟨s, Or.inr ⟨g0, g1, g2, g3, g4⟩⟩
theorem at_uniq (h : Sam G n k NX SH LE EE) {s s' e l : Nat} (ha : At G k SH LE EE s e l) (hb : At G k SH LE EE s' e l) : s = s' := by
  rcases ha with ⟨rfl, rfl⟩ | ⟨h0, h1, h2, h3, h4⟩
  · rcases hb with ⟨rfl, -⟩ | ⟨-, -, g2, -⟩
    · rfl
    · omega
  · rcases hb with ⟨rfl, rfl⟩ | ⟨g0, g1, g2, g3, g4⟩
    · omega
    · exact h.D h0 h1 g0 g1 h2 h3 g2 g3 (eqv_trans h4 (eqv_symm g4))
/-- the longest word of a state is one of its words -/
theorem at_self (h : Sam G n k NX SH LE EE) {s : Nat} (hs : s < k) : At G k SH LE EE s (EE s) (LE s) := by
  rcases Nat.eq_zero_or_pos s with rfl | q
  · exact Or.inl ⟨rfl, h.pos.2.1⟩
  · exact Or.inr ⟨q, hs, (h.S q hs).2.1, Nat.le_refl _, eqv_refl (h.wf hs).1⟩
theorem at_move {s e e' l : Nat} (ha : At G k SH LE EE s e l) (hq : eqv G l e e') : At G k SH LE EE s e' l := by
  rcases ha with ha | ⟨g0, g1, g2, g3, g4⟩
  · exact Or.inl ha
  · exact Or.inr ⟨g0, g1, g2, g3, eqv_trans g4 hq⟩
theorem at_low (h : Sam G n k NX SH LE EE) {s e l c : Nat} (ha : At G k SH LE EE s e l) (hc : c < 4) (hz : NX s c ≠ 0) : LE (SH (NX s c)) < l + 1 := by
  have hs := at_lt h ha
  have hle := at_le h ha
  obtain ⟨g1, g2, g3, e0, g4, g5, g6, g7⟩ := h.T1 hs hc hz
  rcases Nat.lt_or_ge (LE (SH (NX s c))) (l + 1) with q3 | q3
  · exact q3
  · exfalso
    have hr0 : 0 < NX s c := by omega
    have hSr := h.S hr0 g1
    have hp0 : 0 < SH (NX s c) := by
      rcases Nat.eq_zero_or_pos (SH (NX s c)) with z | z
      · rw [z, h.pos.2.1] at q3; omega
      · exact z
    have hZ : ∀ x, x ≤ n → eqv G (l + 1) (EE (NX s c)) x → eqv G (LE s + 1) (EE (NX s c)) x := by
      intro x hx2 hqx
      have b1 := eqv_trans (eqv_symm (eqv_mono (by omega : l + 1 ≤ LE s + 1) g7)) hqx
      obtain ⟨e', x', he', rfl, b2, b3⟩ := eqv_pred b1
      obtain rfl : e' = e0 := by omega
      have c1 := (at_iff h ha (e' := e') (by omega)).mpr g5
      have b4 := (at_iff h ha (e' := x') (by omega)).mp (eqv_trans (eqv_symm b2) c1)
      exact eqv_trans g7 (eqv_succ.mpr ⟨eqv_trans (eqv_symm g5) b4, b3⟩)
    obtain ⟨e', m1, m2, m3⟩ := h.L hp0 hSr.1
    have c1 := hZ _ (h.wf hSr.1).2 (eqv_mono q3 (eqv_symm hSr.2.2))
    have c2 := hZ e' m1 (eqv_mono q3 (eqv_trans (eqv_symm hSr.2.2) m2))
    exact m3 (eqv_mono (by omega) (eqv_trans (eqv_symm c1) c2))
/-- a letter leads to the state of the longer word -/
theorem at_next (h : Sam G n k NX SH LE EE) {s e l : Nat} (ha : At G k SH LE EE s e l) (hc : G e < 4) (hz : NX s (G e) ≠ 0) : At G k SH LE EE (NX s (G e)) (e + 1) (l + 1) := by
  have hs := at_lt h ha
  have hle := at_le h ha
  obtain ⟨g1, g2, g3, e0, g4, g5, g6, g7⟩ := h.T1 hs hc hz
  refine Or.inr ⟨by omega, g1, at_low h ha hc hz, by omega, ?_⟩
  have c1 := (at_iff h ha (e' := e0) (by omega)).mpr g5
  exact eqv_trans (eqv_mono (by omega) g7) (eqv_succ.mpr ⟨c1, g6⟩)
/-- a letter that leads nowhere: the longer word isn't there -/
theorem at_none (h : Sam G n k NX SH LE EE) {s e l : Nat} (ha : At G k SH LE EE s e l) (hc : G e < 4) (hz : NX s (G e) = 0) : ∀ e', e' ≤ n → ¬ eqv G (l + 1) e' (e + 1) := by
  intro e' he' q
  obtain ⟨x, y, rfl, hy, q1, q2⟩ := eqv_pred q
  obtain rfl : y = e := by omega
  exact h.T0 (at_lt h ha) hc hz (by omega) ((at_iff h ha (by omega)).mp q1) q2
end SAM
/-- the words of the text stay the same if only letters behind it change -/
theorem eqv_cong {G G' : Nat → Nat} {n l a b : Nat} (h : ∀ i, i < n → G i = G' i) (ha : a ≤ n) (hb : b ≤ n) : eqv G l a b ↔ eqv G' l a b := by
  constructor
  · rintro ⟨h1, h2, h3⟩
    refine ⟨h1, h2, fun k hk => ?_⟩
    rw [← h _ (by omega), ← h _ (by omega)]; exact h3 k hk
  · rintro ⟨h1, h2, h3⟩
    refine ⟨h1, h2, fun k hk => ?_⟩
    rw [h _ (by omega), h _ (by omega)]; exact h3 k hk
theorem sam_cong {G G' : Nat → Nat} {n k : Nat} {NX : Nat → Nat → Nat} {SH LE EE : Nat → Nat} (hg : ∀ i, i < n → G i = G' i) (h : Sam G n k NX SH LE EE) : Sam G' n k NX SH LE EE := by
  have W := fun {s : Nat} (hs : s < k) => (h.wf hs).2
  refine ⟨h.pos, fun s hs => h.wf hs, fun s h0 hs => ?_, fun e l h0 hl he => ?_, fun s e l h0 hs h1 h2 he hq => ?_, fun s e hs he hq => ?_, fun s s' l h0 hs h0' hs' h1 h2 h1' h2' hq => ?_, fun s h0 hs => ?_, fun s c hs hc hz e he hq => ?_, fun s c hs hc hz => ?_⟩
  · have := h.S h0 hs
    exact ⟨this.1, this.2.1, (eqv_cong hg (W this.1) (W hs)).mp this.2.2⟩
  · obtain ⟨s, g0, g1, g2, g3, g4⟩ := h.A h0 hl he
    exact ⟨s, g0, g1, g2, g3, (eqv_cong hg (W g1) he).mp g4⟩
  · exact (eqv_cong hg (W hs) he).mp (h.B h0 hs h1 h2 he ((eqv_cong hg (W hs) he).mpr hq))
  · exact h.C hs he ((eqv_cong hg (W hs) he).mpr hq)
  · exact h.D h0 hs h0' hs' h1 h2 h1' h2' ((eqv_cong hg (W hs) (W hs')).mpr hq)
  · obtain ⟨e, g1, g2, g3⟩ := h.L h0 hs
    exact ⟨e, g1, (eqv_cong hg (W hs) g1).mp g2, fun q => g3 ((eqv_cong hg (W hs) g1).mpr q)⟩
  · rw [← hg e he]; exact h.T0 hs hc hz he ((eqv_cong hg (W hs) (by omega)).mpr hq)
  · obtain ⟨g1, g2, g3, e, g4, g5, g6, g7⟩ := h.T1 hs hc hz
    exact ⟨g1, g2, g3, e, g4, (eqv_cong hg (W hs) (by omega)).mp g5, by rw [← hg e g4]; exact g6, (eqv_cong hg (W g1) (by omega)).mp g7⟩
theorem bt_cong {G G' : Nat → Nat} {n k : Nat} {NX : Nat → Nat → Nat} {SH LE EE : Nat → Nat} {nx sh le ti fe wo : Nat → Int} (hg : ∀ i, i < n → G i = G' i) (h : Bt G n k NX SH LE EE nx sh le ti fe wo) : Bt G' n k NX SH LE EE nx sh le ti fe wo := by
  obtain ⟨h1, h2, h3, h4, h5, h6, h7, h8⟩ := h
  refine ⟨sam_cong hg h1, h2, h3, h4, h5, h6, fun s hs => ?_, fun s hs => ?_⟩
  · rw [h7 s hs]
    congr 1
    exact cP_congr (fun j hj => eqv_cong hg (h1.wf hs).2 (by omega))
  · rw [h8 s hs]
    congr 1
    refine sm_congr (fun m hm => cP_congr (fun e he => ?_))
    constructor
    · rintro ⟨c1, c2, c3⟩
      exact ⟨c1, (eqv_cong hg (h1.wf hs).2 (by omega)).mp c2, fun e' he' q => c3 e' he' ((eqv_cong hg (by omega) (by omega)).mpr q)⟩
    · rintro ⟨c1, c2, c3⟩
      exact ⟨c1, (eqv_cong hg (h1.wf hs).2 (by omega)).mpr c2, fun e' he' q => c3 e' he' ((eqv_cong hg (by omega) (by omega)).mp q)⟩
theorem bu_cong {G G' : Nat → Nat} {n : Nat} {bu sc : Int} {nx sh le ti fe wo : Nat → Int} (hg : ∀ i, i < n → G i = G' i) (h : Bu G n bu sc nx sh le ti fe wo) : Bu G' n bu sc nx sh le ti fe wo := by
  rcases h with h | ⟨h1, k, NX, SH, LE, EE, h2, h3⟩
  · exact Or.inl h
  · exact Or.inr ⟨h1, k, NX, SH, LE, EE, h2, bt_cong hg h3⟩
/-- a RepeatFinder that holds n letters of G as its text, m letters from 24 on as its probe -/
def XI (ad : Nat → Nat) (dB dS : ClassId) (G : Nat → Nat) (n m : Nat) (ws : va_W) : Prop := ∃ (bu sc la ra : Int) (tx pr nx sh le ti fe wo bl : Nat → Int), (∀ i, i < n → tx i = (G i : Int)) ∧ (∀ i, i < m → pr i = (G (24 + i) : Int)) ∧ Bu G n bu sc nx sh le ti fe wo ∧ ws = wX ad dB dS (n : Int) (m : Int) bu sc la ra tx pr nx sh le ti fe wo bl
end
section
/-! ===== pure: what the questions ask ===== -/
/-- the word of l letters that ends at e is a word of the text, at its first end -/
def Lst (G : Nat → Nat) (n e l : Nat) : Prop := 0 < l ∧ l ≤ e ∧ e ≤ n ∧ ∀ e', e' < e → ¬ eqv G l e' e
/-- how many different words with Q -/
noncomputable def wc (G : Nat → Nat) (n : Nat) (Q : Nat → Nat → Prop) : Nat := sm (fun l => cP (fun e => Lst G n e (l + 1) ∧ Q e (l + 1)) (n + 1)) n
def IsLongest (G : Nat → Nat) (n : Nat) (z : Int) (v : Nat) : Prop := (v = 0 ∨ ∃ e, 0 < v ∧ v ≤ e ∧ e ≤ n ∧ z ≤ (oc G n v e : Int)) ∧ ∀ e l, 0 < l → l ≤ e → e ≤ n → z ≤ (oc G n l e : Int) → l ≤ v
def IsUniq (G : Nat → Nat) (n p : Nat) (r : Int) : Prop := (∃ l, 0 < l ∧ p + l ≤ n ∧ oc G n l (p + l) = 1 ∧ (∀ l', 0 < l' → l' < l → oc G n l' (p + l') ≠ 1) ∧ r = (l : Int)) ∨ ((∀ l, 0 < l → p + l ≤ n → oc G n l (p + l) ≠ 1) ∧ r = -3)
def IsPlace (G : Nat → Nat) (n m : Nat) (r : Int) : Prop := ((∀ e', e' ≤ n → ¬ eqv G m e' (24 + m)) ∧ r = -3) ∨ ∃ e, e ≤ n ∧ eqv G m e (24 + m) ∧ (∀ e', e' < e → ¬ eqv G m e' (24 + m)) ∧ r = (e : Int) - (m : Int)
def IsCommon (G : Nat → Nat) (n i v : Nat) : Prop := (v = 0 ∨ ∃ j e, 0 < v ∧ v ≤ j ∧ j ≤ i ∧ e ≤ n ∧ eqv G v e (24 + j)) ∧ ∀ j l e, 0 < l → l ≤ j → j ≤ i → e ≤ n → eqv G l e (24 + j) → l ≤ v
theorem IsLongest.uniq {G : Nat → Nat} {n : Nat} {z : Int} {v v' : Nat} (h : IsLongest G n z v) (h' : IsLongest G n z v') : v = v' := by
  have a : v ≤ v' := by
    rcases h.1 with q | ⟨e, q1, q2, q3, q4⟩
    · omega
    · exact h'.2 e v q1 q2 q3 q4
  have b : v' ≤ v := by
    rcases h'.1 with q | ⟨e, q1, q2, q3, q4⟩
    · omega
    · exact h.2 e v' q1 q2 q3 q4
  omega
theorem IsUniq.uniq {G : Nat → Nat} {n p : Nat} {r r' : Int} (h : IsUniq G n p r) (h' : IsUniq G n p r') : r = r' := by
  rcases h with ⟨l, a1, a2, a3, a4, a5⟩ | ⟨a1, a2⟩
  · rcases h' with ⟨l', b1, b2, b3, b4, b5⟩ | ⟨b1, b2⟩
    · rcases Nat.lt_trichotomy l l' with q | q | q
      · exact absurd a3 (b4 l a1 q)
      · omega
      · exact absurd b3 (a4 l' b1 q)
    · exact absurd a3 (b1 l a1 a2)
  · rcases h' with ⟨l', b1, b2, b3, b4, b5⟩ | ⟨b1, b2⟩
    · exact absurd b3 (a1 l' b1 b2)
    · omega
theorem IsPlace.uniq {G : Nat → Nat} {n m : Nat} {r r' : Int} (h : IsPlace G n m r) (h' : IsPlace G n m r') : r = r' := by
  rcases h with ⟨a1, a2⟩ | ⟨e, a1, a2, a3, a4⟩
  · rcases h' with ⟨b1, b2⟩ | ⟨e', b1, b2, b3, b4⟩
    · omega
    · exact absurd b2 (a1 e' b1)
  · rcases h' with ⟨b1, b2⟩ | ⟨e', b1, b2, b3, b4⟩
    · exact absurd a2 (b1 e a1)
    · rcases Nat.lt_trichotomy e e' with q | q | q
      · exact absurd a2 (b3 e q)
      · omega
      · exact absurd b2 (a3 e' q)
theorem IsCommon.uniq {G : Nat → Nat} {n i v v' : Nat} (h : IsCommon G n i v) (h' : IsCommon G n i v') : v = v' := by
  have a : v ≤ v' := by
    rcases h.1 with q | ⟨j, e, q1, q2, q3, q4, q5⟩
    · omega
    · exact h'.2 j v e q1 q2 q3 q4 q5
  have b : v' ≤ v := by
    rcases h'.1 with q | ⟨j, e, q1, q2, q3, q4, q5⟩
    · omega
    · exact h.2 j v' e q1 q2 q3 q4 q5
  omega
section SAM
variable {G : Nat → Nat} {n k : Nat} {NX : Nat → Nat → Nat} {SH LE EE : Nat → Nat}
theorem longest_of (h : Sam G n k NX SH LE EE) {z : Int} {v : Nat} (h1 : v = 0 ∨ ∃ u, 0 < u ∧ u < k ∧ z ≤ (cnt G n LE EE u : Int) ∧ v = LE u) (h2 : ∀ u, 0 < u → u < k → z ≤ (cnt G n LE EE u : Int) → LE u ≤ v) : IsLongest G n z v := by
  constructor
  · rcases h1 with q | ⟨u, a1, a2, a3, a4⟩
    · exact Or.inl q
    · have := h.wf a2
      have h3 := (h.S a1 a2).2.1
      refine Or.inr ⟨EE u, by omega, by omega, this.2, ?_⟩
      rw [a4, at_oc h (at_self h a2)]; exact a3
  · intro e l hl hle he hz
    obtain ⟨s, hs⟩ := at_ex h hle he
    have h3 := h2 s (at_pos hs hl) (at_lt h hs) (by rw [← at_oc h hs]; exact hz)
    have := at_le h hs
    omega
/-- the number of words is what the root leads to -/
theorem words_of (h : Sam G n k NX SH LE EE) : Dw G n LE EE 0 = wc G n (fun _ _ => True) := by
  refine sm_congr (fun m hm => cP_congr (fun e he => ⟨fun q => ?_, fun q => ?_⟩))
  · obtain ⟨c1, c2, c3⟩ := q
    rw [h.pos.2.1] at c3
    exact ⟨⟨by omega, c1, by omega, fun e' he' z => c3 e' he' (by rw [Nat.zero_add]; exact z)⟩, trivial⟩
  · obtain ⟨⟨c1, c2, c3, c4⟩, -⟩ := q
    refine ⟨c2, by rw [h.pos.2.1]; exact eqv_zero, fun e' he' z => c4 e' he' ?_⟩
    rw [h.pos.2.1, Nat.zero_add] at z; exact z
end SAM
/-- if a beginning isn't there, neither is the whole -/
theorem none_more {G : Nat → Nat} {n i m x : Nat} (hi : i ≤ m) (h : ∀ e', e' ≤ n → ¬ eqv G i e' (x + i)) : ∀ e', e' ≤ n → ¬ eqv G m e' (x + m) := by
  intro e' he' q
  have q2 : eqv G (i + (m - i)) e' (x + m) := by rw [show i + (m - i) = m by omega]; exact q
  have := eqv_drop q2
  rw [show x + m - (m - i) = x + i by omega] at this
  exact h _ (by omega) this
end
section
/-! ===== RepeatFinder: stateOfProbe, count, place, words, longest, unique ===== -/
set_option maxRecDepth 100000
theorem probe_loop {K : XK} {l : Launch} {D : va_G} {dB dS : ClassId} {ad : Nat → Nat} {la ra : Int} {tx pr nx sh le ti fe wo bl : Nat → Int} {G : Nat → Nat} {n m k : Nat} {NX : Nat → Nat → Nat} {SH LE EE : Nat → Nat} (hn : n ≤ 24) (hm : m ≤ 12) (hG : ∀ i, G i < 4) (htx : ∀ i, i < n → tx i = (G i : Int)) (hpr : ∀ i, i < m → pr i = (G (24 + i) : Int)) (hB : Bt G n k NX SH LE EE nx sh le ti fe wo) (h : xok K (JX l D dB dS) ({ frames := 4, cells := 0, slots := 0, locals := 95 }) cX0_stateOfProbe RX0 3)
    (hx0 : ∀ (lvx : List (Nat × Value)), (∀ e', e' ≤ n → ¬ eqv G m e' (24 + m)) → xw K (wX ad dB dS (n : Int) (m : Int) 1 (k : Int) la ra tx pr nx sh le ti fe wo bl) 36 lvx [])
    (hx1 : ∀ (s : Nat) (x : Int), At G k SH LE EE s (24 + m) m → xw K (wX ad dB dS (n : Int) (m : Int) 1 (k : Int) la ra tx pr nx sh le ti fe wo bl) 44 [(0, .ref (ad 0)), (1, .int (iI (s : Int))), (2, .int (iI x))] []) :
    ∀ (f i s : Nat) (x : Int), m < i + f → i ≤ m → x = (i : Int) → At G k SH LE EE s (24 + i) i → xw K (wX ad dB dS (n : Int) (m : Int) 1 (k : Int) la ra tx pr nx sh le ti fe wo bl) 8 [(0, .ref (ad 0)), (1, .int (iI (s : Int))), (2, .int (iI x))] [] := by
  obtain ⟨hS, hk, hnx, hsh, hle, hfe, hti, hwo⟩ := id hB
  intro f
  induction f with
  | zero => intro i s x h1 h2; omega
  | succ f ih =>
    intro i s x hf hi hxx ha
    subst hxx
    have hs := at_lt hS ha
    have hc := hG (24 + i)
    refine x_iload_n h dX0_stateOfProbe_8 2 rfl ?_
    refine x_aload_n h dX0_stateOfProbe_9 0 rfl ?_
    refine xX_pl h dX0_stateOfProbe_10 ?_
    refine x_icmp_ge h 44 dX0_stateOfProbe_13 (by decide) (by omega) (by omega) (fun c_13 => ?_) (fun c_13 => ?_)
    · obtain rfl : i = m := by omega
      exact hx1 s _ ha
    · refine x_aload_n h dX0_stateOfProbe_16 0 rfl ?_
      refine xX_nx h dX0_stateOfProbe_17 ?_
      refine x_iconst h dX0_stateOfProbe_20 ?_
      refine x_iload_n h dX0_stateOfProbe_21 1 rfl ?_
      refine x_imul h dX0_stateOfProbe_22 ?_
      refine x_aload_n h dX0_stateOfProbe_23 0 rfl ?_
      refine xX_pr h dX0_stateOfProbe_24 ?_
      refine x_iload_n h dX0_stateOfProbe_27 2 rfl ?_
      refine xX_lpr h i (by omega) (by omega) dX0_stateOfProbe_28 ?_
      refine x_top (hpr i (by omega)) ?_
      refine x_iadd h dX0_stateOfProbe_29 ?_
      refine xX_lnx h ((4 * s) + (G (24 + i))) (by omega) (by omega) dX0_stateOfProbe_30 ?_
      refine x_top (hnx s _ hs hc) ?_
      have hq : NX s (G (24 + i)) < 49 + 1 := by
        by_cases hz : NX s (G (24 + i)) = 0
        · omega
        · have := (hS.T1 hs hc hz).1; omega
      refine x_istore_n h dX0_stateOfProbe_31 (by decide) [1, 0, 2] [(0, .ref (ad 0)), (1, .int (iI (NX s (G (24 + i)) : Int))), (2, .int (iI (i : Int)))] rfl ?_
      refine x_iload_n h dX0_stateOfProbe_32 1 rfl ?_
      refine x_if_ne h 38 dX0_stateOfProbe_33 (by decide) (by omega) (fun c_33 => ?_) (fun c_33 => ?_)
      · refine x_iinc h dX0_stateOfProbe_38 2 rfl (by decide) [1, 2, 0] [(0, .ref (ad 0)), (1, .int (iI (NX s (G (24 + i)) : Int))), (2, .int (iI ((i : Int) + 1)))] rfl ?_
        refine x_goto h 8 dX0_stateOfProbe_41 (by decide) ?_
        exact ih (i + 1) _ _ (by omega) (by omega) (by omega) (at_next hS ha hc (by omega))
      · have hnn := at_none hS ha hc (by omega)
        exact hx0 _ (none_more (i := i + 1) (by omega) (fun e' he' q => hnn e' he' q))
theorem cX_stateOfProbe (l : Launch) (D : va_G) (dB dS : ClassId) (ad : Nat → Nat) (bu sc la ra : Int) (tx pr nx sh le ti fe wo bl : Nat → Int) (G : Nat → Nat) (n m : Nat) (hn : n ≤ 24) (hm : m ≤ 12) (hG : ∀ i, G i < 4) (htx : ∀ i, i < n → tx i = (G i : Int)) (hpr : ∀ i, i < m → pr i = (G (24 + i) : Int)) (hm0 : 0 < m) (hb : Bu G n bu sc nx sh le ti fe wo) : xmi (JX l D dB dS) yX0_stateOfProbe cX0_stateOfProbe 3 .int 4 95 [.ref (ad 0)] (wX ad dB dS (n : Int) (m : Int) bu sc la ra tx pr nx sh le ti fe wo bl) (fun r ws' => ∃ (k : Nat) (NX : Nat → Nat → Nat) (SH LE EE : Nat → Nat) (lb : Int) (nx' sh' le' ti' fe' wo' bl' : Nat → Int), Bt G n k NX SH LE EE nx' sh' le' ti' fe' wo' ∧ ws' = wX ad dB dS (n : Int) (m : Int) 1 (k : Int) lb ra tx pr nx' sh' le' ti' fe' wo' bl' ∧ ((r = iI 0 ∧ ∀ e', e' ≤ n → ¬ eqv G m e' (24 + m)) ∨ ∃ s : Nat, 0 < s ∧ r = iI (s : Int) ∧ At G k SH LE EE s (24 + m) m)) := by
  refine xmi_of (by decide) (Nat.le_of_ble_eq_true rfl) (fun K h hr => ?_)
  show xw K (wX ad dB dS (n : Int) (m : Int) bu sc la ra tx pr nx sh le ti fe wo bl) 0 [(0, .ref (ad 0))] []
  refine x_aload_n h dX0_stateOfProbe_0 0 rfl ?_
  refine xX_callv h (cX_build l D dB dS ad (m : Int) bu sc la ra tx pr nx sh le ti fe wo bl G n hn (fun i _ => hG i) htx hb) 0 (lw_V q101 q103 qs1 q19 q104) (by decide +kernel) ⟨Nat.le_of_ble_eq_true rfl, Nat.le_of_ble_eq_true rfl⟩ rfl rfl (Nat.le_of_ble_eq_true rfl) dX0_stateOfProbe_1 (fun ws_ hp_1 => ?_)
  obtain ⟨k, NX, SH, LE, EE, lb, nx', sh', le', ti', fe', wo', bl', hB, rfl⟩ := hp_1
  obtain ⟨hS, hk, hnx, hsh, hle, hfe, hti, hwo⟩ := id hB
  refine x_iconst h dX0_stateOfProbe_4 ?_
  refine x_istore_n h dX0_stateOfProbe_5 (by decide) [1, 0] [(0, .ref (ad 0)), (1, .int (iI 0))] rfl ?_
  refine x_iconst h dX0_stateOfProbe_6 ?_
  refine x_istore_n h dX0_stateOfProbe_7 (by decide) [1, 2, 0] [(0, .ref (ad 0)), (1, .int (iI 0)), (2, .int (iI 0))] rfl ?_
  refine probe_loop hn hm hG htx hpr hB h (fun lvx h0 => ?_) (fun s x ha => ?_) (m + 1) 0 0 _ (by omega) (by omega) rfl (Or.inl ⟨rfl, rfl⟩)
  · refine x_iconst h dX0_stateOfProbe_36 ?_
    exact x_ireturn h hr dX0_stateOfProbe_37 ⟨_, _, _, _, _, _, _, _, _, _, _, _, _, hB, rfl, Or.inl ⟨rfl, h0⟩⟩
  · refine x_iload_n h dX0_stateOfProbe_44 1 rfl ?_
    exact x_ireturn h hr dX0_stateOfProbe_45 ⟨_, _, _, _, _, _, _, _, _, _, _, _, _, hB, rfl, Or.inr ⟨s, at_pos ha hm0, rfl, ha⟩⟩
theorem cX_count (l : Launch) (D : va_G) (dB dS : ClassId) (ad : Nat → Nat) (bu sc la ra : Int) (tx pr nx sh le ti fe wo bl : Nat → Int) (G : Nat → Nat) (n m : Nat) (hn : n ≤ 24) (hm : m ≤ 12) (hG : ∀ i, G i < 4) (htx : ∀ i, i < n → tx i = (G i : Int)) (hpr : ∀ i, i < m → pr i = (G (24 + i) : Int)) (hb : Bu G n bu sc nx sh le ti fe wo)  : xmi (JX l D dB dS) yX0_count cX0_count 2 .int 5 117 [.ref (ad 0)] (wX ad dB dS (n : Int) (m : Int) bu sc la ra tx pr nx sh le ti fe wo bl) (fun r ws' => XI ad dB dS G n m ws' ∧ ((m = 0 ∧ r = iI (-3)) ∨ (0 < m ∧ r = iI (oc G n m (24 + m) : Int)))) := by
  refine xmi_of (by decide) (Nat.le_of_ble_eq_true rfl) (fun K h hr => ?_)
  show xw K (wX ad dB dS (n : Int) (m : Int) bu sc la ra tx pr nx sh le ti fe wo bl) 0 [(0, .ref (ad 0))] []
  refine x_aload_n h dX0_count_0 0 rfl ?_
  refine xX_pl h dX0_count_1 ?_
  refine x_if_ne h 10 dX0_count_4 (by decide) (by omega) (fun c_4 => ?_) (fun c_4 => ?_)
  · refine x_aload_n h dX0_count_10 0 rfl ?_
    refine xX_calli h (cX_stateOfProbe l D dB dS ad bu sc la ra tx pr nx sh le ti fe wo bl G n m hn hm hG htx hpr (by omega) hb) 0 (lw_V q97 q99 qs0 q19 q100) (by decide +kernel) ⟨Nat.le_of_ble_eq_true rfl, Nat.le_of_ble_eq_true rfl⟩ rfl rfl (Nat.le_of_ble_eq_true rfl) dX0_count_11 (fun r_11 ws_ hp_11 => ?_)
    obtain ⟨k, NX, SH, LE, EE, lb, nx', sh', le', ti', fe', wo', bl', hB, rfl, hcase⟩ := hp_11
    obtain ⟨hS, hk, hnx, hsh, hle, hfe, hti, hwo⟩ := id hB
    have hm0 : 0 < m := by omega
    rcases hcase with ⟨rfl, hno⟩ | ⟨s, hs0, rfl, ha⟩
    · refine x_istore_n h dX0_count_14 (by decide) [1, 0] [(0, .ref (ad 0)), (1, .int (iI 0))] rfl ?_
      refine x_iload_n h dX0_count_15 1 rfl ?_
      refine x_if_ne h 23 dX0_count_16 (by decide) (by omega) (fun c_16 => ?_) (fun c_16 => ?_)
      · omega
      · refine x_iconst h dX0_count_19 ?_
        refine x_goto h 29 dX0_count_20 (by decide) ?_
        refine x_ireturn h hr dX0_count_29 ?_
        refine ⟨⟨_, _, _, _, _, _, _, _, _, _, _, _, _, htx, hpr, Or.inr ⟨rfl, _, _, _, _, _, rfl, hB⟩, rfl⟩, Or.inr ⟨hm0, ?_⟩⟩
        rw [show oc G n m (24 + m) = 0 from cP_none (fun j hj q => hno (j + 1) (by omega) q)]
        rfl
    · refine x_istore_n h dX0_count_14 (by decide) [1, 0] [(0, .ref (ad 0)), (1, .int (iI (s : Int)))] rfl ?_
      have hsk := at_lt hS ha
      refine x_iload_n h dX0_count_15 1 rfl ?_
      refine x_if_ne h 23 dX0_count_16 (by decide) (by omega) (fun c_16 => ?_) (fun c_16 => ?_)
      · refine x_aload_n h dX0_count_23 0 rfl ?_
        refine xX_ti h dX0_count_24 ?_
        refine x_iload_n h dX0_count_27 1 rfl ?_
        refine xX_lti h s (by omega) (by omega) dX0_count_28 ?_
        refine x_ireturn h hr dX0_count_29 ?_
        refine ⟨⟨_, _, _, _, _, _, _, _, _, _, _, _, _, htx, hpr, Or.inr ⟨rfl, _, _, _, _, _, rfl, hB⟩, rfl⟩, Or.inr ⟨hm0, ?_⟩⟩
        rw [hti s hsk, at_oc hS ha]
      · omega
  · refine x_bipush h dX0_count_7 (by decide) ?_
    refine x_ireturn h hr dX0_count_9 ?_
    exact ⟨⟨_, _, _, _, _, _, _, _, _, _, _, _, _, htx, hpr, hb, rfl⟩, Or.inl ⟨by omega, rfl⟩⟩
theorem cX_place (l : Launch) (D : va_G) (dB dS : ClassId) (ad : Nat → Nat) (bu sc la ra : Int) (tx pr nx sh le ti fe wo bl : Nat → Int) (G : Nat → Nat) (n m : Nat) (hn : n ≤ 24) (hm : m ≤ 12) (hG : ∀ i, G i < 4) (htx : ∀ i, i < n → tx i = (G i : Int)) (hpr : ∀ i, i < m → pr i = (G (24 + i) : Int)) (hb : Bu G n bu sc nx sh le ti fe wo)  : xmi (JX l D dB dS) yX0_place cX0_place 2 .int 5 117 [.ref (ad 0)] (wX ad dB dS (n : Int) (m : Int) bu sc la ra tx pr nx sh le ti fe wo bl) (fun r ws' => XI ad dB dS G n m ws' ∧ ((m = 0 ∧ r = iI (-3)) ∨ (0 < m ∧ ∃ z, r = iI z ∧ IsPlace G n m z))) := by
  refine xmi_of (by decide) (Nat.le_of_ble_eq_true rfl) (fun K h hr => ?_)
  show xw K (wX ad dB dS (n : Int) (m : Int) bu sc la ra tx pr nx sh le ti fe wo bl) 0 [(0, .ref (ad 0))] []
  refine x_aload_n h dX0_place_0 0 rfl ?_
  refine xX_pl h dX0_place_1 ?_
  refine x_if_ne h 10 dX0_place_4 (by decide) (by omega) (fun c_4 => ?_) (fun c_4 => ?_)
  · refine x_aload_n h dX0_place_10 0 rfl ?_
    refine xX_calli h (cX_stateOfProbe l D dB dS ad bu sc la ra tx pr nx sh le ti fe wo bl G n m hn hm hG htx hpr (by omega) hb) 0 (lw_V q97 q99 qs0 q19 q100) (by decide +kernel) ⟨Nat.le_of_ble_eq_true rfl, Nat.le_of_ble_eq_true rfl⟩ rfl rfl (Nat.le_of_ble_eq_true rfl) dX0_place_11 (fun r_11 ws_ hp_11 => ?_)
    obtain ⟨k, NX, SH, LE, EE, lb, nx', sh', le', ti', fe', wo', bl', hB, rfl, hcase⟩ := hp_11
    obtain ⟨hS, hk, hnx, hsh, hle, hfe, hti, hwo⟩ := id hB
    have hm0 : 0 < m := by omega
    rcases hcase with ⟨rfl, hno⟩ | ⟨s, hs0, rfl, ha⟩
    · refine x_istore_n h dX0_place_14 (by decide) [1, 0] [(0, .ref (ad 0)), (1, .int (iI 0))] rfl ?_
      refine x_iload_n h dX0_place_15 1 rfl ?_
      refine x_if_ne h 24 dX0_place_16 (by decide) (by omega) (fun c_16 => ?_) (fun c_16 => ?_)
      · omega
      · refine x_bipush h dX0_place_19 (by decide) ?_
        refine x_goto h 37 dX0_place_21 (by decide) ?_
        refine x_ireturn h hr dX0_place_37 ?_
        exact ⟨⟨_, _, _, _, _, _, _, _, _, _, _, _, _, htx, hpr, Or.inr ⟨rfl, _, _, _, _, _, rfl, hB⟩, rfl⟩, Or.inr ⟨hm0, _, rfl, Or.inl ⟨hno, rfl⟩⟩⟩
    · refine x_istore_n h dX0_place_14 (by decide) [1, 0] [(0, .ref (ad 0)), (1, .int (iI (s : Int)))] rfl ?_
      have hsk := at_lt hS ha
      refine x_iload_n h dX0_place_15 1 rfl ?_
      refine x_if_ne h 24 dX0_place_16 (by decide) (by omega) (fun c_16 => ?_) (fun c_16 => ?_)
      · refine x_aload_n h dX0_place_24 0 rfl ?_
        refine xX_fe h dX0_place_25 ?_
        refine x_iload_n h dX0_place_28 1 rfl ?_
        refine xX_lfe h s (by omega) (by omega) dX0_place_29 ?_
        refine x_aload_n h dX0_place_30 0 rfl ?_
        refine xX_pl h dX0_place_31 ?_
        refine x_isub h dX0_place_34 ?_
        refine x_iconst h dX0_place_35 ?_
        refine x_iadd h dX0_place_36 ?_
        refine x_ireturn h hr dX0_place_37 ?_
        have hf := at_first hS ha
        exact ⟨⟨_, _, _, _, _, _, _, _, _, _, _, _, _, htx, hpr, Or.inr ⟨rfl, _, _, _, _, _, rfl, hB⟩, rfl⟩, Or.inr ⟨hm0, _, rfl, Or.inr ⟨EE s, hf.1, hf.2.1, hf.2.2, by rw [hfe s hsk]; omega⟩⟩⟩
      · omega
  · refine x_bipush h dX0_place_7 (by decide) ?_
    refine x_ireturn h hr dX0_place_9 ?_
    exact ⟨⟨_, _, _, _, _, _, _, _, _, _, _, _, _, htx, hpr, hb, rfl⟩, Or.inl ⟨by omega, rfl⟩⟩
theorem cX_words (l : Launch) (D : va_G) (dB dS : ClassId) (ad : Nat → Nat) (bu sc la ra : Int) (tx pr nx sh le ti fe wo bl : Nat → Int) (G : Nat → Nat) (n m : Nat) (hn : n ≤ 24) (hm : m ≤ 12) (hG : ∀ i, G i < 4) (htx : ∀ i, i < n → tx i = (G i : Int)) (hpr : ∀ i, i < m → pr i = (G (24 + i) : Int)) (hb : Bu G n bu sc nx sh le ti fe wo)  : xmi (JX l D dB dS) yX0_words cX0_words 1 .int 4 95 [.ref (ad 0)] (wX ad dB dS (n : Int) (m : Int) bu sc la ra tx pr nx sh le ti fe wo bl) (fun r ws' => XI ad dB dS G n m ws' ∧ r = iI (wc G n (fun _ _ => True) : Int)) := by
  refine xmi_of (by decide) (Nat.le_of_ble_eq_true rfl) (fun K h hr => ?_)
  show xw K (wX ad dB dS (n : Int) (m : Int) bu sc la ra tx pr nx sh le ti fe wo bl) 0 [(0, .ref (ad 0))] []
  refine x_aload_n h dX0_words_0 0 rfl ?_
  refine xX_callv h (cX_build l D dB dS ad (m : Int) bu sc la ra tx pr nx sh le ti fe wo bl G n hn (fun i _ => hG i) htx hb) 0 (lw_V q101 q103 qs1 q19 q104) (by decide +kernel) ⟨Nat.le_of_ble_eq_true rfl, Nat.le_of_ble_eq_true rfl⟩ rfl rfl (Nat.le_of_ble_eq_true rfl) dX0_words_1 (fun ws_ hp_1 => ?_)
  obtain ⟨k, NX, SH, LE, EE, lb, nx', sh', le', ti', fe', wo', bl', hB, rfl⟩ := hp_1
  obtain ⟨hS, hk, hnx, hsh, hle, hfe, hti, hwo⟩ := id hB
  refine x_aload_n h dX0_words_4 0 rfl ?_
  refine xX_wo h dX0_words_5 ?_
  refine x_iconst h dX0_words_8 ?_
  refine xX_lwo h 0 (by omega) (by omega) dX0_words_9 ?_
  refine x_ireturn h hr dX0_words_10 ?_
  refine ⟨⟨_, _, _, _, _, _, _, _, _, _, _, _, _, htx, hpr, Or.inr ⟨rfl, _, _, _, _, _, rfl, hB⟩, rfl⟩, ?_⟩
  rw [hwo 0 hS.pos.1, words_of hS]
theorem longest_loop {K : XK} {l : Launch} {D : va_G} {dB dS : ClassId} {ad : Nat → Nat} {la ra : Int} {tx pr nx sh le ti fe wo bl : Nat → Int} {G : Nat → Nat} {n m k : Nat} {NX : Nat → Nat → Nat} {SH LE EE : Nat → Nat} {z : Int} (hz : rng z) (hn : n ≤ 24) (hm : m ≤ 12) (hG : ∀ i, G i < 4) (htx : ∀ i, i < n → tx i = (G i : Int)) (hpr : ∀ i, i < m → pr i = (G (24 + i) : Int)) (hB : Bt G n k NX SH LE EE nx sh le ti fe wo) (h : xok K (JX l D dB dS) ({ frames := 4, cells := 0, slots := 0, locals := 95 }) cX0_longest RX0 4)
    (hx : ∀ (v : Nat) (x : Int), IsLongest G n z v → xw K (wX ad dB dS (n : Int) (m : Int) 1 (k : Int) la ra tx pr nx sh le ti fe wo bl) 63 [(0, .ref (ad 0)), (1, .int (iI z)), (2, .int (iI (v : Int))), (3, .int (iI x))] []) :
    ∀ (f s v : Nat) (x y : Int), k < s + f → 0 < s → s ≤ k → x = (s : Int) → y = (v : Int) → v ≤ 24 → (v = 0 ∨ ∃ u, 0 < u ∧ u < s ∧ z ≤ (cnt G n LE EE u : Int) ∧ v = LE u) → (∀ u, 0 < u → u < s → z ≤ (cnt G n LE EE u : Int) → LE u ≤ v) → xw K (wX ad dB dS (n : Int) (m : Int) 1 (k : Int) la ra tx pr nx sh le ti fe wo bl) 22 [(0, .ref (ad 0)), (1, .int (iI z)), (2, .int (iI y)), (3, .int (iI x))] [] := by
  obtain ⟨hS, hk, hnx, hsh, hle, hfe, hti, hwo⟩ := id hB
  intro f
  induction f with
  | zero => intro s v x y h1 h2 h3; omega
  | succ f ih =>
    intro s v x y hf hs0 hsk hxx hyy hv q1 q2
    subst hxx; subst hyy
    refine x_iload_n h dX0_longest_22 3 rfl ?_
    refine x_aload_n h dX0_longest_23 0 rfl ?_
    refine xX_sc h dX0_longest_24 ?_
    refine x_icmp_ge h 63 dX0_longest_27 (by decide) (by omega) (by omega) (fun c_27 => ?_) (fun c_27 => ?_)
    · obtain rfl : s = k := by omega
      exact hx v _ (longest_of hS q1 q2)
    · refine x_aload_n h dX0_longest_30 0 rfl ?_
      refine xX_ti h dX0_longest_31 ?_
      refine x_iload_n h dX0_longest_34 3 rfl ?_
      refine xX_lti h s (by omega) (by omega) dX0_longest_35 ?_
      refine x_top (hti s (by omega)) ?_
      have hcl := cnt_le (G := G) (n := n) (LE := LE) (EE := EE) s
      have hll := hS.wf (s := s) (by omega)
      refine x_iload_n h dX0_longest_36 1 rfl ?_
      refine x_icmp_lt h 57 dX0_longest_37 (by decide) (by omega) (by omega) (fun c_37 => ?_) (fun c_37 => ?_)
      · refine x_iinc h dX0_longest_57 3 rfl (by decide) [1, 2, 3, 0] [(0, .ref (ad 0)), (1, .int (iI z)), (2, .int (iI (v : Int))), (3, .int (iI ((s : Int) + 1)))] rfl ?_
        refine x_goto h 22 dX0_longest_60 (by decide) ?_
        refine ih (s + 1) v _ _ (by omega) (by omega) (by omega) (by omega) rfl (by omega) ?_ (fun u hu hu2 hz2 => ?_)
        · rcases q1 with q | ⟨u, a1, a2, a3, a4⟩
          · exact Or.inl q
          · exact Or.inr ⟨u, a1, by omega, a3, a4⟩
        · by_cases hus : u = s
          · subst hus; omega
          · have := q2 u hu (by omega) hz2; omega
      · refine x_aload_n h dX0_longest_40 0 rfl ?_
        refine xX_le h dX0_longest_41 ?_
        refine x_iload_n h dX0_longest_44 3 rfl ?_
        refine xX_lle h s (by omega) (by omega) dX0_longest_45 ?_
        refine x_top (hle s (by omega)) ?_
        refine x_iload_n h dX0_longest_46 2 rfl ?_
        refine x_icmp_le h 57 dX0_longest_47 (by decide) (by omega) (by omega) (fun c_47 => ?_) (fun c_47 => ?_)
        · refine x_iinc h dX0_longest_57 3 rfl (by decide) [1, 2, 3, 0] [(0, .ref (ad 0)), (1, .int (iI z)), (2, .int (iI (v : Int))), (3, .int (iI ((s : Int) + 1)))] rfl ?_
          refine x_goto h 22 dX0_longest_60 (by decide) ?_
          refine ih (s + 1) v _ _ (by omega) (by omega) (by omega) (by omega) rfl (by omega) ?_ (fun u hu hu2 hz2 => ?_)
          · rcases q1 with q | ⟨u, a1, a2, a3, a4⟩
            · exact Or.inl q
            · exact Or.inr ⟨u, a1, by omega, a3, a4⟩
          · by_cases hus : u = s
            · subst hus; omega
            · have := q2 u hu (by omega) hz2; omega
        · refine x_aload_n h dX0_longest_50 0 rfl ?_
          refine xX_le h dX0_longest_51 ?_
          refine x_iload_n h dX0_longest_54 3 rfl ?_
          refine xX_lle h s (by omega) (by omega) dX0_longest_55 ?_
          refine x_top (hle s (by omega)) ?_
          refine x_istore_n h dX0_longest_56 (by decide) [1, 2, 0, 3] [(0, .ref (ad 0)), (1, .int (iI z)), (2, .int (iI (LE s : Int))), (3, .int (iI (s : Int)))] rfl ?_
          refine x_iinc h dX0_longest_57 3 rfl (by decide) [1, 2, 3, 0] [(0, .ref (ad 0)), (1, .int (iI z)), (2, .int (iI (LE s : Int))), (3, .int (iI ((s : Int) + 1)))] rfl ?_
          refine x_goto h 22 dX0_longest_60 (by decide) ?_
          refine ih (s + 1) (LE s) _ _ (by omega) (by omega) (by omega) (by omega) rfl (by omega) ?_ (fun u hu hu2 hz2 => ?_)
          · exact Or.inr ⟨s, by omega, by omega, by omega, rfl⟩
          · by_cases hus : u = s
            · subst hus; omega
            · have := q2 u hu (by omega) hz2; omega
theorem cX_longest (l : Launch) (D : va_G) (dB dS : ClassId) (ad : Nat → Nat) (bu sc la ra : Int) (tx pr nx sh le ti fe wo bl : Nat → Int) (G : Nat → Nat) (n m : Nat) (hn : n ≤ 24) (hm : m ≤ 12) (hG : ∀ i, G i < 4) (htx : ∀ i, i < n → tx i = (G i : Int)) (hpr : ∀ i, i < m → pr i = (G (24 + i) : Int)) (hb : Bu G n bu sc nx sh le ti fe wo) (z : Int) (hz : rng z) : xmi (JX l D dB dS) yX0_longest cX0_longest 4 .int 4 95 [.ref (ad 0), .int (iI z)] (wX ad dB dS (n : Int) (m : Int) bu sc la ra tx pr nx sh le ti fe wo bl) (fun r ws' => XI ad dB dS G n m ws' ∧ (((z < 1 ∨ 24 < z) ∧ r = iI (-2)) ∨ (1 ≤ z ∧ z ≤ 24 ∧ ∃ v : Nat, r = iI (v : Int) ∧ IsLongest G n z v))) := by
  refine xmi_of (by decide) (Nat.le_of_ble_eq_true rfl) (fun K h hr => ?_)
  show xw K (wX ad dB dS (n : Int) (m : Int) bu sc la ra tx pr nx sh le ti fe wo bl) 0 [(0, .ref (ad 0)), (1, .int (iI z))] []
  refine x_iload_n h dX0_longest_0 1 rfl ?_
  refine x_iconst h dX0_longest_1 ?_
  refine x_icmp_lt h 11 dX0_longest_2 (by decide) (by omega) (by omega) (fun c_2 => ?_) (fun c_2 => ?_)
  · refine x_bipush h dX0_longest_11 (by decide) ?_
    refine x_ireturn h hr dX0_longest_13 ?_
    exact ⟨⟨_, _, _, _, _, _, _, _, _, _, _, _, _, htx, hpr, hb, rfl⟩, Or.inl ⟨by omega, rfl⟩⟩
  · refine x_iload_n h dX0_longest_5 1 rfl ?_
    refine x_bipush h dX0_longest_6 (by decide) ?_
    refine x_icmp_le h 14 dX0_longest_8 (by decide) (by omega) (by omega) (fun c_8 => ?_) (fun c_8 => ?_)
    · refine x_aload_n h dX0_longest_14 0 rfl ?_
      refine xX_callv h (cX_build l D dB dS ad (m : Int) bu sc la ra tx pr nx sh le ti fe wo bl G n hn (fun i _ => hG i) htx hb) 0 (lw_V q101 q103 qs1 q19 q104) (by decide +kernel) ⟨Nat.le_of_ble_eq_true rfl, Nat.le_of_ble_eq_true rfl⟩ rfl rfl (Nat.le_of_ble_eq_true rfl) dX0_longest_15 (fun ws_ hp_15 => ?_)
      obtain ⟨k, NX, SH, LE, EE, lb, nx', sh', le', ti', fe', wo', bl', hB, rfl⟩ := hp_15
      obtain ⟨hS, hk, hnx, hsh, hle, hfe, hti, hwo⟩ := id hB
      refine x_iconst h dX0_longest_18 ?_
      refine x_istore_n h dX0_longest_19 (by decide) [1, 2, 0] [(0, .ref (ad 0)), (1, .int (iI z)), (2, .int (iI 0))] rfl ?_
      refine x_iconst h dX0_longest_20 ?_
      refine x_istore_n h dX0_longest_21 (by decide) [1, 2, 3, 0] [(0, .ref (ad 0)), (1, .int (iI z)), (2, .int (iI 0)), (3, .int (iI 1))] rfl ?_
      refine longest_loop hz hn hm hG htx hpr hB h (fun v x hv => ?_) (k + 1) 1 0 _ _ (by omega) (by omega) hS.pos.1 rfl rfl (by omega) (Or.inl rfl) (fun u a b => by omega)
      refine x_iload_n h dX0_longest_63 2 rfl ?_
      exact x_ireturn h hr dX0_longest_64 ⟨⟨_, _, _, _, _, _, _, _, _, _, _, _, _, htx, hpr, Or.inr ⟨rfl, _, _, _, _, _, rfl, hB⟩, rfl⟩, Or.inr ⟨by omega, by omega, v, rfl, hv⟩⟩
    · refine x_bipush h dX0_longest_11 (by decide) ?_
      refine x_ireturn h hr dX0_longest_13 ?_
      exact ⟨⟨_, _, _, _, _, _, _, _, _, _, _, _, _, htx, hpr, hb, rfl⟩, Or.inl ⟨by omega, rfl⟩⟩
theorem unique_loop {K : XK} {l : Launch} {D : va_G} {dB dS : ClassId} {ad : Nat → Nat} {la ra : Int} {tx pr nx sh le ti fe wo bl : Nat → Int} {G : Nat → Nat} {n m k : Nat} {NX : Nat → Nat → Nat} {SH LE EE : Nat → Nat} {p : Nat} (hn : n ≤ 24) (hm : m ≤ 12) (hG : ∀ i, G i < 4) (htx : ∀ i, i < n → tx i = (G i : Int)) (hpr : ∀ i, i < m → pr i = (G (24 + i) : Int)) (hB : Bt G n k NX SH LE EE nx sh le ti fe wo) (h : xok K (JX l D dB dS) ({ frames := 4, cells := 0, slots := 0, locals := 95 }) cX0_unique RX0 4) {post : Int32 → va_W → Prop} (hr : xri K .int post)
    (hp : ∀ z, IsUniq G n p z → post (iI z) (wX ad dB dS (n : Int) (m : Int) 1 (k : Int) la ra tx pr nx sh le ti fe wo bl)) :
    ∀ (f i s : Nat) (x : Int), n < i + f → p ≤ i → i ≤ n → x = (i : Int) → At G k SH LE EE s i (i - p) → (∀ l, 0 < l → p + l ≤ i → oc G n l (p + l) ≠ 1) → xw K (wX ad dB dS (n : Int) (m : Int) 1 (k : Int) la ra tx pr nx sh le ti fe wo bl) 23 [(0, .ref (ad 0)), (1, .int (iI (p : Int))), (2, .int (iI (s : Int))), (3, .int (iI x))] [] := by
  obtain ⟨hS, hk, hnx, hsh, hle, hfe, hti, hwo⟩ := id hB
  intro f
  induction f with
  | zero => intro i s x h1 h2 h3; omega
  | succ f ih =>
    intro i s x hf hpi hin hxx ha hno
    subst hxx
    have hs := at_lt hS ha
    have hc := hG i
    refine x_iload_n h dX0_unique_23 3 rfl ?_
    refine x_aload_n h dX0_unique_24 0 rfl ?_
    refine xX_tl h dX0_unique_25 ?_
    refine x_icmp_ge h 69 dX0_unique_28 (by decide) (by omega) (by omega) (fun c_28 => ?_) (fun c_28 => ?_)
    · refine x_bipush h dX0_unique_69 (by decide) ?_
      exact x_ireturn h hr dX0_unique_71 (hp _ (Or.inr ⟨fun l a1 a2 => hno l a1 (by omega), rfl⟩))
    · refine x_aload_n h dX0_unique_31 0 rfl ?_
      refine xX_nx h dX0_unique_32 ?_
      refine x_iconst h dX0_unique_35 ?_
      refine x_iload_n h dX0_unique_36 2 rfl ?_
      refine x_imul h dX0_unique_37 ?_
      refine x_aload_n h dX0_unique_38 0 rfl ?_
      refine xX_tx h dX0_unique_39 ?_
      refine x_iload_n h dX0_unique_42 3 rfl ?_
      refine xX_ltx h i (by omega) (by omega) dX0_unique_43 ?_
      refine x_top (htx i (by omega)) ?_
      refine x_iadd h dX0_unique_44 ?_
      refine xX_lnx h ((4 * s) + (G i)) (by omega) (by omega) dX0_unique_45 ?_
      have hz : NX s (G i) ≠ 0 := fun hz => at_none hS ha hc hz (i + 1) (by omega) (eqv_refl (by omega))
      obtain ⟨q, hq⟩ : ∃ q, q = NX s (G i) := ⟨_, rfl⟩
      have ha2 : At G k SH LE EE q (i + 1) (i + 1 - p) := by rw [hq, show i + 1 - p = i - p + 1 by omega]; exact at_next hS ha hc hz
      have hqk := at_lt hS ha2
      refine x_top (show nx (4 * s + G i) = (q : Int) by rw [hq]; exact hnx s _ hs hc) ?_
      refine x_istore_n h dX0_unique_46 (by decide) [1, 2, 0, 3] [(0, .ref (ad 0)), (1, .int (iI (p : Int))), (2, .int (iI (q : Int))), (3, .int (iI (i : Int)))] rfl ?_
      refine x_aload_n h dX0_unique_47 0 rfl ?_
      refine xX_ti h dX0_unique_48 ?_
      refine x_iload_n h dX0_unique_51 2 rfl ?_
      refine xX_lti h q (by omega) (by omega) dX0_unique_52 ?_
      refine x_top (hti q hqk) ?_
      have hcl := cnt_le (G := G) (n := n) (LE := LE) (EE := EE) q
      have hoc := at_oc hS ha2
      refine x_iconst h dX0_unique_53 ?_
      refine x_icmp_ne h 63 dX0_unique_54 (by decide) (by omega) (by omega) (fun c_54 => ?_) (fun c_54 => ?_)
      · refine x_iinc h dX0_unique_63 3 rfl (by decide) [1, 2, 3, 0] [(0, .ref (ad 0)), (1, .int (iI (p : Int))), (2, .int (iI (q : Int))), (3, .int (iI ((i : Int) + 1)))] rfl ?_
        refine x_goto h 23 dX0_unique_66 (by decide) ?_
        refine ih (i + 1) q _ (by omega) (by omega) (by omega) (by omega) ha2 (fun l a1 a2 => ?_)
        by_cases hl : p + l = i + 1
        · rw [hl, show l = i + 1 - p by omega]; omega
        · exact hno l a1 (by omega)
      · refine x_iload_n h dX0_unique_57 3 rfl ?_
        refine x_iload_n h dX0_unique_58 1 rfl ?_
        refine x_isub h dX0_unique_59 ?_
        refine x_iconst h dX0_unique_60 ?_
        refine x_iadd h dX0_unique_61 ?_
        refine x_ireturn h hr dX0_unique_62 ?_
        refine hp _ (Or.inl ⟨i + 1 - p, by omega, by omega, ?_, fun l' a1 a2 => hno l' a1 (by omega), by omega⟩)
        rw [show p + (i + 1 - p) = i + 1 by omega]; omega
theorem cX_unique (l : Launch) (D : va_G) (dB dS : ClassId) (ad : Nat → Nat) (bu sc la ra : Int) (tx pr nx sh le ti fe wo bl : Nat → Int) (G : Nat → Nat) (n m : Nat) (hn : n ≤ 24) (hm : m ≤ 12) (hG : ∀ i, G i < 4) (htx : ∀ i, i < n → tx i = (G i : Int)) (hpr : ∀ i, i < m → pr i = (G (24 + i) : Int)) (hb : Bu G n bu sc nx sh le ti fe wo) (z : Int) (hz : rng z) : xmi (JX l D dB dS) yX0_unique cX0_unique 4 .int 4 95 [.ref (ad 0), .int (iI z)] (wX ad dB dS (n : Int) (m : Int) bu sc la ra tx pr nx sh le ti fe wo bl) (fun r ws' => XI ad dB dS G n m ws' ∧ (((z < 0 ∨ (n : Int) ≤ z) ∧ r = iI (-2)) ∨ (∃ p : Nat, z = (p : Int) ∧ p < n ∧ ∃ y, r = iI y ∧ IsUniq G n p y))) := by
  refine xmi_of (by decide) (Nat.le_of_ble_eq_true rfl) (fun K h hr => ?_)
  show xw K (wX ad dB dS (n : Int) (m : Int) bu sc la ra tx pr nx sh le ti fe wo bl) 0 [(0, .ref (ad 0)), (1, .int (iI z))] []
  refine x_iload_n h dX0_unique_0 1 rfl ?_
  refine x_if_lt h 12 dX0_unique_1 (by decide) (by omega) (fun c_1 => ?_) (fun c_1 => ?_)
  · refine x_bipush h dX0_unique_12 (by decide) ?_
    refine x_ireturn h hr dX0_unique_14 ?_
    exact ⟨⟨_, _, _, _, _, _, _, _, _, _, _, _, _, htx, hpr, hb, rfl⟩, Or.inl ⟨by omega, rfl⟩⟩
  · refine x_iload_n h dX0_unique_4 1 rfl ?_
    refine x_aload_n h dX0_unique_5 0 rfl ?_
    refine xX_tl h dX0_unique_6 ?_
    refine x_icmp_lt h 15 dX0_unique_9 (by decide) (by omega) (by omega) (fun c_9 => ?_) (fun c_9 => ?_)
    · obtain ⟨p, rfl⟩ : ∃ p : Nat, z = (p : Int) := ⟨z.toNat, by omega⟩
      refine x_aload_n h dX0_unique_15 0 rfl ?_
      refine xX_callv h (cX_build l D dB dS ad (m : Int) bu sc la ra tx pr nx sh le ti fe wo bl G n hn (fun i _ => hG i) htx hb) 0 (lw_V q101 q103 qs1 q19 q104) (by decide +kernel) ⟨Nat.le_of_ble_eq_true rfl, Nat.le_of_ble_eq_true rfl⟩ rfl rfl (Nat.le_of_ble_eq_true rfl) dX0_unique_16 (fun ws_ hp_16 => ?_)
      obtain ⟨k, NX, SH, LE, EE, lb, nx', sh', le', ti', fe', wo', bl', hB, rfl⟩ := hp_16
      obtain ⟨hS, hk, hnx, hsh, hle, hfe, hti, hwo⟩ := id hB
      refine x_iconst h dX0_unique_19 ?_
      refine x_istore_n h dX0_unique_20 (by decide) [1, 2, 0] [(0, .ref (ad 0)), (1, .int (iI (p : Int))), (2, .int (iI 0))] rfl ?_
      refine x_iload_n h dX0_unique_21 1 rfl ?_
      refine x_istore_n h dX0_unique_22 (by decide) [1, 2, 3, 0] [(0, .ref (ad 0)), (1, .int (iI (p : Int))), (2, .int (iI 0)), (3, .int (iI (p : Int)))] rfl ?_
      exact unique_loop hn hm hG htx hpr hB h hr (fun z hz => ⟨⟨_, _, _, _, _, _, _, _, _, _, _, _, _, htx, hpr, Or.inr ⟨rfl, _, _, _, _, _, rfl, hB⟩, rfl⟩, Or.inr ⟨p, rfl, by omega, z, rfl, hz⟩⟩) (n + 1) p 0 _ (by omega) (by omega) (by omega) rfl (Or.inl ⟨rfl, by omega⟩) (fun l a1 a2 => by omega)
    · refine x_bipush h dX0_unique_12 (by decide) ?_
      refine x_ireturn h hr dX0_unique_14 ?_
      exact ⟨⟨_, _, _, _, _, _, _, _, _, _, _, _, _, htx, hpr, hb, rfl⟩, Or.inl ⟨by omega, rfl⟩⟩
end
section
/-! ===== RepeatFinder: common, losesByEveryLetter, repeats ===== -/
set_option maxRecDepth 100000
theorem common_step {G : Nat → Nat} {n i v v' lm : Nat} (h : IsCommon G n i v) (h1 : lm = 0 ∨ ∃ e, e ≤ n ∧ eqv G lm e (24 + (i + 1))) (hlm : lm ≤ i + 1) (h2 : ∀ l, l ≤ i + 1 → lm < l → ∀ e, e ≤ n → ¬ eqv G l e (24 + (i + 1))) (hv : (v < lm ∧ v' = lm) ∨ (lm ≤ v ∧ v' = v)) : IsCommon G n (i + 1) v' := by
  constructor
  · rcases hv with ⟨a, rfl⟩ | ⟨a, rfl⟩
    · rcases h1 with q | ⟨e, q1, q2⟩
      · omega
      · exact Or.inr ⟨i + 1, e, by omega, hlm, Nat.le_refl _, q1, q2⟩
    · rcases h.1 with q | ⟨j, e, q1, q2, q3, q4, q5⟩
      · exact Or.inl q
      · exact Or.inr ⟨j, e, q1, q2, by omega, q4, q5⟩
  · intro j l e a1 a2 a3 a4 a5
    have hl : l ≤ v ∨ l ≤ lm := by
      rcases Nat.lt_or_ge i j with q | q
      · obtain rfl : j = i + 1 := by omega
        rcases Nat.lt_or_ge lm l with z | z
        · exact absurd a5 (h2 l a2 z e a4)
        · exact Or.inr z
      · exact Or.inl (h.2 j l e a1 a2 q a4 a5)
    omega
theorem common_inner {K : XK} {l : Launch} {D : va_G} {dB dS : ClassId} {ad : Nat → Nat} {la ra : Int} {tx pr nx sh le ti fe wo bl : Nat → Int} {G : Nat → Nat} {n m k : Nat} {NX : Nat → Nat → Nat} {SH LE EE : Nat → Nat} (hn : n ≤ 24) (hm : m ≤ 12) (hG : ∀ i, G i < 4) (htx : ∀ i, i < n → tx i = (G i : Int)) (hpr : ∀ i, i < m → pr i = (G (24 + i) : Int)) (hB : Bt G n k NX SH LE EE nx sh le ti fe wo) {i v : Nat} (hi : i < m) (h : xok K (JX l D dB dS) ({ frames := 4, cells := 0, slots := 0, locals := 95 }) cX0_common RX0 6)
    (hx : ∀ (s a : Nat), At G k SH LE EE s (24 + i) a → a ≤ i → (∀ l, l ≤ i → a < l → ∀ e, e ≤ n → ¬ eqv G (l + 1) e (24 + i + 1)) → (s = 0 ∨ NX s (G (24 + i)) ≠ 0) → xw K (wX ad dB dS (n : Int) (m : Int) 1 (k : Int) la ra tx pr nx sh le ti fe wo bl) 62 [(0, .ref (ad 0)), (1, .int (iI (v : Int))), (2, .int (iI (s : Int))), (3, .int (iI (a : Int))), (4, .int (iI (i : Int)))] []) :
    ∀ (f s a : Nat), a < f → At G k SH LE EE s (24 + i) a → a ≤ i → (∀ l, l ≤ i → a < l → ∀ e, e ≤ n → ¬ eqv G (l + 1) e (24 + i + 1)) → xw K (wX ad dB dS (n : Int) (m : Int) 1 (k : Int) la ra tx pr nx sh le ti fe wo bl) 22 [(0, .ref (ad 0)), (1, .int (iI (v : Int))), (2, .int (iI (s : Int))), (3, .int (iI (a : Int))), (4, .int (iI (i : Int)))] [] := by
  obtain ⟨hS, hk, hnx, hsh, hle, hfe, hti, hwo⟩ := id hB
  have hc := hG (24 + i)
  intro f
  induction f with
  | zero => intro s a h1; omega
  | succ f ih =>
    intro s a hf ha hai hI
    have hs := at_lt hS ha
    refine x_iload_n h dX0_common_22 2 rfl ?_
    refine x_if_eq h 62 dX0_common_23 (by decide) (by omega) (fun c_23 => ?_) (fun c_23 => ?_)
    · exact hx s a ha hai hI (Or.inl (by omega))
    · refine x_aload_n h dX0_common_26 0 rfl ?_
      refine xX_nx h dX0_common_27 ?_
      refine x_iconst h dX0_common_30 ?_
      refine x_iload_n h dX0_common_31 2 rfl ?_
      refine x_imul h dX0_common_32 ?_
      refine x_aload_n h dX0_common_33 0 rfl ?_
      refine xX_pr h dX0_common_34 ?_
      refine x_iload h dX0_common_37 4 rfl ?_
      refine xX_lpr h i (by omega) (by omega) dX0_common_39 ?_
      refine x_top (hpr i hi) ?_
      refine x_iadd h dX0_common_40 ?_
      refine xX_lnx h ((4 * s) + (G (24 + i))) (by omega) (by omega) dX0_common_41 ?_
      refine x_top (hnx s _ hs hc) ?_
      have hq : NX s (G (24 + i)) < 49 + 1 := by
        by_cases hz : NX s (G (24 + i)) = 0
        · omega
        · have := (hS.T1 hs hc hz).1; omega
      refine x_if_ne h 62 dX0_common_42 (by decide) (by omega) (fun c_42 => ?_) (fun c_42 => ?_)
      · exact hx s a ha hai hI (Or.inr (by omega))
      · refine x_aload_n h dX0_common_45 0 rfl ?_
        refine xX_sh h dX0_common_46 ?_
        refine x_iload_n h dX0_common_49 2 rfl ?_
        refine xX_lsh h s (by omega) (by omega) dX0_common_50 ?_
        have hSs := hS.S (s := s) (by omega) hs
        refine x_top (hsh s (by omega) hs) ?_
        refine x_istore_n h dX0_common_51 (by decide) [1, 2, 0, 3, 4] [(0, .ref (ad 0)), (1, .int (iI (v : Int))), (2, .int (iI (SH s : Int))), (3, .int (iI (a : Int))), (4, .int (iI (i : Int)))] rfl ?_
        refine x_aload_n h dX0_common_52 0 rfl ?_
        refine xX_le h dX0_common_53 ?_
        refine x_iload_n h dX0_common_56 2 rfl ?_
        refine xX_lle h (SH s) (by omega) (by omega) dX0_common_57 ?_
        refine x_top (hle (SH s) (by omega)) ?_
        refine x_istore_n h dX0_common_58 (by decide) [1, 2, 3, 0, 4] [(0, .ref (ad 0)), (1, .int (iI (v : Int))), (2, .int (iI (SH s : Int))), (3, .int (iI (LE (SH s) : Int))), (4, .int (iI (i : Int)))] rfl ?_
        refine x_goto h 22 dX0_common_59 (by decide) ?_
        have hz : NX s (G (24 + i)) = 0 := by omega
        rcases ha with ⟨rfl, -⟩ | ⟨g0, g1, g2, g3, g4⟩
        · omega
        refine ih (SH s) (LE (SH s)) (by omega) ?_ (by omega) (fun l hl hal e he => ?_)
        · rcases Nat.eq_zero_or_pos (SH s) with q | q
          · rw [q]; exact Or.inl ⟨rfl, hS.pos.2.1⟩
          · exact Or.inr ⟨q, hSs.1, (hS.S q hSs.1).2.1, Nat.le_refl _, eqv_trans hSs.2.2 (eqv_mono (by omega) g4)⟩
        · rcases Nat.lt_or_ge a l with q | q
          · exact hI l hl q e he
          · exact at_none hS (Or.inr ⟨g0, g1, hal, by omega, eqv_mono q g4⟩ : At G k SH LE EE s (24 + i) l) hc hz e he
theorem common_outer {K : XK} {l : Launch} {D : va_G} {dB dS : ClassId} {ad : Nat → Nat} {la ra : Int} {tx pr nx sh le ti fe wo bl : Nat → Int} {G : Nat → Nat} {n m k : Nat} {NX : Nat → Nat → Nat} {SH LE EE : Nat → Nat} (hn : n ≤ 24) (hm : m ≤ 12) (hG : ∀ i, G i < 4) (htx : ∀ i, i < n → tx i = (G i : Int)) (hpr : ∀ i, i < m → pr i = (G (24 + i) : Int)) (hB : Bt G n k NX SH LE EE nx sh le ti fe wo) (h : xok K (JX l D dB dS) ({ frames := 4, cells := 0, slots := 0, locals := 95 }) cX0_common RX0 6)
    (hx : ∀ (v : Nat) (lvx : List (Nat × Value)), lvx[1]? = some (1, .int (iI (v : Int))) → IsCommon G n m v → xw K (wX ad dB dS (n : Int) (m : Int) 1 (k : Int) la ra tx pr nx sh le ti fe wo bl) 107 lvx []) :
    ∀ (f i s a v : Nat) (x y z w : Int), m < i + f → i ≤ m → x = (i : Int) → y = (s : Int) → z = (a : Int) → w = (v : Int) → At G k SH LE EE s (24 + i) a → a ≤ i → v ≤ 12 → (∀ l, l ≤ i → a < l → ∀ e, e ≤ n → ¬ eqv G l e (24 + i)) → IsCommon G n i v → xw K (wX ad dB dS (n : Int) (m : Int) 1 (k : Int) la ra tx pr nx sh le ti fe wo bl) 13 [(0, .ref (ad 0)), (1, .int (iI w)), (2, .int (iI y)), (3, .int (iI z)), (4, .int (iI x))] [] := by
  obtain ⟨hS, hk, hnx, hsh, hle, hfe, hti, hwo⟩ := id hB
  intro f
  induction f with
  | zero => intro i s a v x y z w h1 h2; omega
  | succ f ih =>
    intro i s a v x y z w hf hi hx1 hx2 hx3 hx4 ha hai hv hM hC
    subst hx1; subst hx2; subst hx3; subst hx4
    have hc := hG (24 + i)
    refine x_iload h dX0_common_13 4 rfl ?_
    refine x_aload_n h dX0_common_15 0 rfl ?_
    refine xX_pl h dX0_common_16 ?_
    refine x_icmp_ge h 107 dX0_common_19 (by decide) (by omega) (by omega) (fun c_19 => ?_) (fun c_19 => ?_)
    · obtain rfl : i = m := by omega
      exact hx v _ rfl hC
    · refine common_inner hn hm hG htx hpr hB (by omega) h (fun s a ha hai hI hz => ?_) (a + 1) s a (by omega) ha hai (fun l hl hal e he q => ?_)
      rotate_left
      · obtain ⟨e', b', rfl, hb', q1, q2⟩ := eqv_pred q
        obtain rfl : b' = 24 + i := by omega
        exact hM l hl hal e' (by omega) q1
      have hs := at_lt hS ha
      refine x_aload_n h dX0_common_62 0 rfl ?_
      refine xX_nx h dX0_common_63 ?_
      refine x_iconst h dX0_common_66 ?_
      refine x_iload_n h dX0_common_67 2 rfl ?_
      refine x_imul h dX0_common_68 ?_
      refine x_aload_n h dX0_common_69 0 rfl ?_
      refine xX_pr h dX0_common_70 ?_
      refine x_iload h dX0_common_73 4 rfl ?_
      refine xX_lpr h i (by omega) (by omega) dX0_common_75 ?_
      refine x_top (hpr i (by omega)) ?_
      refine x_iadd h dX0_common_76 ?_
      refine xX_lnx h ((4 * s) + (G (24 + i))) (by omega) (by omega) dX0_common_77 ?_
      refine x_top (hnx s _ hs hc) ?_
      have hq : NX s (G (24 + i)) < 49 + 1 := by
        by_cases hz : NX s (G (24 + i)) = 0
        · omega
        · have := (hS.T1 hs hc hz).1; omega
      refine x_istore h dX0_common_78 (by decide) [1, 2, 3, 4, 5, 0] [(0, .ref (ad 0)), (1, .int (iI (v : Int))), (2, .int (iI (s : Int))), (3, .int (iI (a : Int))), (4, .int (iI (i : Int))), (5, .int (iI (NX s (G (24 + i)) : Int)))] rfl ?_
      refine x_iload h dX0_common_80 5 rfl ?_
      refine x_if_ne h 88 dX0_common_82 (by decide) (by omega) (fun c_82 => ?_) (fun c_82 => ?_)
      · refine x_iload h dX0_common_88 5 rfl ?_
        refine x_istore_n h dX0_common_90 (by decide) [1, 2, 0, 3, 4, 5] [(0, .ref (ad 0)), (1, .int (iI (v : Int))), (2, .int (iI (NX s (G (24 + i)) : Int))), (3, .int (iI (a : Int))), (4, .int (iI (i : Int))), (5, .int (iI (NX s (G (24 + i)) : Int)))] rfl ?_
        refine x_iinc h dX0_common_91 3 rfl (by decide) [1, 2, 3, 0, 4, 5] [(0, .ref (ad 0)), (1, .int (iI (v : Int))), (2, .int (iI (NX s (G (24 + i)) : Int))), (3, .int (iI ((a : Int) + 1))), (4, .int (iI (i : Int))), (5, .int (iI (NX s (G (24 + i)) : Int)))] rfl ?_
        refine x_iload_n h dX0_common_94 3 rfl ?_
        refine x_iload_n h dX0_common_95 1 rfl ?_
        refine x_icmp_le h 101 dX0_common_96 (by decide) (by omega) (by omega) (fun c_96 => ?_) (fun c_96 => ?_)
        · refine x_iinc h dX0_common_101 4 rfl (by decide) [1, 2, 3, 4, 0, 5] [(0, .ref (ad 0)), (1, .int (iI (v : Int))), (2, .int (iI (NX s (G (24 + i)) : Int))), (3, .int (iI ((a : Int) + 1))), (4, .int (iI ((i : Int) + 1))), (5, .int (iI (NX s (G (24 + i)) : Int)))] rfl ?_
          refine x_goto h 13 dX0_common_104 (by decide) ?_
          refine x_sub [0, 1, 2, 3, 4] [(0, .ref (ad 0)), (1, .int (iI (v : Int))), (2, .int (iI (NX s (G (24 + i)) : Int))), (3, .int (iI ((a : Int) + 1))), (4, .int (iI ((i : Int) + 1)))] rfl ?_
          have ha2 := at_next hS ha hc (by omega)
          have hmax : ∀ l, l ≤ i + 1 → a + 1 < l → ∀ e, e ≤ n → ¬ eqv G l e (24 + (i + 1)) := fun l hl hl0 e he q => by
            obtain ⟨l', rfl⟩ : ∃ l', l = l' + 1 := ⟨l - 1, by omega⟩
            exact hI l' (by omega) (by omega) e he q
          exact ih (i + 1) _ (a + 1) v _ _ _ _ (by omega) (by omega) (by omega) rfl (by omega) (by omega) ha2 (by omega) (by omega) hmax (common_step hC (Or.inr ⟨_, (at_first hS ha2).1, (at_first hS ha2).2.1⟩) (by omega) hmax (Or.inr ⟨by omega, rfl⟩))
        · refine x_iload_n h dX0_common_99 3 rfl ?_
          refine x_istore_n h dX0_common_100 (by decide) [1, 0, 2, 3, 4, 5] [(0, .ref (ad 0)), (1, .int (iI ((a : Int) + 1))), (2, .int (iI (NX s (G (24 + i)) : Int))), (3, .int (iI ((a : Int) + 1))), (4, .int (iI (i : Int))), (5, .int (iI (NX s (G (24 + i)) : Int)))] rfl ?_
          refine x_iinc h dX0_common_101 4 rfl (by decide) [1, 2, 3, 4, 0, 5] [(0, .ref (ad 0)), (1, .int (iI ((a : Int) + 1))), (2, .int (iI (NX s (G (24 + i)) : Int))), (3, .int (iI ((a : Int) + 1))), (4, .int (iI ((i : Int) + 1))), (5, .int (iI (NX s (G (24 + i)) : Int)))] rfl ?_
          refine x_goto h 13 dX0_common_104 (by decide) ?_
          refine x_sub [0, 1, 2, 3, 4] [(0, .ref (ad 0)), (1, .int (iI ((a : Int) + 1))), (2, .int (iI (NX s (G (24 + i)) : Int))), (3, .int (iI ((a : Int) + 1))), (4, .int (iI ((i : Int) + 1)))] rfl ?_
          have ha2 := at_next hS ha hc (by omega)
          have hmax : ∀ l, l ≤ i + 1 → a + 1 < l → ∀ e, e ≤ n → ¬ eqv G l e (24 + (i + 1)) := fun l hl hl0 e he q => by
            obtain ⟨l', rfl⟩ : ∃ l', l = l' + 1 := ⟨l - 1, by omega⟩
            exact hI l' (by omega) (by omega) e he q
          exact ih (i + 1) _ (a + 1) (a + 1) _ _ _ _ (by omega) (by omega) (by omega) rfl (by omega) (by omega) ha2 (by omega) (by omega) hmax (common_step hC (Or.inr ⟨_, (at_first hS ha2).1, (at_first hS ha2).2.1⟩) (by omega) hmax (Or.inl ⟨by omega, rfl⟩))
      · refine x_goto h 101 dX0_common_85 (by decide) ?_
        refine x_iinc h dX0_common_101 4 rfl (by decide) [1, 2, 3, 4, 0, 5] [(0, .ref (ad 0)), (1, .int (iI (v : Int))), (2, .int (iI (s : Int))), (3, .int (iI (a : Int))), (4, .int (iI ((i : Int) + 1))), (5, .int (iI (NX s (G (24 + i)) : Int)))] rfl ?_
        refine x_goto h 13 dX0_common_104 (by decide) ?_
        refine x_sub [0, 1, 2, 3, 4] [(0, .ref (ad 0)), (1, .int (iI (v : Int))), (2, .int (iI (s : Int))), (3, .int (iI (a : Int))), (4, .int (iI ((i : Int) + 1)))] rfl ?_
        have hz0 : NX s (G (24 + i)) = 0 := by omega
        obtain rfl : s = 0 := by omega
        obtain rfl : a = 0 := by rcases ha with ⟨-, q⟩ | ⟨q, -⟩ <;> omega
        have hmax : ∀ l, l ≤ i + 1 → 0 < l → ∀ e, e ≤ n → ¬ eqv G l e (24 + (i + 1)) := fun l hl hl0 e he q => by
          obtain ⟨l', rfl⟩ : ∃ l', l = l' + 1 := ⟨l - 1, by omega⟩
          rcases Nat.eq_zero_or_pos l' with w | w
          · subst w; exact at_none hS ha hc hz0 e he q
          · exact hI l' (by omega) w e he q
        exact ih (i + 1) 0 0 v _ _ _ _ (by omega) (by omega) (by omega) rfl rfl rfl (Or.inl ⟨rfl, rfl⟩) (by omega) hv hmax (common_step hC (Or.inl rfl) (by omega) hmax (Or.inr ⟨by omega, rfl⟩))
theorem cX_common (l : Launch) (D : va_G) (dB dS : ClassId) (ad : Nat → Nat) (bu sc la ra : Int) (tx pr nx sh le ti fe wo bl : Nat → Int) (G : Nat → Nat) (n m : Nat) (hn : n ≤ 24) (hm : m ≤ 12) (hG : ∀ i, G i < 4) (htx : ∀ i, i < n → tx i = (G i : Int)) (hpr : ∀ i, i < m → pr i = (G (24 + i) : Int)) (hb : Bu G n bu sc nx sh le ti fe wo)  : xmi (JX l D dB dS) yX0_common cX0_common 6 .int 4 95 [.ref (ad 0)] (wX ad dB dS (n : Int) (m : Int) bu sc la ra tx pr nx sh le ti fe wo bl) (fun r ws' => XI ad dB dS G n m ws' ∧ ∃ v : Nat, r = iI (v : Int) ∧ IsCommon G n m v) := by
  refine xmi_of (by decide) (Nat.le_of_ble_eq_true rfl) (fun K h hr => ?_)
  show xw K (wX ad dB dS (n : Int) (m : Int) bu sc la ra tx pr nx sh le ti fe wo bl) 0 [(0, .ref (ad 0))] []
  refine x_aload_n h dX0_common_0 0 rfl ?_
  refine xX_callv h (cX_build l D dB dS ad (m : Int) bu sc la ra tx pr nx sh le ti fe wo bl G n hn (fun i _ => hG i) htx hb) 0 (lw_V q101 q103 qs1 q19 q104) (by decide +kernel) ⟨Nat.le_of_ble_eq_true rfl, Nat.le_of_ble_eq_true rfl⟩ rfl rfl (Nat.le_of_ble_eq_true rfl) dX0_common_1 (fun ws_ hp_1 => ?_)
  obtain ⟨k, NX, SH, LE, EE, lb, nx', sh', le', ti', fe', wo', bl', hB, rfl⟩ := hp_1
  obtain ⟨hS, hk, hnx, hsh, hle, hfe, hti, hwo⟩ := id hB
  refine x_iconst h dX0_common_4 ?_
  refine x_istore_n h dX0_common_5 (by decide) [1, 0] [(0, .ref (ad 0)), (1, .int (iI 0))] rfl ?_
  refine x_iconst h dX0_common_6 ?_
  refine x_istore_n h dX0_common_7 (by decide) [1, 2, 0] [(0, .ref (ad 0)), (1, .int (iI 0)), (2, .int (iI 0))] rfl ?_
  refine x_iconst h dX0_common_8 ?_
  refine x_istore_n h dX0_common_9 (by decide) [1, 2, 3, 0] [(0, .ref (ad 0)), (1, .int (iI 0)), (2, .int (iI 0)), (3, .int (iI 0))] rfl ?_
  refine x_iconst h dX0_common_10 ?_
  refine x_istore h dX0_common_11 (by decide) [1, 2, 3, 4, 0] [(0, .ref (ad 0)), (1, .int (iI 0)), (2, .int (iI 0)), (3, .int (iI 0)), (4, .int (iI 0))] rfl ?_
  refine common_outer hn hm hG htx hpr hB h (fun v lvx hlv hC => ?_) (m + 1) 0 0 0 0 _ _ _ _ (by omega) (by omega) rfl rfl rfl rfl (Or.inl ⟨rfl, rfl⟩) (by omega) (by omega) (fun l a b => by omega) ⟨Or.inl rfl, fun j l e a b c => by omega⟩
  refine x_iload_n h dX0_common_107 1 hlv ?_
  exact x_ireturn h hr dX0_common_108 ⟨⟨_, _, _, _, _, _, _, _, _, _, _, _, _, htx, hpr, Or.inr ⟨rfl, _, _, _, _, _, rfl, hB⟩, rfl⟩, v, rfl, hC⟩
theorem loses_loop {K : XK} {l : Launch} {D : va_G} {dB dS : ClassId} {ad : Nat → Nat} {la ra : Int} {tx pr nx sh le ti fe wo bl : Nat → Int} {G : Nat → Nat} {n m k : Nat} {NX : Nat → Nat → Nat} {SH LE EE : Nat → Nat} {s : Nat} (hs : s < k) (hn : n ≤ 24) (hB : Bt G n k NX SH LE EE nx sh le ti fe wo) (h : xok K (JX l D dB dS) ({ frames := 0, cells := 0, slots := 0, locals := 0 }) cX0_losesByEveryLetter RX0 4) (hr : xri K .boolean (fun r ws' => ws' = wX ad dB dS (n : Int) (m : Int) 1 (k : Int) la ra tx pr nx sh le ti fe wo bl ∧ ((r = iI 1 ∧ ∀ d, d < 4 → NX s d ≠ 0 → cnt G n LE EE (NX s d) ≠ cnt G n LE EE s) ∨ (r = iI 0 ∧ ∃ d, d < 4 ∧ NX s d ≠ 0 ∧ cnt G n LE EE (NX s d) = cnt G n LE EE s)))) :
    ∀ (f c : Nat) (x : Int), 4 < c + f → c ≤ 4 → x = (c : Int) → (∀ d, d < c → NX s d ≠ 0 → cnt G n LE EE (NX s d) ≠ cnt G n LE EE s) → xw K (wX ad dB dS (n : Int) (m : Int) 1 (k : Int) la ra tx pr nx sh le ti fe wo bl) 2 [(0, .ref (ad 0)), (1, .int (iI (s : Int))), (2, .int (iI x))] [] := by
  obtain ⟨hS, hk, hnx, hsh, hle, hfe, hti, hwo⟩ := id hB
  intro f
  induction f with
  | zero => intro c x h1 h2; omega
  | succ f ih =>
    intro c x hf hc hxx hno
    subst hxx
    refine x_iload_n h dX0_losesByEveryLetter_2 2 rfl ?_
    refine x_iconst h dX0_losesByEveryLetter_3 ?_
    refine x_icmp_ge h 45 dX0_losesByEveryLetter_4 (by decide) (by omega) (by omega) (fun c_4 => ?_) (fun c_4 => ?_)
    · refine x_iconst h dX0_losesByEveryLetter_45 ?_
      refine x_zreturn h hr dX0_losesByEveryLetter_46 rfl ?_
      exact ⟨rfl, Or.inl ⟨rfl, fun d hd hz => hno d (by omega) hz⟩⟩
    · refine x_aload_n h dX0_losesByEveryLetter_7 0 rfl ?_
      refine xX_nx h dX0_losesByEveryLetter_8 ?_
      refine x_iconst h dX0_losesByEveryLetter_11 ?_
      refine x_iload_n h dX0_losesByEveryLetter_12 1 rfl ?_
      refine x_imul h dX0_losesByEveryLetter_13 ?_
      refine x_iload_n h dX0_losesByEveryLetter_14 2 rfl ?_
      refine x_iadd h dX0_losesByEveryLetter_15 ?_
      refine xX_lnx h ((4 * s) + c) (by omega) (by omega) dX0_losesByEveryLetter_16 ?_
      refine x_top (hnx s c hs (by omega)) ?_
      have hq : NX s c < k := by
        by_cases hz : NX s c = 0
        · omega
        · exact (hS.T1 hs (by omega) hz).1
      refine x_istore_n h dX0_losesByEveryLetter_17 (by decide) [1, 2, 3, 0] [(0, .ref (ad 0)), (1, .int (iI (s : Int))), (2, .int (iI (c : Int))), (3, .int (iI (NX s c : Int)))] rfl ?_
      refine x_iload_n h dX0_losesByEveryLetter_18 3 rfl ?_
      refine x_if_eq h 39 dX0_losesByEveryLetter_19 (by decide) (by omega) (fun c_19 => ?_) (fun c_19 => ?_)
      · refine x_iinc h dX0_losesByEveryLetter_39 2 rfl (by decide) [1, 2, 0, 3] [(0, .ref (ad 0)), (1, .int (iI (s : Int))), (2, .int (iI ((c : Int) + 1))), (3, .int (iI (NX s c : Int)))] rfl ?_
        refine x_goto h 2 dX0_losesByEveryLetter_42 (by decide) ?_
        refine x_sub [0, 1, 2] [(0, .ref (ad 0)), (1, .int (iI (s : Int))), (2, .int (iI ((c : Int) + 1)))] rfl ?_
        refine ih (c + 1) _ (by omega) (by omega) (by omega) (fun d hd hz => ?_)
        by_cases hdc : d = c
        · subst hdc; omega
        · exact hno d (by omega) hz
      · refine x_aload_n h dX0_losesByEveryLetter_22 0 rfl ?_
        refine xX_ti h dX0_losesByEveryLetter_23 ?_
        refine x_iload_n h dX0_losesByEveryLetter_26 3 rfl ?_
        refine xX_lti h (NX s c) (by omega) (by omega) dX0_losesByEveryLetter_27 ?_
        refine x_top (hti (NX s c) hq) ?_
        have e1 := cnt_le (G := G) (n := n) (LE := LE) (EE := EE) (NX s c)
        have e2 := cnt_le (G := G) (n := n) (LE := LE) (EE := EE) s
        refine x_aload_n h dX0_losesByEveryLetter_28 0 rfl ?_
        refine xX_ti h dX0_losesByEveryLetter_29 ?_
        refine x_iload_n h dX0_losesByEveryLetter_32 1 rfl ?_
        refine xX_lti h s (by omega) (by omega) dX0_losesByEveryLetter_33 ?_
        refine x_top (hti s hs) ?_
        refine x_icmp_ne h 39 dX0_losesByEveryLetter_34 (by decide) (by omega) (by omega) (fun c_34 => ?_) (fun c_34 => ?_)
        · refine x_iinc h dX0_losesByEveryLetter_39 2 rfl (by decide) [1, 2, 0, 3] [(0, .ref (ad 0)), (1, .int (iI (s : Int))), (2, .int (iI ((c : Int) + 1))), (3, .int (iI (NX s c : Int)))] rfl ?_
          refine x_goto h 2 dX0_losesByEveryLetter_42 (by decide) ?_
          refine x_sub [0, 1, 2] [(0, .ref (ad 0)), (1, .int (iI (s : Int))), (2, .int (iI ((c : Int) + 1)))] rfl ?_
          refine ih (c + 1) _ (by omega) (by omega) (by omega) (fun d hd hz => ?_)
          by_cases hdc : d = c
          · subst hdc; omega
          · exact hno d (by omega) hz
        · refine x_iconst h dX0_losesByEveryLetter_37 ?_
          refine x_zreturn h hr dX0_losesByEveryLetter_38 rfl ?_
          exact ⟨rfl, Or.inr ⟨rfl, c, by omega, by omega, by omega⟩⟩
theorem cX_loses (l : Launch) (D : va_G) (dB dS : ClassId) (ad : Nat → Nat) (la ra : Int) (tx pr nx sh le ti fe wo bl : Nat → Int) (G : Nat → Nat) (n m k : Nat) (NX : Nat → Nat → Nat) (SH LE EE : Nat → Nat) (s : Nat) (hs : s < k) (hn : n ≤ 24) (hB : Bt G n k NX SH LE EE nx sh le ti fe wo) : xmi (JX l D dB dS) yX0_losesByEveryLetter cX0_losesByEveryLetter 4 .boolean 0 0 [.ref (ad 0), .int (iI (s : Int))] (wX ad dB dS (n : Int) (m : Int) 1 (k : Int) la ra tx pr nx sh le ti fe wo bl) (fun r ws' => ws' = wX ad dB dS (n : Int) (m : Int) 1 (k : Int) la ra tx pr nx sh le ti fe wo bl ∧ ((r = iI 1 ∧ ∀ d, d < 4 → NX s d ≠ 0 → cnt G n LE EE (NX s d) ≠ cnt G n LE EE s) ∨ (r = iI 0 ∧ ∃ d, d < 4 ∧ NX s d ≠ 0 ∧ cnt G n LE EE (NX s d) = cnt G n LE EE s))) := by
  refine xmi_of (by decide) (Nat.le_of_ble_eq_true rfl) (fun K h hr => ?_)
  show xw K (wX ad dB dS (n : Int) (m : Int) 1 (k : Int) la ra tx pr nx sh le ti fe wo bl) 0 [(0, .ref (ad 0)), (1, .int (iI (s : Int)))] []
  refine x_iconst h dX0_losesByEveryLetter_0 ?_
  refine x_istore_n h dX0_losesByEveryLetter_1 (by decide) [1, 2, 0] [(0, .ref (ad 0)), (1, .int (iI (s : Int))), (2, .int (iI 0))] rfl ?_
  exact loses_loop hs hn hB h hr 5 0 _ (by omega) (by omega) rfl (fun d hd => by omega)
theorem repeats_loop {K : XK} {l : Launch} {D : va_G} {dB dS : ClassId} {ad : Nat → Nat} {la ra : Int} {tx pr nx sh le ti fe wo bl : Nat → Int} {G : Nat → Nat} {n m k : Nat} {NX : Nat → Nat → Nat} {SH LE EE : Nat → Nat} (hn : n ≤ 24) (hB : Bt G n k NX SH LE EE nx sh le ti fe wo) (h : xok K (JX l D dB dS) ({ frames := 4, cells := 0, slots := 0, locals := 95 }) cX0_repeats RX0 3)
    (hx : ∀ (c : Nat) (x : Int), c = cP (fun j => (2 ≤ cnt G n LE EE (j + 1) ∧ ∀ d, d < 4 → NX (j + 1) d ≠ 0 → cnt G n LE EE (NX (j + 1) d) ≠ cnt G n LE EE (j + 1))) (k - 1) → xw K (wX ad dB dS (n : Int) (m : Int) 1 (k : Int) la ra tx pr nx sh le ti fe wo bl) 43 [(0, .ref (ad 0)), (1, .int (iI (c : Int))), (2, .int (iI x))] []) :
    ∀ (f s c : Nat) (x y : Int), k < s + f → 0 < s → s ≤ k → x = (s : Int) → y = (c : Int) → c = cP (fun j => (2 ≤ cnt G n LE EE (j + 1) ∧ ∀ d, d < 4 → NX (j + 1) d ≠ 0 → cnt G n LE EE (NX (j + 1) d) ≠ cnt G n LE EE (j + 1))) (s - 1) → xw K (wX ad dB dS (n : Int) (m : Int) 1 (k : Int) la ra tx pr nx sh le ti fe wo bl) 8 [(0, .ref (ad 0)), (1, .int (iI y)), (2, .int (iI x))] [] := by
  obtain ⟨hS, hk, hnx, hsh, hle, hfe, hti, hwo⟩ := id hB
  intro f
  induction f with
  | zero => intro s c x y h1 h2 h3; omega
  | succ f ih =>
    intro s c x y hf hs0 hsk hxx hyy hc
    subst hxx; subst hyy
    have hcs := cP_le (fun j => (2 ≤ cnt G n LE EE (j + 1) ∧ ∀ d, d < 4 → NX (j + 1) d ≠ 0 → cnt G n LE EE (NX (j + 1) d) ≠ cnt G n LE EE (j + 1))) (s - 1)
    have hst : s - 1 + 1 = s := by omega
    refine x_iload_n h dX0_repeats_8 2 rfl ?_
    refine x_aload_n h dX0_repeats_9 0 rfl ?_
    refine xX_sc h dX0_repeats_10 ?_
    refine x_icmp_ge h 43 dX0_repeats_13 (by decide) (by omega) (by omega) (fun c_13 => ?_) (fun c_13 => ?_)
    · obtain rfl : s = k := by omega
      exact hx c _ hc
    · refine x_aload_n h dX0_repeats_16 0 rfl ?_
      refine xX_ti h dX0_repeats_17 ?_
      refine x_iload_n h dX0_repeats_20 2 rfl ?_
      refine xX_lti h s (by omega) (by omega) dX0_repeats_21 ?_
      refine x_top (hti s (by omega)) ?_
      have e2 := cnt_le (G := G) (n := n) (LE := LE) (EE := EE) s
      refine x_iconst h dX0_repeats_22 ?_
      refine x_icmp_lt h 37 dX0_repeats_23 (by decide) (by omega) (by omega) (fun c_23 => ?_) (fun c_23 => ?_)
      · have hneg : ¬ (2 ≤ cnt G n LE EE s ∧ ∀ d, d < 4 → NX s d ≠ 0 → cnt G n LE EE (NX s d) ≠ cnt G n LE EE s) := fun q => by omega
        refine x_iinc h dX0_repeats_37 2 rfl (by decide) [1, 2, 0] [(0, .ref (ad 0)), (1, .int (iI (c : Int))), (2, .int (iI ((s : Int) + 1)))] rfl ?_
        refine x_goto h 8 dX0_repeats_40 (by decide) ?_
        refine ih (s + 1) c _ _ (by omega) (by omega) (by omega) (by omega) rfl ?_
        rw [hc, show s + 1 - 1 = s - 1 + 1 by omega, cP_f (by rw [hst]; exact hneg)]
      · refine x_aload_n h dX0_repeats_26 0 rfl ?_
        refine x_iload_n h dX0_repeats_27 2 rfl ?_
        refine xX_calli h (cX_loses l D dB dS ad la ra tx pr nx sh le ti fe wo bl G n m k NX SH LE EE s (by omega) hn hB) 1 (lw_V q145 q147 qs8 q19 q148) (by decide +kernel) ⟨Nat.le_of_ble_eq_true rfl, Nat.le_of_ble_eq_true rfl⟩ rfl rfl (Nat.le_of_ble_eq_true rfl) dX0_repeats_28 (fun r_28 ws_ hp_28 => ?_)
        obtain ⟨rfl, hl⟩ := hp_28
        rcases hl with ⟨rfl, hl⟩ | ⟨rfl, d, hd1, hd2, hd3⟩
        · refine x_if_eq h 37 dX0_repeats_31 (by decide) (by omega) (fun c_31 => ?_) (fun c_31 => ?_)
          · omega
          · refine x_iinc h dX0_repeats_34 1 rfl (by decide) [1, 0, 2] [(0, .ref (ad 0)), (1, .int (iI ((c : Int) + 1))), (2, .int (iI (s : Int)))] rfl ?_
            refine x_iinc h dX0_repeats_37 2 rfl (by decide) [1, 2, 0] [(0, .ref (ad 0)), (1, .int (iI ((c : Int) + 1))), (2, .int (iI ((s : Int) + 1)))] rfl ?_
            refine x_goto h 8 dX0_repeats_40 (by decide) ?_
            refine ih (s + 1) (c + 1) _ _ (by omega) (by omega) (by omega) (by omega) (by omega) ?_
            rw [hc, show s + 1 - 1 = s - 1 + 1 by omega, cP_t (by rw [hst]; exact ⟨by omega, hl⟩)]
        · have hneg : ¬ (2 ≤ cnt G n LE EE s ∧ ∀ d, d < 4 → NX s d ≠ 0 → cnt G n LE EE (NX s d) ≠ cnt G n LE EE s) := fun q => q.2 d hd1 hd2 hd3
          refine x_if_eq h 37 dX0_repeats_31 (by decide) (by omega) (fun c_31 => ?_) (fun c_31 => ?_)
          · refine x_iinc h dX0_repeats_37 2 rfl (by decide) [1, 2, 0] [(0, .ref (ad 0)), (1, .int (iI (c : Int))), (2, .int (iI ((s : Int) + 1)))] rfl ?_
            refine x_goto h 8 dX0_repeats_40 (by decide) ?_
            refine ih (s + 1) c _ _ (by omega) (by omega) (by omega) (by omega) rfl ?_
            rw [hc, show s + 1 - 1 = s - 1 + 1 by omega, cP_f (by rw [hst]; exact hneg)]
          · omega
theorem cX_repeats (l : Launch) (D : va_G) (dB dS : ClassId) (ad : Nat → Nat) (bu sc la ra : Int) (tx pr nx sh le ti fe wo bl : Nat → Int) (G : Nat → Nat) (n m : Nat) (hn : n ≤ 24) (hm : m ≤ 12) (hG : ∀ i, G i < 4) (htx : ∀ i, i < n → tx i = (G i : Int)) (hpr : ∀ i, i < m → pr i = (G (24 + i) : Int)) (hb : Bu G n bu sc nx sh le ti fe wo) : xmi (JX l D dB dS) yX0_repeats cX0_repeats 3 .int 4 95 [.ref (ad 0)] (wX ad dB dS (n : Int) (m : Int) bu sc la ra tx pr nx sh le ti fe wo bl) (fun r ws' => XI ad dB dS G n m ws' ∧ ∃ (k : Nat) (NX : Nat → Nat → Nat) (SH LE EE : Nat → Nat), Sam G n k NX SH LE EE ∧ r = iI (cP (fun j => (2 ≤ cnt G n LE EE (j + 1) ∧ ∀ d, d < 4 → NX (j + 1) d ≠ 0 → cnt G n LE EE (NX (j + 1) d) ≠ cnt G n LE EE (j + 1))) (k - 1) : Int)) := by
  refine xmi_of (by decide) (Nat.le_of_ble_eq_true rfl) (fun K h hr => ?_)
  show xw K (wX ad dB dS (n : Int) (m : Int) bu sc la ra tx pr nx sh le ti fe wo bl) 0 [(0, .ref (ad 0))] []
  refine x_aload_n h dX0_repeats_0 0 rfl ?_
  refine xX_callv h (cX_build l D dB dS ad (m : Int) bu sc la ra tx pr nx sh le ti fe wo bl G n hn (fun i _ => hG i) htx hb) 0 (lw_V q101 q103 qs1 q19 q104) (by decide +kernel) ⟨Nat.le_of_ble_eq_true rfl, Nat.le_of_ble_eq_true rfl⟩ rfl rfl (Nat.le_of_ble_eq_true rfl) dX0_repeats_1 (fun ws_ hp_1 => ?_)
  obtain ⟨k, NX, SH, LE, EE, lb, nx', sh', le', ti', fe', wo', bl', hB, rfl⟩ := hp_1
  obtain ⟨hS, hk, hnx, hsh, hle, hfe, hti, hwo⟩ := id hB
  refine x_iconst h dX0_repeats_4 ?_
  refine x_istore_n h dX0_repeats_5 (by decide) [1, 0] [(0, .ref (ad 0)), (1, .int (iI 0))] rfl ?_
  refine x_iconst h dX0_repeats_6 ?_
  refine x_istore_n h dX0_repeats_7 (by decide) [1, 2, 0] [(0, .ref (ad 0)), (1, .int (iI 0)), (2, .int (iI 1))] rfl ?_
  refine repeats_loop hn hB h (fun c x hc => ?_) (k + 1) 1 0 _ _ (by omega) (by omega) hS.pos.1 rfl rfl rfl
  refine x_iload_n h dX0_repeats_43 1 rfl ?_
  exact x_ireturn h hr dX0_repeats_44 ⟨⟨_, _, _, _, _, _, _, _, _, _, _, _, _, htx, hpr, Or.inr ⟨rfl, _, _, _, _, _, rfl, hB⟩, rfl⟩, k, NX, SH, LE, EE, hS, by rw [hc]⟩
end
section
/-! ===== pure: words in order ===== -/
/-- the l letters from a on come before the m letters from b on -/
def ltw (G : Nat → Nat) (a l b m : Nat) : Prop := ∃ k, (∀ j, j < k → G (a + j) = G (b + j)) ∧ ((k = l ∧ k < m) ∨ (k < l ∧ k < m ∧ G (a + k) < G (b + k)))
def Eqw (G : Nat → Nat) (b i e l : Nat) : Prop := l = i ∧ ∀ j, j < i → G (e - l + j) = G (b + j)
def Pfw (G : Nat → Nat) (b i d e l : Nat) : Prop := i < l ∧ (∀ j, j < i → G (e - l + j) = G (b + j)) ∧ G (e - l + i) = d
theorem eqv_start {G : Nat → Nat} {l a b : Nat} : eqv G l (a + l) (b + l) ↔ ∀ j, j < l → G (a + j) = G (b + j) := by
  constructor
  · rintro ⟨-, -, h3⟩ j hj
    have := h3 (l - 1 - j) (by omega)
    rw [show a + l - 1 - (l - 1 - j) = a + j by omega, show b + l - 1 - (l - 1 - j) = b + j by omega] at this
    exact this
  · intro h
    refine ⟨by omega, by omega, fun k hk => ?_⟩
    have := h (l - 1 - k) (by omega)
    rw [show a + l - 1 - k = a + (l - 1 - k) by omega, show b + l - 1 - k = b + (l - 1 - k) by omega]
    exact this
theorem ltw_cong {G : Nat → Nat} {a l b m b' : Nat} (h : ∀ j, j < m → G (b + j) = G (b' + j)) (q : ltw G a l b m) : ltw G a l b' m := by
  obtain ⟨k, h1, h2⟩ := q
  refine ⟨k, fun j hj => ?_, ?_⟩
  · rw [h1 j hj]; exact h j (by omega)
  · rcases h2 with h2 | h2
    · exact Or.inl h2
    · exact Or.inr ⟨h2.1, h2.2.1, by rw [← h k h2.2.1]; exact h2.2.2⟩
theorem ltw_succ {G : Nat → Nat} {e l b i : Nat} : ltw G (e - l) l b (i + 1) ↔ (ltw G (e - l) l b i ∨ Eqw G b i e l) ∨ ∃ d, d < G (b + i) ∧ Pfw G b i d e l := by
  constructor
  · rintro ⟨k, h1, h2⟩
    by_cases hk : k = i
    · subst hk
      rcases h2 with h2 | h2
      · exact Or.inl (Or.inr ⟨h2.1.symm, h1⟩)
      · exact Or.inr ⟨_, h2.2.2, h2.1, h1, rfl⟩
    · refine Or.inl (Or.inl ⟨k, h1, ?_⟩)
      rcases h2 with h2 | h2
      · exact Or.inl ⟨h2.1, by omega⟩
      · exact Or.inr ⟨h2.1, by omega, h2.2.2⟩
  · rintro ((⟨k, h1, h2⟩ | ⟨h1, h2⟩) | ⟨d, h1, h2, h3, h4⟩)
    · refine ⟨k, h1, ?_⟩
      rcases h2 with h2 | h2
      · exact Or.inl ⟨h2.1, by omega⟩
      · exact Or.inr ⟨h2.1, by omega, h2.2.2⟩
    · exact ⟨i, h2, Or.inl ⟨h1.symm, by omega⟩⟩
    · exact ⟨i, h3, Or.inr ⟨h2, by omega, by omega⟩⟩
theorem wc_congr {G : Nat → Nat} {n : Nat} {Q R : Nat → Nat → Prop} (h : ∀ e l, Lst G n e l → (Q e l ↔ R e l)) : wc G n Q = wc G n R :=
  sm_congr (fun l hl => cP_congr (fun e he => ⟨fun q => ⟨q.1, (h _ _ q.1).mp q.2⟩, fun q => ⟨q.1, (h _ _ q.1).mpr q.2⟩⟩))
theorem wc_or {G : Nat → Nat} {n : Nat} {Q R : Nat → Nat → Prop} (h : ∀ e l, Lst G n e l → ¬ (Q e l ∧ R e l)) : wc G n (fun e l => Q e l ∨ R e l) = wc G n Q + wc G n R := by
  unfold wc
  rw [← sm_add]
  refine sm_congr (fun l hl => ?_)
  rw [← cP_or (fun e he q => h e (l + 1) q.1.1 ⟨q.1.2, q.2.2⟩)]
  refine cP_congr (fun e he => ⟨fun q => ?_, fun q => ?_⟩)
  · rcases q.2 with z | z
    · exact Or.inl ⟨q.1, z⟩
    · exact Or.inr ⟨q.1, z⟩
  · rcases q with z | z
    · exact ⟨z.1, Or.inl z.2⟩
    · exact ⟨z.1, Or.inr z.2⟩
theorem wc_none {G : Nat → Nat} {n : Nat} {Q : Nat → Nat → Prop} (h : ∀ e l, Lst G n e l → ¬ Q e l) : wc G n Q = 0 :=
  sm_zero (fun l hl => cP_none (fun e he q => h e (l + 1) q.1 q.2))
theorem sm_single {f : Nat → Nat} {n i : Nat} (hi : i < n) (h : ∀ j, j < n → j ≠ i → f j = 0) : sm f n = f i := by
  induction n with
  | zero => omega
  | succ n ih =>
    show sm f n + f n = f i
    by_cases q : i = n
    · subst q
      rw [sm_zero (fun j hj => h j (by omega) (by omega))]; omega
    · rw [ih (by omega) (fun j hj hne => h j (by omega) hne), h n (by omega) (fun e => q e.symm)]; omega
theorem wc_one {G : Nat → Nat} {n e l : Nat} {Q : Nat → Nat → Prop} (hL : Lst G n e l) (hQ : Q e l) (hu : ∀ e' l', Lst G n e' l' → Q e' l' → l' = l ∧ e' = e) : wc G n Q = 1 := by
  have h1 := hL.1
  have h2 := hL.2.1
  have h3 := hL.2.2.1
  unfold wc
  rw [sm_single (i := l - 1) (by omega)]
  · have hl : l - 1 + 1 = l := by omega
    refine cP_one (i := e) (by omega) (by rw [hl]; exact ⟨hL, hQ⟩) (fun j hj q => ?_)
    rw [hl] at q
    exact (hu j l q.1 q.2).2
  · intro j hj hne
    refine cP_none (fun e' he' q => hne ?_)
    have := (hu _ _ q.1 q.2).1
    omega
theorem wc_ex {G : Nat → Nat} {n : Nat} {Q : Nat → Nat → Nat → Prop} (h : ∀ d d' e l, Lst G n e l → Q d e l → Q d' e l → d = d') : ∀ c, wc G n (fun e l => ∃ d, d < c ∧ Q d e l) = sm (fun d => wc G n (Q d)) c
  | 0 => wc_none (fun e l _ ⟨d, hd, _⟩ => by omega)
  | c + 1 => by
    show _ = sm (fun d => wc G n (Q d)) c + wc G n (Q c)
    rw [← wc_ex h c, ← wc_or (fun e l hL q => ?_)]
    · refine wc_congr (fun e l hL => ⟨fun ⟨d, hd, hq⟩ => ?_, fun q => ?_⟩)
      · by_cases z : d = c
        · subst z; exact Or.inr hq
        · exact Or.inl ⟨d, by omega, hq⟩
      · rcases q with ⟨d, hd, hq⟩ | hq
        · exact ⟨d, by omega, hq⟩
        · exact ⟨c, by omega, hq⟩
    · obtain ⟨⟨d, hd, hq⟩, hc⟩ := q
      have := h d c e l hL hq hc
      omega
/-- one letter more: what comes before -/
theorem rk_succ {G : Nat → Nat} {n b i : Nat} : wc G n (fun e l => ltw G (e - l) l b (i + 1)) = wc G n (fun e l => ltw G (e - l) l b i) + wc G n (Eqw G b i) + sm (fun d => wc G n (Pfw G b i d)) (G (b + i)) := by
  rw [← wc_ex (Q := Pfw G b i) (fun d d' e l _ q q' => by rw [← q.2.2, ← q'.2.2]), ← wc_or (fun e l hL q => ?_), ← wc_or (fun e l hL q => ?_)]
  · exact wc_congr (fun e l hL => ltw_succ)
  · obtain ⟨q1, d, hd, q2, q3, q4⟩ := q
    rcases q1 with ⟨k, h1, h2⟩ | ⟨h1, -⟩
    · rcases h2 with h2 | h2
      · omega
      · have := q3 k h2.2.1; omega
    · omega
  · obtain ⟨⟨k, h1, h2⟩, h3, h4⟩ := q
    rcases h2 with h2 | h2
    · omega
    · have := h4 k h2.2.1; omega
theorem rk_0 {G : Nat → Nat} {n b : Nat} : wc G n (fun e l => ltw G (e - l) l b 0) = 0 := wc_none (fun e l _ ⟨k, _, h⟩ => by omega)
theorem eq_0 {G : Nat → Nat} {n b : Nat} : wc G n (Eqw G b 0) = 0 := wc_none (fun e l hL h => by have := hL.1; have := h.1; omega)
/-- if the word isn't there, no longer one changes what comes before -/
theorem rk_stop {G : Nat → Nat} {n b i m : Nat} (hi : i ≤ m) (h : ∀ e', e' ≤ n → ¬ eqv G i e' (b + i)) : wc G n (fun e l => ltw G (e - l) l b m) = wc G n (fun e l => ltw G (e - l) l b i) := by
  refine wc_congr (fun e l hL => ⟨fun ⟨k, h1, h2⟩ => ?_, fun ⟨k, h1, h2⟩ => ⟨k, h1, ?_⟩⟩)
  · rcases Nat.lt_or_ge k i with q | q
    · refine ⟨k, h1, ?_⟩
      rcases h2 with h2 | h2
      · exact Or.inl ⟨h2.1, q⟩
      · exact Or.inr ⟨h2.1, q, h2.2.2⟩
    · exfalso
      have hl := hL.2.1
      have he := hL.2.2.1
      refine h (e - l + i) (by omega) (eqv_start.mpr (fun j hj => h1 j (by omega)))
  · rcases h2 with h2 | h2
    · exact Or.inl ⟨h2.1, by omega⟩
    · exact Or.inr ⟨h2.1, by omega, h2.2.2⟩
theorem sm_shift (f : Nat → Nat) (i : Nat) : ∀ n, sm f (i + n) = sm f i + sm (fun m => f (i + m)) n
  | 0 => by show sm f i = sm f i + 0; omega
  | n + 1 => by
    show sm f (i + n) + f (i + n) = sm f i + (sm (fun m => f (i + m)) n + f (i + n))
    rw [sm_shift f i n]; omega
section SAM
variable {G : Nat → Nat} {n k : Nat} {NX : Nat → Nat → Nat} {SH LE EE : Nat → Nat}
theorem Dw_let (h : Sam G n k NX SH LE EE) {s d : Nat} (hs : s < k) (hd : d < 4) : sm (fun m => cP (fun e => Cw G LE EE s e (m + 1) ∧ G (e - (m + 1)) = d) (n + 1)) n = if NX s d = 0 then 0 else 1 + Dw G n LE EE (NX s d) := by
  by_cases hz : NX s d = 0
  · rw [if_pos hz]
    refine sm_zero (fun m hm => cP_none (fun e he q => ?_))
    exact h.T0 hs hd hz (by have := q.1.1; omega) q.1.2.1 q.2
  · rw [if_neg hz]
    obtain ⟨g1, g2, g3, e0, g4, g5, g6, g7⟩ := h.T1 hs hd hz
    obtain ⟨n', rfl⟩ : ∃ n', n = n' + 1 := ⟨n - 1, by omega⟩
    have hwq := h.wf g1
    rw [sm_head]
    congr 1
    · have hp : eqv G (LE s + 1) (EE (NX s d)) (e0 + 1) := g7
      obtain ⟨x, y, hx, hy, q1, q2⟩ := eqv_pred hp
      obtain rfl : y = e0 := by omega
      refine cP_one (i := EE (NX s d)) (by omega) ⟨⟨by omega, ?_, fun e' he' q => ?_⟩, ?_⟩ (fun e he q => ?_)
      · rw [show EE (NX s d) - (0 + 1) = x by omega]; exact eqv_trans g5 (eqv_symm q1)
      · have := h.C g1 (by omega) (h.B (by omega) g1 g2 g3 (by omega : e' ≤ n' + 1) (eqv_symm q)); omega
      · rw [show EE (NX s d) - (0 + 1) = x by omega, q2]; exact g6
      · obtain ⟨⟨c1, c2, c3⟩, c4⟩ := q
        have hE := (sam_to h hs hd hz (a := e - (0 + 1)) (by omega)).mp ⟨c2, c4⟩
        rw [show e - (0 + 1) + 1 = e by omega] at hE
        have hle := h.C g1 (by omega) hE
        rcases Nat.lt_or_ge (EE (NX s d)) e with z | z
        · exact absurd (eqv_mono g3 hE) (c3 _ z)
        · omega
    · have e2 : sm (fun i => cP (fun e => Cw G LE EE s e (i + 1 + 1) ∧ G (e - (i + 1 + 1)) = d) (n' + 1 + 1)) n' = sm (fun m => Fw G (n' + 1) LE EE (NX s d) m) n' := by
        refine sm_congr (fun m hm => cP_congr (fun e he => ⟨fun q => ?_, fun q => ?_⟩))
        · obtain ⟨⟨c1, c2, c3⟩, c4⟩ := q
          refine ⟨by omega, ?_, fun e' he' z => c3 e' he' (eqv_mono (by omega) z)⟩
          have := (sam_to h hs hd hz (a := e - (m + 1 + 1)) (by omega)).mp ⟨c2, c4⟩
          rw [show e - (m + 1 + 1) + 1 = e - (m + 1) by omega] at this
          exact this
        · obtain ⟨c1, c2, c3⟩ := q
          have c4 := c2.2.1
          have c5 := (sam_to h hs hd hz (a := e - (m + 1 + 1)) (by omega)).mpr (by rw [show e - (m + 1 + 1) + 1 = e - (m + 1) by omega]; exact c2)
          refine ⟨⟨by omega, c5.1, fun e' he' z => c3 e' he' ?_⟩, c5.2⟩
          have z1 : eqv G (LE s + 1 + (m + 1)) e' e := by rw [show LE s + 1 + (m + 1) = LE s + (m + 1 + 1) by omega]; exact z
          have z2 := eqv_drop z1
          have z3 := h.B (by omega) g1 g2 g3 (by omega : e' - (m + 1) ≤ n' + 1) (eqv_trans (eqv_mono g3 c2) (eqv_symm z2))
          exact eqv_app (eqv_trans (eqv_symm z3) c2) (eqv_mono (by omega) z)
      rw [e2]
      unfold Dw
      show _ = sm (fun m => Fw G (n' + 1) LE EE (NX s d) m) n' + Fw G (n' + 1) LE EE (NX s d) n'
      have e3 : Fw G (n' + 1) LE EE (NX s d) n' = 0 := cP_none (fun e he q => by
        have := q.2.1.2.1
        have := q.1
        omega)
      omega
/-- the words that go on from the word of i letters from b on with the letter d -/
theorem pf_of (h : Sam G n k NX SH LE EE) {s b i d : Nat} (ha : At G k SH LE EE s (b + i) i) (hd : d < 4) : wc G n (Pfw G b i d) = if NX s d = 0 then 0 else 1 + Dw G n LE EE (NX s d) := by
  have hs := at_lt h ha
  have hle := at_le h ha
  have hw := h.wf hs
  rw [← Dw_let h hs hd]
  obtain ⟨r, rfl⟩ : ∃ r, n = i + r := ⟨n - i, by omega⟩
  unfold wc
  rw [sm_shift, sm_zero (n := i) (fun l hl => cP_none (fun e he q => by have := q.2.1; omega)), Nat.zero_add]
  rw [show i + r = r + i from Nat.add_comm i r, sm_shift _ r i, Nat.add_comm r i]
  rw [sm_zero (n := i) (fun m hm => cP_none (fun e he q => ?_)), Nat.add_zero]
  · refine sm_congr (fun m hm => cP_congr (fun e he => ⟨fun q => ?_, fun q => ?_⟩))
    · obtain ⟨⟨c1, c2, c3, c4⟩, c5, c6, c7⟩ := q
      have e1 : e - (i + m + 1) + i = e - (m + 1) := by omega
      have q1 : eqv G i (e - (m + 1)) (b + i) := by rw [← e1]; exact eqv_start.mpr c6
      refine ⟨⟨by omega, (at_iff h ha (by omega)).mp q1, fun e' he' z => c4 e' he' (eqv_mono (by omega) z)⟩, by rw [← e1]; exact c7⟩
    · obtain ⟨⟨c1, c2, c3⟩, c4⟩ := q
      have c5 := c2.2.1
      have e1 : e - (i + m + 1) + i = e - (m + 1) := by omega
      have q1 := (at_iff h ha (e' := e - (m + 1)) (by omega)).mpr c2
      refine ⟨⟨by omega, by omega, by omega, fun e' he' z => c3 e' he' ?_⟩, by omega, ?_, by rw [e1]; exact c4⟩
      · have z1 : eqv G (i + (m + 1)) e' e := z
        have z2 := eqv_drop z1
        have z3 := (at_iff h ha (e' := e' - (m + 1)) (by omega)).mp (eqv_trans z2 q1)
        exact eqv_app (eqv_trans (eqv_symm z3) c2) (eqv_mono (by omega) z)
      · rw [← e1] at q1
        exact eqv_start.mp q1
  · have := q.1.2.1.2.1
    omega
/-- the word itself -/
theorem eq_of (h : Sam G n k NX SH LE EE) {s b i : Nat} (ha : At G k SH LE EE s (b + i) i) (hi : 0 < i) : wc G n (Eqw G b i) = 1 := by
  have hf := at_first h ha
  have hl := hf.2.1.1
  have e1 : EE s - i + i = EE s := by omega
  refine wc_one (e := EE s) (l := i) ⟨hi, hl, hf.1, fun e' he' q => hf.2.2 e' he' (eqv_trans q hf.2.1)⟩ ⟨rfl, ?_⟩ (fun e' l' hL q => ?_)
  · have := hf.2.1
    rw [← e1] at this
    exact eqv_start.mp this
  · obtain ⟨q1, q2⟩ := q
    subst q1
    refine ⟨rfl, ?_⟩
    have c1 := hL.2.1
    have e2 : e' - l' + l' = e' := by omega
    have q3 : eqv G l' (e' - l' + l') (b + l') := eqv_start.mpr q2
    rw [e2] at q3
    rcases Nat.lt_trichotomy e' (EE s) with z | z | z
    · exact absurd q3 (hf.2.2 e' z)
    · exact z
    · exact absurd (eqv_trans hf.2.1 (eqv_symm q3)) (hL.2.2.2 _ z)
end SAM
theorem wc_le (G : Nat → Nat) (n : Nat) (Q : Nat → Nat → Prop) : wc G n Q ≤ n * (n + 1) := by
  unfold wc
  rw [← sm_const]
  exact sm_le (fun i hi => cP_le _ _)
end
section
/-! ===== RepeatFinder: rank, stepTowards, word ===== -/
set_option maxRecDepth 100000
/-- the word number kk of the text, in order: where it begins and how long it is -/
def IsWord (G : Nat → Nat) (n kk : Nat) (r : Int) : Prop := ∃ e l, Lst G n e l ∧ wc G n (fun e' l' => ltw G (e' - l') l' (e - l) l) = kk ∧ r = 25 * ((e : Int) - (l : Int)) + (l : Int)
theorem rank_inner {K : XK} {l : Launch} {D : va_G} {dB dS : ClassId} {ad : Nat → Nat} {la ra : Int} {tx pr nx sh le ti fe wo bl : Nat → Int} {G : Nat → Nat} {n m k : Nat} {NX : Nat → Nat → Nat} {SH LE EE : Nat → Nat} (hn : n ≤ 24) (hm : m ≤ 12) (hG : ∀ i, G i < 4) (htx : ∀ i, i < n → tx i = (G i : Int)) (hpr : ∀ i, i < m → pr i = (G (24 + i) : Int)) (hB : Bt G n k NX SH LE EE nx sh le ti fe wo) {i s b0 : Nat} (hi : i < m) (hs : s < k) (h : xok K (JX l D dB dS) ({ frames := 4, cells := 0, slots := 0, locals := 95 }) cX0_rank RX0 6)
    (hx : ∀ (b : Nat) (c : Int), b = b0 + sm (fun d => if NX s d = 0 then 0 else 1 + Dw G n LE EE (NX s d)) (G (24 + i)) → xw K (wX ad dB dS (n : Int) (m : Int) 1 (k : Int) la ra tx pr nx sh le ti fe wo bl) 85 [(0, .ref (ad 0)), (1, .int (iI (b : Int))), (2, .int (iI (s : Int))), (3, .int (iI (i : Int))), (4, .int (iI c))] []) :
    ∀ (f c : Nat) (b : Nat) (x y : Int), 4 < c + f → c ≤ G (24 + i) → x = (c : Int) → y = (b : Int) → b = b0 + sm (fun d => if NX s d = 0 then 0 else 1 + Dw G n LE EE (NX s d)) c → xw K (wX ad dB dS (n : Int) (m : Int) 1 (k : Int) la ra tx pr nx sh le ti fe wo bl) 38 [(0, .ref (ad 0)), (1, .int (iI y)), (2, .int (iI (s : Int))), (3, .int (iI (i : Int))), (4, .int (iI x))] [] := by
  obtain ⟨hS, hk, hnx, hsh, hle, hfe, hti, hwo⟩ := id hB
  have hc4 := hG (24 + i)
  intro f
  induction f with
  | zero => intro c b x y h1 h2; omega
  | succ f ih =>
    intro c b x y hf hc hxx hyy hb
    subst hxx; subst hyy
    refine x_iload h dX0_rank_38 4 rfl ?_
    refine x_aload_n h dX0_rank_40 0 rfl ?_
    refine xX_pr h dX0_rank_41 ?_
    refine x_iload_n h dX0_rank_44 3 rfl ?_
    refine xX_lpr h i (by omega) (by omega) dX0_rank_45 ?_
    refine x_top (hpr i hi) ?_
    refine x_icmp_ge h 85 dX0_rank_46 (by decide) (by omega) (by omega) (fun c_46 => ?_) (fun c_46 => ?_)
    · refine hx b _ ?_
      rw [hb, show c = G (24 + i) by omega]
    · refine x_aload_n h dX0_rank_49 0 rfl ?_
      refine xX_nx h dX0_rank_50 ?_
      refine x_iconst h dX0_rank_53 ?_
      refine x_iload_n h dX0_rank_54 2 rfl ?_
      refine x_imul h dX0_rank_55 ?_
      refine x_iload h dX0_rank_56 4 rfl ?_
      refine x_iadd h dX0_rank_58 ?_
      refine xX_lnx h ((4 * s) + c) (by omega) (by omega) dX0_rank_59 ?_
      refine x_top (hnx s c hs (by omega)) ?_
      have hstep : sm (fun d => if NX s d = 0 then 0 else 1 + Dw G n LE EE (NX s d)) (c + 1) = sm (fun d => if NX s d = 0 then 0 else 1 + Dw G n LE EE (NX s d)) c + (if NX s c = 0 then 0 else 1 + Dw G n LE EE (NX s c)) := rfl
      have hNk : NX s c < k := by
        by_cases hz : NX s c = 0
        · rw [hz]; exact hS.pos.1
        · exact (hS.T1 hs (by omega) hz).1
      refine x_istore h dX0_rank_60 (by decide) [1, 2, 3, 4, 5, 0] [(0, .ref (ad 0)), (1, .int (iI (b : Int))), (2, .int (iI (s : Int))), (3, .int (iI (i : Int))), (4, .int (iI (c : Int))), (5, .int (iI (NX s c : Int)))] rfl ?_
      refine x_iload h dX0_rank_62 5 rfl ?_
      refine x_if_eq h 79 dX0_rank_64 (by decide) (by omega) (fun c_64 => ?_) (fun c_64 => ?_)
      · refine x_iinc h dX0_rank_79 4 rfl (by decide) [1, 2, 3, 4, 0, 5] [(0, .ref (ad 0)), (1, .int (iI (b : Int))), (2, .int (iI (s : Int))), (3, .int (iI (i : Int))), (4, .int (iI ((c : Int) + 1))), (5, .int (iI (NX s c : Int)))] rfl ?_
        refine x_goto h 38 dX0_rank_82 (by decide) ?_
        refine x_sub [0, 1, 2, 3, 4] [(0, .ref (ad 0)), (1, .int (iI (b : Int))), (2, .int (iI (s : Int))), (3, .int (iI (i : Int))), (4, .int (iI ((c : Int) + 1)))] rfl ?_
        refine ih (c + 1) b _ _ (by omega) (by omega) (by omega) rfl ?_
        rw [hstep, if_pos (by omega)]; omega
      · refine x_iload_n h dX0_rank_67 1 rfl ?_
        refine x_iconst h dX0_rank_68 ?_
        refine x_aload_n h dX0_rank_69 0 rfl ?_
        refine xX_wo h dX0_rank_70 ?_
        refine x_iload h dX0_rank_73 5 rfl ?_
        refine xX_lwo h (NX s c) (by omega) (by omega) dX0_rank_75 ?_
        refine x_top (hwo (NX s c) hNk) ?_
        refine x_iadd h dX0_rank_76 ?_
        refine x_iadd h dX0_rank_77 ?_
        refine x_istore_n h dX0_rank_78 (by decide) [1, 0, 2, 3, 4, 5] [(0, .ref (ad 0)), (1, .int (iI ((b : Int) + (1 + (Dw G n LE EE (NX s c) : Int))))), (2, .int (iI (s : Int))), (3, .int (iI (i : Int))), (4, .int (iI (c : Int))), (5, .int (iI (NX s c : Int)))] rfl ?_
        refine x_iinc h dX0_rank_79 4 rfl (by decide) [1, 2, 3, 4, 0, 5] [(0, .ref (ad 0)), (1, .int (iI ((b : Int) + (1 + (Dw G n LE EE (NX s c) : Int))))), (2, .int (iI (s : Int))), (3, .int (iI (i : Int))), (4, .int (iI ((c : Int) + 1))), (5, .int (iI (NX s c : Int)))] rfl ?_
        refine x_goto h 38 dX0_rank_82 (by decide) ?_
        refine x_sub [0, 1, 2, 3, 4] [(0, .ref (ad 0)), (1, .int (iI ((b : Int) + (1 + (Dw G n LE EE (NX s c) : Int))))), (2, .int (iI (s : Int))), (3, .int (iI (i : Int))), (4, .int (iI ((c : Int) + 1)))] rfl ?_
        refine ih (c + 1) (b + (1 + Dw G n LE EE (NX s c))) _ _ (by omega) (by omega) (by omega) (by omega) ?_
        rw [hstep, if_neg (by omega)]; omega
theorem rank_outer {K : XK} {l : Launch} {D : va_G} {dB dS : ClassId} {ad : Nat → Nat} {la ra : Int} {tx pr nx sh le ti fe wo bl : Nat → Int} {G : Nat → Nat} {n m k : Nat} {NX : Nat → Nat → Nat} {SH LE EE : Nat → Nat} (hn : n ≤ 24) (hm : m ≤ 12) (hG : ∀ i, G i < 4) (htx : ∀ i, i < n → tx i = (G i : Int)) (hpr : ∀ i, i < m → pr i = (G (24 + i) : Int)) (hB : Bt G n k NX SH LE EE nx sh le ti fe wo) (h : xok K (JX l D dB dS) ({ frames := 4, cells := 0, slots := 0, locals := 95 }) cX0_rank RX0 6) {post : Int32 → va_W → Prop} (hr : xri K .int post)
    (hp : post (iI (wc G n (fun e l => ltw G (e - l) l 24 m) : Int)) (wX ad dB dS (n : Int) (m : Int) 1 (k : Int) la ra tx pr nx sh le ti fe wo bl)) :
    ∀ (f i s b : Nat) (x y : Int), m < i + f → i ≤ m → x = (i : Int) → y = (b : Int) → At G k SH LE EE s (24 + i) i → b = wc G n (fun e l => ltw G (e - l) l 24 i) → xw K (wX ad dB dS (n : Int) (m : Int) 1 (k : Int) la ra tx pr nx sh le ti fe wo bl) 20 [(0, .ref (ad 0)), (1, .int (iI y)), (2, .int (iI (s : Int))), (3, .int (iI x))] [] := by
  obtain ⟨hS, hk, hnx, hsh, hle, hfe, hti, hwo⟩ := id hB
  intro f
  induction f with
  | zero => intro i s b x y h1 h2; omega
  | succ f ih =>
    intro i s b x y hf hi hxx hyy ha hb
    subst hxx; subst hyy
    have hs := at_lt hS ha
    have hc := hG (24 + i)
    have hsum : sm (fun d => wc G n (Pfw G 24 i d)) (G (24 + i)) = sm (fun d => if NX s d = 0 then 0 else 1 + Dw G n LE EE (NX s d)) (G (24 + i)) := sm_congr (fun d hd => pf_of hS ha (by omega))
    have hrk := rk_succ (G := G) (n := n) (b := 24) (i := i)
    rw [hsum, ← hb] at hrk
    refine x_iload_n h dX0_rank_20 3 rfl ?_
    refine x_aload_n h dX0_rank_21 0 rfl ?_
    refine xX_pl h dX0_rank_22 ?_
    refine x_icmp_ge h 113 dX0_rank_25 (by decide) (by omega) (by omega) (fun c_25 => ?_) (fun c_25 => ?_)
    · obtain rfl : i = m := by omega
      refine x_iload_n h dX0_rank_113 1 rfl ?_
      refine x_ireturn h hr dX0_rank_114 ?_
      rw [hb]
      exact hp
    · refine x_iload_n h dX0_rank_28 3 rfl ?_
      refine x_if_le h 35 dX0_rank_29 (by decide) (by omega) (fun c_29 => ?_) (fun c_29 => ?_)
      · refine x_iconst h dX0_rank_35 ?_
        refine x_istore h dX0_rank_36 (by decide) [1, 2, 3, 4, 0] [(0, .ref (ad 0)), (1, .int (iI (b : Int))), (2, .int (iI (s : Int))), (3, .int (iI (i : Int))), (4, .int (iI 0))] rfl ?_
        obtain rfl : i = 0 := by omega
        have heq : wc G n (Eqw G 24 0) = 0 := eq_0
        refine rank_inner (b0 := b) hn hm hG htx hpr hB (by omega) hs h (fun b2 c hb2 => ?_) 5 0 b _ _ (by omega) (by omega) rfl (rfl) rfl
        have hb3 : b2 = wc G n (fun e l => ltw G (e - l) l 24 (0 + 1)) := by rw [hrk, heq]; omega
        refine x_aload_n h dX0_rank_85 0 rfl ?_
        refine xX_nx h dX0_rank_86 ?_
        refine x_iconst h dX0_rank_89 ?_
        refine x_iload_n h dX0_rank_90 2 rfl ?_
        refine x_imul h dX0_rank_91 ?_
        refine x_aload_n h dX0_rank_92 0 rfl ?_
        refine xX_pr h dX0_rank_93 ?_
        refine x_iload_n h dX0_rank_96 3 rfl ?_
        refine xX_lpr h 0 (by omega) (by omega) dX0_rank_97 ?_
        refine x_top (hpr 0 (by omega)) ?_
        refine x_iadd h dX0_rank_98 ?_
        refine xX_lnx h ((4 * s) + (G (24 + 0))) (by omega) (by omega) dX0_rank_99 ?_
        refine x_top (hnx s _ hs hc) ?_
        have hq : NX s (G (24 + 0)) < 49 + 1 := by
          by_cases hz : NX s (G (24 + 0)) = 0
          · omega
          · have := (hS.T1 hs hc hz).1; omega
        refine x_istore_n h dX0_rank_100 (by decide) [1, 2, 0, 3, 4] [(0, .ref (ad 0)), (1, .int (iI (b2 : Int))), (2, .int (iI (NX s (G (24 + 0)) : Int))), (3, .int (iI ((0 : Nat) : Int))), (4, .int (iI c))] rfl ?_
        refine x_iload_n h dX0_rank_101 2 rfl ?_
        refine x_if_ne h 107 dX0_rank_102 (by decide) (by omega) (fun c_102 => ?_) (fun c_102 => ?_)
        · refine x_iinc h dX0_rank_107 3 rfl (by decide) [1, 2, 3, 0, 4] [(0, .ref (ad 0)), (1, .int (iI (b2 : Int))), (2, .int (iI (NX s (G (24 + 0)) : Int))), (3, .int (iI (((0 : Nat) : Int) + 1))), (4, .int (iI c))] rfl ?_
          refine x_goto h 20 dX0_rank_110 (by decide) ?_
          refine x_sub [0, 1, 2, 3] [(0, .ref (ad 0)), (1, .int (iI (b2 : Int))), (2, .int (iI (NX s (G (24 + 0)) : Int))), (3, .int (iI (((0 : Nat) : Int) + 1)))] rfl ?_
          exact ih (0 + 1) _ b2 _ _ (by omega) (by omega) (by omega) rfl (at_next hS ha hc (by omega)) hb3
        · refine x_iload_n h dX0_rank_105 1 rfl ?_
          refine x_ireturn h hr dX0_rank_106 ?_
          have hnn := at_none hS ha hc (by omega)
          rw [hb3, ← rk_stop (m := m) (i := 0 + 1) (by omega) (fun e' he' q => hnn e' he' q)]
          exact hp
      · refine x_iinc h dX0_rank_32 1 rfl (by decide) [1, 0, 2, 3] [(0, .ref (ad 0)), (1, .int (iI ((b : Int) + 1))), (2, .int (iI (s : Int))), (3, .int (iI (i : Int)))] rfl ?_
        refine x_iconst h dX0_rank_35 ?_
        refine x_istore h dX0_rank_36 (by decide) [1, 2, 3, 4, 0] [(0, .ref (ad 0)), (1, .int (iI ((b : Int) + 1))), (2, .int (iI (s : Int))), (3, .int (iI (i : Int))), (4, .int (iI 0))] rfl ?_
        have heq : wc G n (Eqw G 24 i) = 1 := eq_of hS ha (by omega)
        refine rank_inner (b0 := (b + 1)) hn hm hG htx hpr hB (by omega) hs h (fun b2 c hb2 => ?_) 5 0 (b + 1) _ _ (by omega) (by omega) rfl (by omega) rfl
        have hb3 : b2 = wc G n (fun e l => ltw G (e - l) l 24 (i + 1)) := by rw [hrk, heq]; omega
        refine x_aload_n h dX0_rank_85 0 rfl ?_
        refine xX_nx h dX0_rank_86 ?_
        refine x_iconst h dX0_rank_89 ?_
        refine x_iload_n h dX0_rank_90 2 rfl ?_
        refine x_imul h dX0_rank_91 ?_
        refine x_aload_n h dX0_rank_92 0 rfl ?_
        refine xX_pr h dX0_rank_93 ?_
        refine x_iload_n h dX0_rank_96 3 rfl ?_
        refine xX_lpr h i (by omega) (by omega) dX0_rank_97 ?_
        refine x_top (hpr i (by omega)) ?_
        refine x_iadd h dX0_rank_98 ?_
        refine xX_lnx h ((4 * s) + (G (24 + i))) (by omega) (by omega) dX0_rank_99 ?_
        refine x_top (hnx s _ hs hc) ?_
        have hq : NX s (G (24 + i)) < 49 + 1 := by
          by_cases hz : NX s (G (24 + i)) = 0
          · omega
          · have := (hS.T1 hs hc hz).1; omega
        refine x_istore_n h dX0_rank_100 (by decide) [1, 2, 0, 3, 4] [(0, .ref (ad 0)), (1, .int (iI (b2 : Int))), (2, .int (iI (NX s (G (24 + i)) : Int))), (3, .int (iI (i : Int))), (4, .int (iI c))] rfl ?_
        refine x_iload_n h dX0_rank_101 2 rfl ?_
        refine x_if_ne h 107 dX0_rank_102 (by decide) (by omega) (fun c_102 => ?_) (fun c_102 => ?_)
        · refine x_iinc h dX0_rank_107 3 rfl (by decide) [1, 2, 3, 0, 4] [(0, .ref (ad 0)), (1, .int (iI (b2 : Int))), (2, .int (iI (NX s (G (24 + i)) : Int))), (3, .int (iI ((i : Int) + 1))), (4, .int (iI c))] rfl ?_
          refine x_goto h 20 dX0_rank_110 (by decide) ?_
          refine x_sub [0, 1, 2, 3] [(0, .ref (ad 0)), (1, .int (iI (b2 : Int))), (2, .int (iI (NX s (G (24 + i)) : Int))), (3, .int (iI ((i : Int) + 1)))] rfl ?_
          exact ih (i + 1) _ b2 _ _ (by omega) (by omega) (by omega) rfl (at_next hS ha hc (by omega)) hb3
        · refine x_iload_n h dX0_rank_105 1 rfl ?_
          refine x_ireturn h hr dX0_rank_106 ?_
          have hnn := at_none hS ha hc (by omega)
          rw [hb3, ← rk_stop (m := m) (i := i + 1) (by omega) (fun e' he' q => hnn e' he' q)]
          exact hp
theorem cX_rank (l : Launch) (D : va_G) (dB dS : ClassId) (ad : Nat → Nat) (bu sc la ra : Int) (tx pr nx sh le ti fe wo bl : Nat → Int) (G : Nat → Nat) (n m : Nat) (hn : n ≤ 24) (hm : m ≤ 12) (hG : ∀ i, G i < 4) (htx : ∀ i, i < n → tx i = (G i : Int)) (hpr : ∀ i, i < m → pr i = (G (24 + i) : Int)) (hb : Bu G n bu sc nx sh le ti fe wo)  : xmi (JX l D dB dS) yX0_rank cX0_rank 6 .int 4 95 [.ref (ad 0)] (wX ad dB dS (n : Int) (m : Int) bu sc la ra tx pr nx sh le ti fe wo bl) (fun r ws' => XI ad dB dS G n m ws' ∧ ((m = 0 ∧ r = iI (-3)) ∨ (0 < m ∧ r = iI (wc G n (fun e l => ltw G (e - l) l 24 m) : Int)))) := by
  refine xmi_of (by decide) (Nat.le_of_ble_eq_true rfl) (fun K h hr => ?_)
  show xw K (wX ad dB dS (n : Int) (m : Int) bu sc la ra tx pr nx sh le ti fe wo bl) 0 [(0, .ref (ad 0))] []
  refine x_aload_n h dX0_rank_0 0 rfl ?_
  refine xX_pl h dX0_rank_1 ?_
  refine x_if_ne h 10 dX0_rank_4 (by decide) (by omega) (fun c_4 => ?_) (fun c_4 => ?_)
  · refine x_aload_n h dX0_rank_10 0 rfl ?_
    refine xX_callv h (cX_build l D dB dS ad (m : Int) bu sc la ra tx pr nx sh le ti fe wo bl G n hn (fun i _ => hG i) htx hb) 0 (lw_V q101 q103 qs1 q19 q104) (by decide +kernel) ⟨Nat.le_of_ble_eq_true rfl, Nat.le_of_ble_eq_true rfl⟩ rfl rfl (Nat.le_of_ble_eq_true rfl) dX0_rank_11 (fun ws_ hp_11 => ?_)
    obtain ⟨k, NX, SH, LE, EE, lb, nx', sh', le', ti', fe', wo', bl', hB, rfl⟩ := hp_11
    obtain ⟨hS, hk, hnx, hsh, hle, hfe, hti, hwo⟩ := id hB
    refine x_iconst h dX0_rank_14 ?_
    refine x_istore_n h dX0_rank_15 (by decide) [1, 0] [(0, .ref (ad 0)), (1, .int (iI 0))] rfl ?_
    refine x_iconst h dX0_rank_16 ?_
    refine x_istore_n h dX0_rank_17 (by decide) [1, 2, 0] [(0, .ref (ad 0)), (1, .int (iI 0)), (2, .int (iI 0))] rfl ?_
    refine x_iconst h dX0_rank_18 ?_
    refine x_istore_n h dX0_rank_19 (by decide) [1, 2, 3, 0] [(0, .ref (ad 0)), (1, .int (iI 0)), (2, .int (iI 0)), (3, .int (iI 0))] rfl ?_
    exact rank_outer hn hm hG htx hpr hB h hr ⟨⟨_, _, _, _, _, _, _, _, _, _, _, _, _, htx, hpr, Or.inr ⟨rfl, _, _, _, _, _, rfl, hB⟩, rfl⟩, Or.inr ⟨by omega, rfl⟩⟩ (m + 1) 0 0 0 _ _ (by omega) (by omega) rfl rfl (Or.inl ⟨rfl, rfl⟩) rk_0.symm
  · refine x_bipush h dX0_rank_7 (by decide) ?_
    refine x_ireturn h hr dX0_rank_9 ?_
    exact ⟨⟨_, _, _, _, _, _, _, _, _, _, _, _, _, htx, hpr, hb, rfl⟩, Or.inl ⟨by omega, rfl⟩⟩
theorem step_loop {K : XK} {l : Launch} {D : va_G} {dB dS : ClassId} {ad : Nat → Nat} {la ra : Int} {tx pr nx sh le ti fe wo bl : Nat → Int} {G : Nat → Nat} {n m k : Nat} {NX : Nat → Nat → Nat} {SH LE EE : Nat → Nat} {s u : Nat} (hs : s < k) (hn : n ≤ 24) (hG : ∀ i, G i < 4) (hu : u < Dw G n LE EE s) (hB : Bt G n k NX SH LE EE nx sh le ti fe wo) (h : xok K (JX l D dB dS) ({ frames := 0, cells := 0, slots := 0, locals := 0 }) cX0_stepTowards RX0 7) (hr : xri K .int (fun r ws' => ∃ c, c < 4 ∧ NX s c ≠ 0 ∧ sm (fun d => if NX s d = 0 then 0 else 1 + Dw G n LE EE (NX s d)) c ≤ u ∧ u < sm (fun d => if NX s d = 0 then 0 else 1 + Dw G n LE EE (NX s d)) c + (1 + Dw G n LE EE (NX s c)) ∧ r = iI (NX s c : Int) ∧ ws' = wX ad dB dS (n : Int) (m : Int) 1 (k : Int) la ((u : Int) - (sm (fun d => if NX s d = 0 then 0 else 1 + Dw G n LE EE (NX s d)) c : Int) - 1) tx pr nx sh le ti fe wo bl)) :
    ∀ (f c : Nat) (x y : Int), 4 < c + f → c ≤ 4 → x = (c : Int) → y = (u : Int) - (sm (fun d => if NX s d = 0 then 0 else 1 + Dw G n LE EE (NX s d)) c : Int) → sm (fun d => if NX s d = 0 then 0 else 1 + Dw G n LE EE (NX s d)) c ≤ u → xw K (wX ad dB dS (n : Int) (m : Int) 1 (k : Int) la ra tx pr nx sh le ti fe wo bl) 5 [(0, .ref (ad 0)), (1, .int (iI (s : Int))), (2, .int (iI (u : Int))), (3, .int (iI y)), (4, .int (iI x))] [] := by
  obtain ⟨hS, hk, hnx, hsh, hle, hfe, hti, hwo⟩ := id hB
  have hD := Dw_le (G := G) (n := n) (LE := LE) (EE := EE) s
  have hD2 : n * (n + 1) ≤ 24 * 25 := Nat.mul_le_mul (by omega) (by omega)
  have hrec := Dw_rec hS (fun e _ => hG e) hs
  intro f
  induction f with
  | zero => intro c x y h1 h2; omega
  | succ f ih =>
    intro c x y hf hc hxx hyy hle2
    subst hxx; subst hyy
    refine x_iload h dX0_stepTowards_5 4 rfl ?_
    refine x_iconst h dX0_stepTowards_7 ?_
    refine x_icmp_ge h 70 dX0_stepTowards_8 (by decide) (by omega) (by omega) (fun c_8 => ?_) (fun c_8 => ?_)
    · obtain rfl : c = 4 := by omega
      omega
    · refine x_aload_n h dX0_stepTowards_11 0 rfl ?_
      refine xX_nx h dX0_stepTowards_12 ?_
      refine x_iconst h dX0_stepTowards_15 ?_
      refine x_iload_n h dX0_stepTowards_16 1 rfl ?_
      refine x_imul h dX0_stepTowards_17 ?_
      refine x_iload h dX0_stepTowards_18 4 rfl ?_
      refine x_iadd h dX0_stepTowards_20 ?_
      refine xX_lnx h ((4 * s) + c) (by omega) (by omega) dX0_stepTowards_21 ?_
      refine x_top (hnx s c hs (by omega)) ?_
      have hstep : sm (fun d => if NX s d = 0 then 0 else 1 + Dw G n LE EE (NX s d)) (c + 1) = sm (fun d => if NX s d = 0 then 0 else 1 + Dw G n LE EE (NX s d)) c + (if NX s c = 0 then 0 else 1 + Dw G n LE EE (NX s c)) := rfl
      have hNk : NX s c < k := by
        by_cases hz : NX s c = 0
        · rw [hz]; exact hS.pos.1
        · exact (hS.T1 hs (by omega) hz).1
      refine x_istore h dX0_stepTowards_22 (by decide) [1, 2, 3, 4, 5, 0] [(0, .ref (ad 0)), (1, .int (iI (s : Int))), (2, .int (iI (u : Int))), (3, .int (iI ((u : Int) - (sm (fun d => if NX s d = 0 then 0 else 1 + Dw G n LE EE (NX s d)) c : Int)))), (4, .int (iI (c : Int))), (5, .int (iI (NX s c : Int)))] rfl ?_
      refine x_iload h dX0_stepTowards_24 5 rfl ?_
      refine x_if_ne h 32 dX0_stepTowards_26 (by decide) (by omega) (fun c_26 => ?_) (fun c_26 => ?_)
      · refine x_iconst h dX0_stepTowards_32 ?_
        refine x_aload_n h dX0_stepTowards_33 0 rfl ?_
        refine xX_wo h dX0_stepTowards_34 ?_
        refine x_iload h dX0_stepTowards_37 5 rfl ?_
        refine xX_lwo h (NX s c) (by omega) (by omega) dX0_stepTowards_39 ?_
        refine x_top (hwo (NX s c) hNk) ?_
        have hD3 := Dw_le (G := G) (n := n) (LE := LE) (EE := EE) (NX s c)
        refine x_iadd h dX0_stepTowards_40 ?_
        refine x_istore h dX0_stepTowards_41 (by decide) [1, 2, 3, 4, 5, 6, 0] [(0, .ref (ad 0)), (1, .int (iI (s : Int))), (2, .int (iI (u : Int))), (3, .int (iI ((u : Int) - (sm (fun d => if NX s d = 0 then 0 else 1 + Dw G n LE EE (NX s d)) c : Int)))), (4, .int (iI (c : Int))), (5, .int (iI (NX s c : Int))), (6, .int (iI (1 + (Dw G n LE EE (NX s c) : Int))))] rfl ?_
        refine x_iload_n h dX0_stepTowards_43 3 rfl ?_
        refine x_iload h dX0_stepTowards_44 6 rfl ?_
        refine x_icmp_ge h 59 dX0_stepTowards_46 (by decide) (by omega) (by omega) (fun c_46 => ?_) (fun c_46 => ?_)
        · refine x_iload_n h dX0_stepTowards_59 3 rfl ?_
          refine x_iload h dX0_stepTowards_60 6 rfl ?_
          refine x_isub h dX0_stepTowards_62 ?_
          refine x_istore_n h dX0_stepTowards_63 (by decide) [1, 2, 3, 0, 4, 5, 6] [(0, .ref (ad 0)), (1, .int (iI (s : Int))), (2, .int (iI (u : Int))), (3, .int (iI (((u : Int) - (sm (fun d => if NX s d = 0 then 0 else 1 + Dw G n LE EE (NX s d)) c : Int)) - (1 + (Dw G n LE EE (NX s c) : Int))))), (4, .int (iI (c : Int))), (5, .int (iI (NX s c : Int))), (6, .int (iI (1 + (Dw G n LE EE (NX s c) : Int))))] rfl ?_
          refine x_iinc h dX0_stepTowards_64 4 rfl (by decide) [1, 2, 3, 4, 0, 5, 6] [(0, .ref (ad 0)), (1, .int (iI (s : Int))), (2, .int (iI (u : Int))), (3, .int (iI (((u : Int) - (sm (fun d => if NX s d = 0 then 0 else 1 + Dw G n LE EE (NX s d)) c : Int)) - (1 + (Dw G n LE EE (NX s c) : Int))))), (4, .int (iI ((c : Int) + 1))), (5, .int (iI (NX s c : Int))), (6, .int (iI (1 + (Dw G n LE EE (NX s c) : Int))))] rfl ?_
          refine x_goto h 5 dX0_stepTowards_67 (by decide) ?_
          refine x_sub [0, 1, 2, 3, 4] [(0, .ref (ad 0)), (1, .int (iI (s : Int))), (2, .int (iI (u : Int))), (3, .int (iI (((u : Int) - (sm (fun d => if NX s d = 0 then 0 else 1 + Dw G n LE EE (NX s d)) c : Int)) - (1 + (Dw G n LE EE (NX s c) : Int))))), (4, .int (iI ((c : Int) + 1)))] rfl ?_
          have hs2 : sm (fun d => if NX s d = 0 then 0 else 1 + Dw G n LE EE (NX s d)) (c + 1) = sm (fun d => if NX s d = 0 then 0 else 1 + Dw G n LE EE (NX s d)) c + (1 + Dw G n LE EE (NX s c)) := by rw [hstep, if_neg (by omega)]
          exact ih (c + 1) _ _ (by omega) (by omega) (by omega) (by omega) (by omega)
        · refine x_aload_n h dX0_stepTowards_49 0 rfl ?_
          refine x_iload_n h dX0_stepTowards_50 3 rfl ?_
          refine x_iconst h dX0_stepTowards_51 ?_
          refine x_isub h dX0_stepTowards_52 ?_
          refine xX_pra h dX0_stepTowards_53 ?_
          refine x_iload h dX0_stepTowards_56 5 rfl ?_
          refine x_ireturn h hr dX0_stepTowards_58 ?_
          exact ⟨c, by omega, by omega, hle2, by omega, rfl, rfl⟩
      · refine x_goto h 64 dX0_stepTowards_29 (by decide) ?_
        refine x_iinc h dX0_stepTowards_64 4 rfl (by decide) [1, 2, 3, 4, 0, 5] [(0, .ref (ad 0)), (1, .int (iI (s : Int))), (2, .int (iI (u : Int))), (3, .int (iI ((u : Int) - (sm (fun d => if NX s d = 0 then 0 else 1 + Dw G n LE EE (NX s d)) c : Int)))), (4, .int (iI ((c : Int) + 1))), (5, .int (iI (NX s c : Int)))] rfl ?_
        refine x_goto h 5 dX0_stepTowards_67 (by decide) ?_
        refine x_sub [0, 1, 2, 3, 4] [(0, .ref (ad 0)), (1, .int (iI (s : Int))), (2, .int (iI (u : Int))), (3, .int (iI ((u : Int) - (sm (fun d => if NX s d = 0 then 0 else 1 + Dw G n LE EE (NX s d)) c : Int)))), (4, .int (iI ((c : Int) + 1)))] rfl ?_
        have hs2 : sm (fun d => if NX s d = 0 then 0 else 1 + Dw G n LE EE (NX s d)) (c + 1) = sm (fun d => if NX s d = 0 then 0 else 1 + Dw G n LE EE (NX s d)) c := by rw [hstep, if_pos (by omega)]; omega
        exact ih (c + 1) _ _ (by omega) (by omega) (by omega) (by rw [hs2]) (by omega)
theorem cX_step (l : Launch) (D : va_G) (dB dS : ClassId) (ad : Nat → Nat) (la ra : Int) (tx pr nx sh le ti fe wo bl : Nat → Int) (G : Nat → Nat) (n m k : Nat) (NX : Nat → Nat → Nat) (SH LE EE : Nat → Nat) (s u : Nat) (hs : s < k) (hn : n ≤ 24) (hG : ∀ i, G i < 4) (hu : u < Dw G n LE EE s) (hB : Bt G n k NX SH LE EE nx sh le ti fe wo) : xmi (JX l D dB dS) yX0_stepTowards cX0_stepTowards 7 .int 0 0 [.ref (ad 0), .int (iI (s : Int)), .int (iI (u : Int))] (wX ad dB dS (n : Int) (m : Int) 1 (k : Int) la ra tx pr nx sh le ti fe wo bl) (fun r ws' => ∃ c, c < 4 ∧ NX s c ≠ 0 ∧ sm (fun d => if NX s d = 0 then 0 else 1 + Dw G n LE EE (NX s d)) c ≤ u ∧ u < sm (fun d => if NX s d = 0 then 0 else 1 + Dw G n LE EE (NX s d)) c + (1 + Dw G n LE EE (NX s c)) ∧ r = iI (NX s c : Int) ∧ ws' = wX ad dB dS (n : Int) (m : Int) 1 (k : Int) la ((u : Int) - (sm (fun d => if NX s d = 0 then 0 else 1 + Dw G n LE EE (NX s d)) c : Int) - 1) tx pr nx sh le ti fe wo bl) := by
  refine xmi_of (by decide) (Nat.le_of_ble_eq_true rfl) (fun K h hr => ?_)
  show xw K (wX ad dB dS (n : Int) (m : Int) 1 (k : Int) la ra tx pr nx sh le ti fe wo bl) 0 [(0, .ref (ad 0)), (1, .int (iI (s : Int))), (2, .int (iI (u : Int)))] []
  refine x_iload_n h dX0_stepTowards_0 2 rfl ?_
  refine x_istore_n h dX0_stepTowards_1 (by decide) [1, 2, 3, 0] [(0, .ref (ad 0)), (1, .int (iI (s : Int))), (2, .int (iI (u : Int))), (3, .int (iI (u : Int)))] rfl ?_
  refine x_iconst h dX0_stepTowards_2 ?_
  refine x_istore h dX0_stepTowards_3 (by decide) [1, 2, 3, 4, 0] [(0, .ref (ad 0)), (1, .int (iI (s : Int))), (2, .int (iI (u : Int))), (3, .int (iI (u : Int))), (4, .int (iI 0))] rfl ?_
  exact step_loop hs hn hG hu hB h hr 5 0 _ _ (by omega) (by omega) rfl (by show (u : Int) = (u : Int) - ((0 : Nat) : Int); omega) (Nat.zero_le _)
theorem word_step {G : Nat → Nat} {n k : Nat} {NX : Nat → Nat → Nat} {SH LE EE : Nat → Nat} (hS : Sam G n k NX SH LE EE) {s a c : Nat} (ha : At G k SH LE EE s (EE s) a) (hc : c < 4) (hz : NX s c ≠ 0) :
    At G k SH LE EE (NX s c) (EE (NX s c)) (a + 1) ∧ wc G n (fun e l => ltw G (e - l) l (EE (NX s c) - (a + 1)) (a + 1)) = wc G n (fun e l => ltw G (e - l) l (EE s - a) a) + (if a = 0 then 0 else 1) + sm (fun d => if NX s d = 0 then 0 else 1 + Dw G n LE EE (NX s d)) c := by
  have hs := at_lt hS ha
  obtain ⟨g1, g2, g3, e0, g4, g5, g6, g7⟩ := hS.T1 hs hc hz
  have hle := at_le hS ha
  have hw := hS.wf hs
  have hwq := hS.wf g1
  obtain ⟨b, hb⟩ : ∃ b, b = EE (NX s c) - (a + 1) := ⟨_, rfl⟩
  have e1 : EE (NX s c) = b + a + 1 := by omega
  have p1 : eqv G (LE s + 1) (b + a + 1) (e0 + 1) := by rw [← e1]; exact g7
  have p2 := eqv_succ.mp p1
  have hba : eqv G a (EE s) (b + a) := eqv_trans (eqv_mono hle g5) (eqv_symm (eqv_mono hle p2.1))
  have haw := at_move ha hba
  have hcb : G (b + a) = c := by rw [p2.2]; exact g6
  have hnx := at_next hS haw (by omega) (by rw [hcb]; exact hz)
  rw [hcb] at hnx
  refine ⟨by rw [e1]; exact hnx, ?_⟩
  rw [← hb, rk_succ, hcb]
  have hpre : ∀ j, j < a → G (b + j) = G (EE s - a + j) := fun j hj => by
    have := (eqv_start (a := EE s - a) (b := b) (l := a)).mp (by rw [show EE s - a + a = EE s by omega]; exact hba) j hj
    exact this.symm
  have h1 : wc G n (fun e l => ltw G (e - l) l b a) = wc G n (fun e l => ltw G (e - l) l (EE s - a) a) := wc_congr (fun e l _ => ⟨fun q => ltw_cong hpre q, fun q => ltw_cong (fun j hj => (hpre j hj).symm) q⟩)
  have h2 : wc G n (Eqw G b a) = if a = 0 then 0 else 1 := by
    by_cases q : a = 0
    · rw [if_pos q, q]; exact eq_0
    · rw [if_neg q]; exact eq_of hS haw (by omega)
  rw [h1, h2, sm_congr (fun d hd => pf_of hS haw (by omega))]
theorem word_loop {K : XK} {l : Launch} {D : va_G} {dB dS : ClassId} {ad : Nat → Nat} {la : Int} {tx pr nx sh le ti fe wo bl : Nat → Int} {G : Nat → Nat} {n m k : Nat} {NX : Nat → Nat → Nat} {SH LE EE : Nat → Nat} (hn : n ≤ 24) (hm : m ≤ 12) (hG : ∀ i, G i < 4) (htx : ∀ i, i < n → tx i = (G i : Int)) (hpr : ∀ i, i < m → pr i = (G (24 + i) : Int)) (hB : Bt G n k NX SH LE EE nx sh le ti fe wo) {kk : Nat} (h : xok K (JX l D dB dS) ({ frames := 4, cells := 0, slots := 0, locals := 95 }) cX0_word RX0 5) {post : Int32 → va_W → Prop} (hr : xri K .int post)
    (hp : ∀ (ra z : Int), IsWord G n kk z → post (iI z) (wX ad dB dS (n : Int) (m : Int) 1 (k : Int) la ra tx pr nx sh le ti fe wo bl)) :
    ∀ (f s a : Nat) (x y : Int) (ra : Int), 25 < a + f → y = (a : Int) → At G k SH LE EE s (EE s) a → a ≤ 24 → ((x = -1 ∧ 0 < a ∧ wc G n (fun e l => ltw G (e - l) l (EE s - a) a) = kk) ∨ ∃ u : Nat, x = (u : Int) ∧ u < Dw G n LE EE s ∧ wc G n (fun e l => ltw G (e - l) l (EE s - a) a) + (if a = 0 then 0 else 1) + u = kk) → xw K (wX ad dB dS (n : Int) (m : Int) 1 (k : Int) la ra tx pr nx sh le ti fe wo bl) 28 [(0, .ref (ad 0)), (1, .int (iI (kk : Int))), (2, .int (iI x)), (3, .int (iI (s : Int))), (4, .int (iI y))] [] := by
  obtain ⟨hS, hk, hnx, hsh, hle, hfe, hti, hwo⟩ := id hB
  intro f
  induction f with
  | zero => intro s a x y ra h1; omega
  | succ f ih =>
    intro s a x y ra hf hyy ha ha24 hX
    subst hyy
    have hs := at_lt hS ha
    have hw := hS.wf hs
    have hla := at_le hS ha
    rcases hX with ⟨rfl, h0, hk0⟩ | ⟨u, rfl, hu, hk0⟩
    · refine x_iload_n h dX0_word_28 2 rfl ?_
      refine x_if_lt h 50 dX0_word_29 (by decide) (by omega) (fun c_29 => ?_) (fun c_29 => ?_)
      · refine x_bipush h dX0_word_50 (by decide) ?_
        refine x_aload_n h dX0_word_52 0 rfl ?_
        refine xX_fe h dX0_word_53 ?_
        refine x_iload_n h dX0_word_56 3 rfl ?_
        refine xX_lfe h s (by omega) (by omega) dX0_word_57 ?_
        refine x_iload h dX0_word_58 4 rfl ?_
        refine x_isub h dX0_word_60 ?_
        refine x_iconst h dX0_word_61 ?_
        refine x_iadd h dX0_word_62 ?_
        refine x_imul h dX0_word_63 ?_
        refine x_iload h dX0_word_64 4 rfl ?_
        refine x_iadd h dX0_word_66 ?_
        refine x_ireturn h hr dX0_word_67 ?_
        rw [hfe s hs]
        have hf1 := at_first hS ha
        exact hp ra _ ⟨EE s, a, ⟨h0, by omega, hw.2, hf1.2.2⟩, hk0, by omega⟩
      · omega
    · refine x_iload_n h dX0_word_28 2 rfl ?_
      have hD := Dw_le (G := G) (n := n) (LE := LE) (EE := EE) s
      have hD2 : n * (n + 1) ≤ 24 * 25 := Nat.mul_le_mul (by omega) (by omega)
      refine x_if_lt h 50 dX0_word_29 (by decide) (by omega) (fun c_29 => ?_) (fun c_29 => ?_)
      · omega
      · refine x_aload_n h dX0_word_32 0 rfl ?_
        refine x_iload_n h dX0_word_33 3 rfl ?_
        refine x_iload_n h dX0_word_34 2 rfl ?_
        refine xX_calli h (cX_step l D dB dS ad la ra tx pr nx sh le ti fe wo bl G n m k NX SH LE EE s u hs hn hG hu hB) 2 (lw_V q153 q155 qs9 q19 q156) (by decide +kernel) ⟨Nat.le_of_ble_eq_true rfl, Nat.le_of_ble_eq_true rfl⟩ rfl rfl (Nat.le_of_ble_eq_true rfl) dX0_word_35 (fun r_35 ws_ hp_35 => ?_)
        obtain ⟨c, hc, hz, hu1, hu2, rfl, rfl⟩ := hp_35
        obtain ⟨ha2, hst⟩ := word_step hS ha hc hz
        have hla2 := at_le hS ha2
        have hw2 := hS.wf (at_lt hS ha2)
        refine x_istore_n h dX0_word_38 (by decide) [1, 2, 3, 0, 4] [(0, .ref (ad 0)), (1, .int (iI (kk : Int))), (2, .int (iI (u : Int))), (3, .int (iI (NX s c : Int))), (4, .int (iI (a : Int)))] rfl ?_
        refine x_aload_n h dX0_word_39 0 rfl ?_
        refine xX_ra h dX0_word_40 ?_
        refine x_istore_n h dX0_word_43 (by decide) [1, 2, 0, 3, 4] [(0, .ref (ad 0)), (1, .int (iI (kk : Int))), (2, .int (iI ((u : Int) - (sm (fun d => if NX s d = 0 then 0 else 1 + Dw G n LE EE (NX s d)) c : Int) - 1))), (3, .int (iI (NX s c : Int))), (4, .int (iI (a : Int)))] rfl ?_
        refine x_iinc h dX0_word_44 4 rfl (by decide) [1, 2, 3, 4, 0] [(0, .ref (ad 0)), (1, .int (iI (kk : Int))), (2, .int (iI ((u : Int) - (sm (fun d => if NX s d = 0 then 0 else 1 + Dw G n LE EE (NX s d)) c : Int) - 1))), (3, .int (iI (NX s c : Int))), (4, .int (iI ((a : Int) + 1)))] rfl ?_
        refine x_goto h 28 dX0_word_47 (by decide) ?_
        refine ih _ (a + 1) _ _ _ (by omega) (by omega) ha2 (by omega) ?_
        by_cases hlast : u = sm (fun d => if NX s d = 0 then 0 else 1 + Dw G n LE EE (NX s d)) c
        · exact Or.inl ⟨by omega, by omega, by omega⟩
        · refine Or.inr ⟨u - sm (fun d => if NX s d = 0 then 0 else 1 + Dw G n LE EE (NX s d)) c - 1, by omega, by omega, ?_⟩
          rw [if_neg (by omega), hst]; omega
theorem cX_word (l : Launch) (D : va_G) (dB dS : ClassId) (ad : Nat → Nat) (bu sc la ra : Int) (tx pr nx sh le ti fe wo bl : Nat → Int) (G : Nat → Nat) (n m : Nat) (hn : n ≤ 24) (hm : m ≤ 12) (hG : ∀ i, G i < 4) (htx : ∀ i, i < n → tx i = (G i : Int)) (hpr : ∀ i, i < m → pr i = (G (24 + i) : Int)) (hb : Bu G n bu sc nx sh le ti fe wo) (z : Int) (hz : rng z) : xmi (JX l D dB dS) yX0_word cX0_word 5 .int 4 95 [.ref (ad 0), .int (iI z)] (wX ad dB dS (n : Int) (m : Int) bu sc la ra tx pr nx sh le ti fe wo bl) (fun r ws' => XI ad dB dS G n m ws' ∧ (((z < 0 ∨ (wc G n (fun _ _ => True) : Int) ≤ z) ∧ r = iI (-3)) ∨ (∃ kk : Nat, z = (kk : Int) ∧ kk < wc G n (fun _ _ => True) ∧ ∃ y, r = iI y ∧ IsWord G n kk y))) := by
  refine xmi_of (by decide) (Nat.le_of_ble_eq_true rfl) (fun K h hr => ?_)
  show xw K (wX ad dB dS (n : Int) (m : Int) bu sc la ra tx pr nx sh le ti fe wo bl) 0 [(0, .ref (ad 0)), (1, .int (iI z))] []
  refine x_aload_n h dX0_word_0 0 rfl ?_
  refine xX_callv h (cX_build l D dB dS ad (m : Int) bu sc la ra tx pr nx sh le ti fe wo bl G n hn (fun i _ => hG i) htx hb) 0 (lw_V q101 q103 qs1 q19 q104) (by decide +kernel) ⟨Nat.le_of_ble_eq_true rfl, Nat.le_of_ble_eq_true rfl⟩ rfl rfl (Nat.le_of_ble_eq_true rfl) dX0_word_1 (fun ws_ hp_1 => ?_)
  obtain ⟨k, NX, SH, LE, EE, lb, nx', sh', le', ti', fe', wo', bl', hB, rfl⟩ := hp_1
  obtain ⟨hS, hk, hnx, hsh, hle, hfe, hti, hwo⟩ := id hB
  have hwl := wc_le G n (fun _ _ => True)
  have hwl2 : n * (n + 1) ≤ 24 * 25 := Nat.mul_le_mul (by omega) (by omega)
  refine x_iload_n h dX0_word_4 1 rfl ?_
  refine x_if_lt h 18 dX0_word_5 (by decide) (by omega) (fun c_5 => ?_) (fun c_5 => ?_)
  · refine x_bipush h dX0_word_18 (by decide) ?_
    refine x_ireturn h hr dX0_word_20 ?_
    exact ⟨⟨_, _, _, _, _, _, _, _, _, _, _, _, _, htx, hpr, Or.inr ⟨rfl, _, _, _, _, _, rfl, hB⟩, rfl⟩, Or.inl ⟨by omega, rfl⟩⟩
  · refine x_iload_n h dX0_word_8 1 rfl ?_
    refine x_aload_n h dX0_word_9 0 rfl ?_
    refine xX_wo h dX0_word_10 ?_
    refine x_iconst h dX0_word_13 ?_
    refine xX_lwo h 0 (by omega) (by omega) dX0_word_14 ?_
    refine x_top (show wo' 0 = (wc G n (fun _ _ => True) : Int) by rw [hwo 0 hS.pos.1, words_of hS]) ?_
    refine x_icmp_lt h 21 dX0_word_15 (by decide) (by omega) (by omega) (fun c_15 => ?_) (fun c_15 => ?_)
    · obtain ⟨kk, rfl⟩ : ∃ kk : Nat, z = (kk : Int) := ⟨z.toNat, by omega⟩
      refine x_iload_n h dX0_word_21 1 rfl ?_
      refine x_istore_n h dX0_word_22 (by decide) [1, 2, 0] [(0, .ref (ad 0)), (1, .int (iI (kk : Int))), (2, .int (iI (kk : Int)))] rfl ?_
      refine x_iconst h dX0_word_23 ?_
      refine x_istore_n h dX0_word_24 (by decide) [1, 2, 3, 0] [(0, .ref (ad 0)), (1, .int (iI (kk : Int))), (2, .int (iI (kk : Int))), (3, .int (iI 0))] rfl ?_
      refine x_iconst h dX0_word_25 ?_
      refine x_istore h dX0_word_26 (by decide) [1, 2, 3, 4, 0] [(0, .ref (ad 0)), (1, .int (iI (kk : Int))), (2, .int (iI (kk : Int))), (3, .int (iI 0)), (4, .int (iI 0))] rfl ?_
      refine word_loop hn hm hG htx hpr hB h hr (fun ra y hy => ⟨⟨_, _, _, _, _, _, _, _, _, _, _, _, _, htx, hpr, Or.inr ⟨rfl, _, _, _, _, _, rfl, hB⟩, rfl⟩, Or.inr ⟨kk, rfl, by omega, y, rfl, hy⟩⟩) 26 0 0 _ _ _ (by omega) rfl (Or.inl ⟨rfl, rfl⟩) (by omega) (Or.inr ⟨kk, rfl, by rw [words_of hS]; omega, ?_⟩)
      rw [if_pos rfl, rk_0]; omega
    · refine x_bipush h dX0_word_18 (by decide) ?_
      refine x_ireturn h hr dX0_word_20 ?_
      exact ⟨⟨_, _, _, _, _, _, _, _, _, _, _, _, _, htx, hpr, Or.inr ⟨rfl, _, _, _, _, _, rfl, hB⟩, rfl⟩, Or.inl ⟨by omega, rfl⟩⟩
end
section
/-! ===== pure: what the reference's methods find ===== -/
/-- a cell of the letters that is in use -/
abbrev vd (n m i : Nat) : Prop := i < n ∨ (24 ≤ i ∧ i < 24 + m)
theorem cP_shift (P : Nat → Prop) (i : Nat) : ∀ n, cP P (i + n) = cP P i + cP (fun t => P (i + t)) n
  | 0 => by show cP P i = cP P i + 0; omega
  | n + 1 => by
    have ih := cP_shift P i n
    show cP P (i + n + 1) = _
    by_cases hp : P (i + n)
    · rw [cP_t hp, cP_t (P := fun t => P (i + t)) hp, ih]; omega
    · rw [cP_f hp, cP_f (P := fun t => P (i + t)) hp, ih]
theorem cP_true : ∀ n, cP (fun _ => True) n = n
  | 0 => rfl
  | n + 1 => by rw [cP_t trivial, cP_true n]
/-- counting by places -/
theorem oc_q {G : Nat → Nat} {n l e q : Nat} (hl : 0 < l) (hq : q + l = n + 1 ∨ (q = 0 ∧ n < l)) : cP (fun t => eqv G l (t + l) e) q = oc G n l e := by
  unfold oc
  rcases hq with hq | ⟨rfl, hn⟩
  · obtain rfl : n = (l - 1) + q := by omega
    rw [cP_shift, cP_none (n := l - 1) (fun j hj z => by have := z.1; omega), Nat.zero_add]
    refine cP_congr (fun t ht => ?_)
    rw [show l - 1 + t + 1 = t + l by omega]
  · rw [cP_none (n := n) (fun j hj z => by have := z.1; omega)]
    rfl
theorem oc_pos {G : Nat → Nat} {n l e : Nat} (hl : 0 < l) : 0 < oc G n l e ↔ ∃ e', e' ≤ n ∧ eqv G l e' e := by
  unfold oc
  rw [cP_pos]
  constructor
  · rintro ⟨j, h1, h2⟩; exact ⟨j + 1, by omega, h2⟩
  · rintro ⟨e', h1, h2⟩
    have := h2.1
    exact ⟨e' - 1, by omega, by rw [show e' - 1 + 1 = e' by omega]; exact h2⟩
theorem oc_cong {G : Nat → Nat} {n l e e' : Nat} (h : eqv G l e e') : oc G n l e = oc G n l e' := cP_congr (fun j hj => ⟨fun q => eqv_trans q h, fun q => eqv_trans q (eqv_symm h)⟩)
theorem oc_le (G : Nat → Nat) (n l e : Nat) : oc G n l e ≤ n := cP_le _ _
/-- every word has a first end -/
theorem lst_ex {G : Nat → Nat} {n e l : Nat} (h0 : 0 < l) (hl : l ≤ e) (he : e ≤ n) : ∃ e1, Lst G n e1 l ∧ eqv G l e1 e := by
  obtain ⟨e1, h1, h2⟩ := pk_least (fun x => eqv G l x e) ⟨e, eqv_refl hl⟩
  have hle : e1 ≤ e := by
    rcases Nat.lt_or_ge e e1 with q | q
    · exact absurd (eqv_refl hl) (h2 e q)
    · exact q
  exact ⟨e1, ⟨h0, h1.1, by omega, fun e' he' q => h2 e' he' (eqv_trans q h1)⟩, h1⟩
/-- the list of the words of the text: places and lengths, each once -/
def Li (G : Nat → Nat) (n k : Nat) (lp ll : Nat → Int) : Prop := (∀ i, i < k → lp i = (vN lp i : Int) ∧ ll i = (vN ll i : Int) ∧ Lst G n (vN lp i + vN ll i) (vN ll i)) ∧ ∀ Q : Nat → Nat → Prop, cP (fun i => Q (vN lp i + vN ll i) (vN ll i)) k = wc G n Q
noncomputable def Rl (G : Nat → Nat) (n : Nat) (Q : Nat → Nat → Prop) (p N : Nat) : Nat := cP (fun t => Lst G n (p + (t + 1)) (t + 1) ∧ Q (p + (t + 1)) (t + 1)) N
theorem list_wc (G : Nat → Nat) (n : Nat) (Q : Nat → Nat → Prop) : sm (fun p => Rl G n Q p (n - p)) n = wc G n Q := by
  have e1 : ∀ p, p < n → Rl G n Q p (n - p) = sm (fun t => ind (Lst G n (p + (t + 1)) (t + 1) ∧ Q (p + (t + 1)) (t + 1))) n := by
    intro p hp
    unfold Rl
    rw [cP_sm]
    have e2 := sm_shift (fun t => ind (Lst G n (p + (t + 1)) (t + 1) ∧ Q (p + (t + 1)) (t + 1))) (n - p) p
    rw [show n - p + p = n by omega] at e2
    rw [e2, sm_zero (n := p) (fun t ht => ind_f (fun q => by have := q.1.2.2.1; omega))]
    rfl
  rw [sm_congr e1, sm_swap]
  refine sm_congr (fun t ht => ?_)
  have e3 := cP_shift (fun e => Lst G n e (t + 1) ∧ Q e (t + 1)) (t + 1) (n - t)
  rw [show t + 1 + (n - t) = n + 1 by omega] at e3
  rw [e3, cP_none (n := t + 1) (fun e he q => by have := q.1.2.1; omega), Nat.zero_add, cP_sm]
  have e4 := sm_shift (fun p => ind (Lst G n (p + (t + 1)) (t + 1) ∧ Q (p + (t + 1)) (t + 1))) (n - t) t
  rw [show n - t + t = n by omega] at e4
  rw [e4, sm_zero (n := t) (fun p hp => ind_f (fun q => by have := q.1.2.2.1; omega)), Nat.add_zero]
  exact sm_congr (fun p hp => by rw [Nat.add_comm p (t + 1)])
section LI
variable {G : Nat → Nat} {n k : Nat} {lp ll : Nat → Int}
theorem li_cover (h : Li G n k lp ll) {e l : Nat} (hL : Lst G n e l) : ∃ i, i < k ∧ vN ll i = l ∧ vN lp i + vN ll i = e := by
  have h1 := h.2 (fun e' l' => l' = l ∧ e' = e)
  rw [wc_one (e := e) (l := l) hL ⟨rfl, rfl⟩ (fun e' l' _ q => q)] at h1
  obtain ⟨i, hi, hq⟩ := cP_pos.mp (by rw [h1]; exact Nat.one_pos)
  exact ⟨i, hi, hq.1, hq.2⟩
theorem li_inj (h : Li G n k lp ll) {i j : Nat} (hi : i < k) (hj : j < k) (h1 : vN lp i = vN lp j) (h2 : vN ll i = vN ll j) : i = j := by
  have hL := (h.1 j hj).2.2
  have h3 := h.2 (fun e' l' => l' = vN ll j ∧ e' = vN lp j + vN ll j)
  rw [wc_one hL ⟨rfl, rfl⟩ (fun e' l' _ q => q)] at h3
  by_cases q : i = j
  · exact q
  · exfalso
    have h4 : cP (fun t => t = i ∨ t = j) k ≤ 1 := by
      rw [← h3]
      refine cP_mono (fun t ht z => ?_)
      rcases z with z | z
      · subst z; exact ⟨h2, by omega⟩
      · subst z; exact ⟨rfl, rfl⟩
    rw [cP_or (fun t ht z => q (by omega)), cP_one (P := fun t => t = i) (i := i) hi rfl (fun _ _ z => z), cP_one (P := fun t => t = j) (i := j) hj rfl (fun _ _ z => z)] at h4
    omega
theorem li_len (h : Li G n k lp ll) : k = wc G n (fun _ _ => True) := by
  rw [← h.2, cP_true]
theorem longest_li (h : Li G n k lp ll) {z : Int} {v : Nat} (h1 : v = 0 ∨ ∃ i, i < k ∧ v = vN ll i ∧ z ≤ (oc G n (vN ll i) (vN lp i + vN ll i) : Int)) (h2 : ∀ i, i < k → z ≤ (oc G n (vN ll i) (vN lp i + vN ll i) : Int) → vN ll i ≤ v) : IsLongest G n z v := by
  constructor
  · rcases h1 with q | ⟨i, q1, q2, q3⟩
    · exact Or.inl q
    · have hL := (h.1 i q1).2.2
      exact Or.inr ⟨vN lp i + vN ll i, by rw [q2]; exact hL.1, by rw [q2]; exact hL.2.1, hL.2.2.1, by rw [q2]; exact q3⟩
  · intro e l a1 a2 a3 a4
    obtain ⟨e1, hL, hq⟩ := lst_ex (G := G) (n := n) a1 a2 a3
    obtain ⟨i, hi, hl, he⟩ := li_cover h hL
    have := h2 i hi (by rw [he, hl, oc_cong hq]; exact a4)
    omega
end LI
/-- a reference that holds the same -/
def Kn (G : Nat → Nat) (n : Nat) (li kn : Int) (lp ll : Nat → Int) : Prop := kn = 0 ∨ (kn = 1 ∧ ∃ k : Nat, li = (k : Int) ∧ k ≤ 300 ∧ Li G n k lp ll)
def MI (ad : Nat → Nat) (dN : ClassId) (G : Nat → Nat) (n m : Nat) (ws : va_W) : Prop := ∃ (li kn : Int) (gg lp ll : Nat → Int), (∀ i, i < n → gg i = (G i : Int)) ∧ (∀ i, i < m → gg (24 + i) = (G (24 + i) : Int)) ∧ Kn G n li kn lp ll ∧ ws = wM ad dN (n : Int) (m : Int) li kn gg lp ll
theorem lst_cong {G G' : Nat → Nat} {n e l : Nat} (hg : ∀ i, i < n → G i = G' i) (h : Lst G n e l) : Lst G' n e l := ⟨h.1, h.2.1, h.2.2.1, fun e' he' q => h.2.2.2 e' he' ((eqv_cong hg (by have := h.2.2.1; omega) h.2.2.1).mpr q)⟩
theorem li_cong {G G' : Nat → Nat} {n k : Nat} {lp ll : Nat → Int} (hg : ∀ i, i < n → G i = G' i) (h : Li G n k lp ll) : Li G' n k lp ll := by
  refine ⟨fun i hi => ⟨(h.1 i hi).1, (h.1 i hi).2.1, lst_cong hg (h.1 i hi).2.2⟩, fun Q => ?_⟩
  rw [h.2 Q]
  exact sm_congr (fun l hl => cP_congr (fun e he => ⟨fun q => ⟨lst_cong hg q.1, q.2⟩, fun q => ⟨lst_cong (fun i hi => (hg i hi).symm) q.1, q.2⟩⟩))
theorem kn_cong {G G' : Nat → Nat} {n : Nat} {li kn : Int} {lp ll : Nat → Int} (hg : ∀ i, i < n → G i = G' i) (h : Kn G n li kn lp ll) : Kn G' n li kn lp ll := by
  rcases h with h | ⟨h1, k, h2, h3, h4⟩
  · exact Or.inl h
  · exact Or.inr ⟨h1, k, h2, h3, li_cong hg h4⟩
end
section
/-! ===== RepeatFinderModel: same, countOf, firstOf, count, place, common, unique ===== -/
set_option maxRecDepth 100000
theorem same_loop {K : XK} {l : Launch} {D : va_G} {dN : ClassId} {ad : Nat → Nat} {li kn : Int} {gg lp ll : Nat → Int} {G : Nat → Nat} {n m : Nat} {a b c : Nat} (hn : n ≤ 24) (hm : m ≤ 12) (hG : ∀ i, G i < 4) (hgg : ∀ i, vd n m i → gg i = (G i : Int)) (ha : ∀ j, j < c → vd n m (a + j)) (hb : ∀ j, j < c → vd n m (b + j)) (h : xok K (JM l D dN) ({ frames := 0, cells := 0, slots := 0, locals := 0 }) cX1_same RX1 5) (hr : xri K .boolean (fun r ws' => ws' = wM ad dN (n : Int) (m : Int) li kn gg lp ll ∧ ((r = iI 1 ∧ eqv G c (b + c) (a + c)) ∨ (r = iI 0 ∧ ¬ eqv G c (b + c) (a + c))))) (hc : c ≤ 36) :
    ∀ (f i : Nat) (x : Int), c < i + f → i ≤ c → x = (i : Int) → (∀ j, j < i → G (b + j) = G (a + j)) → xw K (wM ad dN (n : Int) (m : Int) li kn gg lp ll) 3 [(0, .ref (ad 0)), (1, .int (iI (a : Int))), (2, .int (iI (b : Int))), (3, .int (iI (c : Int))), (4, .int (iI x))] [] := by
  intro f
  induction f with
  | zero => intro i x h1 h2; omega
  | succ f ih =>
    intro i x hf hi hxx hq
    subst hxx
    refine x_iload h dX1_same_3 4 rfl ?_
    refine x_iload_n h dX1_same_5 3 rfl ?_
    refine x_icmp_ge h 38 dX1_same_6 (by decide) (by omega) (by omega) (fun c_6 => ?_) (fun c_6 => ?_)
    · refine x_iconst h dX1_same_38 ?_
      refine x_zreturn h hr dX1_same_39 rfl ?_
      exact ⟨rfl, Or.inl ⟨rfl, eqv_start.mpr (fun j hj => hq j (by omega))⟩⟩
    · refine x_aload_n h dX1_same_9 0 rfl ?_
      refine xM_gg h dX1_same_10 ?_
      refine x_iload_n h dX1_same_13 1 rfl ?_
      refine x_iload h dX1_same_14 4 rfl ?_
      refine x_iadd h dX1_same_16 ?_
      have v1 := ha i (by omega)
      have v2 := hb i (by omega)
      refine xM_lgg h (a + i) (by omega) (by omega) dX1_same_17 ?_
      refine x_top (hgg (a + i) (ha i (by omega))) ?_
      have g1 := hG (a + i)
      have g2 := hG (b + i)
      refine x_aload_n h dX1_same_18 0 rfl ?_
      refine xM_gg h dX1_same_19 ?_
      refine x_iload_n h dX1_same_22 2 rfl ?_
      refine x_iload h dX1_same_23 4 rfl ?_
      refine x_iadd h dX1_same_25 ?_
      refine xM_lgg h (b + i) (by omega) (by omega) dX1_same_26 ?_
      refine x_top (hgg (b + i) (hb i (by omega))) ?_
      refine x_icmp_eq h 32 dX1_same_27 (by decide) (by omega) (by omega) (fun c_27 => ?_) (fun c_27 => ?_)
      · refine x_iinc h dX1_same_32 4 rfl (by decide) [1, 2, 3, 4, 0] [(0, .ref (ad 0)), (1, .int (iI (a : Int))), (2, .int (iI (b : Int))), (3, .int (iI (c : Int))), (4, .int (iI ((i : Int) + 1)))] rfl ?_
        refine x_goto h 3 dX1_same_35 (by decide) ?_
        refine ih (i + 1) _ (by omega) (by omega) (by omega) (fun j hj => ?_)
        by_cases hji : j = i
        · subst hji; omega
        · exact hq j (by omega)
      · refine x_iconst h dX1_same_30 ?_
        refine x_zreturn h hr dX1_same_31 rfl ?_
        exact ⟨rfl, Or.inr ⟨rfl, fun q => by have := eqv_start.mp q i (by omega); omega⟩⟩
theorem cM_same (l : Launch) (D : va_G) (dN : ClassId) (ad : Nat → Nat) (li kn : Int) (gg lp ll : Nat → Int) (G : Nat → Nat) (n m : Nat) (a b c : Nat) (hn : n ≤ 24) (hm : m ≤ 12) (hG : ∀ i, G i < 4) (hgg : ∀ i, vd n m i → gg i = (G i : Int)) (ha : ∀ j, j < c → vd n m (a + j)) (hb : ∀ j, j < c → vd n m (b + j)) (hc : c ≤ 36) : xmi (JM l D dN) yX1_same cX1_same 5 .boolean 0 0 [.ref (ad 0), .int (iI (a : Int)), .int (iI (b : Int)), .int (iI (c : Int))] (wM ad dN (n : Int) (m : Int) li kn gg lp ll) (fun r ws' => ws' = wM ad dN (n : Int) (m : Int) li kn gg lp ll ∧ ((r = iI 1 ∧ eqv G c (b + c) (a + c)) ∨ (r = iI 0 ∧ ¬ eqv G c (b + c) (a + c)))) := by
  refine xmi_of (by decide) (Nat.le_of_ble_eq_true rfl) (fun K h hr => ?_)
  show xw K (wM ad dN (n : Int) (m : Int) li kn gg lp ll) 0 [(0, .ref (ad 0)), (1, .int (iI (a : Int))), (2, .int (iI (b : Int))), (3, .int (iI (c : Int)))] []
  refine x_iconst h dX1_same_0 ?_
  refine x_istore h dX1_same_1 (by decide) [1, 2, 3, 4, 0] [(0, .ref (ad 0)), (1, .int (iI (a : Int))), (2, .int (iI (b : Int))), (3, .int (iI (c : Int))), (4, .int (iI 0))] rfl ?_
  exact same_loop hn hm hG hgg ha hb h hr hc (c + 1) 0 _ (by omega) (by omega) rfl (fun j hj => by omega)
theorem countOf_loop {K : XK} {l : Launch} {D : va_G} {dN : ClassId} {ad : Nat → Nat} {li kn : Int} {gg lp ll : Nat → Int} {G : Nat → Nat} {n m : Nat} {a c : Nat} (hn : n ≤ 24) (hm : m ≤ 12) (hG : ∀ i, G i < 4) (hgg : ∀ i, vd n m i → gg i = (G i : Int)) (ha : ∀ j, j < c → vd n m (a + j)) (hc0 : 0 < c) (hc : c ≤ 36) (ha2 : a ≤ 36) (h : xok K (JM l D dN) ({ frames := 1, cells := 0, slots := 0, locals := 24 }) cX1_countOf RX1 5)
    (hx : ∀ (y : Nat) (x : Int), y = oc G n c (a + c) → xw K (wM ad dN (n : Int) (m : Int) li kn gg lp ll) 36 [(0, .ref (ad 0)), (1, .int (iI (a : Int))), (2, .int (iI (c : Int))), (3, .int (iI (y : Int))), (4, .int (iI x))] []) :
    ∀ (f q y : Nat) (x z : Int), n + 1 < q + f → q ≤ n + 1 → x = (q : Int) → z = (y : Int) → y = cP (fun t => eqv G c (t + c) (a + c)) q → (q = 0 ∨ q + c ≤ n + 1) → xw K (wM ad dN (n : Int) (m : Int) li kn gg lp ll) 5 [(0, .ref (ad 0)), (1, .int (iI (a : Int))), (2, .int (iI (c : Int))), (3, .int (iI z)), (4, .int (iI x))] [] := by
  intro f
  induction f with
  | zero => intro q y x z h1 h2; omega
  | succ f ih =>
    intro q y x z hf hq hxx hzz hy hqc
    subst hxx; subst hzz
    refine x_iload h dX1_countOf_5 4 rfl ?_
    refine x_iload_n h dX1_countOf_7 2 rfl ?_
    refine x_iadd h dX1_countOf_8 ?_
    refine x_aload_n h dX1_countOf_9 0 rfl ?_
    refine xM_tl h dX1_countOf_10 ?_
    refine x_icmp_gt h 36 dX1_countOf_13 (by decide) (by omega) (by omega) (fun c_13 => ?_) (fun c_13 => ?_)
    · refine hx y _ ?_
      rw [hy]
      exact oc_q hc0 (by omega)
    · refine x_aload_n h dX1_countOf_16 0 rfl ?_
      refine x_iload_n h dX1_countOf_17 1 rfl ?_
      refine x_iload h dX1_countOf_18 4 rfl ?_
      refine x_iload_n h dX1_countOf_20 2 rfl ?_
      refine xM_calli h (cM_same l D dN ad li kn gg lp ll G n m a q c hn hm hG hgg ha (fun j hj => Or.inl (by omega)) hc) 3 (lw_V q222 q224 qs11 q20 q225) (by decide +kernel) ⟨Nat.le_of_ble_eq_true rfl, Nat.le_of_ble_eq_true rfl⟩ rfl rfl (Nat.le_of_ble_eq_true rfl) dX1_countOf_21 (fun r_21 ws_ hp_21 => ?_)
      obtain ⟨rfl, hs⟩ := hp_21
      rcases hs with ⟨rfl, hs⟩ | ⟨rfl, hs⟩
      · refine x_if_eq h 30 dX1_countOf_24 (by decide) (by omega) (fun c_24 => ?_) (fun c_24 => ?_)
        · omega
        · refine x_iinc h dX1_countOf_27 3 rfl (by decide) [1, 2, 3, 0, 4] [(0, .ref (ad 0)), (1, .int (iI (a : Int))), (2, .int (iI (c : Int))), (3, .int (iI ((y : Int) + 1))), (4, .int (iI (q : Int)))] rfl ?_
          refine x_iinc h dX1_countOf_30 4 rfl (by decide) [1, 2, 3, 4, 0] [(0, .ref (ad 0)), (1, .int (iI (a : Int))), (2, .int (iI (c : Int))), (3, .int (iI ((y : Int) + 1))), (4, .int (iI ((q : Int) + 1)))] rfl ?_
          refine x_goto h 5 dX1_countOf_33 (by decide) ?_
          refine ih (q + 1) (y + 1) _ _ (by omega) (by omega) (by omega) (by omega) ?_ (Or.inr (by omega))
          rw [hy, cP_t (P := fun t => eqv G c (t + c) (a + c)) hs]
      · refine x_if_eq h 30 dX1_countOf_24 (by decide) (by omega) (fun c_24 => ?_) (fun c_24 => ?_)
        · refine x_iinc h dX1_countOf_30 4 rfl (by decide) [1, 2, 3, 4, 0] [(0, .ref (ad 0)), (1, .int (iI (a : Int))), (2, .int (iI (c : Int))), (3, .int (iI (y : Int))), (4, .int (iI ((q : Int) + 1)))] rfl ?_
          refine x_goto h 5 dX1_countOf_33 (by decide) ?_
          refine ih (q + 1) y _ _ (by omega) (by omega) (by omega) rfl ?_ (Or.inr (by omega))
          rw [hy, cP_f (P := fun t => eqv G c (t + c) (a + c)) hs]
        · omega
theorem cM_countOf (l : Launch) (D : va_G) (dN : ClassId) (ad : Nat → Nat) (li kn : Int) (gg lp ll : Nat → Int) (G : Nat → Nat) (n m : Nat) (a c : Nat) (hn : n ≤ 24) (hm : m ≤ 12) (hG : ∀ i, G i < 4) (hgg : ∀ i, vd n m i → gg i = (G i : Int)) (ha : ∀ j, j < c → vd n m (a + j)) (hc0 : 0 < c) (hc : c ≤ 36) (ha2 : a ≤ 36) : xmi (JM l D dN) yX1_countOf cX1_countOf 5 .int 1 24 [.ref (ad 0), .int (iI (a : Int)), .int (iI (c : Int))] (wM ad dN (n : Int) (m : Int) li kn gg lp ll) (fun r ws' => ws' = wM ad dN (n : Int) (m : Int) li kn gg lp ll ∧ r = iI (oc G n c (a + c) : Int)) := by
  refine xmi_of (by decide) (Nat.le_of_ble_eq_true rfl) (fun K h hr => ?_)
  show xw K (wM ad dN (n : Int) (m : Int) li kn gg lp ll) 0 [(0, .ref (ad 0)), (1, .int (iI (a : Int))), (2, .int (iI (c : Int)))] []
  refine x_iconst h dX1_countOf_0 ?_
  refine x_istore_n h dX1_countOf_1 (by decide) [1, 2, 3, 0] [(0, .ref (ad 0)), (1, .int (iI (a : Int))), (2, .int (iI (c : Int))), (3, .int (iI 0))] rfl ?_
  refine x_iconst h dX1_countOf_2 ?_
  refine x_istore h dX1_countOf_3 (by decide) [1, 2, 3, 4, 0] [(0, .ref (ad 0)), (1, .int (iI (a : Int))), (2, .int (iI (c : Int))), (3, .int (iI 0)), (4, .int (iI 0))] rfl ?_
  refine countOf_loop hn hm hG hgg ha hc0 hc ha2 h (fun y x hy => ?_) (n + 2) 0 0 _ _ (by omega) (by omega) rfl rfl rfl (Or.inl rfl)
  refine x_iload_n h dX1_countOf_36 3 rfl ?_
  exact x_ireturn h hr dX1_countOf_37 ⟨rfl, by rw [hy]⟩
theorem firstOf_loop {K : XK} {l : Launch} {D : va_G} {dN : ClassId} {ad : Nat → Nat} {li kn : Int} {gg lp ll : Nat → Int} {G : Nat → Nat} {n m : Nat} {a c : Nat} (hn : n ≤ 24) (hm : m ≤ 12) (hG : ∀ i, G i < 4) (hgg : ∀ i, vd n m i → gg i = (G i : Int)) (ha : ∀ j, j < c → vd n m (a + j)) (hc0 : 0 < c) (hc : c ≤ 36) (ha2 : a ≤ 36) (h : xok K (JM l D dN) ({ frames := 1, cells := 0, slots := 0, locals := 24 }) cX1_firstOf RX1 4) (hr : xri K .int (fun r ws' => ws' = wM ad dN (n : Int) (m : Int) li kn gg lp ll ∧ ((∃ q, q + c ≤ n ∧ eqv G c (q + c) (a + c) ∧ (∀ q', q' < q → ¬ eqv G c (q' + c) (a + c)) ∧ r = iI (q : Int)) ∨ ((∀ q, q + c ≤ n → ¬ eqv G c (q + c) (a + c)) ∧ r = iI (-3))))) :
    ∀ (f q : Nat) (x : Int), n + 1 < q + f → q ≤ n + 1 → x = (q : Int) → (∀ q', q' < q → ¬ eqv G c (q' + c) (a + c)) → xw K (wM ad dN (n : Int) (m : Int) li kn gg lp ll) 2 [(0, .ref (ad 0)), (1, .int (iI (a : Int))), (2, .int (iI (c : Int))), (3, .int (iI x))] [] := by
  intro f
  induction f with
  | zero => intro q x h1 h2; omega
  | succ f ih =>
    intro q x hf hq hxx hno
    subst hxx
    refine x_iload_n h dX1_firstOf_2 3 rfl ?_
    refine x_iload_n h dX1_firstOf_3 2 rfl ?_
    refine x_iadd h dX1_firstOf_4 ?_
    refine x_aload_n h dX1_firstOf_5 0 rfl ?_
    refine xM_tl h dX1_firstOf_6 ?_
    refine x_icmp_gt h 30 dX1_firstOf_9 (by decide) (by omega) (by omega) (fun c_9 => ?_) (fun c_9 => ?_)
    · refine x_bipush h dX1_firstOf_30 (by decide) ?_
      refine x_ireturn h hr dX1_firstOf_32 ?_
      exact ⟨rfl, Or.inr ⟨fun q' hq' => hno q' (by omega), rfl⟩⟩
    · refine x_aload_n h dX1_firstOf_12 0 rfl ?_
      refine x_iload_n h dX1_firstOf_13 1 rfl ?_
      refine x_iload_n h dX1_firstOf_14 3 rfl ?_
      refine x_iload_n h dX1_firstOf_15 2 rfl ?_
      refine xM_calli h (cM_same l D dN ad li kn gg lp ll G n m a q c hn hm hG hgg ha (fun j hj => Or.inl (by omega)) hc) 3 (lw_V q222 q224 qs11 q20 q225) (by decide +kernel) ⟨Nat.le_of_ble_eq_true rfl, Nat.le_of_ble_eq_true rfl⟩ rfl rfl (Nat.le_of_ble_eq_true rfl) dX1_firstOf_16 (fun r_16 ws_ hp_16 => ?_)
      obtain ⟨rfl, hs⟩ := hp_16
      rcases hs with ⟨rfl, hs⟩ | ⟨rfl, hs⟩
      · refine x_if_eq h 24 dX1_firstOf_19 (by decide) (by omega) (fun c_19 => ?_) (fun c_19 => ?_)
        · omega
        · refine x_iload_n h dX1_firstOf_22 3 rfl ?_
          refine x_ireturn h hr dX1_firstOf_23 ?_
          exact ⟨rfl, Or.inl ⟨q, by omega, hs, hno, rfl⟩⟩
      · refine x_if_eq h 24 dX1_firstOf_19 (by decide) (by omega) (fun c_19 => ?_) (fun c_19 => ?_)
        · refine x_iinc h dX1_firstOf_24 3 rfl (by decide) [1, 2, 3, 0] [(0, .ref (ad 0)), (1, .int (iI (a : Int))), (2, .int (iI (c : Int))), (3, .int (iI ((q : Int) + 1)))] rfl ?_
          refine x_goto h 2 dX1_firstOf_27 (by decide) ?_
          refine ih (q + 1) _ (by omega) (by omega) (by omega) (fun q' hq' => ?_)
          by_cases hqq : q' = q
          · subst hqq; exact hs
          · exact hno q' (by omega)
        · omega
theorem cM_firstOf (l : Launch) (D : va_G) (dN : ClassId) (ad : Nat → Nat) (li kn : Int) (gg lp ll : Nat → Int) (G : Nat → Nat) (n m : Nat) (a c : Nat) (hn : n ≤ 24) (hm : m ≤ 12) (hG : ∀ i, G i < 4) (hgg : ∀ i, vd n m i → gg i = (G i : Int)) (ha : ∀ j, j < c → vd n m (a + j)) (hc0 : 0 < c) (hc : c ≤ 36) (ha2 : a ≤ 36) : xmi (JM l D dN) yX1_firstOf cX1_firstOf 4 .int 1 24 [.ref (ad 0), .int (iI (a : Int)), .int (iI (c : Int))] (wM ad dN (n : Int) (m : Int) li kn gg lp ll) (fun r ws' => ws' = wM ad dN (n : Int) (m : Int) li kn gg lp ll ∧ ((∃ q, q + c ≤ n ∧ eqv G c (q + c) (a + c) ∧ (∀ q', q' < q → ¬ eqv G c (q' + c) (a + c)) ∧ r = iI (q : Int)) ∨ ((∀ q, q + c ≤ n → ¬ eqv G c (q + c) (a + c)) ∧ r = iI (-3)))) := by
  refine xmi_of (by decide) (Nat.le_of_ble_eq_true rfl) (fun K h hr => ?_)
  show xw K (wM ad dN (n : Int) (m : Int) li kn gg lp ll) 0 [(0, .ref (ad 0)), (1, .int (iI (a : Int))), (2, .int (iI (c : Int)))] []
  refine x_iconst h dX1_firstOf_0 ?_
  refine x_istore_n h dX1_firstOf_1 (by decide) [1, 2, 3, 0] [(0, .ref (ad 0)), (1, .int (iI (a : Int))), (2, .int (iI (c : Int))), (3, .int (iI 0))] rfl ?_
  exact firstOf_loop hn hm hG hgg ha hc0 hc ha2 h hr (n + 2) 0 _ (by omega) (by omega) rfl (fun q' hq' => by omega)
theorem cM_count (l : Launch) (D : va_G) (dN : ClassId) (ad : Nat → Nat) (li kn : Int) (gg lp ll : Nat → Int) (G : Nat → Nat) (n m : Nat) (hn : n ≤ 24) (hm : m ≤ 12) (hG : ∀ i, G i < 4) (hg1 : ∀ i, i < n → gg i = (G i : Int)) (hg2 : ∀ i, i < m → gg (24 + i) = (G (24 + i) : Int)) (hkn : Kn G n li kn lp ll)  : xmi (JM l D dN) yX1_count cX1_count 1 .int 2 48 [.ref (ad 0)] (wM ad dN (n : Int) (m : Int) li kn gg lp ll) (fun r ws' => MI ad dN G n m ws' ∧ ((m = 0 ∧ r = iI (-3)) ∨ (0 < m ∧ r = iI (oc G n m (24 + m) : Int)))) := by
  have hgg : ∀ i, vd n m i → gg i = (G i : Int) := fun i hi => by
    rcases hi with q | q
    · exact hg1 i q
    · have := hg2 (i - 24) (by omega)
      rw [show 24 + (i - 24) = i by omega] at this
      exact this
  refine xmi_of (by decide) (Nat.le_of_ble_eq_true rfl) (fun K h hr => ?_)
  show xw K (wM ad dN (n : Int) (m : Int) li kn gg lp ll) 0 [(0, .ref (ad 0))] []
  refine x_aload_n h dX1_count_0 0 rfl ?_
  refine xM_pl h dX1_count_1 ?_
  refine x_if_ne h 12 dX1_count_4 (by decide) (by omega) (fun c_4 => ?_) (fun c_4 => ?_)
  · refine x_aload_n h dX1_count_12 0 rfl ?_
    refine x_bipush h dX1_count_13 (by decide) ?_
    refine x_aload_n h dX1_count_15 0 rfl ?_
    refine xM_pl h dX1_count_16 ?_
    refine xM_calli h (cM_countOf l D dN ad li kn gg lp ll G n m 24 m hn hm hG hgg (fun j hj => Or.inr (by omega)) (by omega) (by omega) (by omega)) 2 (lw_V q218 q220 qs10 q20 q221) (by decide +kernel) ⟨Nat.le_of_ble_eq_true rfl, Nat.le_of_ble_eq_true rfl⟩ rfl rfl (Nat.le_of_ble_eq_true rfl) dX1_count_19 (fun r_19 ws_ hp_19 => ?_)
    obtain ⟨rfl, rfl⟩ := hp_19
    refine x_ireturn h hr dX1_count_22 ?_
    first | exact ⟨⟨_, _, _, _, _, hg1, hg2, hkn, rfl⟩, Or.inl ⟨by omega, rfl⟩⟩ | exact ⟨⟨_, _, _, _, _, hg1, hg2, hkn, rfl⟩, Or.inr ⟨by omega, rfl⟩⟩
  · refine x_bipush h dX1_count_7 (by decide) ?_
    refine x_goto h 22 dX1_count_9 (by decide) ?_
    refine x_ireturn h hr dX1_count_22 ?_
    first | exact ⟨⟨_, _, _, _, _, hg1, hg2, hkn, rfl⟩, Or.inl ⟨by omega, rfl⟩⟩ | exact ⟨⟨_, _, _, _, _, hg1, hg2, hkn, rfl⟩, Or.inr ⟨by omega, rfl⟩⟩
theorem cM_place (l : Launch) (D : va_G) (dN : ClassId) (ad : Nat → Nat) (li kn : Int) (gg lp ll : Nat → Int) (G : Nat → Nat) (n m : Nat) (hn : n ≤ 24) (hm : m ≤ 12) (hG : ∀ i, G i < 4) (hg1 : ∀ i, i < n → gg i = (G i : Int)) (hg2 : ∀ i, i < m → gg (24 + i) = (G (24 + i) : Int)) (hkn : Kn G n li kn lp ll)  : xmi (JM l D dN) yX1_place cX1_place 1 .int 2 47 [.ref (ad 0)] (wM ad dN (n : Int) (m : Int) li kn gg lp ll) (fun r ws' => MI ad dN G n m ws' ∧ ((m = 0 ∧ r = iI (-3)) ∨ (0 < m ∧ ∃ z, r = iI z ∧ IsPlace G n m z))) := by
  have hgg : ∀ i, vd n m i → gg i = (G i : Int) := fun i hi => by
    rcases hi with q | q
    · exact hg1 i q
    · have := hg2 (i - 24) (by omega)
      rw [show 24 + (i - 24) = i by omega] at this
      exact this
  refine xmi_of (by decide) (Nat.le_of_ble_eq_true rfl) (fun K h hr => ?_)
  show xw K (wM ad dN (n : Int) (m : Int) li kn gg lp ll) 0 [(0, .ref (ad 0))] []
  refine x_aload_n h dX1_place_0 0 rfl ?_
  refine xM_pl h dX1_place_1 ?_
  refine x_if_ne h 12 dX1_place_4 (by decide) (by omega) (fun c_4 => ?_) (fun c_4 => ?_)
  · refine x_aload_n h dX1_place_12 0 rfl ?_
    refine x_bipush h dX1_place_13 (by decide) ?_
    refine x_aload_n h dX1_place_15 0 rfl ?_
    refine xM_pl h dX1_place_16 ?_
    refine xM_calli h (cM_firstOf l D dN ad li kn gg lp ll G n m 24 m hn hm hG hgg (fun j hj => Or.inr (by omega)) (by omega) (by omega) (by omega)) 2 (lw_V q230 q232 qs12 q20 q233) (by decide +kernel) ⟨Nat.le_of_ble_eq_true rfl, Nat.le_of_ble_eq_true rfl⟩ rfl rfl (Nat.le_of_ble_eq_true rfl) dX1_place_19 (fun r_19 ws_ hp_19 => ?_)
    obtain ⟨rfl, hfo⟩ := hp_19
    refine x_ireturn h hr dX1_place_22 ?_
    refine ⟨⟨_, _, _, _, _, hg1, hg2, hkn, rfl⟩, Or.inr ⟨by omega, ?_⟩⟩
    rcases hfo with ⟨q, h1, h2, h3, rfl⟩ | ⟨h1, rfl⟩
    · refine ⟨_, rfl, Or.inr ⟨q + m, h1, h2, fun e' he' z => ?_, by omega⟩⟩
      have := z.1
      exact h3 (e' - m) (by omega) (by rw [show e' - m + m = e' by omega]; exact z)
    · refine ⟨_, rfl, Or.inl ⟨fun e' he' z => ?_, rfl⟩⟩
      have := z.1
      exact h1 (e' - m) (by omega) (by rw [show e' - m + m = e' by omega]; exact z)
  · refine x_bipush h dX1_place_7 (by decide) ?_
    refine x_goto h 22 dX1_place_9 (by decide) ?_
    exact x_ireturn h hr dX1_place_22 ⟨⟨_, _, _, _, _, hg1, hg2, hkn, rfl⟩, Or.inl ⟨by omega, rfl⟩⟩
theorem munique_loop {K : XK} {l : Launch} {D : va_G} {dN : ClassId} {ad : Nat → Nat} {li kn : Int} {gg lp ll : Nat → Int} {G : Nat → Nat} {n m : Nat} {p : Nat} (hn : n ≤ 24) (hm : m ≤ 12) (hG : ∀ i, G i < 4) (hgg : ∀ i, vd n m i → gg i = (G i : Int)) (hp0 : p < n) (h : xok K (JM l D dN) ({ frames := 2, cells := 0, slots := 0, locals := 48 }) cX1_unique RX1 3) {post : Int32 → va_W → Prop} (hr : xri K .int post)
    (hp : ∀ z, IsUniq G n p z → post (iI z) (wM ad dN (n : Int) (m : Int) li kn gg lp ll)) :
    ∀ (f c : Nat) (x : Int), n + 1 < p + c + f → 0 < c → p + c ≤ n + 1 → x = (c : Int) → (∀ c', 0 < c' → c' < c → oc G n c' (p + c') ≠ 1) → xw K (wM ad dN (n : Int) (m : Int) li kn gg lp ll) 17 [(0, .ref (ad 0)), (1, .int (iI (p : Int))), (2, .int (iI x))] [] := by
  intro f
  induction f with
  | zero => intro c x h1 h2 h3; omega
  | succ f ih =>
    intro c x hf hc0 hc hxx hno
    subst hxx
    have hocl := oc_le G n c (p + c)
    refine x_iload_n h dX1_unique_17 1 rfl ?_
    refine x_iload_n h dX1_unique_18 2 rfl ?_
    refine x_iadd h dX1_unique_19 ?_
    refine x_aload_n h dX1_unique_20 0 rfl ?_
    refine xM_tl h dX1_unique_21 ?_
    refine x_icmp_gt h 45 dX1_unique_24 (by decide) (by omega) (by omega) (fun c_24 => ?_) (fun c_24 => ?_)
    · refine x_bipush h dX1_unique_45 (by decide) ?_
      refine x_ireturn h hr dX1_unique_47 ?_
      exact hp _ (Or.inr ⟨fun c' h1 h2 => hno c' h1 (by omega), rfl⟩)
    · refine x_aload_n h dX1_unique_27 0 rfl ?_
      refine x_iload_n h dX1_unique_28 1 rfl ?_
      refine x_iload_n h dX1_unique_29 2 rfl ?_
      refine xM_calli h (cM_countOf l D dN ad li kn gg lp ll G n m p c hn hm hG hgg (fun j hj => Or.inl (by omega)) (by omega) (by omega) (by omega)) 2 (lw_V q218 q220 qs10 q20 q221) (by decide +kernel) ⟨Nat.le_of_ble_eq_true rfl, Nat.le_of_ble_eq_true rfl⟩ rfl rfl (Nat.le_of_ble_eq_true rfl) dX1_unique_30 (fun r_30 ws_ hp_30 => ?_)
      obtain ⟨rfl, rfl⟩ := hp_30
      refine x_iconst h dX1_unique_33 ?_
      refine x_icmp_ne h 39 dX1_unique_34 (by decide) (by omega) (by omega) (fun c_34 => ?_) (fun c_34 => ?_)
      · refine x_iinc h dX1_unique_39 2 rfl (by decide) [1, 2, 0] [(0, .ref (ad 0)), (1, .int (iI (p : Int))), (2, .int (iI ((c : Int) + 1)))] rfl ?_
        refine x_goto h 17 dX1_unique_42 (by decide) ?_
        refine ih (c + 1) _ (by omega) (by omega) (by omega) (by omega) (fun c' h1 h2 => ?_)
        by_cases hcc : c' = c
        · subst hcc; omega
        · exact hno c' h1 (by omega)
      · refine x_iload_n h dX1_unique_37 2 rfl ?_
        refine x_ireturn h hr dX1_unique_38 ?_
        exact hp _ (Or.inl ⟨c, hc0, by omega, by omega, hno, rfl⟩)
theorem cM_unique (l : Launch) (D : va_G) (dN : ClassId) (ad : Nat → Nat) (li kn : Int) (gg lp ll : Nat → Int) (G : Nat → Nat) (n m : Nat) (hn : n ≤ 24) (hm : m ≤ 12) (hG : ∀ i, G i < 4) (hg1 : ∀ i, i < n → gg i = (G i : Int)) (hg2 : ∀ i, i < m → gg (24 + i) = (G (24 + i) : Int)) (hkn : Kn G n li kn lp ll) (z : Int) (hz : rng z) : xmi (JM l D dN) yX1_unique cX1_unique 3 .int 2 48 [.ref (ad 0), .int (iI z)] (wM ad dN (n : Int) (m : Int) li kn gg lp ll) (fun r ws' => MI ad dN G n m ws' ∧ (((z < 0 ∨ (n : Int) ≤ z) ∧ r = iI (-2)) ∨ (∃ p : Nat, z = (p : Int) ∧ p < n ∧ ∃ y, r = iI y ∧ IsUniq G n p y))) := by
  have hgg : ∀ i, vd n m i → gg i = (G i : Int) := fun i hi => by
    rcases hi with q | q
    · exact hg1 i q
    · have := hg2 (i - 24) (by omega)
      rw [show 24 + (i - 24) = i by omega] at this
      exact this
  refine xmi_of (by decide) (Nat.le_of_ble_eq_true rfl) (fun K h hr => ?_)
  show xw K (wM ad dN (n : Int) (m : Int) li kn gg lp ll) 0 [(0, .ref (ad 0)), (1, .int (iI z))] []
  refine x_iload_n h dX1_unique_0 1 rfl ?_
  refine x_if_lt h 12 dX1_unique_1 (by decide) (by omega) (fun c_1 => ?_) (fun c_1 => ?_)
  · refine x_bipush h dX1_unique_12 (by decide) ?_
    refine x_ireturn h hr dX1_unique_14 ?_
    exact ⟨⟨_, _, _, _, _, hg1, hg2, hkn, rfl⟩, Or.inl ⟨by omega, rfl⟩⟩
  · refine x_iload_n h dX1_unique_4 1 rfl ?_
    refine x_aload_n h dX1_unique_5 0 rfl ?_
    refine xM_tl h dX1_unique_6 ?_
    refine x_icmp_lt h 15 dX1_unique_9 (by decide) (by omega) (by omega) (fun c_9 => ?_) (fun c_9 => ?_)
    · obtain ⟨p, rfl⟩ : ∃ p : Nat, z = (p : Int) := ⟨z.toNat, by omega⟩
      refine x_iconst h dX1_unique_15 ?_
      refine x_istore_n h dX1_unique_16 (by decide) [1, 2, 0] [(0, .ref (ad 0)), (1, .int (iI (p : Int))), (2, .int (iI 1))] rfl ?_
      exact munique_loop hn hm hG hgg (by omega) h hr (fun z hz => ⟨⟨_, _, _, _, _, hg1, hg2, hkn, rfl⟩, Or.inr ⟨p, rfl, by omega, z, rfl, hz⟩⟩) (n + 1) 1 _ (by omega) (by omega) (by omega) rfl (fun c' h1 h2 => by omega)
    · refine x_bipush h dX1_unique_12 (by decide) ?_
      refine x_ireturn h hr dX1_unique_14 ?_
      exact ⟨⟨_, _, _, _, _, hg1, hg2, hkn, rfl⟩, Or.inl ⟨by omega, rfl⟩⟩
theorem mcommon_inner {K : XK} {l : Launch} {D : va_G} {dN : ClassId} {ad : Nat → Nat} {li kn : Int} {gg lp ll : Nat → Int} {G : Nat → Nat} {n m : Nat} {p : Nat} (hn : n ≤ 24) (hm : m ≤ 12) (hG : ∀ i, G i < 4) (hgg : ∀ i, vd n m i → gg i = (G i : Int)) (hp0 : p < m) (h : xok K (JM l D dN) ({ frames := 2, cells := 0, slots := 0, locals := 48 }) cX1_common RX1 4)
    (hx : ∀ (v : Nat) (x : Int), v ≤ m → (v = 0 ∨ ∃ p' e, 0 < v ∧ p' + v ≤ m ∧ e ≤ n ∧ eqv G v e (24 + p' + v)) → (∀ p' c' e, p' < (p + 1) → 0 < c' → p' + c' ≤ m → e ≤ n → eqv G c' e (24 + p' + c') → c' ≤ v) → xw K (wM ad dN (n : Int) (m : Int) li kn gg lp ll) 46 [(0, .ref (ad 0)), (1, .int (iI (v : Int))), (2, .int (iI (p : Int))), (3, .int (iI x))] []) :
    ∀ (f c v : Nat) (x y : Int), m + 1 < p + c + f → 0 < c → x = (c : Int) → y = (v : Int) → v ≤ m → c ≤ m + 1 → v < c → (v = 0 ∨ ∃ p' e, 0 < v ∧ p' + v ≤ m ∧ e ≤ n ∧ eqv G v e (24 + p' + v)) → (∀ p' c' e, p' < p → 0 < c' → p' + c' ≤ m → e ≤ n → eqv G c' e (24 + p' + c') → c' ≤ v) → (∀ c' e, 0 < c' → c' < c → p + c' ≤ m → e ≤ n → eqv G c' e (24 + p + c') → c' ≤ v) → xw K (wM ad dN (n : Int) (m : Int) li kn gg lp ll) 16 [(0, .ref (ad 0)), (1, .int (iI y)), (2, .int (iI (p : Int))), (3, .int (iI x))] [] := by
  intro f
  induction f with
  | zero => intro c v x y h1 h2 hxx hyy hv hcm hvc a1 a2 a3
            subst hxx; subst hyy
            refine x_iload_n h dX1_common_16 2 rfl ?_
            refine x_iload_n h dX1_common_17 3 rfl ?_
            refine x_iadd h dX1_common_18 ?_
            refine x_aload_n h dX1_common_19 0 rfl ?_
            refine xM_pl h dX1_common_20 ?_
            refine x_icmp_gt h 46 dX1_common_23 (by decide) (by omega) (by omega) (fun c_23 => ?_) (fun c_23 => ?_)
            · refine hx v _ hv a1 (fun p' c' e q1 q2 q3 q4 q5 => ?_)
              by_cases hpp : p' = p
              · subst hpp; exact a3 c' e q2 (by omega) q3 q4 q5
              · exact a2 p' c' e (by omega) q2 q3 q4 q5
            · omega
  | succ f ih =>
    intro c v x y h1 h2 hxx hyy hv hcm hvc a1 a2 a3
    subst hxx; subst hyy
    have hocl := oc_le G n c (24 + p + c)
    refine x_iload_n h dX1_common_16 2 rfl ?_
    refine x_iload_n h dX1_common_17 3 rfl ?_
    refine x_iadd h dX1_common_18 ?_
    refine x_aload_n h dX1_common_19 0 rfl ?_
    refine xM_pl h dX1_common_20 ?_
    refine x_icmp_gt h 46 dX1_common_23 (by decide) (by omega) (by omega) (fun c_23 => ?_) (fun c_23 => ?_)
    · refine hx v _ hv a1 (fun p' c' e q1 q2 q3 q4 q5 => ?_)
      by_cases hpp : p' = p
      · subst hpp; exact a3 c' e q2 (by omega) q3 q4 q5
      · exact a2 p' c' e (by omega) q2 q3 q4 q5
    · refine x_aload_n h dX1_common_26 0 rfl ?_
      refine x_bipush h dX1_common_27 (by decide) ?_
      refine x_iload_n h dX1_common_29 2 rfl ?_
      refine x_iadd h dX1_common_30 ?_
      refine x_iload_n h dX1_common_31 3 rfl ?_
      refine xM_calli h (cM_countOf l D dN ad li kn gg lp ll G n m (24 + p) c hn hm hG hgg (fun j hj => Or.inr (by omega)) (by omega) (by omega) (by omega)) 2 (lw_V q218 q220 qs10 q20 q221) (by decide +kernel) ⟨Nat.le_of_ble_eq_true rfl, Nat.le_of_ble_eq_true rfl⟩ rfl rfl (Nat.le_of_ble_eq_true rfl) dX1_common_32 (fun r_32 ws_ hp_32 => ?_)
      obtain ⟨rfl, rfl⟩ := hp_32
      refine x_if_le h 40 dX1_common_35 (by decide) (by omega) (fun c_35 => ?_) (fun c_35 => ?_)
      · refine x_iinc h dX1_common_40 3 rfl (by decide) [1, 2, 3, 0] [(0, .ref (ad 0)), (1, .int (iI (v : Int))), (2, .int (iI (p : Int))), (3, .int (iI ((c : Int) + 1)))] rfl ?_
        refine x_goto h 16 dX1_common_43 (by decide) ?_
        refine ih (c + 1) v _ _ (by omega) (by omega) (by omega) rfl hv (by omega) (by omega) a1 a2 (fun c' e q1 q2 q3 q4 q5 => ?_)
        by_cases hcc : c' = c
        · subst hcc
          have := (oc_pos (G := G) (n := n) (e := 24 + p + c') h2).mpr ⟨e, q4, q5⟩
          omega
        · exact a3 c' e q1 (by omega) q3 q4 q5
      · refine x_iload_n h dX1_common_38 3 rfl ?_
        refine x_istore_n h dX1_common_39 (by decide) [1, 0, 2, 3] [(0, .ref (ad 0)), (1, .int (iI (c : Int))), (2, .int (iI (p : Int))), (3, .int (iI (c : Int)))] rfl ?_
        refine x_iinc h dX1_common_40 3 rfl (by decide) [1, 2, 3, 0] [(0, .ref (ad 0)), (1, .int (iI (c : Int))), (2, .int (iI (p : Int))), (3, .int (iI ((c : Int) + 1)))] rfl ?_
        refine x_goto h 16 dX1_common_43 (by decide) ?_
        obtain ⟨e, he1, he2⟩ := (oc_pos (G := G) (n := n) (e := 24 + p + c) h2).mp (by omega)
        exact ih (c + 1) c _ _ (by omega) (by omega) (by omega) rfl (by omega) (by omega) (by omega) (Or.inr ⟨p, e, h2, by omega, he1, he2⟩) (fun p' c' e q1 q2 q3 q4 q5 => by have := a2 p' c' e q1 q2 q3 q4 q5; omega) (fun c' e q1 q2 q3 q4 q5 => by omega)
theorem mcommon_outer {K : XK} {l : Launch} {D : va_G} {dN : ClassId} {ad : Nat → Nat} {li kn : Int} {gg lp ll : Nat → Int} {G : Nat → Nat} {n m : Nat} (hn : n ≤ 24) (hm : m ≤ 12) (hG : ∀ i, G i < 4) (hgg : ∀ i, vd n m i → gg i = (G i : Int)) (h : xok K (JM l D dN) ({ frames := 2, cells := 0, slots := 0, locals := 48 }) cX1_common RX1 4)
    (hx : ∀ (v : Nat) (x : Int), IsCommon G n m v → xw K (wM ad dN (n : Int) (m : Int) li kn gg lp ll) 52 [(0, .ref (ad 0)), (1, .int (iI (v : Int))), (2, .int (iI x))] []) :
    ∀ (f p v : Nat) (x y : Int), m < p + f → p ≤ m → x = (p : Int) → y = (v : Int) → v ≤ m → (v = 0 ∨ ∃ p' e, 0 < v ∧ p' + v ≤ m ∧ e ≤ n ∧ eqv G v e (24 + p' + v)) → (∀ p' c' e, p' < p → 0 < c' → p' + c' ≤ m → e ≤ n → eqv G c' e (24 + p' + c') → c' ≤ v) → xw K (wM ad dN (n : Int) (m : Int) li kn gg lp ll) 4 [(0, .ref (ad 0)), (1, .int (iI y)), (2, .int (iI x))] [] := by
  intro f
  induction f with
  | zero => intro p v x y h1 h2; omega
  | succ f ih =>
    intro p v x y hf hp hxx hyy hv a1 a2
    subst hxx; subst hyy
    refine x_iload_n h dX1_common_4 2 rfl ?_
    refine x_aload_n h dX1_common_5 0 rfl ?_
    refine xM_pl h dX1_common_6 ?_
    refine x_icmp_ge h 52 dX1_common_9 (by decide) (by omega) (by omega) (fun c_9 => ?_) (fun c_9 => ?_)
    · refine hx v _ ⟨?_, fun j c e q1 q2 q3 q4 q5 => ?_⟩
      · rcases a1 with q | ⟨p', e, q1, q2, q3, q4⟩
        · exact Or.inl q
        · exact Or.inr ⟨p' + v, e, q1, by omega, q2, q3, by rw [← Nat.add_assoc]; exact q4⟩
      · exact a2 (j - c) c e (by omega) q1 (by omega) q4 (by rw [show 24 + (j - c) + c = 24 + j by omega]; exact q5)
    · refine x_iload_n h dX1_common_12 1 rfl ?_
      refine x_iconst h dX1_common_13 ?_
      refine x_iadd h dX1_common_14 ?_
      refine x_istore_n h dX1_common_15 (by decide) [1, 2, 3, 0] [(0, .ref (ad 0)), (1, .int (iI (v : Int))), (2, .int (iI (p : Int))), (3, .int (iI ((v : Int) + 1)))] rfl ?_
      refine mcommon_inner hn hm hG hgg (by omega) h (fun v x hv a1 a2 => ?_) (m + 1) (v + 1) v _ _ (by omega) (by omega) (by omega) rfl hv (by omega) (by omega) a1 a2 (fun c' e q1 q2 q3 q4 q5 => by omega)
      refine x_iinc h dX1_common_46 2 rfl (by decide) [1, 2, 0, 3] [(0, .ref (ad 0)), (1, .int (iI (v : Int))), (2, .int (iI ((p : Int) + 1))), (3, .int (iI x))] rfl ?_
      refine x_goto h 4 dX1_common_49 (by decide) ?_
      refine x_sub [0, 1, 2] [(0, .ref (ad 0)), (1, .int (iI (v : Int))), (2, .int (iI ((p : Int) + 1)))] rfl ?_
      exact ih (p + 1) v _ _ (by omega) (by omega) (by omega) rfl hv a1 a2
theorem cM_common (l : Launch) (D : va_G) (dN : ClassId) (ad : Nat → Nat) (li kn : Int) (gg lp ll : Nat → Int) (G : Nat → Nat) (n m : Nat) (hn : n ≤ 24) (hm : m ≤ 12) (hG : ∀ i, G i < 4) (hg1 : ∀ i, i < n → gg i = (G i : Int)) (hg2 : ∀ i, i < m → gg (24 + i) = (G (24 + i) : Int)) (hkn : Kn G n li kn lp ll)  : xmi (JM l D dN) yX1_common cX1_common 4 .int 2 48 [.ref (ad 0)] (wM ad dN (n : Int) (m : Int) li kn gg lp ll) (fun r ws' => MI ad dN G n m ws' ∧ ∃ v : Nat, r = iI (v : Int) ∧ IsCommon G n m v) := by
  have hgg : ∀ i, vd n m i → gg i = (G i : Int) := fun i hi => by
    rcases hi with q | q
    · exact hg1 i q
    · have := hg2 (i - 24) (by omega)
      rw [show 24 + (i - 24) = i by omega] at this
      exact this
  refine xmi_of (by decide) (Nat.le_of_ble_eq_true rfl) (fun K h hr => ?_)
  show xw K (wM ad dN (n : Int) (m : Int) li kn gg lp ll) 0 [(0, .ref (ad 0))] []
  refine x_iconst h dX1_common_0 ?_
  refine x_istore_n h dX1_common_1 (by decide) [1, 0] [(0, .ref (ad 0)), (1, .int (iI 0))] rfl ?_
  refine x_iconst h dX1_common_2 ?_
  refine x_istore_n h dX1_common_3 (by decide) [1, 2, 0] [(0, .ref (ad 0)), (1, .int (iI 0)), (2, .int (iI 0))] rfl ?_
  refine mcommon_outer hn hm hG hgg h (fun v x hC => ?_) (m + 1) 0 0 _ _ (by omega) (by omega) rfl rfl (by omega) (Or.inl rfl) (fun p' c' e q => by omega)
  refine x_iload_n h dX1_common_52 1 rfl ?_
  exact x_ireturn h hr dX1_common_53 ⟨⟨_, _, _, _, _, hg1, hg2, hkn, rfl⟩, v, rfl, hC⟩
end
section
/-! ===== RepeatFinderModel: list, words, longest ===== -/
set_option maxRecDepth 100000
/-- a list of words, with how many of them hold any Q -/
def Lj (G : Nat → Nat) (n k : Nat) (lp ll : Nat → Int) (F : (Nat → Nat → Prop) → Nat) : Prop := (∀ i, i < k → lp i = (vN lp i : Int) ∧ ll i = (vN ll i : Int) ∧ Lst G n (vN lp i + vN ll i) (vN ll i)) ∧ ∀ Q : Nat → Nat → Prop, cP (fun i => Q (vN lp i + vN ll i) (vN ll i)) k = F Q
theorem lj_cong {G : Nat → Nat} {n k : Nat} {lp ll : Nat → Int} {F F' : (Nat → Nat → Prop) → Nat} (h : Lj G n k lp ll F) (hF : ∀ Q, F Q = F' Q) : Lj G n k lp ll F' := ⟨h.1, fun Q => by rw [h.2 Q, hF Q]⟩
theorem vN_s {f : Nat → Int} {k p : Nat} : vN (zu f k (p : Int)) k = p := by unfold vN; rw [zu_s]; omega
theorem vN_n {f : Nat → Int} {k i : Nat} {v : Int} (h : i ≠ k) : vN (zu f k v) i = vN f i := by unfold vN; rw [zu_n h]
theorem cP_ind (P : Nat → Prop) (k : Nat) : cP P (k + 1) = cP P k + ind (P k) := by
  by_cases h : P k
  · rw [cP_t h, ind_t h]
  · rw [cP_f h, ind_f h]; rfl
theorem lj_push {G : Nat → Nat} {n k p c : Nat} {lp ll : Nat → Int} {F : (Nat → Nat → Prop) → Nat} (h : Lj G n k lp ll F) (hL : Lst G n (p + c) c) : Lj G n (k + 1) (zu lp k (p : Int)) (zu ll k (c : Int)) (fun Q => F Q + ind (Q (p + c) c)) := by
  refine ⟨fun i hi => ?_, fun Q => ?_⟩
  · by_cases q : i = k
    · subst q
      rw [vN_s, vN_s, zu_s, zu_s]
      exact ⟨rfl, rfl, hL⟩
    · rw [vN_n q, vN_n q, zu_n q, zu_n q]
      exact h.1 i (by omega)
  · rw [cP_ind, vN_s, vN_s]
    show _ + _ = F Q + _
    rw [← h.2 Q]
    congr 1
    exact cP_congr (fun i hi => by rw [vN_n (by omega), vN_n (by omega)])
def tri (n : Nat) : Nat := sm (fun i => i + 1) n
theorem tri_step {n p : Nat} (h : p < n) : tri (n - p) = tri (n - (p + 1)) + (n - p) := by
  obtain ⟨t, ht⟩ : ∃ t, n - p = t + 1 := ⟨n - p - 1, by omega⟩
  rw [ht, show n - (p + 1) = t by omega]
  rfl
theorem tri_le : ∀ n, n ≤ 24 → tri n ≤ 300 := by decide
theorem rl_step {G : Nat → Nat} {n p c : Nat} (Q : Nat → Nat → Prop) (hc : 0 < c) : Rl G n Q p (c + 1 - 1) = Rl G n Q p (c - 1) + ind (Lst G n (p + c) c ∧ Q (p + c) c) := by
  obtain ⟨t, rfl⟩ : ∃ t, c = t + 1 := ⟨c - 1, by omega⟩
  exact cP_ind _ t
theorem first_lst {G : Nat → Nat} {n p c : Nat} {r : Int32} (hc : 0 < c) (hpc : p + c ≤ n) (h : (∃ q, q + c ≤ n ∧ eqv G c (q + c) (p + c) ∧ (∀ q', q' < q → ¬ eqv G c (q' + c) (p + c)) ∧ r = iI (q : Int)) ∨ ((∀ q, q + c ≤ n → ¬ eqv G c (q + c) (p + c)) ∧ r = iI (-3))) : ∃ q : Nat, q ≤ p ∧ r = iI (q : Int) ∧ (q = p ↔ Lst G n (p + c) c) := by
  rcases h with ⟨q, h1, h2, h3, h4⟩ | ⟨h1, -⟩
  · have hqp : q ≤ p := by
      rcases Nat.lt_or_ge p q with z | z
      · exact absurd (eqv_refl (by omega)) (h3 p z)
      · exact z
    refine ⟨q, hqp, h4, fun z => ?_, fun z => ?_⟩
    · subst z
      refine ⟨hc, by omega, hpc, fun e' he' y => ?_⟩
      have y1 := y.1
      exact h3 (e' - c) (by omega) (by rw [show e' - c + c = e' by omega]; exact y)
    · rcases Nat.lt_or_ge q p with y | y
      · exact absurd h2 (z.2.2.2 (q + c) (by omega))
      · omega
  · exact absurd (eqv_refl (by omega)) (h1 p hpc)
theorem list_inner {K : XK} {l : Launch} {D : va_G} {dN : ClassId} {ad : Nat → Nat} {gg : Nat → Int} {G : Nat → Nat} {n m : Nat} {p : Nat} (hn : n ≤ 24) (hm : m ≤ 12) (hG : ∀ i, G i < 4) (hgg : ∀ i, vd n m i → gg i = (G i : Int)) (hp0 : p < n) (h : xok K (JM l D dN) ({ frames := 2, cells := 0, slots := 0, locals := 47 }) cX1_list RX1 3)
    (hx : ∀ (k : Nat) (lp ll : Nat → Int) (x : Int), Lj G n k lp ll (fun Q => sm (fun p' => Rl G n Q p' (n - p')) (p + 1)) → k + tri (n - (p + 1)) ≤ tri n → xw K (wM ad dN (n : Int) (m : Int) (k : Int) 1 gg lp ll) 86 [(0, .ref (ad 0)), (1, .int (iI (p : Int))), (2, .int (iI x))] []) :
    ∀ (f c k : Nat) (x z : Int) (lp ll : Nat → Int), n + 1 < p + c + f → 0 < c → p + c ≤ n + 1 → x = (c : Int) → z = (k : Int) → Lj G n k lp ll (fun Q => sm (fun p' => Rl G n Q p' (n - p')) p + Rl G n Q p (c - 1)) → k + (n + 1 - p - c) + tri (n - (p + 1)) ≤ tri n → xw K (wM ad dN (n : Int) (m : Int) z 1 gg lp ll) 30 [(0, .ref (ad 0)), (1, .int (iI (p : Int))), (2, .int (iI x))] [] := by
  have htri := tri_le n hn
  intro f
  induction f with
  | zero => intro c k x z lp ll h1 h2 h3; omega
  | succ f ih =>
    intro c k x z lp ll hf hc0 hc hxx hzz hL hb
    subst hxx; subst hzz
    refine x_iload_n h dX1_list_30 1 rfl ?_
    refine x_iload_n h dX1_list_31 2 rfl ?_
    refine x_iadd h dX1_list_32 ?_
    refine x_aload_n h dX1_list_33 0 rfl ?_
    refine xM_tl h dX1_list_34 ?_
    refine x_icmp_gt h 86 dX1_list_37 (by decide) (by omega) (by omega) (fun c_37 => ?_) (fun c_37 => ?_)
    · refine hx k lp ll _ (lj_cong hL (fun Q => ?_)) (by omega)
      show _ = sm (fun p' => Rl G n Q p' (n - p')) p + Rl G n Q p (n - p)
      rw [show c - 1 = n - p by omega]
    · refine x_aload_n h dX1_list_40 0 rfl ?_
      refine x_iload_n h dX1_list_41 1 rfl ?_
      refine x_iload_n h dX1_list_42 2 rfl ?_
      refine xM_calli h (cM_firstOf l D dN ad (k : Int) 1 gg lp ll G n m p c hn hm hG hgg (fun j hj => Or.inl (by omega)) hc0 (by omega) (by omega)) 2 (lw_V q230 q232 qs12 q20 q233) (by decide +kernel) ⟨Nat.le_of_ble_eq_true rfl, Nat.le_of_ble_eq_true rfl⟩ rfl rfl (Nat.le_of_ble_eq_true rfl) dX1_list_43 (fun r_43 ws_ hp_43 => ?_)
      obtain ⟨rfl, hfo⟩ := hp_43
      obtain ⟨q, hqp, rfl, hqL⟩ := first_lst hc0 (by omega) hfo
      refine x_iload_n h dX1_list_46 1 rfl ?_
      refine x_icmp_ne h 80 dX1_list_47 (by decide) (by omega) (by omega) (fun c_47 => ?_) (fun c_47 => ?_)
      · refine x_iinc h dX1_list_80 2 rfl (by decide) [1, 2, 0] [(0, .ref (ad 0)), (1, .int (iI (p : Int))), (2, .int (iI ((c : Int) + 1)))] rfl ?_
        refine x_goto h 30 dX1_list_83 (by decide) ?_
        refine ih (c + 1) k _ _ lp ll (by omega) (by omega) (by omega) (by omega) rfl (lj_cong hL (fun Q => ?_)) (by omega)
        rw [rl_step Q hc0, ind_f (fun z => by have := hqL.mpr z.1; omega)]; omega
      · refine x_aload_n h dX1_list_50 0 rfl ?_
        refine xM_lp h dX1_list_51 ?_
        refine x_aload_n h dX1_list_54 0 rfl ?_
        refine xM_li h dX1_list_55 ?_
        refine x_iload_n h dX1_list_58 1 rfl ?_
        refine xM_slp h k (by omega) (by omega) dX1_list_59 ?_
        refine x_aload_n h dX1_list_60 0 rfl ?_
        refine xM_ll h dX1_list_61 ?_
        refine x_aload_n h dX1_list_64 0 rfl ?_
        refine xM_li h dX1_list_65 ?_
        refine x_iload_n h dX1_list_68 2 rfl ?_
        refine xM_sll h k (by omega) (by omega) dX1_list_69 ?_
        refine x_aload_n h dX1_list_70 0 rfl ?_
        refine x_dup h dX1_list_71 rfl ?_
        refine xM_li h dX1_list_72 ?_
        refine x_iconst h dX1_list_75 ?_
        refine x_iadd h dX1_list_76 ?_
        refine xM_pli h dX1_list_77 ?_
        refine x_iinc h dX1_list_80 2 rfl (by decide) [1, 2, 0] [(0, .ref (ad 0)), (1, .int (iI (p : Int))), (2, .int (iI ((c : Int) + 1)))] rfl ?_
        refine x_goto h 30 dX1_list_83 (by decide) ?_
        have hLs := hqL.mp (by omega)
        refine ih (c + 1) (k + 1) _ _ _ _ (by omega) (by omega) (by omega) (by omega) (by omega) (lj_cong (lj_push hL hLs) (fun Q => ?_)) (by omega)
        rw [rl_step Q hc0, ind_congr (P := Lst G n (p + c) c ∧ Q (p + c) c) (Q := Q (p + c) c) ⟨fun z => z.2, fun z => ⟨hLs, z⟩⟩]; omega
theorem list_outer {K : XK} {l : Launch} {D : va_G} {dN : ClassId} {ad : Nat → Nat} {gg : Nat → Int} {G : Nat → Nat} {n m : Nat} (hn : n ≤ 24) (hm : m ≤ 12) (hG : ∀ i, G i < 4) (hgg : ∀ i, vd n m i → gg i = (G i : Int)) (h : xok K (JM l D dN) ({ frames := 2, cells := 0, slots := 0, locals := 47 }) cX1_list RX1 3)
    (hx : ∀ (k : Nat) (lp ll : Nat → Int) (x : Int), Li G n k lp ll → k ≤ 300 → xw K (wM ad dN (n : Int) (m : Int) (k : Int) 1 gg lp ll) 92 [(0, .ref (ad 0)), (1, .int (iI x))] []) :
    ∀ (f p k : Nat) (x z : Int) (lp ll : Nat → Int), n < p + f → p ≤ n → x = (p : Int) → z = (k : Int) → Lj G n k lp ll (fun Q => sm (fun p' => Rl G n Q p' (n - p')) p) → k + tri (n - p) ≤ tri n → xw K (wM ad dN (n : Int) (m : Int) z 1 gg lp ll) 20 [(0, .ref (ad 0)), (1, .int (iI x))] [] := by
  have htri := tri_le n hn
  intro f
  induction f with
  | zero => intro p k x z lp ll h1 h2; omega
  | succ f ih =>
    intro p k x z lp ll hf hp hxx hzz hL hb
    subst hxx; subst hzz
    refine x_iload_n h dX1_list_20 1 rfl ?_
    refine x_aload_n h dX1_list_21 0 rfl ?_
    refine xM_tl h dX1_list_22 ?_
    refine x_icmp_ge h 92 dX1_list_25 (by decide) (by omega) (by omega) (fun c_25 => ?_) (fun c_25 => ?_)
    · obtain rfl : p = n := by omega
      exact hx k lp ll _ ⟨hL.1, fun Q => by rw [hL.2 Q]; exact list_wc G p Q⟩ (by omega)
    · refine x_iconst h dX1_list_28 ?_
      refine x_istore_n h dX1_list_29 (by decide) [1, 2, 0] [(0, .ref (ad 0)), (1, .int (iI (p : Int))), (2, .int (iI 1))] rfl ?_
      have htp := tri_step (n := n) (p := p) (by omega)
      refine list_inner hn hm hG hgg (by omega) h (fun k lp ll x hL hb => ?_) (n + 1) 1 k _ _ lp ll (by omega) (by omega) (by omega) rfl rfl (lj_cong hL (fun Q => ?_)) (by omega)
      · refine x_iinc h dX1_list_86 1 rfl (by decide) [1, 0, 2] [(0, .ref (ad 0)), (1, .int (iI ((p : Int) + 1))), (2, .int (iI x))] rfl ?_
        refine x_goto h 20 dX1_list_89 (by decide) ?_
        refine x_sub [0, 1] [(0, .ref (ad 0)), (1, .int (iI ((p : Int) + 1)))] rfl ?_
        exact ih (p + 1) k _ _ lp ll (by omega) (by omega) (by omega) rfl hL hb
      · show _ = _ + 0
        omega
theorem cM_list (l : Launch) (D : va_G) (dN : ClassId) (ad : Nat → Nat) (li kn : Int) (gg lp ll : Nat → Int) (G : Nat → Nat) (n m : Nat) (hn : n ≤ 24) (hm : m ≤ 12) (hG : ∀ i, G i < 4) (hgg : ∀ i, vd n m i → gg i = (G i : Int)) (hkn : Kn G n li kn lp ll) : xmv (JM l D dN) yX1_list cX1_list 3 2 47 [.ref (ad 0)] (wM ad dN (n : Int) (m : Int) li kn gg lp ll) (fun ws' => ∃ (k : Nat) (lp' ll' : Nat → Int), k ≤ 300 ∧ Li G n k lp' ll' ∧ ws' = wM ad dN (n : Int) (m : Int) (k : Int) 1 gg lp' ll') := by
  rcases hkn with rfl | ⟨rfl, k, rfl, hk, hLi⟩
  · refine xmv_of (by decide) (Nat.le_of_ble_eq_true rfl) (fun K h hr => ?_)
    show xw K (wM ad dN (n : Int) (m : Int) li 0 gg lp ll) 0 [(0, .ref (ad 0))] []
    refine x_aload_n h dX1_list_0 0 rfl ?_
    refine xM_kn h dX1_list_1 ?_
    refine x_if_eq h 8 dX1_list_4 (by decide) (by omega) (fun c_4 => ?_) (fun c_4 => ?_)
    · refine x_aload_n h dX1_list_8 0 rfl ?_
      refine x_iconst h dX1_list_9 ?_
      refine xM_pkn h (by omega) dX1_list_10 ?_
      refine x_aload_n h dX1_list_13 0 rfl ?_
      refine x_iconst h dX1_list_14 ?_
      refine xM_pli h dX1_list_15 ?_
      refine x_iconst h dX1_list_18 ?_
      refine x_istore_n h dX1_list_19 (by decide) [1, 0] [(0, .ref (ad 0)), (1, .int (iI 0))] rfl ?_
      refine list_outer hn hm hG hgg h (fun k lp ll x hLi hk => ?_) (n + 1) 0 0 _ _ lp ll (by omega) (by omega) rfl rfl ⟨fun i hi => by omega, fun Q => rfl⟩ (Nat.le_of_eq (Nat.zero_add _))
      exact x_return h hr dX1_list_92 ⟨k, lp, ll, hk, hLi, rfl⟩
    · omega
  · refine xmv_of (by decide) (Nat.le_of_ble_eq_true rfl) (fun K h hr => ?_)
    show xw K (wM ad dN (n : Int) (m : Int) (k : Int) 1 gg lp ll) 0 [(0, .ref (ad 0))] []
    refine x_aload_n h dX1_list_0 0 rfl ?_
    refine xM_kn h dX1_list_1 ?_
    refine x_if_eq h 8 dX1_list_4 (by decide) (by omega) (fun c_4 => ?_) (fun c_4 => ?_)
    · omega
    · refine x_return h hr dX1_list_7 ?_
      exact ⟨k, lp, ll, hk, hLi, rfl⟩
theorem cM_words (l : Launch) (D : va_G) (dN : ClassId) (ad : Nat → Nat) (li kn : Int) (gg lp ll : Nat → Int) (G : Nat → Nat) (n m : Nat) (hn : n ≤ 24) (hm : m ≤ 12) (hG : ∀ i, G i < 4) (hg1 : ∀ i, i < n → gg i = (G i : Int)) (hg2 : ∀ i, i < m → gg (24 + i) = (G (24 + i) : Int)) (hkn : Kn G n li kn lp ll)  : xmi (JM l D dN) yX1_words cX1_words 1 .int 3 69 [.ref (ad 0)] (wM ad dN (n : Int) (m : Int) li kn gg lp ll) (fun r ws' => MI ad dN G n m ws' ∧ r = iI (wc G n (fun _ _ => True) : Int)) := by
  have hgg : ∀ i, vd n m i → gg i = (G i : Int) := fun i hi => by
    rcases hi with q | q
    · exact hg1 i q
    · have := hg2 (i - 24) (by omega)
      rw [show 24 + (i - 24) = i by omega] at this
      exact this
  refine xmi_of (by decide) (Nat.le_of_ble_eq_true rfl) (fun K h hr => ?_)
  show xw K (wM ad dN (n : Int) (m : Int) li kn gg lp ll) 0 [(0, .ref (ad 0))] []
  refine x_aload_n h dX1_words_0 0 rfl ?_
  refine xM_callv h (cM_list l D dN ad li kn gg lp ll G n m hn hm hG hgg hkn) 0 (lw_V q238 q240 qs13 q20 q241) (by decide +kernel) ⟨Nat.le_of_ble_eq_true rfl, Nat.le_of_ble_eq_true rfl⟩ rfl rfl (Nat.le_of_ble_eq_true rfl) dX1_words_1 (fun ws_ hp_1 => ?_)
  obtain ⟨k, lp', ll', hk, hLi, rfl⟩ := hp_1
  refine x_aload_n h dX1_words_4 0 rfl ?_
  refine xM_li h dX1_words_5 ?_
  refine x_ireturn h hr dX1_words_8 ?_
  exact ⟨⟨_, _, _, _, _, hg1, hg2, Or.inr ⟨rfl, _, rfl, hk, hLi⟩, rfl⟩, by rw [← li_len hLi]⟩
theorem mlongest_loop {K : XK} {l : Launch} {D : va_G} {dN : ClassId} {ad : Nat → Nat} {gg lp ll : Nat → Int} {G : Nat → Nat} {n m k : Nat} {z : Int} (hn : n ≤ 24) (hm : m ≤ 12) (hG : ∀ i, G i < 4) (hgg : ∀ i, vd n m i → gg i = (G i : Int)) (hk : k ≤ 300) (hLi : Li G n k lp ll) (hz : rng z) (h : xok K (JM l D dN) ({ frames := 3, cells := 0, slots := 0, locals := 69 }) cX1_longest RX1 4)
    (hx : ∀ (v : Nat) (x : Int), IsLongest G n z v → xw K (wM ad dN (n : Int) (m : Int) (k : Int) 1 gg lp ll) 73 [(0, .ref (ad 0)), (1, .int (iI z)), (2, .int (iI (v : Int))), (3, .int (iI x))] []) :
    ∀ (f i v : Nat) (x y : Int), k < i + f → i ≤ k → x = (i : Int) → y = (v : Int) → v ≤ n → (v = 0 ∨ ∃ i', i' < i ∧ v = vN ll i' ∧ z ≤ (oc G n (vN ll i') (vN lp i' + vN ll i') : Int)) → (∀ i', i' < i → z ≤ (oc G n (vN ll i') (vN lp i' + vN ll i') : Int) → vN ll i' ≤ v) → xw K (wM ad dN (n : Int) (m : Int) (k : Int) 1 gg lp ll) 22 [(0, .ref (ad 0)), (1, .int (iI z)), (2, .int (iI y)), (3, .int (iI x))] [] := by
  intro f
  induction f with
  | zero => intro i v x y h1 h2; omega
  | succ f ih =>
    intro i v x y hf hi hxx hyy hv a1 a2
    subst hxx; subst hyy
    refine x_iload_n h dX1_longest_22 3 rfl ?_
    refine x_aload_n h dX1_longest_23 0 rfl ?_
    refine xM_li h dX1_longest_24 ?_
    refine x_icmp_ge h 73 dX1_longest_27 (by decide) (by omega) (by omega) (fun c_27 => ?_) (fun c_27 => ?_)
    · obtain rfl : i = k := by omega
      refine hx v _ (longest_li hLi ?_ (fun i' q1 q2 => a2 i' q1 q2))
      exact a1
    · refine x_aload_n h dX1_longest_30 0 rfl ?_
      refine xM_ll h dX1_longest_31 ?_
      refine x_iload_n h dX1_longest_34 3 rfl ?_
      refine xM_lll h i (by omega) (by omega) dX1_longest_35 ?_
      have hL0 := hLi.1 i (by omega)
      have hL1 := (hLi.1 i (by omega)).2.2.1
      have hL2 := (hLi.1 i (by omega)).2.2.2.2.1
      refine x_top hL0.2.1 ?_
      refine x_iload_n h dX1_longest_36 2 rfl ?_
      refine x_icmp_le h 67 dX1_longest_37 (by decide) (by omega) (by omega) (fun c_37 => ?_) (fun c_37 => ?_)
      · refine x_iinc h dX1_longest_67 3 rfl (by decide) [1, 2, 3, 0] [(0, .ref (ad 0)), (1, .int (iI z)), (2, .int (iI (v : Int))), (3, .int (iI ((i : Int) + 1)))] rfl ?_
        refine x_goto h 22 dX1_longest_70 (by decide) ?_
        refine ih (i + 1) v _ _ (by omega) (by omega) (by omega) rfl hv ?_ (fun i' q1 q2 => ?_)
        · rcases a1 with q | ⟨i', q1, q2, q3⟩
          · exact Or.inl q
          · exact Or.inr ⟨i', by omega, q2, q3⟩
        · by_cases hii : i' = i
          · subst hii; omega
          · exact a2 i' (by omega) q2
      · refine x_aload_n h dX1_longest_40 0 rfl ?_
        refine x_aload_n h dX1_longest_41 0 rfl ?_
        refine xM_lp h dX1_longest_42 ?_
        refine x_iload_n h dX1_longest_45 3 rfl ?_
        refine xM_llp h i (by omega) (by omega) dX1_longest_46 ?_
        refine x_top hL0.1 ?_
        refine x_aload_n h dX1_longest_47 0 rfl ?_
        refine xM_ll h dX1_longest_48 ?_
        refine x_iload_n h dX1_longest_51 3 rfl ?_
        refine xM_lll h i (by omega) (by omega) dX1_longest_52 ?_
        refine x_top hL0.2.1 ?_
        refine xM_calli h (cM_countOf l D dN ad (k : Int) 1 gg lp ll G n m (vN lp i) (vN ll i) hn hm hG hgg (fun j hj => Or.inl (by omega)) hL1 (by omega) (by omega)) 2 (lw_V q218 q220 qs10 q20 q221) (by decide +kernel) ⟨Nat.le_of_ble_eq_true rfl, Nat.le_of_ble_eq_true rfl⟩ rfl rfl (Nat.le_of_ble_eq_true rfl) dX1_longest_53 (fun r_53 ws_ hp_53 => ?_)
        obtain ⟨rfl, rfl⟩ := hp_53
        have hocl := oc_le G n (vN ll i) (vN lp i + vN ll i)
        refine x_iload_n h dX1_longest_56 1 rfl ?_
        refine x_icmp_lt h 67 dX1_longest_57 (by decide) (by omega) (by omega) (fun c_57 => ?_) (fun c_57 => ?_)
        · refine x_iinc h dX1_longest_67 3 rfl (by decide) [1, 2, 3, 0] [(0, .ref (ad 0)), (1, .int (iI z)), (2, .int (iI (v : Int))), (3, .int (iI ((i : Int) + 1)))] rfl ?_
          refine x_goto h 22 dX1_longest_70 (by decide) ?_
          refine ih (i + 1) v _ _ (by omega) (by omega) (by omega) rfl hv ?_ (fun i' q1 q2 => ?_)
          · rcases a1 with q | ⟨i', q1, q2, q3⟩
            · exact Or.inl q
            · exact Or.inr ⟨i', by omega, q2, q3⟩
          · by_cases hii : i' = i
            · subst hii; omega
            · exact a2 i' (by omega) q2
        · refine x_aload_n h dX1_longest_60 0 rfl ?_
          refine xM_ll h dX1_longest_61 ?_
          refine x_iload_n h dX1_longest_64 3 rfl ?_
          refine xM_lll h i (by omega) (by omega) dX1_longest_65 ?_
          refine x_top hL0.2.1 ?_
          refine x_istore_n h dX1_longest_66 (by decide) [1, 2, 0, 3] [(0, .ref (ad 0)), (1, .int (iI z)), (2, .int (iI (vN ll i : Int))), (3, .int (iI (i : Int)))] rfl ?_
          refine x_iinc h dX1_longest_67 3 rfl (by decide) [1, 2, 3, 0] [(0, .ref (ad 0)), (1, .int (iI z)), (2, .int (iI (vN ll i : Int))), (3, .int (iI ((i : Int) + 1)))] rfl ?_
          refine x_goto h 22 dX1_longest_70 (by decide) ?_
          refine ih (i + 1) (vN ll i) _ _ (by omega) (by omega) (by omega) rfl (by omega) (Or.inr ⟨i, by omega, rfl, by omega⟩) (fun i' q1 q2 => ?_)
          by_cases hii : i' = i
          · subst hii; omega
          · have := a2 i' (by omega) q2
            omega
theorem cM_longest (l : Launch) (D : va_G) (dN : ClassId) (ad : Nat → Nat) (li kn : Int) (gg lp ll : Nat → Int) (G : Nat → Nat) (n m : Nat) (hn : n ≤ 24) (hm : m ≤ 12) (hG : ∀ i, G i < 4) (hg1 : ∀ i, i < n → gg i = (G i : Int)) (hg2 : ∀ i, i < m → gg (24 + i) = (G (24 + i) : Int)) (hkn : Kn G n li kn lp ll) (z : Int) (hz : rng z) : xmi (JM l D dN) yX1_longest cX1_longest 4 .int 3 69 [.ref (ad 0), .int (iI z)] (wM ad dN (n : Int) (m : Int) li kn gg lp ll) (fun r ws' => MI ad dN G n m ws' ∧ (((z < 1 ∨ 24 < z) ∧ r = iI (-2)) ∨ (1 ≤ z ∧ z ≤ 24 ∧ ∃ v : Nat, r = iI (v : Int) ∧ IsLongest G n z v))) := by
  have hgg : ∀ i, vd n m i → gg i = (G i : Int) := fun i hi => by
    rcases hi with q | q
    · exact hg1 i q
    · have := hg2 (i - 24) (by omega)
      rw [show 24 + (i - 24) = i by omega] at this
      exact this
  refine xmi_of (by decide) (Nat.le_of_ble_eq_true rfl) (fun K h hr => ?_)
  show xw K (wM ad dN (n : Int) (m : Int) li kn gg lp ll) 0 [(0, .ref (ad 0)), (1, .int (iI z))] []
  refine x_iload_n h dX1_longest_0 1 rfl ?_
  refine x_iconst h dX1_longest_1 ?_
  refine x_icmp_lt h 11 dX1_longest_2 (by decide) (by omega) (by omega) (fun c_2 => ?_) (fun c_2 => ?_)
  · refine x_bipush h dX1_longest_11 (by decide) ?_
    refine x_ireturn h hr dX1_longest_13 ?_
    exact ⟨⟨_, _, _, _, _, hg1, hg2, hkn, rfl⟩, Or.inl ⟨by omega, rfl⟩⟩
  · refine x_iload_n h dX1_longest_5 1 rfl ?_
    refine x_bipush h dX1_longest_6 (by decide) ?_
    refine x_icmp_le h 14 dX1_longest_8 (by decide) (by omega) (by omega) (fun c_8 => ?_) (fun c_8 => ?_)
    · refine x_iconst h dX1_longest_14 ?_
      refine x_istore_n h dX1_longest_15 (by decide) [1, 2, 0] [(0, .ref (ad 0)), (1, .int (iI z)), (2, .int (iI 0))] rfl ?_
      refine x_aload_n h dX1_longest_16 0 rfl ?_
      refine xM_callv h (cM_list l D dN ad li kn gg lp ll G n m hn hm hG hgg hkn) 0 (lw_V q238 q240 qs13 q20 q241) (by decide +kernel) ⟨Nat.le_of_ble_eq_true rfl, Nat.le_of_ble_eq_true rfl⟩ rfl rfl (Nat.le_of_ble_eq_true rfl) dX1_longest_17 (fun ws_ hp_17 => ?_)
      obtain ⟨k, lp', ll', hk, hLi, rfl⟩ := hp_17
      refine x_iconst h dX1_longest_20 ?_
      refine x_istore_n h dX1_longest_21 (by decide) [1, 2, 3, 0] [(0, .ref (ad 0)), (1, .int (iI z)), (2, .int (iI 0)), (3, .int (iI 0))] rfl ?_
      refine mlongest_loop hn hm hG hgg hk hLi hz h (fun v x hI => ?_) (k + 1) 0 0 _ _ (by omega) (by omega) rfl rfl (by omega) (Or.inl rfl) (fun i' q => by omega)
      refine x_iload_n h dX1_longest_73 2 rfl ?_
      exact x_ireturn h hr dX1_longest_74 ⟨⟨_, _, _, _, _, hg1, hg2, Or.inr ⟨rfl, _, rfl, hk, hLi⟩, rfl⟩, Or.inr ⟨by omega, by omega, v, rfl, hI⟩⟩
    · refine x_bipush h dX1_longest_11 (by decide) ?_
      refine x_ireturn h hr dX1_longest_13 ?_
      exact ⟨⟨_, _, _, _, _, hg1, hg2, hkn, rfl⟩, Or.inl ⟨by omega, rfl⟩⟩
end
section
/-! ===== RepeatFinderModel: withBeside, maximal, repeats ===== -/
set_option maxRecDepth 100000
/-- the place q of a word of c letters has the letter d right before it (sd below 0) or right behind it -/
def Bs (G : Nat → Nat) (n d c : Nat) (sd : Int) (q : Nat) : Prop := (sd < 0 ∧ 0 < q ∧ G (q - 1) = d) ∨ (0 ≤ sd ∧ q + c < n ∧ G (q + c) = d)
/-- the word of l letters that ends at e occurs twice or more, and loses by every letter more -/
def Mxw (G : Nat → Nat) (n e l : Nat) : Prop := 2 ≤ oc G n l e ∧ ∀ d, d < 4 → cP (fun q => eqv G l (q + l) e ∧ Bs G n d l (-1) q) (n + 1 - l) ≠ oc G n l e ∧ cP (fun q => eqv G l (q + l) e ∧ Bs G n d l 1 q) (n + 1 - l) ≠ oc G n l e
theorem beside_loop {K : XK} {l : Launch} {D : va_G} {dN : ClassId} {ad : Nat → Nat} {li kn : Int} {gg lp ll : Nat → Int} {G : Nat → Nat} {n m : Nat} {i a c d : Nat} {sd : Int} (hn : n ≤ 24) (hm : m ≤ 12) (hG : ∀ i, G i < 4) (hgg : ∀ i, vd n m i → gg i = (G i : Int)) (hi : i < 300) (hla : lp i = (a : Int)) (hlc : ll i = (c : Int)) (hc0 : 0 < c) (hac : a + c ≤ n) (hsd : sd = -1 ∨ sd = 1) (hd4 : d < 4) (h : xok K (JM l D dN) ({ frames := 1, cells := 0, slots := 0, locals := 24 }) cX1_withBeside RX1 9) (hr : xri K .int (fun r ws' => ws' = wM ad dN (n : Int) (m : Int) li kn gg lp ll ∧ r = iI (cP (fun q => eqv G c (q + c) (a + c) ∧ Bs G n d c sd q) (n + 1 - c) : Int))) :
    ∀ (f q y : Nat) (x z : Int), n + 1 < q + f → q ≤ n + 1 - c → x = (q : Int) → z = (y : Int) → y ≤ q → y = cP (fun q => eqv G c (q + c) (a + c) ∧ Bs G n d c sd q) q → xw K (wM ad dN (n : Int) (m : Int) li kn gg lp ll) 14 [(0, .ref (ad 0)), (1, .int (iI (i : Int))), (2, .int (iI (d : Int))), (3, .int (iI sd)), (4, .int (iI z)), (5, .int (iI (c : Int))), (6, .int (iI x))] [] := by
  intro f
  induction f with
  | zero => intro q y x z h1 h2; omega
  | succ f ih =>
    intro q y x z hf hq hxx hzz hyq hy
    subst hxx; subst hzz
    refine x_iload h dX1_withBeside_14 6 rfl ?_
    refine x_iload h dX1_withBeside_16 5 rfl ?_
    refine x_iadd h dX1_withBeside_18 ?_
    refine x_aload_n h dX1_withBeside_19 0 rfl ?_
    refine xM_tl h dX1_withBeside_20 ?_
    refine x_icmp_gt h 107 dX1_withBeside_23 (by decide) (by omega) (by omega) (fun c_23 => ?_) (fun c_23 => ?_)
    · refine x_iload h dX1_withBeside_107 4 rfl ?_
      refine x_ireturn h hr dX1_withBeside_109 ⟨rfl, ?_⟩
      rw [hy, show q = n + 1 - c by omega]
    · refine x_iload_n h dX1_withBeside_26 3 rfl ?_
      refine x_if_ge h 37 dX1_withBeside_27 (by decide) (by omega) (fun c_27 => ?_) (fun c_27 => ?_)
      · refine x_iload h dX1_withBeside_37 6 rfl ?_
        refine x_iload h dX1_withBeside_39 5 rfl ?_
        refine x_iadd h dX1_withBeside_41 ?_
        refine x_istore h dX1_withBeside_42 (by decide) [1, 2, 3, 4, 5, 6, 7, 0] [(0, .ref (ad 0)), (1, .int (iI (i : Int))), (2, .int (iI (d : Int))), (3, .int (iI sd)), (4, .int (iI (y : Int))), (5, .int (iI (c : Int))), (6, .int (iI (q : Int))), (7, .int (iI ((q : Int) + (c : Int))))] rfl ?_
        refine x_iload h dX1_withBeside_44 7 rfl ?_
        refine x_if_lt h 62 dX1_withBeside_46 (by decide) (by omega) (fun c_46 => ?_) (fun c_46 => ?_)
        · omega
        · refine x_iload h dX1_withBeside_49 7 rfl ?_
          refine x_aload_n h dX1_withBeside_51 0 rfl ?_
          refine xM_tl h dX1_withBeside_52 ?_
          refine x_icmp_ge h 62 dX1_withBeside_55 (by decide) (by omega) (by omega) (fun c_55 => ?_) (fun c_55 => ?_)
          · refine x_iconst h dX1_withBeside_62 ?_
            refine x_istore h dX1_withBeside_63 (by decide) [1, 2, 3, 4, 5, 6, 7, 8, 0] [(0, .ref (ad 0)), (1, .int (iI (i : Int))), (2, .int (iI (d : Int))), (3, .int (iI sd)), (4, .int (iI (y : Int))), (5, .int (iI (c : Int))), (6, .int (iI (q : Int))), (7, .int (iI ((q : Int) + (c : Int)))), (8, .int (iI 0))] rfl ?_
            refine x_aload_n h dX1_withBeside_65 0 rfl ?_
            refine x_aload_n h dX1_withBeside_66 0 rfl ?_
            refine xM_lp h dX1_withBeside_67 ?_
            refine x_iload_n h dX1_withBeside_70 1 rfl ?_
            refine xM_llp h i (by omega) (by omega) dX1_withBeside_71 ?_
            refine x_top hla ?_
            refine x_iload h dX1_withBeside_72 6 rfl ?_
            refine x_iload h dX1_withBeside_74 5 rfl ?_
            refine xM_calli h (cM_same l D dN ad li kn gg lp ll G n m a q c hn hm hG hgg (fun j hj => Or.inl (by omega)) (fun j hj => Or.inl (by omega)) (by omega)) 3 (lw_V q222 q224 qs11 q20 q225) (by decide +kernel) ⟨Nat.le_of_ble_eq_true rfl, Nat.le_of_ble_eq_true rfl⟩ rfl rfl (Nat.le_of_ble_eq_true rfl) dX1_withBeside_76 (fun r_76 ws_ hp_76 => ?_)
            obtain ⟨rfl, hs⟩ := hp_76
            rcases hs with ⟨rfl, hs⟩ | ⟨rfl, hs⟩
            · refine x_if_eq h 101 dX1_withBeside_79 (by decide) (by omega) (fun c_79 => ?_) (fun c_79 => ?_)
              · omega
              · refine x_iload h dX1_withBeside_82 8 rfl ?_
                refine x_if_eq h 101 dX1_withBeside_84 (by decide) (by omega) (fun c_84 => ?_) (fun c_84 => ?_)
                · refine x_iinc h dX1_withBeside_101 6 rfl (by decide) [1, 2, 3, 4, 5, 6, 0, 7, 8] [(0, .ref (ad 0)), (1, .int (iI (i : Int))), (2, .int (iI (d : Int))), (3, .int (iI sd)), (4, .int (iI (y : Int))), (5, .int (iI (c : Int))), (6, .int (iI ((q : Int) + 1))), (7, .int (iI ((q : Int) + (c : Int)))), (8, .int (iI 0))] rfl ?_
                  refine x_goto h 14 dX1_withBeside_104 (by decide) ?_
                  refine x_sub [0, 1, 2, 3, 4, 5, 6] [(0, .ref (ad 0)), (1, .int (iI (i : Int))), (2, .int (iI (d : Int))), (3, .int (iI sd)), (4, .int (iI (y : Int))), (5, .int (iI (c : Int))), (6, .int (iI ((q : Int) + 1)))] rfl ?_
                  refine ih (q + 1) y _ _ (by omega) (by omega) (by omega) rfl (by omega) ?_
                  rw [hy, cP_f (P := fun q => eqv G c (q + c) (a + c) ∧ Bs G n d c sd q) (fun w => by have w2 := w.2; unfold Bs at w2; omega)]
                · omega
            · refine x_if_eq h 101 dX1_withBeside_79 (by decide) (by omega) (fun c_79 => ?_) (fun c_79 => ?_)
              · refine x_iinc h dX1_withBeside_101 6 rfl (by decide) [1, 2, 3, 4, 5, 6, 0, 7, 8] [(0, .ref (ad 0)), (1, .int (iI (i : Int))), (2, .int (iI (d : Int))), (3, .int (iI sd)), (4, .int (iI (y : Int))), (5, .int (iI (c : Int))), (6, .int (iI ((q : Int) + 1))), (7, .int (iI ((q : Int) + (c : Int)))), (8, .int (iI 0))] rfl ?_
                refine x_goto h 14 dX1_withBeside_104 (by decide) ?_
                refine x_sub [0, 1, 2, 3, 4, 5, 6] [(0, .ref (ad 0)), (1, .int (iI (i : Int))), (2, .int (iI (d : Int))), (3, .int (iI sd)), (4, .int (iI (y : Int))), (5, .int (iI (c : Int))), (6, .int (iI ((q : Int) + 1)))] rfl ?_
                refine ih (q + 1) y _ _ (by omega) (by omega) (by omega) rfl (by omega) ?_
                rw [hy, cP_f (P := fun q => eqv G c (q + c) (a + c) ∧ Bs G n d c sd q) (fun w => hs w.1)]
              · omega
          · refine x_iconst h dX1_withBeside_58 ?_
            refine x_goto h 63 dX1_withBeside_59 (by decide) ?_
            refine x_istore h dX1_withBeside_63 (by decide) [1, 2, 3, 4, 5, 6, 7, 8, 0] [(0, .ref (ad 0)), (1, .int (iI (i : Int))), (2, .int (iI (d : Int))), (3, .int (iI sd)), (4, .int (iI (y : Int))), (5, .int (iI (c : Int))), (6, .int (iI (q : Int))), (7, .int (iI ((q : Int) + (c : Int)))), (8, .int (iI 1))] rfl ?_
            refine x_aload_n h dX1_withBeside_65 0 rfl ?_
            refine x_aload_n h dX1_withBeside_66 0 rfl ?_
            refine xM_lp h dX1_withBeside_67 ?_
            refine x_iload_n h dX1_withBeside_70 1 rfl ?_
            refine xM_llp h i (by omega) (by omega) dX1_withBeside_71 ?_
            refine x_top hla ?_
            refine x_iload h dX1_withBeside_72 6 rfl ?_
            refine x_iload h dX1_withBeside_74 5 rfl ?_
            refine xM_calli h (cM_same l D dN ad li kn gg lp ll G n m a q c hn hm hG hgg (fun j hj => Or.inl (by omega)) (fun j hj => Or.inl (by omega)) (by omega)) 3 (lw_V q222 q224 qs11 q20 q225) (by decide +kernel) ⟨Nat.le_of_ble_eq_true rfl, Nat.le_of_ble_eq_true rfl⟩ rfl rfl (Nat.le_of_ble_eq_true rfl) dX1_withBeside_76 (fun r_76 ws_ hp_76 => ?_)
            obtain ⟨rfl, hs⟩ := hp_76
            rcases hs with ⟨rfl, hs⟩ | ⟨rfl, hs⟩
            · refine x_if_eq h 101 dX1_withBeside_79 (by decide) (by omega) (fun c_79 => ?_) (fun c_79 => ?_)
              · omega
              · refine x_iload h dX1_withBeside_82 8 rfl ?_
                refine x_if_eq h 101 dX1_withBeside_84 (by decide) (by omega) (fun c_84 => ?_) (fun c_84 => ?_)
                · omega
                · refine x_aload_n h dX1_withBeside_87 0 rfl ?_
                  refine xM_gg h dX1_withBeside_88 ?_
                  refine x_iload h dX1_withBeside_91 7 rfl ?_
                  refine xM_lgg h (q + c) (by omega) (by omega) dX1_withBeside_93 ?_
                  refine x_top (hgg (q + c) (Or.inl (by omega))) ?_
                  have hg4 := hG (q + c)
                  refine x_iload_n h dX1_withBeside_94 2 rfl ?_
                  refine x_icmp_ne h 101 dX1_withBeside_95 (by decide) (by omega) (by omega) (fun c_95 => ?_) (fun c_95 => ?_)
                  · refine x_iinc h dX1_withBeside_101 6 rfl (by decide) [1, 2, 3, 4, 5, 6, 0, 7, 8] [(0, .ref (ad 0)), (1, .int (iI (i : Int))), (2, .int (iI (d : Int))), (3, .int (iI sd)), (4, .int (iI (y : Int))), (5, .int (iI (c : Int))), (6, .int (iI ((q : Int) + 1))), (7, .int (iI ((q : Int) + (c : Int)))), (8, .int (iI 1))] rfl ?_
                    refine x_goto h 14 dX1_withBeside_104 (by decide) ?_
                    refine x_sub [0, 1, 2, 3, 4, 5, 6] [(0, .ref (ad 0)), (1, .int (iI (i : Int))), (2, .int (iI (d : Int))), (3, .int (iI sd)), (4, .int (iI (y : Int))), (5, .int (iI (c : Int))), (6, .int (iI ((q : Int) + 1)))] rfl ?_
                    refine ih (q + 1) y _ _ (by omega) (by omega) (by omega) rfl (by omega) ?_
                    rw [hy, cP_f (P := fun q => eqv G c (q + c) (a + c) ∧ Bs G n d c sd q) (fun w => by have w2 := w.2; unfold Bs at w2; omega)]
                  · refine x_iinc h dX1_withBeside_98 4 rfl (by decide) [1, 2, 3, 4, 0, 5, 6, 7, 8] [(0, .ref (ad 0)), (1, .int (iI (i : Int))), (2, .int (iI (d : Int))), (3, .int (iI sd)), (4, .int (iI ((y : Int) + 1))), (5, .int (iI (c : Int))), (6, .int (iI (q : Int))), (7, .int (iI ((q : Int) + (c : Int)))), (8, .int (iI 1))] rfl ?_
                    refine x_iinc h dX1_withBeside_101 6 rfl (by decide) [1, 2, 3, 4, 5, 6, 0, 7, 8] [(0, .ref (ad 0)), (1, .int (iI (i : Int))), (2, .int (iI (d : Int))), (3, .int (iI sd)), (4, .int (iI ((y : Int) + 1))), (5, .int (iI (c : Int))), (6, .int (iI ((q : Int) + 1))), (7, .int (iI ((q : Int) + (c : Int)))), (8, .int (iI 1))] rfl ?_
                    refine x_goto h 14 dX1_withBeside_104 (by decide) ?_
                    refine x_sub [0, 1, 2, 3, 4, 5, 6] [(0, .ref (ad 0)), (1, .int (iI (i : Int))), (2, .int (iI (d : Int))), (3, .int (iI sd)), (4, .int (iI ((y : Int) + 1))), (5, .int (iI (c : Int))), (6, .int (iI ((q : Int) + 1)))] rfl ?_
                    refine ih (q + 1) (y + 1) _ _ (by omega) (by omega) (by omega) (by omega) (by omega) ?_
                    rw [hy, cP_t (P := fun q => eqv G c (q + c) (a + c) ∧ Bs G n d c sd q) ⟨hs, Or.inr ⟨by omega, by omega, by omega⟩⟩]
            · refine x_if_eq h 101 dX1_withBeside_79 (by decide) (by omega) (fun c_79 => ?_) (fun c_79 => ?_)
              · refine x_iinc h dX1_withBeside_101 6 rfl (by decide) [1, 2, 3, 4, 5, 6, 0, 7, 8] [(0, .ref (ad 0)), (1, .int (iI (i : Int))), (2, .int (iI (d : Int))), (3, .int (iI sd)), (4, .int (iI (y : Int))), (5, .int (iI (c : Int))), (6, .int (iI ((q : Int) + 1))), (7, .int (iI ((q : Int) + (c : Int)))), (8, .int (iI 1))] rfl ?_
                refine x_goto h 14 dX1_withBeside_104 (by decide) ?_
                refine x_sub [0, 1, 2, 3, 4, 5, 6] [(0, .ref (ad 0)), (1, .int (iI (i : Int))), (2, .int (iI (d : Int))), (3, .int (iI sd)), (4, .int (iI (y : Int))), (5, .int (iI (c : Int))), (6, .int (iI ((q : Int) + 1)))] rfl ?_
                refine ih (q + 1) y _ _ (by omega) (by omega) (by omega) rfl (by omega) ?_
                rw [hy, cP_f (P := fun q => eqv G c (q + c) (a + c) ∧ Bs G n d c sd q) (fun w => hs w.1)]
              · omega
      · refine x_iload h dX1_withBeside_30 6 rfl ?_
        refine x_iconst h dX1_withBeside_32 ?_
        refine x_isub h dX1_withBeside_33 ?_
        refine x_goto h 42 dX1_withBeside_34 (by decide) ?_
        refine x_istore h dX1_withBeside_42 (by decide) [1, 2, 3, 4, 5, 6, 7, 0] [(0, .ref (ad 0)), (1, .int (iI (i : Int))), (2, .int (iI (d : Int))), (3, .int (iI sd)), (4, .int (iI (y : Int))), (5, .int (iI (c : Int))), (6, .int (iI (q : Int))), (7, .int (iI ((q : Int) - 1)))] rfl ?_
        refine x_iload h dX1_withBeside_44 7 rfl ?_
        refine x_if_lt h 62 dX1_withBeside_46 (by decide) (by omega) (fun c_46 => ?_) (fun c_46 => ?_)
        · refine x_iconst h dX1_withBeside_62 ?_
          refine x_istore h dX1_withBeside_63 (by decide) [1, 2, 3, 4, 5, 6, 7, 8, 0] [(0, .ref (ad 0)), (1, .int (iI (i : Int))), (2, .int (iI (d : Int))), (3, .int (iI sd)), (4, .int (iI (y : Int))), (5, .int (iI (c : Int))), (6, .int (iI (q : Int))), (7, .int (iI ((q : Int) - 1))), (8, .int (iI 0))] rfl ?_
          refine x_aload_n h dX1_withBeside_65 0 rfl ?_
          refine x_aload_n h dX1_withBeside_66 0 rfl ?_
          refine xM_lp h dX1_withBeside_67 ?_
          refine x_iload_n h dX1_withBeside_70 1 rfl ?_
          refine xM_llp h i (by omega) (by omega) dX1_withBeside_71 ?_
          refine x_top hla ?_
          refine x_iload h dX1_withBeside_72 6 rfl ?_
          refine x_iload h dX1_withBeside_74 5 rfl ?_
          refine xM_calli h (cM_same l D dN ad li kn gg lp ll G n m a q c hn hm hG hgg (fun j hj => Or.inl (by omega)) (fun j hj => Or.inl (by omega)) (by omega)) 3 (lw_V q222 q224 qs11 q20 q225) (by decide +kernel) ⟨Nat.le_of_ble_eq_true rfl, Nat.le_of_ble_eq_true rfl⟩ rfl rfl (Nat.le_of_ble_eq_true rfl) dX1_withBeside_76 (fun r_76 ws_ hp_76 => ?_)
          obtain ⟨rfl, hs⟩ := hp_76
          rcases hs with ⟨rfl, hs⟩ | ⟨rfl, hs⟩
          · refine x_if_eq h 101 dX1_withBeside_79 (by decide) (by omega) (fun c_79 => ?_) (fun c_79 => ?_)
            · omega
            · refine x_iload h dX1_withBeside_82 8 rfl ?_
              refine x_if_eq h 101 dX1_withBeside_84 (by decide) (by omega) (fun c_84 => ?_) (fun c_84 => ?_)
              · refine x_iinc h dX1_withBeside_101 6 rfl (by decide) [1, 2, 3, 4, 5, 6, 0, 7, 8] [(0, .ref (ad 0)), (1, .int (iI (i : Int))), (2, .int (iI (d : Int))), (3, .int (iI sd)), (4, .int (iI (y : Int))), (5, .int (iI (c : Int))), (6, .int (iI ((q : Int) + 1))), (7, .int (iI ((q : Int) - 1))), (8, .int (iI 0))] rfl ?_
                refine x_goto h 14 dX1_withBeside_104 (by decide) ?_
                refine x_sub [0, 1, 2, 3, 4, 5, 6] [(0, .ref (ad 0)), (1, .int (iI (i : Int))), (2, .int (iI (d : Int))), (3, .int (iI sd)), (4, .int (iI (y : Int))), (5, .int (iI (c : Int))), (6, .int (iI ((q : Int) + 1)))] rfl ?_
                refine ih (q + 1) y _ _ (by omega) (by omega) (by omega) rfl (by omega) ?_
                rw [hy, cP_f (P := fun q => eqv G c (q + c) (a + c) ∧ Bs G n d c sd q) (fun w => by have w2 := w.2; unfold Bs at w2; omega)]
              · omega
          · refine x_if_eq h 101 dX1_withBeside_79 (by decide) (by omega) (fun c_79 => ?_) (fun c_79 => ?_)
            · refine x_iinc h dX1_withBeside_101 6 rfl (by decide) [1, 2, 3, 4, 5, 6, 0, 7, 8] [(0, .ref (ad 0)), (1, .int (iI (i : Int))), (2, .int (iI (d : Int))), (3, .int (iI sd)), (4, .int (iI (y : Int))), (5, .int (iI (c : Int))), (6, .int (iI ((q : Int) + 1))), (7, .int (iI ((q : Int) - 1))), (8, .int (iI 0))] rfl ?_
              refine x_goto h 14 dX1_withBeside_104 (by decide) ?_
              refine x_sub [0, 1, 2, 3, 4, 5, 6] [(0, .ref (ad 0)), (1, .int (iI (i : Int))), (2, .int (iI (d : Int))), (3, .int (iI sd)), (4, .int (iI (y : Int))), (5, .int (iI (c : Int))), (6, .int (iI ((q : Int) + 1)))] rfl ?_
              refine ih (q + 1) y _ _ (by omega) (by omega) (by omega) rfl (by omega) ?_
              rw [hy, cP_f (P := fun q => eqv G c (q + c) (a + c) ∧ Bs G n d c sd q) (fun w => hs w.1)]
            · omega
        · refine x_iload h dX1_withBeside_49 7 rfl ?_
          refine x_aload_n h dX1_withBeside_51 0 rfl ?_
          refine xM_tl h dX1_withBeside_52 ?_
          refine x_icmp_ge h 62 dX1_withBeside_55 (by decide) (by omega) (by omega) (fun c_55 => ?_) (fun c_55 => ?_)
          · omega
          · refine x_iconst h dX1_withBeside_58 ?_
            refine x_goto h 63 dX1_withBeside_59 (by decide) ?_
            refine x_istore h dX1_withBeside_63 (by decide) [1, 2, 3, 4, 5, 6, 7, 8, 0] [(0, .ref (ad 0)), (1, .int (iI (i : Int))), (2, .int (iI (d : Int))), (3, .int (iI sd)), (4, .int (iI (y : Int))), (5, .int (iI (c : Int))), (6, .int (iI (q : Int))), (7, .int (iI ((q : Int) - 1))), (8, .int (iI 1))] rfl ?_
            refine x_aload_n h dX1_withBeside_65 0 rfl ?_
            refine x_aload_n h dX1_withBeside_66 0 rfl ?_
            refine xM_lp h dX1_withBeside_67 ?_
            refine x_iload_n h dX1_withBeside_70 1 rfl ?_
            refine xM_llp h i (by omega) (by omega) dX1_withBeside_71 ?_
            refine x_top hla ?_
            refine x_iload h dX1_withBeside_72 6 rfl ?_
            refine x_iload h dX1_withBeside_74 5 rfl ?_
            refine xM_calli h (cM_same l D dN ad li kn gg lp ll G n m a q c hn hm hG hgg (fun j hj => Or.inl (by omega)) (fun j hj => Or.inl (by omega)) (by omega)) 3 (lw_V q222 q224 qs11 q20 q225) (by decide +kernel) ⟨Nat.le_of_ble_eq_true rfl, Nat.le_of_ble_eq_true rfl⟩ rfl rfl (Nat.le_of_ble_eq_true rfl) dX1_withBeside_76 (fun r_76 ws_ hp_76 => ?_)
            obtain ⟨rfl, hs⟩ := hp_76
            rcases hs with ⟨rfl, hs⟩ | ⟨rfl, hs⟩
            · refine x_if_eq h 101 dX1_withBeside_79 (by decide) (by omega) (fun c_79 => ?_) (fun c_79 => ?_)
              · omega
              · refine x_iload h dX1_withBeside_82 8 rfl ?_
                refine x_if_eq h 101 dX1_withBeside_84 (by decide) (by omega) (fun c_84 => ?_) (fun c_84 => ?_)
                · omega
                · refine x_aload_n h dX1_withBeside_87 0 rfl ?_
                  refine xM_gg h dX1_withBeside_88 ?_
                  refine x_iload h dX1_withBeside_91 7 rfl ?_
                  refine xM_lgg h (q - 1) (by omega) (by omega) dX1_withBeside_93 ?_
                  refine x_top (hgg (q - 1) (Or.inl (by omega))) ?_
                  have hg4 := hG (q - 1)
                  refine x_iload_n h dX1_withBeside_94 2 rfl ?_
                  refine x_icmp_ne h 101 dX1_withBeside_95 (by decide) (by omega) (by omega) (fun c_95 => ?_) (fun c_95 => ?_)
                  · refine x_iinc h dX1_withBeside_101 6 rfl (by decide) [1, 2, 3, 4, 5, 6, 0, 7, 8] [(0, .ref (ad 0)), (1, .int (iI (i : Int))), (2, .int (iI (d : Int))), (3, .int (iI sd)), (4, .int (iI (y : Int))), (5, .int (iI (c : Int))), (6, .int (iI ((q : Int) + 1))), (7, .int (iI ((q : Int) - 1))), (8, .int (iI 1))] rfl ?_
                    refine x_goto h 14 dX1_withBeside_104 (by decide) ?_
                    refine x_sub [0, 1, 2, 3, 4, 5, 6] [(0, .ref (ad 0)), (1, .int (iI (i : Int))), (2, .int (iI (d : Int))), (3, .int (iI sd)), (4, .int (iI (y : Int))), (5, .int (iI (c : Int))), (6, .int (iI ((q : Int) + 1)))] rfl ?_
                    refine ih (q + 1) y _ _ (by omega) (by omega) (by omega) rfl (by omega) ?_
                    rw [hy, cP_f (P := fun q => eqv G c (q + c) (a + c) ∧ Bs G n d c sd q) (fun w => by have w2 := w.2; unfold Bs at w2; omega)]
                  · refine x_iinc h dX1_withBeside_98 4 rfl (by decide) [1, 2, 3, 4, 0, 5, 6, 7, 8] [(0, .ref (ad 0)), (1, .int (iI (i : Int))), (2, .int (iI (d : Int))), (3, .int (iI sd)), (4, .int (iI ((y : Int) + 1))), (5, .int (iI (c : Int))), (6, .int (iI (q : Int))), (7, .int (iI ((q : Int) - 1))), (8, .int (iI 1))] rfl ?_
                    refine x_iinc h dX1_withBeside_101 6 rfl (by decide) [1, 2, 3, 4, 5, 6, 0, 7, 8] [(0, .ref (ad 0)), (1, .int (iI (i : Int))), (2, .int (iI (d : Int))), (3, .int (iI sd)), (4, .int (iI ((y : Int) + 1))), (5, .int (iI (c : Int))), (6, .int (iI ((q : Int) + 1))), (7, .int (iI ((q : Int) - 1))), (8, .int (iI 1))] rfl ?_
                    refine x_goto h 14 dX1_withBeside_104 (by decide) ?_
                    refine x_sub [0, 1, 2, 3, 4, 5, 6] [(0, .ref (ad 0)), (1, .int (iI (i : Int))), (2, .int (iI (d : Int))), (3, .int (iI sd)), (4, .int (iI ((y : Int) + 1))), (5, .int (iI (c : Int))), (6, .int (iI ((q : Int) + 1)))] rfl ?_
                    refine ih (q + 1) (y + 1) _ _ (by omega) (by omega) (by omega) (by omega) (by omega) ?_
                    rw [hy, cP_t (P := fun q => eqv G c (q + c) (a + c) ∧ Bs G n d c sd q) ⟨hs, Or.inl ⟨by omega, by omega, by omega⟩⟩]
            · refine x_if_eq h 101 dX1_withBeside_79 (by decide) (by omega) (fun c_79 => ?_) (fun c_79 => ?_)
              · refine x_iinc h dX1_withBeside_101 6 rfl (by decide) [1, 2, 3, 4, 5, 6, 0, 7, 8] [(0, .ref (ad 0)), (1, .int (iI (i : Int))), (2, .int (iI (d : Int))), (3, .int (iI sd)), (4, .int (iI (y : Int))), (5, .int (iI (c : Int))), (6, .int (iI ((q : Int) + 1))), (7, .int (iI ((q : Int) - 1))), (8, .int (iI 1))] rfl ?_
                refine x_goto h 14 dX1_withBeside_104 (by decide) ?_
                refine x_sub [0, 1, 2, 3, 4, 5, 6] [(0, .ref (ad 0)), (1, .int (iI (i : Int))), (2, .int (iI (d : Int))), (3, .int (iI sd)), (4, .int (iI (y : Int))), (5, .int (iI (c : Int))), (6, .int (iI ((q : Int) + 1)))] rfl ?_
                refine ih (q + 1) y _ _ (by omega) (by omega) (by omega) rfl (by omega) ?_
                rw [hy, cP_f (P := fun q => eqv G c (q + c) (a + c) ∧ Bs G n d c sd q) (fun w => hs w.1)]
              · omega
theorem cM_withBeside (l : Launch) (D : va_G) (dN : ClassId) (ad : Nat → Nat) (li kn : Int) (gg lp ll : Nat → Int) (G : Nat → Nat) (n m : Nat) (i a c d : Nat) (sd : Int) (hn : n ≤ 24) (hm : m ≤ 12) (hG : ∀ i, G i < 4) (hgg : ∀ i, vd n m i → gg i = (G i : Int)) (hi : i < 300) (hla : lp i = (a : Int)) (hlc : ll i = (c : Int)) (hc0 : 0 < c) (hac : a + c ≤ n) (hsd : sd = -1 ∨ sd = 1) (hd4 : d < 4) : xmi (JM l D dN) yX1_withBeside cX1_withBeside 9 .int 1 24 [.ref (ad 0), .int (iI (i : Int)), .int (iI (d : Int)), .int (iI sd)] (wM ad dN (n : Int) (m : Int) li kn gg lp ll) (fun r ws' => ws' = wM ad dN (n : Int) (m : Int) li kn gg lp ll ∧ r = iI (cP (fun q => eqv G c (q + c) (a + c) ∧ Bs G n d c sd q) (n + 1 - c) : Int)) := by
  refine xmi_of (by decide) (Nat.le_of_ble_eq_true rfl) (fun K h hr => ?_)
  show xw K (wM ad dN (n : Int) (m : Int) li kn gg lp ll) 0 [(0, .ref (ad 0)), (1, .int (iI (i : Int))), (2, .int (iI (d : Int))), (3, .int (iI sd))] []
  refine x_iconst h dX1_withBeside_0 ?_
  refine x_istore h dX1_withBeside_1 (by decide) [1, 2, 3, 4, 0] [(0, .ref (ad 0)), (1, .int (iI (i : Int))), (2, .int (iI (d : Int))), (3, .int (iI sd)), (4, .int (iI 0))] rfl ?_
  refine x_aload_n h dX1_withBeside_3 0 rfl ?_
  refine xM_ll h dX1_withBeside_4 ?_
  refine x_iload_n h dX1_withBeside_7 1 rfl ?_
  refine xM_lll h i (by omega) (by omega) dX1_withBeside_8 ?_
  refine x_top hlc ?_
  refine x_istore h dX1_withBeside_9 (by decide) [1, 2, 3, 4, 5, 0] [(0, .ref (ad 0)), (1, .int (iI (i : Int))), (2, .int (iI (d : Int))), (3, .int (iI sd)), (4, .int (iI 0)), (5, .int (iI (c : Int)))] rfl ?_
  refine x_iconst h dX1_withBeside_11 ?_
  refine x_istore h dX1_withBeside_12 (by decide) [1, 2, 3, 4, 5, 6, 0] [(0, .ref (ad 0)), (1, .int (iI (i : Int))), (2, .int (iI (d : Int))), (3, .int (iI sd)), (4, .int (iI 0)), (5, .int (iI (c : Int))), (6, .int (iI 0))] rfl ?_
  exact beside_loop hn hm hG hgg hi hla hlc hc0 hac hsd hd4 h hr (n + 2) 0 0 _ _ (by omega) (by omega) rfl rfl (by omega) rfl
theorem maximal_loop {K : XK} {l : Launch} {D : va_G} {dN : ClassId} {ad : Nat → Nat} {li kn : Int} {gg lp ll : Nat → Int} {G : Nat → Nat} {n m : Nat} {i a c : Nat} (hn : n ≤ 24) (hm : m ≤ 12) (hG : ∀ i, G i < 4) (hgg : ∀ i, vd n m i → gg i = (G i : Int)) (hi : i < 300) (hla : lp i = (a : Int)) (hlc : ll i = (c : Int)) (hc0 : 0 < c) (hac : a + c ≤ n) (h2 : 2 ≤ oc G n c (a + c)) (h : xok K (JM l D dN) ({ frames := 2, cells := 0, slots := 0, locals := 52 }) cX1_maximal RX1 4) (hr : xri K .boolean (fun r ws' => ws' = wM ad dN (n : Int) (m : Int) li kn gg lp ll ∧ ((r = iI 1 ∧ Mxw G n (a + c) c) ∨ (r = iI 0 ∧ ¬ Mxw G n (a + c) c)))) :
    ∀ (f d : Nat) (x : Int), 4 < d + f → d ≤ 4 → x = (d : Int) → (∀ d', d' < d → cP (fun q => eqv G c (q + c) (a + c) ∧ Bs G n d' c (-1) q) (n + 1 - c) ≠ oc G n c (a + c) ∧ cP (fun q => eqv G c (q + c) (a + c) ∧ Bs G n d' c 1 q) (n + 1 - c) ≠ oc G n c (a + c)) → xw K (wM ad dN (n : Int) (m : Int) li kn gg lp ll) 26 [(0, .ref (ad 0)), (1, .int (iI (i : Int))), (2, .int (iI (oc G n c (a + c) : Int))), (3, .int (iI x))] [] := by
  have hocl := oc_le G n c (a + c)
  intro f
  induction f with
  | zero => intro d x h1 h2; omega
  | succ f ih =>
    intro d x hf hd hxx hno
    subst hxx
    refine x_iload_n h dX1_maximal_26 3 rfl ?_
    refine x_iconst h dX1_maximal_27 ?_
    refine x_icmp_ge h 61 dX1_maximal_28 (by decide) (by omega) (by omega) (fun c_28 => ?_) (fun c_28 => ?_)
    · refine x_iconst h dX1_maximal_61 ?_
      refine x_zreturn h hr dX1_maximal_62 rfl ?_
      exact ⟨rfl, Or.inl ⟨rfl, h2, fun d' hd' => hno d' (by omega)⟩⟩
    · refine x_aload_n h dX1_maximal_31 0 rfl ?_
      refine x_iload_n h dX1_maximal_32 1 rfl ?_
      refine x_iload_n h dX1_maximal_33 3 rfl ?_
      refine x_iconst h dX1_maximal_34 ?_
      refine xM_calli h (cM_withBeside l D dN ad li kn gg lp ll G n m i a c d (-1) hn hm hG hgg hi hla hlc hc0 hac (by omega) (by omega)) 3 (lw_V q254 q256 qs15 q20 q257) (by decide +kernel) ⟨Nat.le_of_ble_eq_true rfl, Nat.le_of_ble_eq_true rfl⟩ rfl rfl (Nat.le_of_ble_eq_true rfl) dX1_maximal_35 (fun r_35 ws_ hp_35 => ?_)
      obtain ⟨rfl, rfl⟩ := hp_35
      have hw1 := cP_le (fun q => eqv G c (q + c) (a + c) ∧ Bs G n d c (-1) q) (n + 1 - c)
      refine x_iload_n h dX1_maximal_38 2 rfl ?_
      refine x_icmp_eq h 53 dX1_maximal_39 (by decide) (by omega) (by omega) (fun c_39 => ?_) (fun c_39 => ?_)
      · refine x_iconst h dX1_maximal_53 ?_
        refine x_zreturn h hr dX1_maximal_54 rfl ?_
        exact ⟨rfl, Or.inr ⟨rfl, fun w => by have := w.2 d (by omega); omega⟩⟩
      · refine x_aload_n h dX1_maximal_42 0 rfl ?_
        refine x_iload_n h dX1_maximal_43 1 rfl ?_
        refine x_iload_n h dX1_maximal_44 3 rfl ?_
        refine x_iconst h dX1_maximal_45 ?_
        refine xM_calli h (cM_withBeside l D dN ad li kn gg lp ll G n m i a c d 1 hn hm hG hgg hi hla hlc hc0 hac (by omega) (by omega)) 3 (lw_V q254 q256 qs15 q20 q257) (by decide +kernel) ⟨Nat.le_of_ble_eq_true rfl, Nat.le_of_ble_eq_true rfl⟩ rfl rfl (Nat.le_of_ble_eq_true rfl) dX1_maximal_46 (fun r_46 ws_ hp_46 => ?_)
        obtain ⟨rfl, rfl⟩ := hp_46
        have hw2 := cP_le (fun q => eqv G c (q + c) (a + c) ∧ Bs G n d c 1 q) (n + 1 - c)
        refine x_iload_n h dX1_maximal_49 2 rfl ?_
        refine x_icmp_ne h 55 dX1_maximal_50 (by decide) (by omega) (by omega) (fun c_50 => ?_) (fun c_50 => ?_)
        · refine x_iinc h dX1_maximal_55 3 rfl (by decide) [1, 2, 3, 0] [(0, .ref (ad 0)), (1, .int (iI (i : Int))), (2, .int (iI (oc G n c (a + c) : Int))), (3, .int (iI ((d : Int) + 1)))] rfl ?_
          refine x_goto h 26 dX1_maximal_58 (by decide) ?_
          refine ih (d + 1) _ (by omega) (by omega) (by omega) (fun d' hd' => ?_)
          by_cases hdd : d' = d
          · subst hdd; exact ⟨by omega, by omega⟩
          · exact hno d' (by omega)
        · refine x_iconst h dX1_maximal_53 ?_
          refine x_zreturn h hr dX1_maximal_54 rfl ?_
          exact ⟨rfl, Or.inr ⟨rfl, fun w => by have := w.2 d (by omega); omega⟩⟩
theorem cM_maximal (l : Launch) (D : va_G) (dN : ClassId) (ad : Nat → Nat) (li kn : Int) (gg lp ll : Nat → Int) (G : Nat → Nat) (n m : Nat) (i a c : Nat) (hn : n ≤ 24) (hm : m ≤ 12) (hG : ∀ i, G i < 4) (hgg : ∀ i, vd n m i → gg i = (G i : Int)) (hi : i < 300) (hla : lp i = (a : Int)) (hlc : ll i = (c : Int)) (hc0 : 0 < c) (hac : a + c ≤ n) : xmi (JM l D dN) yX1_maximal cX1_maximal 4 .boolean 2 52 [.ref (ad 0), .int (iI (i : Int))] (wM ad dN (n : Int) (m : Int) li kn gg lp ll) (fun r ws' => ws' = wM ad dN (n : Int) (m : Int) li kn gg lp ll ∧ ((r = iI 1 ∧ Mxw G n (a + c) c) ∨ (r = iI 0 ∧ ¬ Mxw G n (a + c) c))) := by
  have hocl := oc_le G n c (a + c)
  refine xmi_of (by decide) (Nat.le_of_ble_eq_true rfl) (fun K h hr => ?_)
  show xw K (wM ad dN (n : Int) (m : Int) li kn gg lp ll) 0 [(0, .ref (ad 0)), (1, .int (iI (i : Int)))] []
  refine x_aload_n h dX1_maximal_0 0 rfl ?_
  refine x_aload_n h dX1_maximal_1 0 rfl ?_
  refine xM_lp h dX1_maximal_2 ?_
  refine x_iload_n h dX1_maximal_5 1 rfl ?_
  refine xM_llp h i (by omega) (by omega) dX1_maximal_6 ?_
  refine x_top hla ?_
  refine x_aload_n h dX1_maximal_7 0 rfl ?_
  refine xM_ll h dX1_maximal_8 ?_
  refine x_iload_n h dX1_maximal_11 1 rfl ?_
  refine xM_lll h i (by omega) (by omega) dX1_maximal_12 ?_
  refine x_top hlc ?_
  refine xM_calli h (cM_countOf l D dN ad li kn gg lp ll G n m a c hn hm hG hgg (fun j hj => Or.inl (by omega)) hc0 (by omega) (by omega)) 2 (lw_V q218 q220 qs10 q20 q221) (by decide +kernel) ⟨Nat.le_of_ble_eq_true rfl, Nat.le_of_ble_eq_true rfl⟩ rfl rfl (Nat.le_of_ble_eq_true rfl) dX1_maximal_13 (fun r_13 ws_ hp_13 => ?_)
  obtain ⟨rfl, rfl⟩ := hp_13
  refine x_istore_n h dX1_maximal_16 (by decide) [1, 2, 0] [(0, .ref (ad 0)), (1, .int (iI (i : Int))), (2, .int (iI (oc G n c (a + c) : Int)))] rfl ?_
  refine x_iload_n h dX1_maximal_17 2 rfl ?_
  refine x_iconst h dX1_maximal_18 ?_
  refine x_icmp_ge h 24 dX1_maximal_19 (by decide) (by omega) (by omega) (fun c_19 => ?_) (fun c_19 => ?_)
  · refine x_iconst h dX1_maximal_24 ?_
    refine x_istore_n h dX1_maximal_25 (by decide) [1, 2, 3, 0] [(0, .ref (ad 0)), (1, .int (iI (i : Int))), (2, .int (iI (oc G n c (a + c) : Int))), (3, .int (iI 0))] rfl ?_
    exact maximal_loop hn hm hG hgg hi hla hlc hc0 hac (by omega) h hr 5 0 _ (by omega) (by omega) rfl (fun d' hd' => by omega)
  · refine x_iconst h dX1_maximal_22 ?_
    refine x_zreturn h hr dX1_maximal_23 rfl ?_
    exact ⟨rfl, Or.inr ⟨rfl, fun w => by have := w.1; omega⟩⟩
theorem mrepeats_loop {K : XK} {l : Launch} {D : va_G} {dN : ClassId} {ad : Nat → Nat} {gg lp ll : Nat → Int} {G : Nat → Nat} {n m k : Nat} (hn : n ≤ 24) (hm : m ≤ 12) (hG : ∀ i, G i < 4) (hgg : ∀ i, vd n m i → gg i = (G i : Int)) (hk : k ≤ 300) (hLi : Li G n k lp ll) (h : xok K (JM l D dN) ({ frames := 3, cells := 0, slots := 0, locals := 75 }) cX1_repeats RX1 3)
    (hx : ∀ (y : Nat) (x : Int), y = cP (fun i => Mxw G n (vN lp i + vN ll i) (vN ll i)) k → xw K (wM ad dN (n : Int) (m : Int) (k : Int) 1 gg lp ll) 33 [(0, .ref (ad 0)), (1, .int (iI (y : Int))), (2, .int (iI x))] []) :
    ∀ (f i y : Nat) (x z : Int), k < i + f → i ≤ k → x = (i : Int) → z = (y : Int) → y ≤ i → y = cP (fun i => Mxw G n (vN lp i + vN ll i) (vN ll i)) i → xw K (wM ad dN (n : Int) (m : Int) (k : Int) 1 gg lp ll) 8 [(0, .ref (ad 0)), (1, .int (iI z)), (2, .int (iI x))] [] := by
  intro f
  induction f with
  | zero => intro i y x z h1 h2; omega
  | succ f ih =>
    intro i y x z hf hi hxx hzz hyi hy
    subst hxx; subst hzz
    refine x_iload_n h dX1_repeats_8 2 rfl ?_
    refine x_aload_n h dX1_repeats_9 0 rfl ?_
    refine xM_li h dX1_repeats_10 ?_
    refine x_icmp_ge h 33 dX1_repeats_13 (by decide) (by omega) (by omega) (fun c_13 => ?_) (fun c_13 => ?_)
    · obtain rfl : i = k := by omega
      exact hx y _ hy
    · have hL0 := hLi.1 i (by omega)
      refine x_aload_n h dX1_repeats_16 0 rfl ?_
      refine x_iload_n h dX1_repeats_17 2 rfl ?_
      refine xM_calli h (cM_maximal l D dN ad (k : Int) 1 gg lp ll G n m i (vN lp i) (vN ll i) hn hm hG hgg (by omega) hL0.1 hL0.2.1 hL0.2.2.1 hL0.2.2.2.2.1) 1 (lw_V q250 q252 qs14 q20 q253) (by decide +kernel) ⟨Nat.le_of_ble_eq_true rfl, Nat.le_of_ble_eq_true rfl⟩ rfl rfl (Nat.le_of_ble_eq_true rfl) dX1_repeats_18 (fun r_18 ws_ hp_18 => ?_)
      obtain ⟨rfl, hs⟩ := hp_18
      rcases hs with ⟨rfl, hs⟩ | ⟨rfl, hs⟩
      · refine x_if_eq h 27 dX1_repeats_21 (by decide) (by omega) (fun c_21 => ?_) (fun c_21 => ?_)
        · omega
        · refine x_iinc h dX1_repeats_24 1 rfl (by decide) [1, 0, 2] [(0, .ref (ad 0)), (1, .int (iI ((y : Int) + 1))), (2, .int (iI (i : Int)))] rfl ?_
          refine x_iinc h dX1_repeats_27 2 rfl (by decide) [1, 2, 0] [(0, .ref (ad 0)), (1, .int (iI ((y : Int) + 1))), (2, .int (iI ((i : Int) + 1)))] rfl ?_
          refine x_goto h 8 dX1_repeats_30 (by decide) ?_
          refine ih (i + 1) (y + 1) _ _ (by omega) (by omega) (by omega) (by omega) (by omega) ?_
          rw [hy, cP_t (P := fun i => Mxw G n (vN lp i + vN ll i) (vN ll i)) hs]
      · refine x_if_eq h 27 dX1_repeats_21 (by decide) (by omega) (fun c_21 => ?_) (fun c_21 => ?_)
        · refine x_iinc h dX1_repeats_27 2 rfl (by decide) [1, 2, 0] [(0, .ref (ad 0)), (1, .int (iI (y : Int))), (2, .int (iI ((i : Int) + 1)))] rfl ?_
          refine x_goto h 8 dX1_repeats_30 (by decide) ?_
          refine ih (i + 1) y _ _ (by omega) (by omega) (by omega) rfl (by omega) ?_
          rw [hy, cP_f (P := fun i => Mxw G n (vN lp i + vN ll i) (vN ll i)) hs]
        · omega
theorem cM_repeats (l : Launch) (D : va_G) (dN : ClassId) (ad : Nat → Nat) (li kn : Int) (gg lp ll : Nat → Int) (G : Nat → Nat) (n m : Nat) (hn : n ≤ 24) (hm : m ≤ 12) (hG : ∀ i, G i < 4) (hg1 : ∀ i, i < n → gg i = (G i : Int)) (hg2 : ∀ i, i < m → gg (24 + i) = (G (24 + i) : Int)) (hkn : Kn G n li kn lp ll)  : xmi (JM l D dN) yX1_repeats cX1_repeats 3 .int 3 75 [.ref (ad 0)] (wM ad dN (n : Int) (m : Int) li kn gg lp ll) (fun r ws' => MI ad dN G n m ws' ∧ r = iI (wc G n (fun e l => Mxw G n e l) : Int)) := by
  have hgg : ∀ i, vd n m i → gg i = (G i : Int) := fun i hi => by
    rcases hi with q | q
    · exact hg1 i q
    · have := hg2 (i - 24) (by omega)
      rw [show 24 + (i - 24) = i by omega] at this
      exact this
  refine xmi_of (by decide) (Nat.le_of_ble_eq_true rfl) (fun K h hr => ?_)
  show xw K (wM ad dN (n : Int) (m : Int) li kn gg lp ll) 0 [(0, .ref (ad 0))] []
  refine x_iconst h dX1_repeats_0 ?_
  refine x_istore_n h dX1_repeats_1 (by decide) [1, 0] [(0, .ref (ad 0)), (1, .int (iI 0))] rfl ?_
  refine x_aload_n h dX1_repeats_2 0 rfl ?_
  refine xM_callv h (cM_list l D dN ad li kn gg lp ll G n m hn hm hG hgg hkn) 0 (lw_V q238 q240 qs13 q20 q241) (by decide +kernel) ⟨Nat.le_of_ble_eq_true rfl, Nat.le_of_ble_eq_true rfl⟩ rfl rfl (Nat.le_of_ble_eq_true rfl) dX1_repeats_3 (fun ws_ hp_3 => ?_)
  obtain ⟨k, lp', ll', hk, hLi, rfl⟩ := hp_3
  refine x_iconst h dX1_repeats_6 ?_
  refine x_istore_n h dX1_repeats_7 (by decide) [1, 2, 0] [(0, .ref (ad 0)), (1, .int (iI 0)), (2, .int (iI 0))] rfl ?_
  refine mrepeats_loop hn hm hG hgg hk hLi h (fun y x hy => ?_) (k + 1) 0 0 _ _ (by omega) (by omega) rfl rfl (by omega) rfl
  refine x_iload_n h dX1_repeats_33 1 rfl ?_
  exact x_ireturn h hr dX1_repeats_34 ⟨⟨_, _, _, _, _, hg1, hg2, Or.inr ⟨rfl, _, rfl, hk, hLi⟩, rfl⟩, by rw [hy, ← hLi.2 (fun e l => Mxw G n e l)]⟩
end
section
/-! ===== pure: words in order, on ===== -/
theorem ltw_irr {G : Nat → Nat} {a l : Nat} : ¬ ltw G a l a l := by
  rintro ⟨k, -, h | h⟩ <;> omega
theorem ltw_trans {G : Nat → Nat} {a l b m c p : Nat} (h : ltw G a l b m) (h' : ltw G b m c p) : ltw G a l c p := by
  obtain ⟨k, h1, h2⟩ := h
  obtain ⟨k', h1', h2'⟩ := h'
  rcases Nat.lt_trichotomy k k' with q | q | q
  · refine ⟨k, fun j hj => (h1 j hj).trans (h1' j (by omega)), ?_⟩
    have e := h1' k q
    rcases h2 with h2 | h2
    · exact Or.inl ⟨h2.1, by omega⟩
    · exact Or.inr ⟨h2.1, by omega, by omega⟩
  · subst q
    refine ⟨k, fun j hj => (h1 j hj).trans (h1' j hj), ?_⟩
    rcases h2 with h2 | h2
    · exact Or.inl ⟨h2.1, by omega⟩
    · exact Or.inr ⟨h2.1, by omega, by omega⟩
  · refine ⟨k', fun j hj => (h1 j (by omega)).trans (h1' j hj), ?_⟩
    have e := h1 k' q
    exact Or.inr ⟨by omega, by omega, by omega⟩
theorem ltw_asym {G : Nat → Nat} {a l b m : Nat} (h : ltw G a l b m) : ¬ ltw G b m a l := fun h' => ltw_irr (ltw_trans h h')
theorem ltw_tri (G : Nat → Nat) (a l b m : Nat) : ltw G a l b m ∨ ltw G b m a l ∨ (l = m ∧ ∀ j, j < l → G (a + j) = G (b + j)) := by
  obtain ⟨k, h1, h2⟩ := pk_least (fun k => l ≤ k ∨ m ≤ k ∨ G (a + k) ≠ G (b + k)) ⟨l, Or.inl (Nat.le_refl l)⟩
  have h3 : ∀ j, j < k → G (a + j) = G (b + j) := fun j hj => by
    have := h2 j hj
    omega
  have h4 : k ≤ l := by
    rcases Nat.lt_or_ge l k with q | q
    · exact absurd (Or.inl (Nat.le_refl l)) (h2 l q)
    · exact q
  have h5 : k ≤ m := by
    rcases Nat.lt_or_ge m k with q | q
    · exact absurd (Or.inr (Or.inl (Nat.le_refl m))) (h2 m q)
    · exact q
  rcases Nat.lt_trichotomy l m with q | q | q
  · by_cases z : k = l
    · exact Or.inl ⟨k, h3, Or.inl ⟨z, by omega⟩⟩
    · rcases Nat.lt_or_ge (G (a + k)) (G (b + k)) with y | y
      · exact Or.inl ⟨k, h3, Or.inr ⟨by omega, by omega, y⟩⟩
      · exact Or.inr (Or.inl ⟨k, fun j hj => (h3 j hj).symm, Or.inr ⟨by omega, by omega, by omega⟩⟩)
  · by_cases z : k = l
    · exact Or.inr (Or.inr ⟨q, fun j hj => h3 j (by omega)⟩)
    · rcases Nat.lt_or_ge (G (a + k)) (G (b + k)) with y | y
      · exact Or.inl ⟨k, h3, Or.inr ⟨by omega, by omega, y⟩⟩
      · exact Or.inr (Or.inl ⟨k, fun j hj => (h3 j hj).symm, Or.inr ⟨by omega, by omega, by omega⟩⟩)
  · by_cases z : k = m
    · exact Or.inr (Or.inl ⟨k, fun j hj => (h3 j hj).symm, Or.inl ⟨z, by omega⟩⟩)
    · rcases Nat.lt_or_ge (G (a + k)) (G (b + k)) with y | y
      · exact Or.inl ⟨k, h3, Or.inr ⟨by omega, by omega, y⟩⟩
      · exact Or.inr (Or.inl ⟨k, fun j hj => (h3 j hj).symm, Or.inr ⟨by omega, by omega, by omega⟩⟩)
theorem not_ltw_eq {G : Nat → Nat} {a l b m : Nat} (h : l = m) (h' : ∀ j, j < l → G (a + j) = G (b + j)) : ¬ ltw G a l b m := by
  rintro ⟨k, -, q | q⟩
  · omega
  · have := h' k q.1
    omega
/-- two listed words with the same letters are one -/
theorem lst_eq {G : Nat → Nat} {n e l e' l' : Nat} (h : Lst G n e l) (h' : Lst G n e' l') (hl : l = l') (hq : ∀ j, j < l → G (e - l + j) = G (e' - l' + j)) : e = e' := by
  subst hl
  have h1 := h.2.1
  have h2 := h'.2.1
  have q : eqv G l e e' := by
    have := (eqv_start (G := G) (l := l) (a := e - l) (b := e' - l)).mpr hq
    rw [show e - l + l = e by omega, show e' - l + l = e' by omega] at this
    exact this
  rcases Nat.lt_trichotomy e e' with z | z | z
  · exact absurd q (h'.2.2.2 e z)
  · exact z
  · exact absurd (eqv_symm q) (h.2.2.2 e' z)
theorem wc_mono {G : Nat → Nat} {n : Nat} {Q R : Nat → Nat → Prop} (h : ∀ e l, Lst G n e l → Q e l → R e l) : wc G n Q ≤ wc G n R :=
  sm_le (fun l hl => cP_mono (fun e he q => ⟨q.1, h _ _ q.1 q.2⟩))
theorem wc_less {G : Nat → Nat} {n e l e' l' : Nat} (h : Lst G n e l) (hlt : ltw G (e - l) l (e' - l') l') : wc G n (fun x y => ltw G (x - y) y (e - l) l) < wc G n (fun x y => ltw G (x - y) y (e' - l') l') := by
  have h1 : wc G n (fun x y => ltw G (x - y) y (e - l) l ∨ (y = l ∧ x = e)) = wc G n (fun x y => ltw G (x - y) y (e - l) l) + wc G n (fun x y => y = l ∧ x = e) := wc_or (fun x y _ q => by
    obtain ⟨q1, q2, q3⟩ := q
    subst q2; subst q3
    exact ltw_irr q1)
  rw [wc_one (e := e) (l := l) h ⟨rfl, rfl⟩ (fun _ _ _ q => q)] at h1
  have h2 : wc G n (fun x y => ltw G (x - y) y (e - l) l ∨ (y = l ∧ x = e)) ≤ wc G n (fun x y => ltw G (x - y) y (e' - l') l') := wc_mono (fun x y _ q => by
    rcases q with q | ⟨q2, q3⟩
    · exact ltw_trans q hlt
    · subst q2; subst q3; exact hlt)
  omega
theorem IsWord.uniq {G : Nat → Nat} {n kk : Nat} {r r' : Int} (h : IsWord G n kk r) (h' : IsWord G n kk r') : r = r' := by
  obtain ⟨e, l, a1, a2, a3⟩ := h
  obtain ⟨e', l', b1, b2, b3⟩ := h'
  rcases ltw_tri G (e - l) l (e' - l') l' with q | q | ⟨q1, q2⟩
  · have := wc_less a1 q
    omega
  · have := wc_less b1 q
    omega
  · have := lst_eq a1 b1 q1 q2
    subst q1; subst this
    omega
/-- listed word i comes before listed word j -/
def LtL (G : Nat → Nat) (lp ll : Nat → Int) (i j : Nat) : Prop := ltw G (vN lp i) (vN ll i) (vN lp j) (vN ll j)
section LI
variable {G : Nat → Nat} {n k : Nat} {lp ll : Nat → Int}
theorem li_eq (h : Li G n k lp ll) {i j : Nat} (hi : i < k) (hj : j < k) (hl : vN ll i = vN ll j) (hq : ∀ t, t < vN ll i → G (vN lp i + t) = G (vN lp j + t)) : i = j := by
  have e1 := lst_eq (h.1 i hi).2.2 (h.1 j hj).2.2 hl (by rw [Nat.add_sub_cancel, Nat.add_sub_cancel]; exact hq)
  exact li_inj h hi hj (by omega) hl
theorem li_tri (h : Li G n k lp ll) {i j : Nat} (hi : i < k) (hj : j < k) : LtL G lp ll i j ∨ LtL G lp ll j i ∨ i = j := by
  rcases ltw_tri G (vN lp i) (vN ll i) (vN lp j) (vN ll j) with q | q | ⟨q1, q2⟩
  · exact Or.inl q
  · exact Or.inr (Or.inl q)
  · exact Or.inr (Or.inr (li_eq h hi hj q1 q2))
theorem rank_first {b : Nat} (hm : ∀ j, j < k → j = b ∨ LtL G lp ll b j) : cP (fun j => LtL G lp ll j b) k = 0 := by
  refine cP_none (fun j hj q => ?_)
  rcases hm j hj with z | z
  · subst z; exact ltw_irr q
  · exact ltw_asym z q
theorem rank_next (h : Li G n k lp ll) {i b : Nat} (hi : i < k) (h1 : LtL G lp ll i b) (h2 : ∀ j, j < k → LtL G lp ll i j → j = b ∨ LtL G lp ll b j) : cP (fun j => LtL G lp ll j b) k = cP (fun j => LtL G lp ll j i) k + 1 := by
  have e1 : cP (fun j => LtL G lp ll j i ∨ j = i) k = cP (fun j => LtL G lp ll j i) k + cP (fun j => j = i) k := cP_or (fun j hj q => by
    obtain ⟨q1, q2⟩ := q
    subst q2; exact ltw_irr q1)
  rw [cP_one (P := fun j => j = i) (i := i) hi rfl (fun _ _ z => z)] at e1
  rw [← e1]
  refine cP_congr (fun j hj => ⟨fun q => ?_, fun q => ?_⟩)
  · rcases li_tri h hj hi with z | z | z
    · exact Or.inl z
    · rcases h2 j hj z with y | y
      · subst y; exact absurd q ltw_irr
      · exact absurd q (ltw_asym y)
    · exact Or.inr z
  · rcases q with q | q
    · exact ltw_trans q h1
    · subst q; exact h1
theorem rank_last (h : Li G n k lp ll) {i : Nat} (hi : i < k) (h2 : ∀ j, j < k → ¬ LtL G lp ll i j) : cP (fun j => LtL G lp ll j i) k + 1 = k := by
  have e1 : cP (fun j => LtL G lp ll j i ∨ j = i) k = cP (fun j => LtL G lp ll j i) k + cP (fun j => j = i) k := cP_or (fun j hj q => by
    obtain ⟨q1, q2⟩ := q
    subst q2; exact ltw_irr q1)
  rw [cP_one (P := fun j => j = i) (i := i) hi rfl (fun _ _ z => z)] at e1
  rw [← e1]
  refine Eq.trans (cP_congr (Q := fun _ => True) (fun j hj => ⟨fun _ => trivial, fun _ => ?_⟩)) (cP_true k)
  rcases li_tri h hj hi with z | z | z
  · exact Or.inl z
  · exact absurd z (h2 j hj)
  · exact Or.inr z
theorem word_li (h : Li G n k lp ll) {b kk : Nat} (hb : b < k) (hr : cP (fun j => LtL G lp ll j b) k = kk) : IsWord G n kk (25 * (vN lp b : Int) + (vN ll b : Int)) := by
  refine ⟨vN lp b + vN ll b, vN ll b, (h.1 b hb).2.2, ?_, by omega⟩
  rw [← h.2, ← hr]
  exact cP_congr (fun j hj => by rw [Nat.add_sub_cancel, Nat.add_sub_cancel]; exact Iff.rfl)
end LI
/-- what comparing two words answers -/
def O3 (G : Nat → Nat) (a c b d : Nat) (v : Int) : Prop := (-1 ≤ v ∧ v ≤ 1) ∧ (v < 0 ↔ ltw G a c b d) ∧ (0 < v ↔ ltw G b d a c) ∧ (v = 0 → c = d ∧ ∀ j, j < c → G (a + j) = G (b + j))
theorem o3_m {G : Nat → Nat} {a c b d : Nat} (h : ltw G a c b d) : O3 G a c b d (-1) := ⟨by omega, ⟨fun _ => h, fun _ => by omega⟩, ⟨fun q => by omega, fun q => absurd q (ltw_asym h)⟩, fun q => by omega⟩
theorem o3_p {G : Nat → Nat} {a c b d : Nat} (h : ltw G b d a c) : O3 G a c b d 1 := ⟨by omega, ⟨fun q => by omega, fun q => absurd q (ltw_asym h)⟩, ⟨fun _ => h, fun _ => by omega⟩, fun q => by omega⟩
theorem o3_0 {G : Nat → Nat} {a c b d : Nat} (h : c = d) (h' : ∀ j, j < c → G (a + j) = G (b + j)) : O3 G a c b d 0 := ⟨by omega, ⟨fun q => by omega, fun q => absurd q (not_ltw_eq h h')⟩, ⟨fun q => by omega, fun q => absurd q (not_ltw_eq h.symm (fun j hj => (h' j (by omega)).symm))⟩, fun _ => ⟨h, h'⟩⟩
end
section
/-! ===== RepeatFinderModel: order, following, word, rank ===== -/
set_option maxRecDepth 100000
theorem order_loop {K : XK} {l : Launch} {D : va_G} {dN : ClassId} {ad : Nat → Nat} {li kn : Int} {gg lp ll : Nat → Int} {G : Nat → Nat} {n m : Nat} {a c b d : Nat} (hn : n ≤ 24) (hm : m ≤ 12) (hG : ∀ i, G i < 4) (hgg : ∀ i, vd n m i → gg i = (G i : Int)) (ha : ∀ j, j < c → vd n m (a + j)) (hb : ∀ j, j < d → vd n m (b + j)) (hc : c ≤ 36) (hd : d ≤ 36) (h : xok K (JM l D dN) ({ frames := 0, cells := 0, slots := 0, locals := 0 }) cX1_order RX1 6) (hr : xri K .int (fun r ws' => ws' = wM ad dN (n : Int) (m : Int) li kn gg lp ll ∧ ∃ v : Int, r = iI v ∧ O3 G a c b d v)) :
    ∀ (f i : Nat) (x : Int), c < i + f → i ≤ c → i ≤ d → x = (i : Int) → (∀ j, j < i → G (a + j) = G (b + j)) → xw K (wM ad dN (n : Int) (m : Int) li kn gg lp ll) 3 [(0, .ref (ad 0)), (1, .int (iI (a : Int))), (2, .int (iI (c : Int))), (3, .int (iI (b : Int))), (4, .int (iI (d : Int))), (5, .int (iI x))] [] := by
  intro f
  induction f with
  | zero => intro i x h1 h2; omega
  | succ f ih =>
    intro i x hf hi hi2 hxx hq
    subst hxx
    refine x_iload h dX1_order_3 5 rfl ?_
    refine x_iload_n h dX1_order_5 2 rfl ?_
    refine x_icmp_ge h 70 dX1_order_6 (by decide) (by omega) (by omega) (fun c_6 => ?_) (fun c_6 => ?_)
    · refine x_iload_n h dX1_order_70 2 rfl ?_
      refine x_iload h dX1_order_71 4 rfl ?_
      refine x_icmp_ne h 80 dX1_order_73 (by decide) (by omega) (by omega) (fun c_73 => ?_) (fun c_73 => ?_)
      · refine x_iload_n h dX1_order_80 2 rfl ?_
        refine x_iload h dX1_order_81 4 rfl ?_
        refine x_icmp_ge h 90 dX1_order_83 (by decide) (by omega) (by omega) (fun c_83 => ?_) (fun c_83 => ?_)
        · refine x_iconst h dX1_order_90 ?_
          refine x_ireturn h hr dX1_order_91 ?_
          exact ⟨rfl, _, rfl, o3_p ⟨i, fun j hj => (hq j hj).symm, Or.inl ⟨by omega, by omega⟩⟩⟩
        · refine x_iconst h dX1_order_86 ?_
          refine x_goto h 91 dX1_order_87 (by decide) ?_
          refine x_ireturn h hr dX1_order_91 ?_
          exact ⟨rfl, _, rfl, o3_m ⟨i, hq, Or.inl ⟨by omega, by omega⟩⟩⟩
      · refine x_iconst h dX1_order_76 ?_
        refine x_goto h 91 dX1_order_77 (by decide) ?_
        refine x_ireturn h hr dX1_order_91 ?_
        exact ⟨rfl, _, rfl, o3_0 (by omega) (fun j hj => hq j (by omega))⟩
    · refine x_iload h dX1_order_9 5 rfl ?_
      refine x_iload h dX1_order_11 4 rfl ?_
      refine x_icmp_ge h 70 dX1_order_13 (by decide) (by omega) (by omega) (fun c_13 => ?_) (fun c_13 => ?_)
      · refine x_iload_n h dX1_order_70 2 rfl ?_
        refine x_iload h dX1_order_71 4 rfl ?_
        refine x_icmp_ne h 80 dX1_order_73 (by decide) (by omega) (by omega) (fun c_73 => ?_) (fun c_73 => ?_)
        · refine x_iload_n h dX1_order_80 2 rfl ?_
          refine x_iload h dX1_order_81 4 rfl ?_
          refine x_icmp_ge h 90 dX1_order_83 (by decide) (by omega) (by omega) (fun c_83 => ?_) (fun c_83 => ?_)
          · refine x_iconst h dX1_order_90 ?_
            refine x_ireturn h hr dX1_order_91 ?_
            exact ⟨rfl, _, rfl, o3_p ⟨i, fun j hj => (hq j hj).symm, Or.inl ⟨by omega, by omega⟩⟩⟩
          · refine x_iconst h dX1_order_86 ?_
            refine x_goto h 91 dX1_order_87 (by decide) ?_
            refine x_ireturn h hr dX1_order_91 ?_
            exact ⟨rfl, _, rfl, o3_m ⟨i, hq, Or.inl ⟨by omega, by omega⟩⟩⟩
        · refine x_iconst h dX1_order_76 ?_
          refine x_goto h 91 dX1_order_77 (by decide) ?_
          refine x_ireturn h hr dX1_order_91 ?_
          exact ⟨rfl, _, rfl, o3_0 (by omega) (fun j hj => hq j (by omega))⟩
      · have v1 := ha i (by omega)
        have v2 := hb i (by omega)
        have g1 := hG (a + i)
        have g2 := hG (b + i)
        refine x_aload_n h dX1_order_16 0 rfl ?_
        refine xM_gg h dX1_order_17 ?_
        refine x_iload_n h dX1_order_20 1 rfl ?_
        refine x_iload h dX1_order_21 5 rfl ?_
        refine x_iadd h dX1_order_23 ?_
        refine xM_lgg h (a + i) (by omega) (by omega) dX1_order_24 ?_
        refine x_top (hgg (a + i) v1) ?_
        refine x_aload_n h dX1_order_25 0 rfl ?_
        refine xM_gg h dX1_order_26 ?_
        refine x_iload_n h dX1_order_29 3 rfl ?_
        refine x_iload h dX1_order_30 5 rfl ?_
        refine x_iadd h dX1_order_32 ?_
        refine xM_lgg h (b + i) (by omega) (by omega) dX1_order_33 ?_
        refine x_top (hgg (b + i) v2) ?_
        refine x_icmp_eq h 64 dX1_order_34 (by decide) (by omega) (by omega) (fun c_34 => ?_) (fun c_34 => ?_)
        · refine x_iinc h dX1_order_64 5 rfl (by decide) [1, 2, 3, 4, 5, 0] [(0, .ref (ad 0)), (1, .int (iI (a : Int))), (2, .int (iI (c : Int))), (3, .int (iI (b : Int))), (4, .int (iI (d : Int))), (5, .int (iI ((i : Int) + 1)))] rfl ?_
          refine x_goto h 3 dX1_order_67 (by decide) ?_
          refine ih (i + 1) _ (by omega) (by omega) (by omega) (by omega) (fun j hj => ?_)
          by_cases hji : j = i
          · subst hji; omega
          · exact hq j (by omega)
        · refine x_aload_n h dX1_order_37 0 rfl ?_
          refine xM_gg h dX1_order_38 ?_
          refine x_iload_n h dX1_order_41 1 rfl ?_
          refine x_iload h dX1_order_42 5 rfl ?_
          refine x_iadd h dX1_order_44 ?_
          refine xM_lgg h (a + i) (by omega) (by omega) dX1_order_45 ?_
          refine x_top (hgg (a + i) v1) ?_
          refine x_aload_n h dX1_order_46 0 rfl ?_
          refine xM_gg h dX1_order_47 ?_
          refine x_iload_n h dX1_order_50 3 rfl ?_
          refine x_iload h dX1_order_51 5 rfl ?_
          refine x_iadd h dX1_order_53 ?_
          refine xM_lgg h (b + i) (by omega) (by omega) dX1_order_54 ?_
          refine x_top (hgg (b + i) v2) ?_
          refine x_icmp_ge h 62 dX1_order_55 (by decide) (by omega) (by omega) (fun c_55 => ?_) (fun c_55 => ?_)
          · refine x_iconst h dX1_order_62 ?_
            refine x_ireturn h hr dX1_order_63 ?_
            exact ⟨rfl, _, rfl, o3_p ⟨i, fun j hj => (hq j hj).symm, Or.inr ⟨by omega, by omega, by omega⟩⟩⟩
          · refine x_iconst h dX1_order_58 ?_
            refine x_goto h 63 dX1_order_59 (by decide) ?_
            refine x_ireturn h hr dX1_order_63 ?_
            exact ⟨rfl, _, rfl, o3_m ⟨i, hq, Or.inr ⟨by omega, by omega, by omega⟩⟩⟩
theorem cM_order (l : Launch) (D : va_G) (dN : ClassId) (ad : Nat → Nat) (li kn : Int) (gg lp ll : Nat → Int) (G : Nat → Nat) (n m : Nat) (a c b d : Nat) (hn : n ≤ 24) (hm : m ≤ 12) (hG : ∀ i, G i < 4) (hgg : ∀ i, vd n m i → gg i = (G i : Int)) (ha : ∀ j, j < c → vd n m (a + j)) (hb : ∀ j, j < d → vd n m (b + j)) (hc : c ≤ 36) (hd : d ≤ 36) : xmi (JM l D dN) yX1_order cX1_order 6 .int 0 0 [.ref (ad 0), .int (iI (a : Int)), .int (iI (c : Int)), .int (iI (b : Int)), .int (iI (d : Int))] (wM ad dN (n : Int) (m : Int) li kn gg lp ll) (fun r ws' => ws' = wM ad dN (n : Int) (m : Int) li kn gg lp ll ∧ ∃ v : Int, r = iI v ∧ O3 G a c b d v) := by
  refine xmi_of (by decide) (Nat.le_of_ble_eq_true rfl) (fun K h hr => ?_)
  show xw K (wM ad dN (n : Int) (m : Int) li kn gg lp ll) 0 [(0, .ref (ad 0)), (1, .int (iI (a : Int))), (2, .int (iI (c : Int))), (3, .int (iI (b : Int))), (4, .int (iI (d : Int)))] []
  refine x_iconst h dX1_order_0 ?_
  refine x_istore h dX1_order_1 (by decide) [1, 2, 3, 4, 5, 0] [(0, .ref (ad 0)), (1, .int (iI (a : Int))), (2, .int (iI (c : Int))), (3, .int (iI (b : Int))), (4, .int (iI (d : Int))), (5, .int (iI 0))] rfl ?_
  exact order_loop hn hm hG hgg ha hb hc hd h hr (c + 1) 0 _ (by omega) (by omega) (by omega) rfl (fun j hj => by omega)
theorem foll_take {K : XK} {l : Launch} {D : va_G} {dN : ClassId} {ad : Nat → Nat} {gg lp ll : Nat → Int} {G : Nat → Nat} {n m k : Nat} (hn : n ≤ 24) (hm : m ≤ 12) (hG : ∀ i, G i < 4) (hgg : ∀ i, vd n m i → gg i = (G i : Int)) (hk : k ≤ 300) (hLi : Li G n k lp ll) {LA : Nat → Prop} {z y : Int} {j : Nat} (hj : j < k) (hLj : LA j) (hI : ((y = -1 ∧ ∀ j', j' < j → ¬ LA j') ∨ ∃ b : Nat, y = (b : Int) ∧ b < j ∧ LA b ∧ ∀ j', j' < j → LA j' → j' = b ∨ LtL G lp ll b j')) (h : xok K (JM l D dN) ({ frames := 1, cells := 0, slots := 0, locals := 25 }) cX1_following RX1 5)
    (hx : ∀ y : Int, ((y = -1 ∧ ∀ j', j' < (j + 1) → ¬ LA j') ∨ ∃ b : Nat, y = (b : Int) ∧ b < (j + 1) ∧ LA b ∧ ∀ j', j' < (j + 1) → LA j' → j' = b ∨ LtL G lp ll b j') → xw K (wM ad dN (n : Int) (m : Int) (k : Int) 1 gg lp ll) 4 [(0, .ref (ad 0)), (1, .int (iI z)), (2, .int (iI y)), (3, .int (iI ((j : Int) + 1)))] []) : xw K (wM ad dN (n : Int) (m : Int) (k : Int) 1 gg lp ll) 59 [(0, .ref (ad 0)), (1, .int (iI z)), (2, .int (iI y)), (3, .int (iI (j : Int))), (4, .int (iI 1))] [] := by
  rcases hI with ⟨rfl, hno⟩ | ⟨b, rfl, hbj, hLb, hmin⟩
  · refine x_iload_n h dX1_following_59 2 rfl ?_
    refine x_if_lt h 94 dX1_following_60 (by decide) (by omega) (fun c_60 => ?_) (fun c_60 => ?_)
    · refine x_iload_n h dX1_following_94 3 rfl ?_
      refine x_istore_n h dX1_following_95 (by decide) [1, 2, 0, 3, 4] [(0, .ref (ad 0)), (1, .int (iI z)), (2, .int (iI (j : Int))), (3, .int (iI (j : Int))), (4, .int (iI 1))] rfl ?_
      refine x_iinc h dX1_following_96 3 rfl (by decide) [1, 2, 3, 0, 4] [(0, .ref (ad 0)), (1, .int (iI z)), (2, .int (iI (j : Int))), (3, .int (iI ((j : Int) + 1))), (4, .int (iI 1))] rfl ?_
      refine x_goto h 4 dX1_following_99 (by decide) ?_
      refine x_sub [0, 1, 2, 3] [(0, .ref (ad 0)), (1, .int (iI z)), (2, .int (iI (j : Int))), (3, .int (iI ((j : Int) + 1)))] rfl ?_
      refine hx _ (Or.inr ⟨j, rfl, by omega, hLj, fun j' h1 h2 => ?_⟩)
      by_cases hjj : j' = j
      · exact Or.inl hjj
      · exact absurd h2 (hno j' (by omega))
    · omega
  · refine x_iload_n h dX1_following_59 2 rfl ?_
    refine x_if_lt h 94 dX1_following_60 (by decide) (by omega) (fun c_60 => ?_) (fun c_60 => ?_)
    · omega
    · have hJ := hLi.1 j (by omega)
      have hJl := hJ.2.2.2.2.1
      have hB := hLi.1 b (by omega)
      have hBl := hB.2.2.2.2.1
      refine x_aload_n h dX1_following_63 0 rfl ?_
      refine x_aload_n h dX1_following_64 0 rfl ?_
      refine xM_lp h dX1_following_65 ?_
      refine x_iload_n h dX1_following_68 3 rfl ?_
      refine xM_llp h j (by omega) (by omega) dX1_following_69 ?_
      refine x_top hJ.1 ?_
      refine x_aload_n h dX1_following_70 0 rfl ?_
      refine xM_ll h dX1_following_71 ?_
      refine x_iload_n h dX1_following_74 3 rfl ?_
      refine xM_lll h j (by omega) (by omega) dX1_following_75 ?_
      refine x_top hJ.2.1 ?_
      refine x_aload_n h dX1_following_76 0 rfl ?_
      refine xM_lp h dX1_following_77 ?_
      refine x_iload_n h dX1_following_80 2 rfl ?_
      refine xM_llp h b (by omega) (by omega) dX1_following_81 ?_
      refine x_top hB.1 ?_
      refine x_aload_n h dX1_following_82 0 rfl ?_
      refine xM_ll h dX1_following_83 ?_
      refine x_iload_n h dX1_following_86 2 rfl ?_
      refine xM_lll h b (by omega) (by omega) dX1_following_87 ?_
      refine x_top hB.2.1 ?_
      refine xM_calli h (cM_order l D dN ad (k : Int) 1 gg lp ll G n m (vN lp j) (vN ll j) (vN lp b) (vN ll b) hn hm hG hgg (fun t ht => Or.inl (by omega)) (fun t ht => Or.inl (by omega)) (by omega) (by omega)) 4 (lw_V q266 q268 qs17 q20 q269) (by decide +kernel) ⟨Nat.le_of_ble_eq_true rfl, Nat.le_of_ble_eq_true rfl⟩ rfl rfl (Nat.le_of_ble_eq_true rfl) dX1_following_88 (fun r_88 ws_ hp_88 => ?_)
      obtain ⟨rfl, v, rfl, hv, hlt, hgt, heq⟩ := hp_88
      refine x_if_ge h 96 dX1_following_91 (by decide) (by omega) (fun c_91 => ?_) (fun c_91 => ?_)
      · refine x_iinc h dX1_following_96 3 rfl (by decide) [1, 2, 3, 0, 4] [(0, .ref (ad 0)), (1, .int (iI z)), (2, .int (iI (b : Int))), (3, .int (iI ((j : Int) + 1))), (4, .int (iI 1))] rfl ?_
        refine x_goto h 4 dX1_following_99 (by decide) ?_
        refine x_sub [0, 1, 2, 3] [(0, .ref (ad 0)), (1, .int (iI z)), (2, .int (iI (b : Int))), (3, .int (iI ((j : Int) + 1)))] rfl ?_
        have hbj2 : LtL G lp ll b j := by
          by_cases hv0 : v = 0
          · have e1 := heq hv0
            have e2 := li_eq hLi hj (by omega) e1.1 e1.2
            omega
          · exact hgt.mp (by omega)
        refine hx _ (Or.inr ⟨b, rfl, by omega, hLb, fun j' h1 h2 => ?_⟩)
        by_cases hjj : j' = j
        · subst hjj; exact Or.inr hbj2
        · exact hmin j' (by omega) h2
      · refine x_iload_n h dX1_following_94 3 rfl ?_
        refine x_istore_n h dX1_following_95 (by decide) [1, 2, 0, 3, 4] [(0, .ref (ad 0)), (1, .int (iI z)), (2, .int (iI (j : Int))), (3, .int (iI (j : Int))), (4, .int (iI 1))] rfl ?_
        refine x_iinc h dX1_following_96 3 rfl (by decide) [1, 2, 3, 0, 4] [(0, .ref (ad 0)), (1, .int (iI z)), (2, .int (iI (j : Int))), (3, .int (iI ((j : Int) + 1))), (4, .int (iI 1))] rfl ?_
        refine x_goto h 4 dX1_following_99 (by decide) ?_
        refine x_sub [0, 1, 2, 3] [(0, .ref (ad 0)), (1, .int (iI z)), (2, .int (iI (j : Int))), (3, .int (iI ((j : Int) + 1)))] rfl ?_
        have hjb : LtL G lp ll j b := hlt.mp (by omega)
        refine hx _ (Or.inr ⟨j, rfl, by omega, hLj, fun j' h1 h2 => ?_⟩)
        by_cases hjj : j' = j
        · exact Or.inl hjj
        · rcases hmin j' (by omega) h2 with q | q
          · subst q; exact Or.inr hjb
          · exact Or.inr (ltw_trans hjb q)
theorem foll_loop {K : XK} {l : Launch} {D : va_G} {dN : ClassId} {ad : Nat → Nat} {gg lp ll : Nat → Int} {G : Nat → Nat} {n m k : Nat} (hn : n ≤ 24) (hm : m ≤ 12) (hG : ∀ i, G i < 4) (hgg : ∀ i, vd n m i → gg i = (G i : Int)) (hk : k ≤ 300) (hLi : Li G n k lp ll) {LA : Nat → Prop} {z : Int} (hz : (z = -1 ∧ ∀ j, LA j) ∨ ∃ i : Nat, z = (i : Int) ∧ i < k ∧ ∀ j, LA j ↔ LtL G lp ll i j) (h : xok K (JM l D dN) ({ frames := 1, cells := 0, slots := 0, locals := 25 }) cX1_following RX1 5) (hr : xri K .int (fun r ws' => ws' = wM ad dN (n : Int) (m : Int) (k : Int) 1 gg lp ll ∧ ∃ y : Int, r = iI y ∧ ((y = -1 ∧ ∀ j', j' < k → ¬ LA j') ∨ ∃ b : Nat, y = (b : Int) ∧ b < k ∧ LA b ∧ ∀ j', j' < k → LA j' → j' = b ∨ LtL G lp ll b j'))) :
    ∀ (f j : Nat) (x y : Int), k < j + f → j ≤ k → x = (j : Int) → ((y = -1 ∧ ∀ j', j' < j → ¬ LA j') ∨ ∃ b : Nat, y = (b : Int) ∧ b < j ∧ LA b ∧ ∀ j', j' < j → LA j' → j' = b ∨ LtL G lp ll b j') → xw K (wM ad dN (n : Int) (m : Int) (k : Int) 1 gg lp ll) 4 [(0, .ref (ad 0)), (1, .int (iI z)), (2, .int (iI y)), (3, .int (iI x))] [] := by
  intro f
  induction f with
  | zero => intro j x y h1 h2; omega
  | succ f ih =>
    intro j x y hf hj hxx hI
    subst hxx
    rcases hz with ⟨rfl, hLA⟩ | ⟨i, rfl, hik, hLA⟩
    · refine x_iload_n h dX1_following_4 3 rfl ?_
      refine x_aload_n h dX1_following_5 0 rfl ?_
      refine xM_li h dX1_following_6 ?_
      refine x_icmp_ge h 102 dX1_following_9 (by decide) (by omega) (by omega) (fun c_9 => ?_) (fun c_9 => ?_)
      · obtain rfl : j = k := by omega
        refine x_iload_n h dX1_following_102 2 rfl ?_
        exact x_ireturn h hr dX1_following_103 ⟨rfl, y, rfl, hI⟩
      · refine x_iload_n h dX1_following_12 1 rfl ?_
        refine x_if_lt h 47 dX1_following_13 (by decide) (by omega) (fun c_13 => ?_) (fun c_13 => ?_)
        · refine x_iconst h dX1_following_47 ?_
          refine x_goto h 52 dX1_following_48 (by decide) ?_
          refine x_istore h dX1_following_52 (by decide) [1, 2, 3, 4, 0] [(0, .ref (ad 0)), (1, .int (iI (-1))), (2, .int (iI y)), (3, .int (iI (j : Int))), (4, .int (iI 1))] rfl ?_
          refine x_iload h dX1_following_54 4 rfl ?_
          refine x_if_eq h 96 dX1_following_56 (by decide) (by omega) (fun c_56 => ?_) (fun c_56 => ?_)
          · omega
          · refine foll_take hn hm hG hgg hk hLi (by omega) (hLA j) hI h (fun y hI => ?_)
            exact ih (j + 1) _ y (by omega) (by omega) (by omega) hI
        · omega
    · refine x_iload_n h dX1_following_4 3 rfl ?_
      refine x_aload_n h dX1_following_5 0 rfl ?_
      refine xM_li h dX1_following_6 ?_
      refine x_icmp_ge h 102 dX1_following_9 (by decide) (by omega) (by omega) (fun c_9 => ?_) (fun c_9 => ?_)
      · obtain rfl : j = k := by omega
        refine x_iload_n h dX1_following_102 2 rfl ?_
        exact x_ireturn h hr dX1_following_103 ⟨rfl, y, rfl, hI⟩
      · refine x_iload_n h dX1_following_12 1 rfl ?_
        refine x_if_lt h 47 dX1_following_13 (by decide) (by omega) (fun c_13 => ?_) (fun c_13 => ?_)
        · omega
        · have hJ := hLi.1 j (by omega)
          have hJl := hJ.2.2.2.2.1
          have hB := hLi.1 i (by omega)
          have hBl := hB.2.2.2.2.1
          refine x_aload_n h dX1_following_16 0 rfl ?_
          refine x_aload_n h dX1_following_17 0 rfl ?_
          refine xM_lp h dX1_following_18 ?_
          refine x_iload_n h dX1_following_21 3 rfl ?_
          refine xM_llp h j (by omega) (by omega) dX1_following_22 ?_
          refine x_top hJ.1 ?_
          refine x_aload_n h dX1_following_23 0 rfl ?_
          refine xM_ll h dX1_following_24 ?_
          refine x_iload_n h dX1_following_27 3 rfl ?_
          refine xM_lll h j (by omega) (by omega) dX1_following_28 ?_
          refine x_top hJ.2.1 ?_
          refine x_aload_n h dX1_following_29 0 rfl ?_
          refine xM_lp h dX1_following_30 ?_
          refine x_iload_n h dX1_following_33 1 rfl ?_
          refine xM_llp h i (by omega) (by omega) dX1_following_34 ?_
          refine x_top hB.1 ?_
          refine x_aload_n h dX1_following_35 0 rfl ?_
          refine xM_ll h dX1_following_36 ?_
          refine x_iload_n h dX1_following_39 1 rfl ?_
          refine xM_lll h i (by omega) (by omega) dX1_following_40 ?_
          refine x_top hB.2.1 ?_
          refine xM_calli h (cM_order l D dN ad (k : Int) 1 gg lp ll G n m (vN lp j) (vN ll j) (vN lp i) (vN ll i) hn hm hG hgg (fun t ht => Or.inl (by omega)) (fun t ht => Or.inl (by omega)) (by omega) (by omega)) 4 (lw_V q266 q268 qs17 q20 q269) (by decide +kernel) ⟨Nat.le_of_ble_eq_true rfl, Nat.le_of_ble_eq_true rfl⟩ rfl rfl (Nat.le_of_ble_eq_true rfl) dX1_following_41 (fun r_41 ws_ hp_41 => ?_)
          obtain ⟨rfl, v, rfl, hv, hlt, hgt, heq⟩ := hp_41
          refine x_if_le h 51 dX1_following_44 (by decide) (by omega) (fun c_44 => ?_) (fun c_44 => ?_)
          · refine x_iconst h dX1_following_51 ?_
            refine x_istore h dX1_following_52 (by decide) [1, 2, 3, 4, 0] [(0, .ref (ad 0)), (1, .int (iI (i : Int))), (2, .int (iI y)), (3, .int (iI (j : Int))), (4, .int (iI 0))] rfl ?_
            refine x_iload h dX1_following_54 4 rfl ?_
            refine x_if_eq h 96 dX1_following_56 (by decide) (by omega) (fun c_56 => ?_) (fun c_56 => ?_)
            · refine x_iinc h dX1_following_96 3 rfl (by decide) [1, 2, 3, 0, 4] [(0, .ref (ad 0)), (1, .int (iI (i : Int))), (2, .int (iI y)), (3, .int (iI ((j : Int) + 1))), (4, .int (iI 0))] rfl ?_
              refine x_goto h 4 dX1_following_99 (by decide) ?_
              refine x_sub [0, 1, 2, 3] [(0, .ref (ad 0)), (1, .int (iI (i : Int))), (2, .int (iI y)), (3, .int (iI ((j : Int) + 1)))] rfl ?_
              have hnl : ¬ LA j := fun q => by have := hgt.mpr ((hLA j).mp q); omega
              refine ih (j + 1) _ y (by omega) (by omega) (by omega) ?_
              rcases hI with ⟨q1, q2⟩ | ⟨b, q1, q2, q3, q4⟩
              · refine Or.inl ⟨q1, fun j' hj' => ?_⟩
                by_cases hjj : j' = j
                · subst hjj; exact hnl
                · exact q2 j' (by omega)
              · refine Or.inr ⟨b, q1, by omega, q3, fun j' h1 h2 => ?_⟩
                by_cases hjj : j' = j
                · subst hjj; exact absurd h2 hnl
                · exact q4 j' (by omega) h2
            · omega
          · refine x_iconst h dX1_following_47 ?_
            refine x_goto h 52 dX1_following_48 (by decide) ?_
            refine x_istore h dX1_following_52 (by decide) [1, 2, 3, 4, 0] [(0, .ref (ad 0)), (1, .int (iI (i : Int))), (2, .int (iI y)), (3, .int (iI (j : Int))), (4, .int (iI 1))] rfl ?_
            refine x_iload h dX1_following_54 4 rfl ?_
            refine x_if_eq h 96 dX1_following_56 (by decide) (by omega) (fun c_56 => ?_) (fun c_56 => ?_)
            · omega
            · refine foll_take hn hm hG hgg hk hLi (by omega) ((hLA j).mpr (hgt.mp (by omega))) hI h (fun y hI => ?_)
              exact ih (j + 1) _ y (by omega) (by omega) (by omega) hI
theorem cM_following (l : Launch) (D : va_G) (dN : ClassId) (ad : Nat → Nat) (gg lp ll : Nat → Int) (G : Nat → Nat) (n m k : Nat) (LA : Nat → Prop) (z : Int) (hn : n ≤ 24) (hm : m ≤ 12) (hG : ∀ i, G i < 4) (hgg : ∀ i, vd n m i → gg i = (G i : Int)) (hk : k ≤ 300) (hLi : Li G n k lp ll) (hz : (z = -1 ∧ ∀ j, LA j) ∨ ∃ i : Nat, z = (i : Int) ∧ i < k ∧ ∀ j, LA j ↔ LtL G lp ll i j) : xmi (JM l D dN) yX1_following cX1_following 5 .int 1 25 [.ref (ad 0), .int (iI z)] (wM ad dN (n : Int) (m : Int) (k : Int) 1 gg lp ll) (fun r ws' => ws' = wM ad dN (n : Int) (m : Int) (k : Int) 1 gg lp ll ∧ ∃ y : Int, r = iI y ∧ ((y = -1 ∧ ∀ j', j' < k → ¬ LA j') ∨ ∃ b : Nat, y = (b : Int) ∧ b < k ∧ LA b ∧ ∀ j', j' < k → LA j' → j' = b ∨ LtL G lp ll b j')) := by
  refine xmi_of (by decide) (Nat.le_of_ble_eq_true rfl) (fun K h hr => ?_)
  show xw K (wM ad dN (n : Int) (m : Int) (k : Int) 1 gg lp ll) 0 [(0, .ref (ad 0)), (1, .int (iI z))] []
  refine x_iconst h dX1_following_0 ?_
  refine x_istore_n h dX1_following_1 (by decide) [1, 2, 0] [(0, .ref (ad 0)), (1, .int (iI z)), (2, .int (iI (-1)))] rfl ?_
  refine x_iconst h dX1_following_2 ?_
  refine x_istore_n h dX1_following_3 (by decide) [1, 2, 3, 0] [(0, .ref (ad 0)), (1, .int (iI z)), (2, .int (iI (-1))), (3, .int (iI 0))] rfl ?_
  exact foll_loop hn hm hG hgg hk hLi hz h hr (k + 1) 0 _ _ (by omega) (by omega) rfl (Or.inl ⟨rfl, fun j' hj' => by omega⟩)
theorem mword_loop {K : XK} {l : Launch} {D : va_G} {dN : ClassId} {ad : Nat → Nat} {gg lp ll : Nat → Int} {G : Nat → Nat} {n m k : Nat} (hn : n ≤ 24) (hm : m ≤ 12) (hG : ∀ i, G i < 4) (hgg : ∀ i, vd n m i → gg i = (G i : Int)) (hk : k ≤ 300) (hLi : Li G n k lp ll) {kk : Nat} (hkk : kk < k) (h : xok K (JM l D dN) ({ frames := 3, cells := 0, slots := 0, locals := 69 }) cX1_word RX1 4) {post : Int32 → va_W → Prop} (hr : xri K .int post)
    (hp : ∀ z : Int, IsWord G n kk z → post (iI z) (wM ad dN (n : Int) (m : Int) (k : Int) 1 gg lp ll)) :
    ∀ (f i b : Nat) (x y : Int), kk < i + f → i ≤ kk → x = (i : Int) → y = (b : Int) → b < k → cP (fun j => LtL G lp ll j b) k = i → xw K (wM ad dN (n : Int) (m : Int) (k : Int) 1 gg lp ll) 27 [(0, .ref (ad 0)), (1, .int (iI (kk : Int))), (2, .int (iI y)), (3, .int (iI x))] [] := by
  intro f
  induction f with
  | zero => intro i b x y h1 h2; omega
  | succ f ih =>
    intro i b x y hf hi hxx hyy hb hrk
    subst hxx; subst hyy
    refine x_iload_n h dX1_word_27 3 rfl ?_
    refine x_iload_n h dX1_word_28 1 rfl ?_
    refine x_icmp_ge h 44 dX1_word_29 (by decide) (by omega) (by omega) (fun c_29 => ?_) (fun c_29 => ?_)
    · refine x_bipush h dX1_word_44 (by decide) ?_
      refine x_aload_n h dX1_word_46 0 rfl ?_
      refine xM_lp h dX1_word_47 ?_
      refine x_iload_n h dX1_word_50 2 rfl ?_
      refine xM_llp h b (by omega) (by omega) dX1_word_51 ?_
      have hB := hLi.1 b hb
      refine x_top hB.1 ?_
      refine x_imul h dX1_word_52 ?_
      refine x_aload_n h dX1_word_53 0 rfl ?_
      refine xM_ll h dX1_word_54 ?_
      refine x_iload_n h dX1_word_57 2 rfl ?_
      refine xM_lll h b (by omega) (by omega) dX1_word_58 ?_
      refine x_top hB.2.1 ?_
      refine x_iadd h dX1_word_59 ?_
      refine x_ireturn h hr dX1_word_60 ?_
      exact hp _ (word_li hLi hb (by omega))
    · refine x_aload_n h dX1_word_32 0 rfl ?_
      refine x_iload_n h dX1_word_33 2 rfl ?_
      refine xM_calli h (cM_following l D dN ad gg lp ll G n m k (LtL G lp ll b) (b : Int) hn hm hG hgg hk hLi (Or.inr ⟨b, rfl, hb, fun j => Iff.rfl⟩)) 1 (lw_V q262 q264 qs16 q20 q265) (by decide +kernel) ⟨Nat.le_of_ble_eq_true rfl, Nat.le_of_ble_eq_true rfl⟩ rfl rfl (Nat.le_of_ble_eq_true rfl) dX1_word_34 (fun r_34 ws_ hp_34 => ?_)
      obtain ⟨rfl, y, rfl, hI⟩ := hp_34
      obtain ⟨b', rfl, hb', hrk'⟩ : ∃ b' : Nat, y = (b' : Int) ∧ b' < k ∧ cP (fun j => LtL G lp ll j b') k = i + 1 := by
        rcases hI with ⟨-, q⟩ | ⟨b', q1, q2, q3, q4⟩
        · have := rank_last hLi hb q
          omega
        · exact ⟨b', q1, q2, by rw [rank_next hLi hb q3 q4, hrk]⟩
      refine x_istore_n h dX1_word_37 (by decide) [1, 2, 0, 3] [(0, .ref (ad 0)), (1, .int (iI (kk : Int))), (2, .int (iI (b' : Int))), (3, .int (iI (i : Int)))] rfl ?_
      refine x_iinc h dX1_word_38 3 rfl (by decide) [1, 2, 3, 0] [(0, .ref (ad 0)), (1, .int (iI (kk : Int))), (2, .int (iI (b' : Int))), (3, .int (iI ((i : Int) + 1)))] rfl ?_
      refine x_goto h 27 dX1_word_41 (by decide) ?_
      exact ih (i + 1) b' _ _ (by omega) (by omega) (by omega) rfl hb' hrk'
theorem cM_word (l : Launch) (D : va_G) (dN : ClassId) (ad : Nat → Nat) (li kn : Int) (gg lp ll : Nat → Int) (G : Nat → Nat) (n m : Nat) (hn : n ≤ 24) (hm : m ≤ 12) (hG : ∀ i, G i < 4) (hg1 : ∀ i, i < n → gg i = (G i : Int)) (hg2 : ∀ i, i < m → gg (24 + i) = (G (24 + i) : Int)) (hkn : Kn G n li kn lp ll) (z : Int) (hz : rng z) : xmi (JM l D dN) yX1_word cX1_word 4 .int 3 69 [.ref (ad 0), .int (iI z)] (wM ad dN (n : Int) (m : Int) li kn gg lp ll) (fun r ws' => MI ad dN G n m ws' ∧ (((z < 0 ∨ (wc G n (fun _ _ => True) : Int) ≤ z) ∧ r = iI (-3)) ∨ (∃ kk : Nat, z = (kk : Int) ∧ kk < wc G n (fun _ _ => True) ∧ ∃ y, r = iI y ∧ IsWord G n kk y))) := by
  have hgg : ∀ i, vd n m i → gg i = (G i : Int) := fun i hi => by
    rcases hi with q | q
    · exact hg1 i q
    · have := hg2 (i - 24) (by omega)
      rw [show 24 + (i - 24) = i by omega] at this
      exact this
  refine xmi_of (by decide) (Nat.le_of_ble_eq_true rfl) (fun K h hr => ?_)
  show xw K (wM ad dN (n : Int) (m : Int) li kn gg lp ll) 0 [(0, .ref (ad 0)), (1, .int (iI z))] []
  refine x_aload_n h dX1_word_0 0 rfl ?_
  refine xM_callv h (cM_list l D dN ad li kn gg lp ll G n m hn hm hG hgg hkn) 0 (lw_V q238 q240 qs13 q20 q241) (by decide +kernel) ⟨Nat.le_of_ble_eq_true rfl, Nat.le_of_ble_eq_true rfl⟩ rfl rfl (Nat.le_of_ble_eq_true rfl) dX1_word_1 (fun ws_ hp_1 => ?_)
  obtain ⟨k, lp', ll', hk, hLi, rfl⟩ := hp_1
  have hlen := li_len hLi
  refine x_iload_n h dX1_word_4 1 rfl ?_
  refine x_if_lt h 16 dX1_word_5 (by decide) (by omega) (fun c_5 => ?_) (fun c_5 => ?_)
  · refine x_bipush h dX1_word_16 (by decide) ?_
    refine x_ireturn h hr dX1_word_18 ?_
    exact ⟨⟨_, _, _, _, _, hg1, hg2, Or.inr ⟨rfl, _, rfl, hk, hLi⟩, rfl⟩, Or.inl ⟨by omega, rfl⟩⟩
  · refine x_iload_n h dX1_word_8 1 rfl ?_
    refine x_aload_n h dX1_word_9 0 rfl ?_
    refine xM_li h dX1_word_10 ?_
    refine x_icmp_lt h 19 dX1_word_13 (by decide) (by omega) (by omega) (fun c_13 => ?_) (fun c_13 => ?_)
    · obtain ⟨kk, rfl⟩ : ∃ kk : Nat, z = (kk : Int) := ⟨z.toNat, by omega⟩
      refine x_aload_n h dX1_word_19 0 rfl ?_
      refine x_iconst h dX1_word_20 ?_
      refine xM_calli h (cM_following l D dN ad gg lp' ll' G n m k (fun _ => True) (-1) hn hm hG hgg hk hLi (Or.inl ⟨rfl, fun _ => trivial⟩)) 1 (lw_V q262 q264 qs16 q20 q265) (by decide +kernel) ⟨Nat.le_of_ble_eq_true rfl, Nat.le_of_ble_eq_true rfl⟩ rfl rfl (Nat.le_of_ble_eq_true rfl) dX1_word_21 (fun r_21 ws_ hp_21 => ?_)
      obtain ⟨rfl, y, rfl, hI⟩ := hp_21
      obtain ⟨b, rfl, hb, hrk⟩ : ∃ b : Nat, y = (b : Int) ∧ b < k ∧ cP (fun j => LtL G lp' ll' j b) k = 0 := by
        rcases hI with ⟨-, q⟩ | ⟨b, q1, q2, q3, q4⟩
        · exact absurd trivial (q 0 (by omega))
        · exact ⟨b, q1, q2, rank_first (fun j hj => q4 j hj trivial)⟩
      refine x_istore_n h dX1_word_24 (by decide) [1, 2, 0] [(0, .ref (ad 0)), (1, .int (iI (kk : Int))), (2, .int (iI (b : Int)))] rfl ?_
      refine x_iconst h dX1_word_25 ?_
      refine x_istore_n h dX1_word_26 (by decide) [1, 2, 3, 0] [(0, .ref (ad 0)), (1, .int (iI (kk : Int))), (2, .int (iI (b : Int))), (3, .int (iI 0))] rfl ?_
      exact mword_loop hn hm hG hgg hk hLi (by omega) h hr (fun y hy => ⟨⟨_, _, _, _, _, hg1, hg2, Or.inr ⟨rfl, _, rfl, hk, hLi⟩, rfl⟩, Or.inr ⟨kk, rfl, by omega, y, rfl, hy⟩⟩) (kk + 1) 0 b _ _ (by omega) (by omega) rfl rfl hb hrk
    · refine x_bipush h dX1_word_16 (by decide) ?_
      refine x_ireturn h hr dX1_word_18 ?_
      exact ⟨⟨_, _, _, _, _, hg1, hg2, Or.inr ⟨rfl, _, rfl, hk, hLi⟩, rfl⟩, Or.inl ⟨by omega, rfl⟩⟩
theorem mrank_loop {K : XK} {l : Launch} {D : va_G} {dN : ClassId} {ad : Nat → Nat} {gg lp ll : Nat → Int} {G : Nat → Nat} {n m k : Nat} (hn : n ≤ 24) (hm : m ≤ 12) (hG : ∀ i, G i < 4) (hgg : ∀ i, vd n m i → gg i = (G i : Int)) (hk : k ≤ 300) (hLi : Li G n k lp ll) (h : xok K (JM l D dN) ({ frames := 3, cells := 0, slots := 0, locals := 69 }) cX1_rank RX1 3)
    (hx : ∀ (y : Nat) (x : Int), y = cP (fun j => ltw G (vN lp j) (vN ll j) 24 m) k → xw K (wM ad dN (n : Int) (m : Int) (k : Int) 1 gg lp ll) 60 [(0, .ref (ad 0)), (1, .int (iI (y : Int))), (2, .int (iI x))] []) :
    ∀ (f i y : Nat) (x z : Int), k < i + f → i ≤ k → x = (i : Int) → z = (y : Int) → y ≤ i → y = cP (fun j => ltw G (vN lp j) (vN ll j) 24 m) i → xw K (wM ad dN (n : Int) (m : Int) (k : Int) 1 gg lp ll) 18 [(0, .ref (ad 0)), (1, .int (iI z)), (2, .int (iI x))] [] := by
  intro f
  induction f with
  | zero => intro i y x z h1 h2; omega
  | succ f ih =>
    intro i y x z hf hi hxx hzz hyi hy
    subst hxx; subst hzz
    refine x_iload_n h dX1_rank_18 2 rfl ?_
    refine x_aload_n h dX1_rank_19 0 rfl ?_
    refine xM_li h dX1_rank_20 ?_
    refine x_icmp_ge h 60 dX1_rank_23 (by decide) (by omega) (by omega) (fun c_23 => ?_) (fun c_23 => ?_)
    · obtain rfl : i = k := by omega
      exact hx y _ hy
    · have hJ := hLi.1 i (by omega)
      have hJl := hJ.2.2.2.2.1
      refine x_aload_n h dX1_rank_26 0 rfl ?_
      refine x_aload_n h dX1_rank_27 0 rfl ?_
      refine xM_lp h dX1_rank_28 ?_
      refine x_iload_n h dX1_rank_31 2 rfl ?_
      refine xM_llp h i (by omega) (by omega) dX1_rank_32 ?_
      refine x_top hJ.1 ?_
      refine x_aload_n h dX1_rank_33 0 rfl ?_
      refine xM_ll h dX1_rank_34 ?_
      refine x_iload_n h dX1_rank_37 2 rfl ?_
      refine xM_lll h i (by omega) (by omega) dX1_rank_38 ?_
      refine x_top hJ.2.1 ?_
      refine x_bipush h dX1_rank_39 (by decide) ?_
      refine x_aload_n h dX1_rank_41 0 rfl ?_
      refine xM_pl h dX1_rank_42 ?_
      refine xM_calli h (cM_order l D dN ad (k : Int) 1 gg lp ll G n m (vN lp i) (vN ll i) 24 m hn hm hG hgg (fun t ht => Or.inl (by omega)) (fun t ht => Or.inr (by omega)) (by omega) (by omega)) 4 (lw_V q266 q268 qs17 q20 q269) (by decide +kernel) ⟨Nat.le_of_ble_eq_true rfl, Nat.le_of_ble_eq_true rfl⟩ rfl rfl (Nat.le_of_ble_eq_true rfl) dX1_rank_45 (fun r_45 ws_ hp_45 => ?_)
      obtain ⟨rfl, v, rfl, hv, hlt, hgt, heq⟩ := hp_45
      refine x_if_ge h 54 dX1_rank_48 (by decide) (by omega) (fun c_48 => ?_) (fun c_48 => ?_)
      · refine x_iinc h dX1_rank_54 2 rfl (by decide) [1, 2, 0] [(0, .ref (ad 0)), (1, .int (iI (y : Int))), (2, .int (iI ((i : Int) + 1)))] rfl ?_
        refine x_goto h 18 dX1_rank_57 (by decide) ?_
        refine ih (i + 1) y _ _ (by omega) (by omega) (by omega) rfl (by omega) ?_
        rw [hy, cP_f (P := fun j => ltw G (vN lp j) (vN ll j) 24 m) (fun q => by have := hlt.mpr q; omega)]
      · refine x_iinc h dX1_rank_51 1 rfl (by decide) [1, 0, 2] [(0, .ref (ad 0)), (1, .int (iI ((y : Int) + 1))), (2, .int (iI (i : Int)))] rfl ?_
        refine x_iinc h dX1_rank_54 2 rfl (by decide) [1, 2, 0] [(0, .ref (ad 0)), (1, .int (iI ((y : Int) + 1))), (2, .int (iI ((i : Int) + 1)))] rfl ?_
        refine x_goto h 18 dX1_rank_57 (by decide) ?_
        refine ih (i + 1) (y + 1) _ _ (by omega) (by omega) (by omega) (by omega) (by omega) ?_
        rw [hy, cP_t (P := fun j => ltw G (vN lp j) (vN ll j) 24 m) (hlt.mp (by omega))]
theorem cM_rank (l : Launch) (D : va_G) (dN : ClassId) (ad : Nat → Nat) (li kn : Int) (gg lp ll : Nat → Int) (G : Nat → Nat) (n m : Nat) (hn : n ≤ 24) (hm : m ≤ 12) (hG : ∀ i, G i < 4) (hg1 : ∀ i, i < n → gg i = (G i : Int)) (hg2 : ∀ i, i < m → gg (24 + i) = (G (24 + i) : Int)) (hkn : Kn G n li kn lp ll)  : xmi (JM l D dN) yX1_rank cX1_rank 3 .int 3 69 [.ref (ad 0)] (wM ad dN (n : Int) (m : Int) li kn gg lp ll) (fun r ws' => MI ad dN G n m ws' ∧ ((m = 0 ∧ r = iI (-3)) ∨ (0 < m ∧ r = iI (wc G n (fun e l => ltw G (e - l) l 24 m) : Int)))) := by
  have hgg : ∀ i, vd n m i → gg i = (G i : Int) := fun i hi => by
    rcases hi with q | q
    · exact hg1 i q
    · have := hg2 (i - 24) (by omega)
      rw [show 24 + (i - 24) = i by omega] at this
      exact this
  refine xmi_of (by decide) (Nat.le_of_ble_eq_true rfl) (fun K h hr => ?_)
  show xw K (wM ad dN (n : Int) (m : Int) li kn gg lp ll) 0 [(0, .ref (ad 0))] []
  refine x_aload_n h dX1_rank_0 0 rfl ?_
  refine xM_pl h dX1_rank_1 ?_
  refine x_if_ne h 10 dX1_rank_4 (by decide) (by omega) (fun c_4 => ?_) (fun c_4 => ?_)
  · refine x_iconst h dX1_rank_10 ?_
    refine x_istore_n h dX1_rank_11 (by decide) [1, 0] [(0, .ref (ad 0)), (1, .int (iI 0))] rfl ?_
    refine x_aload_n h dX1_rank_12 0 rfl ?_
    refine xM_callv h (cM_list l D dN ad li kn gg lp ll G n m hn hm hG hgg hkn) 0 (lw_V q238 q240 qs13 q20 q241) (by decide +kernel) ⟨Nat.le_of_ble_eq_true rfl, Nat.le_of_ble_eq_true rfl⟩ rfl rfl (Nat.le_of_ble_eq_true rfl) dX1_rank_13 (fun ws_ hp_13 => ?_)
    obtain ⟨k, lp', ll', hk, hLi, rfl⟩ := hp_13
    refine x_iconst h dX1_rank_16 ?_
    refine x_istore_n h dX1_rank_17 (by decide) [1, 2, 0] [(0, .ref (ad 0)), (1, .int (iI 0)), (2, .int (iI 0))] rfl ?_
    refine mrank_loop hn hm hG hgg hk hLi h (fun y x hy => ?_) (k + 1) 0 0 _ _ (by omega) (by omega) rfl rfl (by omega) rfl
    refine x_iload_n h dX1_rank_60 1 rfl ?_
    refine x_ireturn h hr dX1_rank_61 ⟨⟨_, _, _, _, _, hg1, hg2, Or.inr ⟨rfl, _, rfl, hk, hLi⟩, rfl⟩, Or.inr ⟨by omega, ?_⟩⟩
    rw [hy, ← hLi.2 (fun e l => ltw G (e - l) l 24 m)]
    congr 2
    exact cP_congr (fun j hj => by rw [Nat.add_sub_cancel])
  · refine x_bipush h dX1_rank_7 (by decide) ?_
    refine x_ireturn h hr dX1_rank_9 ?_
    exact ⟨⟨_, _, _, _, _, hg1, hg2, hkn, rfl⟩, Or.inl ⟨by omega, rfl⟩⟩
end
section
/-! ===== pure: the states that can't be made longer are the words that can't ===== -/
theorem dc {P : Nat → Prop} {A B : Nat → Nat} {Q : Nat → Nat → Prop} {k n N : Nat} (h1 : ∀ j, j < k → P j → A j < n ∧ B j < N ∧ Q (A j) (B j)) (h2 : ∀ l, l < n → ∀ e, e < N → Q l e → ∃ j, j < k ∧ P j ∧ A j = l ∧ B j = e) (h3 : ∀ j, j < k → ∀ j', j' < k → P j → P j' → A j = A j' → B j = B j' → j = j') : cP P k = sm (fun l => cP (fun e => Q l e) N) n := by
  have e1 : ∀ j, j < k → ind (P j) = sm (fun l => sm (fun e => ind (P j ∧ A j = l ∧ B j = e)) N) n := by
    intro j hj
    by_cases hp : P j
    · obtain ⟨a1, a2, a3⟩ := h1 j hj hp
      rw [ind_t hp, sm_single (i := A j) a1 (fun l hl hne => sm_zero (fun e he => ind_f (fun q => hne q.2.1.symm))), sm_single (i := B j) a2 (fun e he hne => ind_f (fun q => hne q.2.2.symm)), ind_t ⟨hp, rfl, rfl⟩]
    · rw [ind_f hp, sm_zero (fun l hl => sm_zero (fun e he => ind_f (fun q => hp q.1)))]
  rw [cP_sm, sm_congr e1, sm_swap]
  refine sm_congr (fun l hl => ?_)
  rw [sm_swap, cP_sm]
  refine sm_congr (fun e he => ?_)
  rw [← cP_sm (fun j => P j ∧ A j = l ∧ B j = e)]
  by_cases hq : Q l e
  · obtain ⟨j, b1, b2, b3, b4⟩ := h2 l hl e he hq
    rw [ind_t hq]
    exact cP_one (i := j) b1 ⟨b2, b3, b4⟩ (fun j' hj' q => h3 j' hj' j b1 q.1 b2 (by omega) (by omega))
  · rw [ind_f hq]
    exact cP_none (fun j hj q => hq (by
      obtain ⟨q1, q2, q3⟩ := q
      have := (h1 j hj q1).2.2
      rw [q2, q3] at this
      exact this))
section SAM
variable {G : Nat → Nat} {n k : Nat} {NX : Nat → Nat → Nat} {SH LE EE : Nat → Nat}
theorem mx_left (h : Sam G n k NX SH LE EE) {s d : Nat} (h0 : 0 < s) (hs : s < k) : cP (fun q => eqv G (LE s) (q + LE s) (EE s) ∧ Bs G n d (LE s) (-1) q) (n + 1 - LE s) ≠ oc G n (LE s) (EE s) := by
  intro hq
  have hw := h.wf hs
  have hl := (h.S h0 hs).2.1
  rw [← oc_q (G := G) (n := n) (l := LE s) (e := EE s) (q := n + 1 - LE s) (by omega) (Or.inl (by omega))] at hq
  have hall := cP_same (fun i _ q => q.1) hq
  obtain ⟨e', m1, m2, m3⟩ := h.L h0 hs
  have b1 := (hall (EE s - LE s) (by omega) (by rw [show EE s - LE s + LE s = EE s by omega]; exact eqv_refl hw.1)).2
  have hle := m2.2.1
  have b2 := (hall (e' - LE s) (by omega) (by rw [show e' - LE s + LE s = e' by omega]; exact eqv_symm m2)).2
  unfold Bs at b1 b2
  refine m3 ⟨by omega, by omega, fun j hj => ?_⟩
  rcases Nat.lt_or_ge j (LE s) with z | z
  · exact m2.2.2 j z
  · obtain rfl : j = LE s := by omega
    rw [show EE s - 1 - LE s = EE s - LE s - 1 by omega, show e' - 1 - LE s = e' - LE s - 1 by omega]
    omega
theorem mx_right (h : Sam G n k NX SH LE EE) {s d : Nat} (h0 : 0 < s) (hs : s < k) : cP (fun q => eqv G (LE s) (q + LE s) (EE s) ∧ Bs G n d (LE s) 1 q) (n + 1 - LE s) = cP (fun a => eqv G (LE s) (EE s) a ∧ G a = d) n := by
  have hw := h.wf hs
  have hl := (h.S h0 hs).2.1
  have e1 := cP_shift (fun a => eqv G (LE s) (EE s) a ∧ G a = d) (LE s) (n - LE s)
  rw [show LE s + (n - LE s) = n by omega] at e1
  rw [e1, cP_none (n := LE s) (fun a ha q => by have := q.1.2.1; omega), Nat.zero_add]
  rw [show n + 1 - LE s = n - LE s + 1 by omega]
  rw [cP_f (P := fun q => eqv G (LE s) (q + LE s) (EE s) ∧ Bs G n d (LE s) 1 q) (fun q => by have q2 := q.2; unfold Bs at q2; omega)]
  refine cP_congr (fun q hq => ?_)
  rw [Nat.add_comm (LE s) q]
  constructor
  · rintro ⟨q1, q2⟩
    unfold Bs at q2
    exact ⟨eqv_symm q1, by omega⟩
  · rintro ⟨q1, q2⟩
    exact ⟨eqv_symm q1, Or.inr ⟨by omega, by omega, q2⟩⟩
theorem mx_state (h : Sam G n k NX SH LE EE) {s : Nat} (h0 : 0 < s) (hs : s < k) : Mxw G n (EE s) (LE s) ↔ (2 ≤ cnt G n LE EE s ∧ ∀ d, d < 4 → NX s d ≠ 0 → cnt G n LE EE (NX s d) ≠ cnt G n LE EE s) := by
  have ho := at_oc h (at_self h hs)
  have hr : ∀ d, d < 4 → NX s d ≠ 0 → cP (fun a => eqv G (LE s) (EE s) a ∧ G a = d) n = cnt G n LE EE (NX s d) := fun d hd hz => cP_congr (fun a ha => sam_to h hs hd hz ha)
  constructor
  · rintro ⟨q1, q2⟩
    refine ⟨by omega, fun d hd hz => ?_⟩
    have := (q2 d hd).2
    rw [mx_right h h0 hs, hr d hd hz, ho] at this
    exact this
  · rintro ⟨q1, q2⟩
    refine ⟨by omega, fun d hd => ⟨mx_left h h0 hs, ?_⟩⟩
    rw [mx_right h h0 hs, ho]
    by_cases hz : NX s d = 0
    · rw [cP_none (fun a ha q => h.T0 hs hd hz ha q.1 q.2)]
      omega
    · rw [hr d hd hz]
      exact q2 d hd hz
theorem mx_word (h : Sam G n k NX SH LE EE) (hG : ∀ i, G i < 4) {e l : Nat} (hL : Lst G n e l) (hM : Mxw G n e l) : ∃ s, 0 < s ∧ s < k ∧ LE s = l ∧ EE s = e := by
  obtain ⟨s, ha⟩ := at_ex h hL.2.1 hL.2.2.1
  have h0 := at_pos ha hL.1
  have hs := at_lt h ha
  have hle := at_le h ha
  have hf := at_first h ha
  have hl0 := hL.1
  have hll : LE s = l := by
    rcases Nat.lt_or_ge l (LE s) with z | z
    · exfalso
      refine (hM.2 (G (EE s - 1 - l)) (hG _)).1 ?_
      rw [← oc_q (G := G) (n := n) (l := l) (e := e) (q := n + 1 - l) hl0 (Or.inl (by have := hL.2.1; have := hL.2.2.1; omega))]
      refine cP_congr (fun q hq => ⟨fun w => w.1, fun w => ⟨w, ?_⟩⟩)
      have w1 := (at_iff h ha (e' := q + l) (by omega)).mp w
      have w2 := w1.2.1
      have w3 := w1.2.2 l z
      rw [show q + l - 1 - l = q - 1 by omega] at w3
      exact Or.inl ⟨by omega, by omega, w3.symm⟩
    · omega
  refine ⟨s, h0, hs, hll, ?_⟩
  rcases Nat.lt_trichotomy (EE s) e with z | z | z
  · exact absurd hf.2.1 (hL.2.2.2 _ z)
  · exact z
  · exact absurd (eqv_refl hL.2.1) (hf.2.2 e z)
theorem repeats_of (h : Sam G n k NX SH LE EE) (hG : ∀ i, G i < 4) : cP (fun j => (2 ≤ cnt G n LE EE (j + 1) ∧ ∀ d, d < 4 → NX (j + 1) d ≠ 0 → cnt G n LE EE (NX (j + 1) d) ≠ cnt G n LE EE (j + 1))) (k - 1) = wc G n (fun e l => Mxw G n e l) := by
  refine dc (A := fun j => LE (j + 1) - 1) (B := fun j => EE (j + 1)) (Q := fun l e => Lst G n e (l + 1) ∧ Mxw G n e (l + 1)) (fun j hj hP => ?_) (fun l hl e he q => ?_) (fun j hj j' hj' _ _ e1 e2 => ?_)
  · have hs : j + 1 < k := by omega
    have hw := h.wf hs
    have hl := (h.S (by omega) hs).2.1
    have e1 : LE (j + 1) - 1 + 1 = LE (j + 1) := by omega
    refine ⟨by show LE (j + 1) - 1 < n; omega, by show EE (j + 1) < n + 1; omega, ?_⟩
    show Lst G n (EE (j + 1)) (LE (j + 1) - 1 + 1) ∧ Mxw G n (EE (j + 1)) (LE (j + 1) - 1 + 1)
    rw [e1]
    refine ⟨⟨by omega, hw.1, hw.2, fun e' he' q => ?_⟩, (mx_state h (by omega) hs).mpr hP⟩
    have := h.C hs (by omega) (eqv_symm q)
    omega
  · obtain ⟨s, h0, hs, e1, e2⟩ := mx_word h hG q.1 q.2
    refine ⟨s - 1, by omega, ?_, by show LE (s - 1 + 1) - 1 = l; rw [show s - 1 + 1 = s by omega]; omega, by show EE (s - 1 + 1) = e; rw [show s - 1 + 1 = s by omega]; omega⟩
    rw [show s - 1 + 1 = s by omega]
    refine (mx_state h h0 hs).mp ?_
    rw [e1, e2]
    exact q.2
  · have hs : j + 1 < k := by omega
    have hs' : j' + 1 < k := by omega
    have hl := (h.S (by omega) hs).2.1
    have hl' := (h.S (by omega) hs').2.1
    have hw := h.wf hs
    have e3 : LE (j + 1) - 1 = LE (j' + 1) - 1 := e1
    have e4 : EE (j + 1) = EE (j' + 1) := e2
    have := h.D (l := LE (j + 1)) (by omega) hs (by omega) hs' hl (Nat.le_refl _) (by omega) (by omega) (by rw [← e4]; exact eqv_refl hw.1)
    omega
end SAM
end
section
/-! ===== the constructors ===== -/
set_option maxRecDepth 100000
/-- addresses by a list -/
def adL (l : List Nat) : Nat → Nat := fun i => l.getD i 0
def z0 : Nat → Int := fun _ => 0
theorem ra_byte {U : State} {a b : ClassId} (h1 : va_RA U a .byte) (h2 : va_RA U b .byte) : b = a := by
  have e1 : U.vm.findClass ("[" ++ FieldType.byte.toString) = some a := h1
  have e2 : U.vm.findClass ("[" ++ FieldType.byte.toString) = some b := h2
  exact Option.some.inj (e2.symm.trans e1)
theorem ra_int {U : State} {a b : ClassId} (h1 : va_RA U a .int) (h2 : va_RA U b .int) : b = a := by
  have e1 : U.vm.findClass ("[" ++ FieldType.int.toString) = some a := h1
  have e2 : U.vm.findClass ("[" ++ FieldType.int.toString) = some b := h2
  exact Option.some.inj (e2.symm.trans e1)
theorem ra_short {U : State} {a b : ClassId} (h1 : va_RA U a .short) (h2 : va_RA U b .short) : b = a := by
  have e1 : U.vm.findClass ("[" ++ FieldType.short.toString) = some a := h1
  have e2 : U.vm.findClass ("[" ++ FieldType.short.toString) = some b := h2
  exact Option.some.inj (e2.symm.trans e1)
set_option maxHeartbeats 4000000 in
theorem cX_init (l : Launch) (D : va_G) (h0 sz : Nat) : Met l yX0_init (ws_ yX0_init cX0_init 1 none) ({ frames := 1, cells := 9, slots := 536, locals := 12 }) (va_Pc [.ref h0] (fun U => U.heap.size = sz ∧ va_P D vwCl [(h0, .inr (0, [.int 0, .null, .int 0, .null, .int 0, .int 0, .int 0, .null, .null, .null, .null, .null, .null, .null, .int 0]))] U.heap ∧ va_K D vwCl [] U ∧ va_D (fun _ => True) [(h0, .inr (0, [.int 0, .null, .int 0, .null, .int 0, .int 0, .int 0, .null, .null, .null, .null, .null, .null, .null, .int 0]))])) (va_Qv (S := (Nat → Nat) × ClassId × ClassId) (fun u => u.1 0 = h0) (fun u t => va_P D vwCl (wX u.1 u.2.1 u.2.2 0 0 0 0 0 0 z0 z0 z0 z0 z0 z0 z0 z0 z0) t.heap ∧ va_K D vwCl [(u.2.1, .byte), (u.2.2, .short)] t ∧ va_D (va_A [(h0, .inr (0, [.int 0, .null, .int 0, .null, .int 0, .int 0, .int 0, .null, .null, .null, .null, .null, .null, .null, .int 0]))] sz) (wX u.1 u.2.1 u.2.2 0 0 0 0 0 0 z0 z0 z0 z0 z0 z0 z0 z0 z0)) (va_A [(h0, .inr (0, [.int 0, .null, .int 0, .null, .int 0, .int 0, .int 0, .null, .null, .null, .null, .null, .null, .null, .int 0]))] sz)) 9 536 (va_A [(h0, .inr (0, [.int 0, .null, .int 0, .null, .int 0, .int 0, .int 0, .null, .null, .null, .null, .null, .null, .null, .int 0]))] sz) := by
  refine Met.ofW (cc := cX0_init) (maxL := 1) (ret := none) (by decide) rfl ?_
  intro p e s m args below meth c s₁ B hml hv
  obtain ⟨rfl, hsz, hP, hK, hD0⟩ := hv
  have hx := B.exec
  have hb := B.bytes
  have hr := B.returns
  have hts := atoms_spec (ws := ws_ yX0_init cX0_init 1 none) B.pre
  have hts : ∀ w ∈ lw_all, w.before _ s = true := fun w h => hts w (List.mem_cons_of_mem _ h)
  have hown : s.vm.findClass RX0 = some m.cls := findClass_of_methodNamed B.named
  have hlocks := B.notSynchronized
  have hin : meth.name = "<init>" := (name_of_methodNamed B.named B.method).1
  subst hsz
  have hD := hD0.self (sz := s.heap.size)
  generalize hAe : va_A [(h0, .inr (0, [.int 0, .null, .int 0, .null, .int 0, .int 0, .int 0, .null, .null, .null, .null, .null, .null, .null, .int 0]))] s.heap.size = A at hD ⊢
  have hA : ∀ q : Nat, s.heap.size ≤ q → A q := fun q h => by rw [← hAe]; exact Or.inr h
  have hS : va_S A s.heap s.heap [] := va_S.rf
  have hP : va_P D vwCl [(h0, .inr (0, [.int 0, .null, .int 0, .null, .int 0, .int 0, .int 0, .null, .null, .null, .null, .null, .null, .null, .int 0]))] s.heap := hP
  have hl := lv_entry ([.ref h0]) (n := 1) (Nat.le_of_ble_eq_true rfl)
  rw [lg_entry_eq]
  generalize (lg_sl ([.ref h0]) ++ List.replicate (1 - (lg_sl ([.ref h0])).length) Slot.unset).toArray = ls at hl ⊢
  have hl : lv_has ls 1 [(0, .ref h0)] := hl
  refine lv_aload_n hx hb dX0_init_0 rfl (lv_at hl 0 rfl) ?_
  refine W.objInit hx hb hown (hts _ q26) (hts _ q27) (hts _ q28) rfl (by rw [hml]; exact hl.1) rfl dX0_init_1 (Nat.le_of_ble_eq_true rfl) (Nat.le_of_ble_eq_true rfl) ?_
  refine W.eq (g2 := F0 m 4 ls []) rfl ?_
  refine lv_aload_n hx hb dX0_init_4 rfl (lv_at hl 0 rfl) ?_
  refine lv_bipush (v := iI 24) hx hb dX0_init_5 (by decide) ?_
  refine va_newa (atype := .byte) (ty := .byte) (N' := 24) (a0 := (24, .inl fun _ => iI 0)) hx hb (hts _ q75) rfl hK hP hD hS hA (fun _ => rfl) (by decide) (by decide) (by decide) (Nat.le_of_ble_eq_true rfl) (Nat.le_of_ble_eq_true rfl) dX0_init_7 (fun a0 k0 H hK hP hD hS => ?_)
  have hK : va_K D vwCl [(k0, .byte)] s := hK
  have hP : va_P D vwCl [(h0, .inr (0, [.int 0, .null, .int 0, .null, .int 0, .int 0, .int 0, .null, .null, .null, .null, .null, .null, .null, .int 0])), (a0, .inl (k0, 24, .inl fun _ => iI 0))] H := hP
  have hD : va_D A [(h0, .inr (0, [.int 0, .null, .int 0, .null, .int 0, .int 0, .int 0, .null, .null, .null, .null, .null, .null, .null, .int 0])), (a0, .inl (k0, 24, .inl fun _ => iI 0))] := hD
  refine va_putF hx hb hts in_X0 tyX0 tyX0_ok nmX0 hown hK hP hD hS 0 rfl rfl 1 (by decide) (hts _ q30) (fun x q => q) rfl hin rfl (tyX0_ok 1 (by decide)) rfl rfl (Nat.le_of_ble_eq_true rfl) dX0_init_9 (fun H locs hP hD hS => ?_)
  have hP : va_P D vwCl [(h0, .inr (0, [.int 0, .ref a0, .int 0, .null, .int 0, .int 0, .int 0, .null, .null, .null, .null, .null, .null, .null, .int 0])), (a0, .inl (k0, 24, .inl fun _ => iI 0))] H := hP
  have hD : va_D A [(h0, .inr (0, [.int 0, .ref a0, .int 0, .null, .int 0, .int 0, .int 0, .null, .null, .null, .null, .null, .null, .null, .int 0])), (a0, .inl (k0, 24, .inl fun _ => iI 0))] := hD
  refine lv_aload_n hx hb dX0_init_12 rfl (lv_at hl 0 rfl) ?_
  refine lv_bipush (v := iI 12) hx hb dX0_init_13 (by decide) ?_
  refine va_newa (atype := .byte) (ty := .byte) (N' := 12) (a0 := (12, .inl fun _ => iI 0)) hx hb (hts _ q75) rfl hK hP hD hS hA (fun _ => rfl) (by decide) (by decide) (by decide) (Nat.le_of_ble_eq_true rfl) (Nat.le_of_ble_eq_true rfl) dX0_init_15 (fun a1 k1 H hK hP hD hS => ?_)
  have hK : va_K D vwCl [(k0, .byte), (k1, .byte)] s := hK
  have ek : k1 = k0 := ra_byte (hK.2 0 (k0, .byte) rfl).2 (hK.2 1 (k1, .byte) rfl).2
  subst ek
  have hK := hK.sub (tys' := [(k1, .byte)]) [0] rfl
  have hP : va_P D vwCl [(h0, .inr (0, [.int 0, .ref a0, .int 0, .null, .int 0, .int 0, .int 0, .null, .null, .null, .null, .null, .null, .null, .int 0])), (a0, .inl (k1, 24, .inl fun _ => iI 0)), (a1, .inl (k1, 12, .inl fun _ => iI 0))] H := hP
  have hD : va_D A [(h0, .inr (0, [.int 0, .ref a0, .int 0, .null, .int 0, .int 0, .int 0, .null, .null, .null, .null, .null, .null, .null, .int 0])), (a0, .inl (k1, 24, .inl fun _ => iI 0)), (a1, .inl (k1, 12, .inl fun _ => iI 0))] := hD
  refine va_putF hx hb hts in_X0 tyX0 tyX0_ok nmX0 hown hK hP hD hS 0 rfl rfl 3 (by decide) (hts _ q32) (fun x q => q) rfl hin rfl (tyX0_ok 3 (by decide)) rfl rfl (Nat.le_of_ble_eq_true rfl) dX0_init_17 (fun H locs hP hD hS => ?_)
  have hP : va_P D vwCl [(h0, .inr (0, [.int 0, .ref a0, .int 0, .ref a1, .int 0, .int 0, .int 0, .null, .null, .null, .null, .null, .null, .null, .int 0])), (a0, .inl (k1, 24, .inl fun _ => iI 0)), (a1, .inl (k1, 12, .inl fun _ => iI 0))] H := hP
  have hD : va_D A [(h0, .inr (0, [.int 0, .ref a0, .int 0, .ref a1, .int 0, .int 0, .int 0, .null, .null, .null, .null, .null, .null, .null, .int 0])), (a0, .inl (k1, 24, .inl fun _ => iI 0)), (a1, .inl (k1, 12, .inl fun _ => iI 0))] := hD
  refine lv_aload_n hx hb dX0_init_20 rfl (lv_at hl 0 rfl) ?_
  refine lv_sipush (v := iI 200) hx hb dX0_init_21 (by decide) ?_
  refine va_newa (atype := .byte) (ty := .byte) (N' := 200) (a0 := (200, .inl fun _ => iI 0)) hx hb (hts _ q75) rfl hK hP hD hS hA (fun _ => rfl) (by decide) (by decide) (by decide) (Nat.le_of_ble_eq_true rfl) (Nat.le_of_ble_eq_true rfl) dX0_init_24 (fun a2 k2 H hK hP hD hS => ?_)
  have hK : va_K D vwCl [(k1, .byte), (k2, .byte)] s := hK
  have ek : k2 = k1 := ra_byte (hK.2 0 (k1, .byte) rfl).2 (hK.2 1 (k2, .byte) rfl).2
  subst ek
  have hK := hK.sub (tys' := [(k2, .byte)]) [0] rfl
  have hP : va_P D vwCl [(h0, .inr (0, [.int 0, .ref a0, .int 0, .ref a1, .int 0, .int 0, .int 0, .null, .null, .null, .null, .null, .null, .null, .int 0])), (a0, .inl (k2, 24, .inl fun _ => iI 0)), (a1, .inl (k2, 12, .inl fun _ => iI 0)), (a2, .inl (k2, 200, .inl fun _ => iI 0))] H := hP
  have hD : va_D A [(h0, .inr (0, [.int 0, .ref a0, .int 0, .ref a1, .int 0, .int 0, .int 0, .null, .null, .null, .null, .null, .null, .null, .int 0])), (a0, .inl (k2, 24, .inl fun _ => iI 0)), (a1, .inl (k2, 12, .inl fun _ => iI 0)), (a2, .inl (k2, 200, .inl fun _ => iI 0))] := hD
  refine va_putF hx hb hts in_X0 tyX0 tyX0_ok nmX0 hown hK hP hD hS 0 rfl rfl 7 (by decide) (hts _ q36) (fun x q => q) rfl hin rfl (tyX0_ok 7 (by decide)) rfl rfl (Nat.le_of_ble_eq_true rfl) dX0_init_26 (fun H locs hP hD hS => ?_)
  have hP : va_P D vwCl [(h0, .inr (0, [.int 0, .ref a0, .int 0, .ref a1, .int 0, .int 0, .int 0, .ref a2, .null, .null, .null, .null, .null, .null, .int 0])), (a0, .inl (k2, 24, .inl fun _ => iI 0)), (a1, .inl (k2, 12, .inl fun _ => iI 0)), (a2, .inl (k2, 200, .inl fun _ => iI 0))] H := hP
  have hD : va_D A [(h0, .inr (0, [.int 0, .ref a0, .int 0, .ref a1, .int 0, .int 0, .int 0, .ref a2, .null, .null, .null, .null, .null, .null, .int 0])), (a0, .inl (k2, 24, .inl fun _ => iI 0)), (a1, .inl (k2, 12, .inl fun _ => iI 0)), (a2, .inl (k2, 200, .inl fun _ => iI 0))] := hD
  refine lv_aload_n hx hb dX0_init_29 rfl (lv_at hl 0 rfl) ?_
  refine lv_bipush (v := iI 50) hx hb dX0_init_30 (by decide) ?_
  refine va_newa (atype := .byte) (ty := .byte) (N' := 50) (a0 := (50, .inl fun _ => iI 0)) hx hb (hts _ q75) rfl hK hP hD hS hA (fun _ => rfl) (by decide) (by decide) (by decide) (Nat.le_of_ble_eq_true rfl) (Nat.le_of_ble_eq_true rfl) dX0_init_32 (fun a3 k3 H hK hP hD hS => ?_)
  have hK : va_K D vwCl [(k2, .byte), (k3, .byte)] s := hK
  have ek : k3 = k2 := ra_byte (hK.2 0 (k2, .byte) rfl).2 (hK.2 1 (k3, .byte) rfl).2
  subst ek
  have hK := hK.sub (tys' := [(k3, .byte)]) [0] rfl
  have hP : va_P D vwCl [(h0, .inr (0, [.int 0, .ref a0, .int 0, .ref a1, .int 0, .int 0, .int 0, .ref a2, .null, .null, .null, .null, .null, .null, .int 0])), (a0, .inl (k3, 24, .inl fun _ => iI 0)), (a1, .inl (k3, 12, .inl fun _ => iI 0)), (a2, .inl (k3, 200, .inl fun _ => iI 0)), (a3, .inl (k3, 50, .inl fun _ => iI 0))] H := hP
  have hD : va_D A [(h0, .inr (0, [.int 0, .ref a0, .int 0, .ref a1, .int 0, .int 0, .int 0, .ref a2, .null, .null, .null, .null, .null, .null, .int 0])), (a0, .inl (k3, 24, .inl fun _ => iI 0)), (a1, .inl (k3, 12, .inl fun _ => iI 0)), (a2, .inl (k3, 200, .inl fun _ => iI 0)), (a3, .inl (k3, 50, .inl fun _ => iI 0))] := hD
  refine va_putF hx hb hts in_X0 tyX0 tyX0_ok nmX0 hown hK hP hD hS 0 rfl rfl 8 (by decide) (hts _ q37) (fun x q => q) rfl hin rfl (tyX0_ok 8 (by decide)) rfl rfl (Nat.le_of_ble_eq_true rfl) dX0_init_34 (fun H locs hP hD hS => ?_)
  have hP : va_P D vwCl [(h0, .inr (0, [.int 0, .ref a0, .int 0, .ref a1, .int 0, .int 0, .int 0, .ref a2, .ref a3, .null, .null, .null, .null, .null, .int 0])), (a0, .inl (k3, 24, .inl fun _ => iI 0)), (a1, .inl (k3, 12, .inl fun _ => iI 0)), (a2, .inl (k3, 200, .inl fun _ => iI 0)), (a3, .inl (k3, 50, .inl fun _ => iI 0))] H := hP
  have hD : va_D A [(h0, .inr (0, [.int 0, .ref a0, .int 0, .ref a1, .int 0, .int 0, .int 0, .ref a2, .ref a3, .null, .null, .null, .null, .null, .int 0])), (a0, .inl (k3, 24, .inl fun _ => iI 0)), (a1, .inl (k3, 12, .inl fun _ => iI 0)), (a2, .inl (k3, 200, .inl fun _ => iI 0)), (a3, .inl (k3, 50, .inl fun _ => iI 0))] := hD
  refine lv_aload_n hx hb dX0_init_37 rfl (lv_at hl 0 rfl) ?_
  refine lv_bipush (v := iI 50) hx hb dX0_init_38 (by decide) ?_
  refine va_newa (atype := .byte) (ty := .byte) (N' := 50) (a0 := (50, .inl fun _ => iI 0)) hx hb (hts _ q75) rfl hK hP hD hS hA (fun _ => rfl) (by decide) (by decide) (by decide) (Nat.le_of_ble_eq_true rfl) (Nat.le_of_ble_eq_true rfl) dX0_init_40 (fun a4 k4 H hK hP hD hS => ?_)
  have hK : va_K D vwCl [(k3, .byte), (k4, .byte)] s := hK
  have ek : k4 = k3 := ra_byte (hK.2 0 (k3, .byte) rfl).2 (hK.2 1 (k4, .byte) rfl).2
  subst ek
  have hK := hK.sub (tys' := [(k4, .byte)]) [0] rfl
  have hP : va_P D vwCl [(h0, .inr (0, [.int 0, .ref a0, .int 0, .ref a1, .int 0, .int 0, .int 0, .ref a2, .ref a3, .null, .null, .null, .null, .null, .int 0])), (a0, .inl (k4, 24, .inl fun _ => iI 0)), (a1, .inl (k4, 12, .inl fun _ => iI 0)), (a2, .inl (k4, 200, .inl fun _ => iI 0)), (a3, .inl (k4, 50, .inl fun _ => iI 0)), (a4, .inl (k4, 50, .inl fun _ => iI 0))] H := hP
  have hD : va_D A [(h0, .inr (0, [.int 0, .ref a0, .int 0, .ref a1, .int 0, .int 0, .int 0, .ref a2, .ref a3, .null, .null, .null, .null, .null, .int 0])), (a0, .inl (k4, 24, .inl fun _ => iI 0)), (a1, .inl (k4, 12, .inl fun _ => iI 0)), (a2, .inl (k4, 200, .inl fun _ => iI 0)), (a3, .inl (k4, 50, .inl fun _ => iI 0)), (a4, .inl (k4, 50, .inl fun _ => iI 0))] := hD
  refine va_putF hx hb hts in_X0 tyX0 tyX0_ok nmX0 hown hK hP hD hS 0 rfl rfl 9 (by decide) (hts _ q38) (fun x q => q) rfl hin rfl (tyX0_ok 9 (by decide)) rfl rfl (Nat.le_of_ble_eq_true rfl) dX0_init_42 (fun H locs hP hD hS => ?_)
  have hP : va_P D vwCl [(h0, .inr (0, [.int 0, .ref a0, .int 0, .ref a1, .int 0, .int 0, .int 0, .ref a2, .ref a3, .ref a4, .null, .null, .null, .null, .int 0])), (a0, .inl (k4, 24, .inl fun _ => iI 0)), (a1, .inl (k4, 12, .inl fun _ => iI 0)), (a2, .inl (k4, 200, .inl fun _ => iI 0)), (a3, .inl (k4, 50, .inl fun _ => iI 0)), (a4, .inl (k4, 50, .inl fun _ => iI 0))] H := hP
  have hD : va_D A [(h0, .inr (0, [.int 0, .ref a0, .int 0, .ref a1, .int 0, .int 0, .int 0, .ref a2, .ref a3, .ref a4, .null, .null, .null, .null, .int 0])), (a0, .inl (k4, 24, .inl fun _ => iI 0)), (a1, .inl (k4, 12, .inl fun _ => iI 0)), (a2, .inl (k4, 200, .inl fun _ => iI 0)), (a3, .inl (k4, 50, .inl fun _ => iI 0)), (a4, .inl (k4, 50, .inl fun _ => iI 0))] := hD
  refine lv_aload_n hx hb dX0_init_45 rfl (lv_at hl 0 rfl) ?_
  refine lv_bipush (v := iI 50) hx hb dX0_init_46 (by decide) ?_
  refine va_newa (atype := .byte) (ty := .byte) (N' := 50) (a0 := (50, .inl fun _ => iI 0)) hx hb (hts _ q75) rfl hK hP hD hS hA (fun _ => rfl) (by decide) (by decide) (by decide) (Nat.le_of_ble_eq_true rfl) (Nat.le_of_ble_eq_true rfl) dX0_init_48 (fun a5 k5 H hK hP hD hS => ?_)
  have hK : va_K D vwCl [(k4, .byte), (k5, .byte)] s := hK
  have ek : k5 = k4 := ra_byte (hK.2 0 (k4, .byte) rfl).2 (hK.2 1 (k5, .byte) rfl).2
  subst ek
  have hK := hK.sub (tys' := [(k5, .byte)]) [0] rfl
  have hP : va_P D vwCl [(h0, .inr (0, [.int 0, .ref a0, .int 0, .ref a1, .int 0, .int 0, .int 0, .ref a2, .ref a3, .ref a4, .null, .null, .null, .null, .int 0])), (a0, .inl (k5, 24, .inl fun _ => iI 0)), (a1, .inl (k5, 12, .inl fun _ => iI 0)), (a2, .inl (k5, 200, .inl fun _ => iI 0)), (a3, .inl (k5, 50, .inl fun _ => iI 0)), (a4, .inl (k5, 50, .inl fun _ => iI 0)), (a5, .inl (k5, 50, .inl fun _ => iI 0))] H := hP
  have hD : va_D A [(h0, .inr (0, [.int 0, .ref a0, .int 0, .ref a1, .int 0, .int 0, .int 0, .ref a2, .ref a3, .ref a4, .null, .null, .null, .null, .int 0])), (a0, .inl (k5, 24, .inl fun _ => iI 0)), (a1, .inl (k5, 12, .inl fun _ => iI 0)), (a2, .inl (k5, 200, .inl fun _ => iI 0)), (a3, .inl (k5, 50, .inl fun _ => iI 0)), (a4, .inl (k5, 50, .inl fun _ => iI 0)), (a5, .inl (k5, 50, .inl fun _ => iI 0))] := hD
  refine va_putF hx hb hts in_X0 tyX0 tyX0_ok nmX0 hown hK hP hD hS 0 rfl rfl 10 (by decide) (hts _ q39) (fun x q => q) rfl hin rfl (tyX0_ok 10 (by decide)) rfl rfl (Nat.le_of_ble_eq_true rfl) dX0_init_50 (fun H locs hP hD hS => ?_)
  have hP : va_P D vwCl [(h0, .inr (0, [.int 0, .ref a0, .int 0, .ref a1, .int 0, .int 0, .int 0, .ref a2, .ref a3, .ref a4, .ref a5, .null, .null, .null, .int 0])), (a0, .inl (k5, 24, .inl fun _ => iI 0)), (a1, .inl (k5, 12, .inl fun _ => iI 0)), (a2, .inl (k5, 200, .inl fun _ => iI 0)), (a3, .inl (k5, 50, .inl fun _ => iI 0)), (a4, .inl (k5, 50, .inl fun _ => iI 0)), (a5, .inl (k5, 50, .inl fun _ => iI 0))] H := hP
  have hD : va_D A [(h0, .inr (0, [.int 0, .ref a0, .int 0, .ref a1, .int 0, .int 0, .int 0, .ref a2, .ref a3, .ref a4, .ref a5, .null, .null, .null, .int 0])), (a0, .inl (k5, 24, .inl fun _ => iI 0)), (a1, .inl (k5, 12, .inl fun _ => iI 0)), (a2, .inl (k5, 200, .inl fun _ => iI 0)), (a3, .inl (k5, 50, .inl fun _ => iI 0)), (a4, .inl (k5, 50, .inl fun _ => iI 0)), (a5, .inl (k5, 50, .inl fun _ => iI 0))] := hD
  refine lv_aload_n hx hb dX0_init_53 rfl (lv_at hl 0 rfl) ?_
  refine lv_bipush (v := iI 50) hx hb dX0_init_54 (by decide) ?_
  refine va_newa (atype := .byte) (ty := .byte) (N' := 50) (a0 := (50, .inl fun _ => iI 0)) hx hb (hts _ q75) rfl hK hP hD hS hA (fun _ => rfl) (by decide) (by decide) (by decide) (Nat.le_of_ble_eq_true rfl) (Nat.le_of_ble_eq_true rfl) dX0_init_56 (fun a6 k6 H hK hP hD hS => ?_)
  have hK : va_K D vwCl [(k5, .byte), (k6, .byte)] s := hK
  have ek : k6 = k5 := ra_byte (hK.2 0 (k5, .byte) rfl).2 (hK.2 1 (k6, .byte) rfl).2
  subst ek
  have hK := hK.sub (tys' := [(k6, .byte)]) [0] rfl
  have hP : va_P D vwCl [(h0, .inr (0, [.int 0, .ref a0, .int 0, .ref a1, .int 0, .int 0, .int 0, .ref a2, .ref a3, .ref a4, .ref a5, .null, .null, .null, .int 0])), (a0, .inl (k6, 24, .inl fun _ => iI 0)), (a1, .inl (k6, 12, .inl fun _ => iI 0)), (a2, .inl (k6, 200, .inl fun _ => iI 0)), (a3, .inl (k6, 50, .inl fun _ => iI 0)), (a4, .inl (k6, 50, .inl fun _ => iI 0)), (a5, .inl (k6, 50, .inl fun _ => iI 0)), (a6, .inl (k6, 50, .inl fun _ => iI 0))] H := hP
  have hD : va_D A [(h0, .inr (0, [.int 0, .ref a0, .int 0, .ref a1, .int 0, .int 0, .int 0, .ref a2, .ref a3, .ref a4, .ref a5, .null, .null, .null, .int 0])), (a0, .inl (k6, 24, .inl fun _ => iI 0)), (a1, .inl (k6, 12, .inl fun _ => iI 0)), (a2, .inl (k6, 200, .inl fun _ => iI 0)), (a3, .inl (k6, 50, .inl fun _ => iI 0)), (a4, .inl (k6, 50, .inl fun _ => iI 0)), (a5, .inl (k6, 50, .inl fun _ => iI 0)), (a6, .inl (k6, 50, .inl fun _ => iI 0))] := hD
  refine va_putF hx hb hts in_X0 tyX0 tyX0_ok nmX0 hown hK hP hD hS 0 rfl rfl 11 (by decide) (hts _ q40) (fun x q => q) rfl hin rfl (tyX0_ok 11 (by decide)) rfl rfl (Nat.le_of_ble_eq_true rfl) dX0_init_58 (fun H locs hP hD hS => ?_)
  have hP : va_P D vwCl [(h0, .inr (0, [.int 0, .ref a0, .int 0, .ref a1, .int 0, .int 0, .int 0, .ref a2, .ref a3, .ref a4, .ref a5, .ref a6, .null, .null, .int 0])), (a0, .inl (k6, 24, .inl fun _ => iI 0)), (a1, .inl (k6, 12, .inl fun _ => iI 0)), (a2, .inl (k6, 200, .inl fun _ => iI 0)), (a3, .inl (k6, 50, .inl fun _ => iI 0)), (a4, .inl (k6, 50, .inl fun _ => iI 0)), (a5, .inl (k6, 50, .inl fun _ => iI 0)), (a6, .inl (k6, 50, .inl fun _ => iI 0))] H := hP
  have hD : va_D A [(h0, .inr (0, [.int 0, .ref a0, .int 0, .ref a1, .int 0, .int 0, .int 0, .ref a2, .ref a3, .ref a4, .ref a5, .ref a6, .null, .null, .int 0])), (a0, .inl (k6, 24, .inl fun _ => iI 0)), (a1, .inl (k6, 12, .inl fun _ => iI 0)), (a2, .inl (k6, 200, .inl fun _ => iI 0)), (a3, .inl (k6, 50, .inl fun _ => iI 0)), (a4, .inl (k6, 50, .inl fun _ => iI 0)), (a5, .inl (k6, 50, .inl fun _ => iI 0)), (a6, .inl (k6, 50, .inl fun _ => iI 0))] := hD
  refine lv_aload_n hx hb dX0_init_61 rfl (lv_at hl 0 rfl) ?_
  refine lv_bipush (v := iI 50) hx hb dX0_init_62 (by decide) ?_
  refine va_newa (atype := .short) (ty := .short) (N' := 50) (a0 := (50, .inl fun _ => iI 0)) hx hb (hts _ q76) rfl hK hP hD hS hA (fun _ => rfl) (by decide) (by decide) (by decide) (Nat.le_of_ble_eq_true rfl) (Nat.le_of_ble_eq_true rfl) dX0_init_64 (fun a7 k7 H hK hP hD hS => ?_)
  have hK : va_K D vwCl [(k6, .byte), (k7, .short)] s := hK
  have hP : va_P D vwCl [(h0, .inr (0, [.int 0, .ref a0, .int 0, .ref a1, .int 0, .int 0, .int 0, .ref a2, .ref a3, .ref a4, .ref a5, .ref a6, .null, .null, .int 0])), (a0, .inl (k6, 24, .inl fun _ => iI 0)), (a1, .inl (k6, 12, .inl fun _ => iI 0)), (a2, .inl (k6, 200, .inl fun _ => iI 0)), (a3, .inl (k6, 50, .inl fun _ => iI 0)), (a4, .inl (k6, 50, .inl fun _ => iI 0)), (a5, .inl (k6, 50, .inl fun _ => iI 0)), (a6, .inl (k6, 50, .inl fun _ => iI 0)), (a7, .inl (k7, 50, .inl fun _ => iI 0))] H := hP
  have hD : va_D A [(h0, .inr (0, [.int 0, .ref a0, .int 0, .ref a1, .int 0, .int 0, .int 0, .ref a2, .ref a3, .ref a4, .ref a5, .ref a6, .null, .null, .int 0])), (a0, .inl (k6, 24, .inl fun _ => iI 0)), (a1, .inl (k6, 12, .inl fun _ => iI 0)), (a2, .inl (k6, 200, .inl fun _ => iI 0)), (a3, .inl (k6, 50, .inl fun _ => iI 0)), (a4, .inl (k6, 50, .inl fun _ => iI 0)), (a5, .inl (k6, 50, .inl fun _ => iI 0)), (a6, .inl (k6, 50, .inl fun _ => iI 0)), (a7, .inl (k7, 50, .inl fun _ => iI 0))] := hD
  refine va_putF hx hb hts in_X0 tyX0 tyX0_ok nmX0 hown hK hP hD hS 0 rfl rfl 12 (by decide) (hts _ q41) (fun x q => q) rfl hin rfl (tyX0_ok 12 (by decide)) rfl rfl (Nat.le_of_ble_eq_true rfl) dX0_init_66 (fun H locs hP hD hS => ?_)
  have hP : va_P D vwCl [(h0, .inr (0, [.int 0, .ref a0, .int 0, .ref a1, .int 0, .int 0, .int 0, .ref a2, .ref a3, .ref a4, .ref a5, .ref a6, .ref a7, .null, .int 0])), (a0, .inl (k6, 24, .inl fun _ => iI 0)), (a1, .inl (k6, 12, .inl fun _ => iI 0)), (a2, .inl (k6, 200, .inl fun _ => iI 0)), (a3, .inl (k6, 50, .inl fun _ => iI 0)), (a4, .inl (k6, 50, .inl fun _ => iI 0)), (a5, .inl (k6, 50, .inl fun _ => iI 0)), (a6, .inl (k6, 50, .inl fun _ => iI 0)), (a7, .inl (k7, 50, .inl fun _ => iI 0))] H := hP
  have hD : va_D A [(h0, .inr (0, [.int 0, .ref a0, .int 0, .ref a1, .int 0, .int 0, .int 0, .ref a2, .ref a3, .ref a4, .ref a5, .ref a6, .ref a7, .null, .int 0])), (a0, .inl (k6, 24, .inl fun _ => iI 0)), (a1, .inl (k6, 12, .inl fun _ => iI 0)), (a2, .inl (k6, 200, .inl fun _ => iI 0)), (a3, .inl (k6, 50, .inl fun _ => iI 0)), (a4, .inl (k6, 50, .inl fun _ => iI 0)), (a5, .inl (k6, 50, .inl fun _ => iI 0)), (a6, .inl (k6, 50, .inl fun _ => iI 0)), (a7, .inl (k7, 50, .inl fun _ => iI 0))] := hD
  refine lv_aload_n hx hb dX0_init_69 rfl (lv_at hl 0 rfl) ?_
  refine lv_bipush (v := iI 50) hx hb dX0_init_70 (by decide) ?_
  refine va_newa (atype := .byte) (ty := .byte) (N' := 50) (a0 := (50, .inl fun _ => iI 0)) hx hb (hts _ q75) rfl hK hP hD hS hA (fun _ => rfl) (by decide) (by decide) (by decide) (Nat.le_of_ble_eq_true rfl) (Nat.le_of_ble_eq_true rfl) dX0_init_72 (fun a8 k8 H hK hP hD hS => ?_)
  have hK : va_K D vwCl [(k6, .byte), (k7, .short), (k8, .byte)] s := hK
  have ek : k8 = k6 := ra_byte (hK.2 0 (k6, .byte) rfl).2 (hK.2 2 (k8, .byte) rfl).2
  subst ek
  have hK := hK.sub (tys' := [(k8, .byte), (k7, .short)]) [0, 1] rfl
  have hP : va_P D vwCl [(h0, .inr (0, [.int 0, .ref a0, .int 0, .ref a1, .int 0, .int 0, .int 0, .ref a2, .ref a3, .ref a4, .ref a5, .ref a6, .ref a7, .null, .int 0])), (a0, .inl (k8, 24, .inl fun _ => iI 0)), (a1, .inl (k8, 12, .inl fun _ => iI 0)), (a2, .inl (k8, 200, .inl fun _ => iI 0)), (a3, .inl (k8, 50, .inl fun _ => iI 0)), (a4, .inl (k8, 50, .inl fun _ => iI 0)), (a5, .inl (k8, 50, .inl fun _ => iI 0)), (a6, .inl (k8, 50, .inl fun _ => iI 0)), (a7, .inl (k7, 50, .inl fun _ => iI 0)), (a8, .inl (k8, 50, .inl fun _ => iI 0))] H := hP
  have hD : va_D A [(h0, .inr (0, [.int 0, .ref a0, .int 0, .ref a1, .int 0, .int 0, .int 0, .ref a2, .ref a3, .ref a4, .ref a5, .ref a6, .ref a7, .null, .int 0])), (a0, .inl (k8, 24, .inl fun _ => iI 0)), (a1, .inl (k8, 12, .inl fun _ => iI 0)), (a2, .inl (k8, 200, .inl fun _ => iI 0)), (a3, .inl (k8, 50, .inl fun _ => iI 0)), (a4, .inl (k8, 50, .inl fun _ => iI 0)), (a5, .inl (k8, 50, .inl fun _ => iI 0)), (a6, .inl (k8, 50, .inl fun _ => iI 0)), (a7, .inl (k7, 50, .inl fun _ => iI 0)), (a8, .inl (k8, 50, .inl fun _ => iI 0))] := hD
  refine va_putF hx hb hts in_X0 tyX0 tyX0_ok nmX0 hown hK hP hD hS 0 rfl rfl 13 (by decide) (hts _ q42) (fun x q => q) rfl hin rfl (tyX0_ok 13 (by decide)) rfl rfl (Nat.le_of_ble_eq_true rfl) dX0_init_74 (fun H locs hP hD hS => ?_)
  have hP : va_P D vwCl [(h0, .inr (0, [.int 0, .ref a0, .int 0, .ref a1, .int 0, .int 0, .int 0, .ref a2, .ref a3, .ref a4, .ref a5, .ref a6, .ref a7, .ref a8, .int 0])), (a0, .inl (k8, 24, .inl fun _ => iI 0)), (a1, .inl (k8, 12, .inl fun _ => iI 0)), (a2, .inl (k8, 200, .inl fun _ => iI 0)), (a3, .inl (k8, 50, .inl fun _ => iI 0)), (a4, .inl (k8, 50, .inl fun _ => iI 0)), (a5, .inl (k8, 50, .inl fun _ => iI 0)), (a6, .inl (k8, 50, .inl fun _ => iI 0)), (a7, .inl (k7, 50, .inl fun _ => iI 0)), (a8, .inl (k8, 50, .inl fun _ => iI 0))] H := hP
  have hD : va_D A [(h0, .inr (0, [.int 0, .ref a0, .int 0, .ref a1, .int 0, .int 0, .int 0, .ref a2, .ref a3, .ref a4, .ref a5, .ref a6, .ref a7, .ref a8, .int 0])), (a0, .inl (k8, 24, .inl fun _ => iI 0)), (a1, .inl (k8, 12, .inl fun _ => iI 0)), (a2, .inl (k8, 200, .inl fun _ => iI 0)), (a3, .inl (k8, 50, .inl fun _ => iI 0)), (a4, .inl (k8, 50, .inl fun _ => iI 0)), (a5, .inl (k8, 50, .inl fun _ => iI 0)), (a6, .inl (k8, 50, .inl fun _ => iI 0)), (a7, .inl (k7, 50, .inl fun _ => iI 0)), (a8, .inl (k8, 50, .inl fun _ => iI 0))] := hD
  refine W.widen (k := 9) (n := 536) (Nat.le_of_ble_eq_true rfl) (Nat.le_of_ble_eq_true rfl) ?_
  exact W.vret hx hb hr (fun t ht hW => ⟨⟨(adL [h0, a0, a1, a2, a3, a4, a5, a6, a7, a8], k8, k7), rfl, rfl, by rw [ht]; exact hP, va_K.moved hW.alike hK, hD⟩, hS.F ht⟩) hS.2.2 dX0_init_77
set_option maxHeartbeats 4000000 in
theorem cM_init (l : Launch) (D : va_G) (h0 sz : Nat) : Met l yX1_init (ws_ yX1_init cX1_init 1 none) ({ frames := 1, cells := 3, slots := 636, locals := 12 }) (va_Pc [.ref h0] (fun U => U.heap.size = sz ∧ va_P D vwCl [(h0, .inr (1, [.null, .int 0, .int 0, .null, .null, .int 0, .int 0]))] U.heap ∧ va_K D vwCl [] U ∧ va_D (fun _ => True) [(h0, .inr (1, [.null, .int 0, .int 0, .null, .null, .int 0, .int 0]))])) (va_Qv (S := (Nat → Nat) × ClassId) (fun u => u.1 0 = h0) (fun u t => va_P D vwCl (wM u.1 u.2 0 0 0 0 z0 z0 z0) t.heap ∧ va_K D vwCl [(u.2, .int)] t ∧ va_D (va_A [(h0, .inr (1, [.null, .int 0, .int 0, .null, .null, .int 0, .int 0]))] sz) (wM u.1 u.2 0 0 0 0 z0 z0 z0)) (va_A [(h0, .inr (1, [.null, .int 0, .int 0, .null, .null, .int 0, .int 0]))] sz)) 3 636 (va_A [(h0, .inr (1, [.null, .int 0, .int 0, .null, .null, .int 0, .int 0]))] sz) := by
  refine Met.ofW (cc := cX1_init) (maxL := 1) (ret := none) (by decide) rfl ?_
  intro p e s m args below meth c s₁ B hml hv
  obtain ⟨rfl, hsz, hP, hK, hD0⟩ := hv
  have hx := B.exec
  have hb := B.bytes
  have hr := B.returns
  have hts := atoms_spec (ws := ws_ yX1_init cX1_init 1 none) B.pre
  have hts : ∀ w ∈ lw_all, w.before _ s = true := fun w h => hts w (List.mem_cons_of_mem _ h)
  have hown : s.vm.findClass RX1 = some m.cls := findClass_of_methodNamed B.named
  have hlocks := B.notSynchronized
  have hin : meth.name = "<init>" := (name_of_methodNamed B.named B.method).1
  subst hsz
  have hD := hD0.self (sz := s.heap.size)
  generalize hAe : va_A [(h0, .inr (1, [.null, .int 0, .int 0, .null, .null, .int 0, .int 0]))] s.heap.size = A at hD ⊢
  have hA : ∀ q : Nat, s.heap.size ≤ q → A q := fun q h => by rw [← hAe]; exact Or.inr h
  have hS : va_S A s.heap s.heap [] := va_S.rf
  have hP : va_P D vwCl [(h0, .inr (1, [.null, .int 0, .int 0, .null, .null, .int 0, .int 0]))] s.heap := hP
  have hl := lv_entry ([.ref h0]) (n := 1) (Nat.le_of_ble_eq_true rfl)
  rw [lg_entry_eq]
  generalize (lg_sl ([.ref h0]) ++ List.replicate (1 - (lg_sl ([.ref h0])).length) Slot.unset).toArray = ls at hl ⊢
  have hl : lv_has ls 1 [(0, .ref h0)] := hl
  refine lv_aload_n hx hb dX1_init_0 rfl (lv_at hl 0 rfl) ?_
  refine W.objInit hx hb hown (hts _ q174) (hts _ q27) (hts _ q28) rfl (by rw [hml]; exact hl.1) rfl dX1_init_1 (Nat.le_of_ble_eq_true rfl) (Nat.le_of_ble_eq_true rfl) ?_
  refine W.eq (g2 := F0 m 4 ls []) rfl ?_
  refine lv_aload_n hx hb dX1_init_4 rfl (lv_at hl 0 rfl) ?_
  refine lv_bipush (v := iI 36) hx hb dX1_init_5 (by decide) ?_
  refine va_newa (atype := .int) (ty := .int) (N' := 36) (a0 := (36, .inl fun _ => iI 0)) hx hb (hts _ q197) rfl hK hP hD hS hA (fun _ => rfl) (by decide) (by decide) (by decide) (Nat.le_of_ble_eq_true rfl) (Nat.le_of_ble_eq_true rfl) dX1_init_7 (fun a0 k0 H hK hP hD hS => ?_)
  have hK : va_K D vwCl [(k0, .int)] s := hK
  have hP : va_P D vwCl [(h0, .inr (1, [.null, .int 0, .int 0, .null, .null, .int 0, .int 0])), (a0, .inl (k0, 36, .inl fun _ => iI 0))] H := hP
  have hD : va_D A [(h0, .inr (1, [.null, .int 0, .int 0, .null, .null, .int 0, .int 0])), (a0, .inl (k0, 36, .inl fun _ => iI 0))] := hD
  refine va_putF hx hb hts in_X1 tyX1 tyX1_ok nmX1 hown hK hP hD hS 0 rfl rfl 0 (by decide) (hts _ q175) (fun x q => q) rfl hin rfl (tyX1_ok 0 (by decide)) rfl rfl (Nat.le_of_ble_eq_true rfl) dX1_init_9 (fun H locs hP hD hS => ?_)
  have hP : va_P D vwCl [(h0, .inr (1, [.ref a0, .int 0, .int 0, .null, .null, .int 0, .int 0])), (a0, .inl (k0, 36, .inl fun _ => iI 0))] H := hP
  have hD : va_D A [(h0, .inr (1, [.ref a0, .int 0, .int 0, .null, .null, .int 0, .int 0])), (a0, .inl (k0, 36, .inl fun _ => iI 0))] := hD
  refine lv_aload_n hx hb dX1_init_12 rfl (lv_at hl 0 rfl) ?_
  refine lv_sipush (v := iI 300) hx hb dX1_init_13 (by decide) ?_
  refine va_newa (atype := .int) (ty := .int) (N' := 300) (a0 := (300, .inl fun _ => iI 0)) hx hb (hts _ q197) rfl hK hP hD hS hA (fun _ => rfl) (by decide) (by decide) (by decide) (Nat.le_of_ble_eq_true rfl) (Nat.le_of_ble_eq_true rfl) dX1_init_16 (fun a1 k1 H hK hP hD hS => ?_)
  have hK : va_K D vwCl [(k0, .int), (k1, .int)] s := hK
  have ek : k1 = k0 := ra_int (hK.2 0 (k0, .int) rfl).2 (hK.2 1 (k1, .int) rfl).2
  subst ek
  have hK := hK.sub (tys' := [(k1, .int)]) [0] rfl
  have hP : va_P D vwCl [(h0, .inr (1, [.ref a0, .int 0, .int 0, .null, .null, .int 0, .int 0])), (a0, .inl (k1, 36, .inl fun _ => iI 0)), (a1, .inl (k1, 300, .inl fun _ => iI 0))] H := hP
  have hD : va_D A [(h0, .inr (1, [.ref a0, .int 0, .int 0, .null, .null, .int 0, .int 0])), (a0, .inl (k1, 36, .inl fun _ => iI 0)), (a1, .inl (k1, 300, .inl fun _ => iI 0))] := hD
  refine va_putF hx hb hts in_X1 tyX1 tyX1_ok nmX1 hown hK hP hD hS 0 rfl rfl 3 (by decide) (hts _ q178) (fun x q => q) rfl hin rfl (tyX1_ok 3 (by decide)) rfl rfl (Nat.le_of_ble_eq_true rfl) dX1_init_18 (fun H locs hP hD hS => ?_)
  have hP : va_P D vwCl [(h0, .inr (1, [.ref a0, .int 0, .int 0, .ref a1, .null, .int 0, .int 0])), (a0, .inl (k1, 36, .inl fun _ => iI 0)), (a1, .inl (k1, 300, .inl fun _ => iI 0))] H := hP
  have hD : va_D A [(h0, .inr (1, [.ref a0, .int 0, .int 0, .ref a1, .null, .int 0, .int 0])), (a0, .inl (k1, 36, .inl fun _ => iI 0)), (a1, .inl (k1, 300, .inl fun _ => iI 0))] := hD
  refine lv_aload_n hx hb dX1_init_21 rfl (lv_at hl 0 rfl) ?_
  refine lv_sipush (v := iI 300) hx hb dX1_init_22 (by decide) ?_
  refine va_newa (atype := .int) (ty := .int) (N' := 300) (a0 := (300, .inl fun _ => iI 0)) hx hb (hts _ q197) rfl hK hP hD hS hA (fun _ => rfl) (by decide) (by decide) (by decide) (Nat.le_of_ble_eq_true rfl) (Nat.le_of_ble_eq_true rfl) dX1_init_25 (fun a2 k2 H hK hP hD hS => ?_)
  have hK : va_K D vwCl [(k1, .int), (k2, .int)] s := hK
  have ek : k2 = k1 := ra_int (hK.2 0 (k1, .int) rfl).2 (hK.2 1 (k2, .int) rfl).2
  subst ek
  have hK := hK.sub (tys' := [(k2, .int)]) [0] rfl
  have hP : va_P D vwCl [(h0, .inr (1, [.ref a0, .int 0, .int 0, .ref a1, .null, .int 0, .int 0])), (a0, .inl (k2, 36, .inl fun _ => iI 0)), (a1, .inl (k2, 300, .inl fun _ => iI 0)), (a2, .inl (k2, 300, .inl fun _ => iI 0))] H := hP
  have hD : va_D A [(h0, .inr (1, [.ref a0, .int 0, .int 0, .ref a1, .null, .int 0, .int 0])), (a0, .inl (k2, 36, .inl fun _ => iI 0)), (a1, .inl (k2, 300, .inl fun _ => iI 0)), (a2, .inl (k2, 300, .inl fun _ => iI 0))] := hD
  refine va_putF hx hb hts in_X1 tyX1 tyX1_ok nmX1 hown hK hP hD hS 0 rfl rfl 4 (by decide) (hts _ q179) (fun x q => q) rfl hin rfl (tyX1_ok 4 (by decide)) rfl rfl (Nat.le_of_ble_eq_true rfl) dX1_init_27 (fun H locs hP hD hS => ?_)
  have hP : va_P D vwCl [(h0, .inr (1, [.ref a0, .int 0, .int 0, .ref a1, .ref a2, .int 0, .int 0])), (a0, .inl (k2, 36, .inl fun _ => iI 0)), (a1, .inl (k2, 300, .inl fun _ => iI 0)), (a2, .inl (k2, 300, .inl fun _ => iI 0))] H := hP
  have hD : va_D A [(h0, .inr (1, [.ref a0, .int 0, .int 0, .ref a1, .ref a2, .int 0, .int 0])), (a0, .inl (k2, 36, .inl fun _ => iI 0)), (a1, .inl (k2, 300, .inl fun _ => iI 0)), (a2, .inl (k2, 300, .inl fun _ => iI 0))] := hD
  refine W.widen (k := 3) (n := 636) (Nat.le_of_ble_eq_true rfl) (Nat.le_of_ble_eq_true rfl) ?_
  exact W.vret hx hb hr (fun t ht hW => ⟨⟨(adL [h0, a0, a1, a2], k2), rfl, rfl, by rw [ht]; exact hP, va_K.moved hW.alike hK, hD⟩, hS.F ht⟩) hS.2.2 dX1_init_30
end
section
/-! THE CLAIM OUT OF ONE WALK OF THE LAW'S BODY. Your part is whole_start (and what it stands on); all else here is the same for every law, but numbers. -/
def R_law : String := "RepeatFinderLaw"
def lw_P (b : Addr) (xs : List Int32) (args : Array Value) (s : State) : Prop := args = #[.ref b] ∧ s.IntsAt b xs ∧ xs.length ≤ 128 ∧ (Jvm.Cond.and given_1 narrow_1).before args s = true
def lw_Q (_ : Array Value) (s : State) (o : Outcome) (t : State) : Prop := o = .returned (some (.int 1)) ∧ Framed s o t [] 600000 7290000
def lw_Z (below : List Frame) (a : Array Value) (s : State) : State → Prop := fun t => ∃ o, t.status = .running ∧ Ended t below o ∧ lw_Q a s o t
/-- the law's own end, with 1 on the stack, nothing written that was there before, its room as the claim has it -/
theorem lw_ret {p : Program} {l : Launch} {e : Env} {s : State} {m : MethodId} {below : List Frame} {meth : Method} {c : Code} {b : Nat} (hx : p.tables.exec = Jvm.exec) (hb : c.code = code) (hr : meth.sig.returnType = ret) (hlocks : meth.locks = false) {pc : Nat} {H : Heap} {ls : Array Slot} (hdg : decode code pc = .ok (.ireturn, 1)) : W p l e room_1 s m #[Value.ref b] below meth c H [] 600000 7290000 (lw_Z below #[Value.ref b] s) (F0 m pc ls [.int 1]) := by
  intro T hT X
  obtain ⟨fs, hret, hrun, hended, hW, hframe⟩ := X.leave (v := some (.int 1)) (hlocks := hlocks) (fun h => by rw [hr] at h; cases h)
  have hmeth' : T.vm.method? m = some meth := X.method'
  refine ⟨T.setFrames fs, ?_, .returned (some (.int 1)), hrun, hended, rfl, ⟨_, rfl⟩, hW, hframe⟩
  jvm_step X.here [X.here.top, hx, hb, hdg, hmeth', hr, ret, narrow_b1]
  (try refine ⟨rfl, ?_⟩); (try refine ⟨rfl, ?_⟩)
  first | (intro acts; rw [hret _ acts rfl rfl rfl]) | rw [hret _ _ rfl rfl rfl]
  exact Steps.refl _
/-- what holds at the law's entry: the machine, the code, the tables' words (any of lw_tbl by 'hts w (by decide +kernel)'), the script of L ints xs at the cell b, what the Statement gives of the start (any of its parts by flat_of_before) -/
def lw_At (p : Program) (s : State) (m : MethodId) (meth : Method) (c : Code) (b L : Nat) (xs : Nat → Int32) : Prop :=
  p.tables.exec = Jvm.exec ∧ c.code = code ∧ meth.sig.returnType = ret ∧ c.maxLocals = 4 ∧ s.vm.findClass R_law = some m.cls ∧ (∀ w ∈ lw_tbl, w.before #[Value.ref b] s = true) ∧ va_X b L xs s s.heap ∧ b < s.heap.size ∧ meth.locks = false ∧ (Jvm.Cond.and given_1 narrow_1).before #[Value.ref b] s = true
set_option maxRecDepth 100000
theorem ap_l {a b : va_W} {k : Nat} {q : Nat × va_E} (h : a[k]? = some q) : (a ++ b)[k]? = some q := by
  rw [List.getElem?_append_left (List.getElem?_eq_some_iff.mp h).1]; exact h
theorem ap_r {a b : va_W} {k : Nat} {q : Nat × va_E} (h : b[k]? = some q) : (a ++ b)[a.length + k]? = some q := by
  rw [List.getElem?_append_right (by omega), show a.length + k - a.length = k by omega]; exact h
theorem zP_l {D : va_G} {cl : List vw_C} {a b : va_W} {H : Heap} (h : va_P D cl (a ++ b) H) : va_P D cl a H := fun k q hk => h k q (ap_l hk)
theorem zP_r {D : va_G} {cl : List vw_C} {a b : va_W} {H : Heap} (h : va_P D cl (a ++ b) H) : va_P D cl b H := fun k q hk => h _ q (ap_r hk)
theorem zD_l {A : Nat → Prop} {a b : va_W} (h : va_D A (a ++ b)) : va_D A a := ⟨fun i j p q hi hj e => h.1 i j p q (ap_l hi) (ap_l hj) e, fun k q hk => h.2 k q (ap_l hk)⟩
theorem zD_r {A : Nat → Prop} {a b : va_W} (h : va_D A (a ++ b)) : va_D A b := ⟨fun i j p q hi hj e => by have := h.1 _ _ p q (ap_r hi) (ap_r hj) e; omega, fun k q hk => h.2 _ q (ap_r hk)⟩
theorem zD_x {A : Nat → Prop} {a b : va_W} (h : va_D A (a ++ b)) : ∀ (i j : Nat) (p q : Nat × va_E), a[i]? = some p → b[j]? = some q → p.1 ≠ q.1 := fun i j p q hi hj e => by
  have h1 := h.1 _ _ p q (ap_l hi) (ap_r hj) e
  have h2 := (List.getElem?_eq_some_iff.mp hi).1
  omega
theorem zP_s {D : va_G} {cl : List vw_C} {a b : va_W} {H : Heap} (h : va_P D cl (a ++ b) H) : va_P D cl (b ++ a) H := (zP_r h).app (zP_l h)
theorem zD_s {A : Nat → Prop} {a b : va_W} (h : va_D A (a ++ b)) : va_D A (b ++ a) := va_D.app (zD_r h) (zD_l h) (fun i j p q hp hq e => zD_x h j i q p hq hp e.symm)
theorem z_join {A0 : Nat → Prop} {D : va_G} {cl : List vw_C} {wc wr w1 : va_W} {H H1 : Heap} (hP : va_P D cl (wc ++ wr) H) (hD : va_D A0 (wc ++ wr)) (hk : ∀ q : Nat, q < H.size → ¬ va_A wc H.size q → H1[q]? = H[q]?) (hF : ∀ q, va_A wc H.size q → A0 q) (hP1 : va_P D cl w1 H1) (hD1 : va_D (va_A wc H.size) w1) : va_P D cl (w1 ++ wr) H1 ∧ va_D A0 (w1 ++ wr) := by
  have apart : ∀ (k : Nat) (q : Nat × va_E), wr[k]? = some q → q.1 < H.size ∧ ¬ va_A wc H.size q.1 := by
    intro k q hq
    have hl := (zP_r hP k q hq).lt
    refine ⟨hl, fun h => ?_⟩
    rcases h with ⟨k2, e, h⟩ | h
    · exact zD_x hD k2 k (q.1, e) q h hq rfl
    · omega
  refine ⟨hP1.app (fun k q hq => (zP_r hP k q hq).kept (hk q.1 (apart k q hq).1 (apart k q hq).2)), va_D.app (hD1.weaken (fun k q _ h => hF q.1 h)) (zD_r hD) (fun i j x y hx hy hxy => ?_)⟩
  exact (apart j y hy).2 (by rw [← hxy]; exact hD1.2 i x hx)
/-- the script of L ints xs at the cell b, which is none of the walk's own -/
def xsc (K : XK) (b L : Nat) (xs : Nat → Int32) : Prop :=
  match K with
  | (_, _, _, _, s, _, _, _, _, _, _, _, A, _, _) => va_X b L xs s s.heap ∧ b < s.heap.size ∧ ¬ A b
/-- what the law's end asks -/
def xen (K : XK) (b : Nat) : Prop :=
  match K with
  | (_, _, _, R, s, _, args, below, meth, _, (cells, slots), Q, A, _, _) => R = room_1 ∧ args = #[Value.ref b] ∧ cells = 600000 ∧ slots = 7290000 ∧ Q = lw_Z below #[Value.ref b] s ∧ meth.sig.returnType = ret ∧ ∀ q, A q → s.heap.size ≤ q
section XL
variable {K : XK} {J : XJ} {R : Room} {cc : ByteArray} {own : String} {nL : Nat} {ws : va_W} {pc : Nat} {lv : List (Nat × Value)} {st : List Value}
theorem x_sld (h : xok K J R cc own nL) {b L : Nat} {xs : Nat → Int32} (hs : xsc K b L xs) {z : Int} (k : Nat) (hk : z = (k : Int)) (hkL : k < L) (hL : L < 2147483648) (hd : decode cc pc = .ok (.iaload, 1)) (kk : xw K ws (pc + 1) lv (.int (xs k) :: st)) : xw K ws pc lv (.int (iI z) :: .ref b :: st) := by
  obtain ⟨p, l, e, R', s, m, args, below, meth, c, ⟨cells, slots⟩, Q, A, D, tys⟩ := K
  obtain ⟨hx, hb, hrest⟩ := h
  obtain ⟨hX, hbl, hbA⟩ := hs
  intro H locs ls hP hD hS hl
  subst hk
  refine va_sld hx hb hX hbl hbA hS (iI_in hkL hL) hd ?_
  rw [iI_cl (by omega)]
  exact kk H locs ls hP hD hS hl
theorem x_slen (h : xok K J R cc own nL) {b L : Nat} {xs : Nat → Int32} (hs : xsc K b L xs) (hd : decode cc pc = .ok (.arraylength, 1)) (kk : xw K ws (pc + 1) lv (.int (iI (L : Int)) :: st)) : xw K ws pc lv (.ref b :: st) := by
  obtain ⟨p, l, e, R', s, m, args, below, meth, c, ⟨cells, slots⟩, Q, A, D, tys⟩ := K
  obtain ⟨hx, hb, hrest⟩ := h
  obtain ⟨hX, hbl, hbA⟩ := hs
  intro H locs ls hP hD hS hl
  refine va_slen hx hb hX hbl hbA hS hd ?_
  have hq := kk H locs ls hP hD hS hl
  rw [iI_nat] at hq
  exact hq
theorem x_iand (h : xok K J R cc own nL) {x y : Int32} (hd : decode cc pc = .ok (.iand, 1)) (kk : xw K ws (pc + 1) lv (.int (x &&& y) :: st)) : xw K ws pc lv (.int y :: .int x :: st) := by
  obtain ⟨p, l, e, R', s, m, args, below, meth, c, ⟨cells, slots⟩, Q, A, D, tys⟩ := K
  obtain ⟨hx, hb, hrest⟩ := h
  intro H locs ls hP hD hS hl
  exact lv_iand hx hb hd (kk H locs ls hP hD hS hl)
theorem x_tsw (h : xok K J R cc own nL) {dflt hi : Int} {offs : Array Int} {len : Nat} {v : Int32} (hd : decode cc pc = .ok (.tableswitch dflt 0 hi offs, len)) (tgt : Nat) (ht : (pc : Int) + dflt = (tgt : Int)) (kd : xw K ws tgt lv st) (ki : ∀ j : Nat, (j : Int) ≤ hi → ∃ (off : Int) (t : Nat), offs[j]? = some off ∧ (pc : Int) + off = (t : Int) ∧ xw K ws t lv st) : xw K ws pc lv (.int v :: st) := by
  obtain ⟨p, l, e, R', s, m, args, below, meth, c, ⟨cells, slots⟩, Q, A, D, tys⟩ := K
  obtain ⟨hx, hb, hrest⟩ := h
  intro H locs ls hP hD hS hl
  by_cases h1 : v.toInt < 0
  · exact lv_tableOut hx hb hd (Or.inl h1) ht (kd H locs ls hP hD hS hl)
  · by_cases h2 : hi < v.toInt
    · exact lv_tableOut hx hb hd (Or.inr h2) ht (kd H locs ls hP hD hS hl)
    · obtain ⟨off, t, g1, g2, g3⟩ := ki v.toInt.toNat (by omega)
      exact lv_tableIn hx hb hd h1 h2 (by rw [show v.toInt - 0 = v.toInt by omega]; exact g1) g2 (g3 H locs ls hP hD hS hl)
theorem x_ceq (h : xok K J R cc own nL) {x y : Int32} {off : Int} (tgt : Nat) (hd : decode cc pc = .ok (.if_icmp .eq off, 3)) (ht : (pc : Int) + off = (tgt : Int)) (hxy : x = y) (kk : xw K ws tgt lv st) : xw K ws pc lv (.int y :: .int x :: st) := by
  obtain ⟨p, l, e, R', s, m, args, below, meth, c, ⟨cells, slots⟩, Q, A, D, tys⟩ := K
  obtain ⟨hx, hb, hrest⟩ := h
  intro H locs ls hP hD hS hl
  exact lv_icmp_eq hx hb hd ht (fun _ => kk H locs ls hP hD hS hl) (fun q => absurd hxy q)
theorem x_int {x y : Int32} (e : x = y) (kk : xw K ws pc lv (.int y :: st)) : xw K ws pc lv (.int x :: st) := by
  rw [e]; exact kk
theorem x_swap {wa wb : va_W} (kk : xw K (wb ++ wa) pc lv st) : xw K (wa ++ wb) pc lv st := by
  obtain ⟨p, l, e, R', s, m, args, below, meth, c, ⟨cells, slots⟩, Q, A, D, tys⟩ := K
  intro H locs ls hP hD hS hl
  exact kk H locs ls (zP_s hP) (zD_s hD) hS hl
theorem x_end (h : xok K J R code own 4) {b : Nat} (hz : xen K b) (hd : decode code pc = .ok (.ireturn, 1)) : xw K ws pc lv [.int (iI 1)] := by
  obtain ⟨p, l, e, R', s, m, args, below, meth, c, ⟨cells, slots⟩, Q, A, D, tys⟩ := K
  obtain ⟨hx, hb, hml, hown, hts, hK, hA, hlocks, hrest⟩ := h
  obtain ⟨z1, z2, z3, z4, z5, z6, z7⟩ := hz
  intro H locs ls hP hD hS hl
  subst z1; subst z2; subst z3; subst z4; subst z5
  refine va_forget (fun q hq => z7 _ (hS.2.2 q hq)) ?_
  exact lw_ret hx hb z6 hlocks hd
/-- a call on one of the law's objects: its world is the first part of the whole world -/
theorem z_calli {l0 : Launch} {D0 : va_G} {t0 tys' : List (ClassId × FieldType)} (h : xok K (l0, D0, t0) R cc own nL) (is : List Nat) (hsub : is.filterMap (fun i => t0[i]?) = tys') {y : MethodName} {cy : ByteArray} {ny : Nat} {ret : FieldType} {fr lo : Nat} {a : Nat} {As : List Value} {post : Int32 → va_W → Prop} {wc wr : va_W} (hM : xmi (l0, D0, tys') y cy ny ret fr lo (.ref a :: As) wc post) {idx : Nat} (n : Nat) {C : String} (hV : GoodIn lw_all (wsV own idx C y (ws_ y cy ny (some ret)))) (hd0 : y.cls = C ∧ y.cls ≠ "java/lang/invoke/MethodHandle" ∧ y.cls ≠ "java/lang/invoke/VarHandle" ∧ (parseMethodDescriptor y.desc).map (fun d => d.parameters.length) = some n) (hR : fr + 1 ≤ R.frames ∧ 8 + (ny + 11) + lo ≤ R.locals) {ci : Nat} {T : u_T} {N : Nat} {fs : List Value} (hc : vwCl[ci]? = some (C, T, N)) (he : wc[0]? = some (a, .inr (ci, fs))) (hn : As.length = n) {stk : List Value} (hst : stk = As.reverse ++ .ref a :: st) (hs8 : (st.map fun v => v.category).sum ≤ 8) (hd : decode cc pc = .ok (.invokevirtual idx, 3)) (kk : ∀ (r : Int32) (ws' : va_W), post r ws' → xw K (ws' ++ wr) (pc + 3) lv (.int r :: st)) : xw K (wc ++ wr) pc lv stk := by
  obtain ⟨p, l, e, R', s, m, args, below, meth, c, ⟨cells, slots⟩, Q, A, D, tys⟩ := K
  obtain ⟨hx, hb, hml, hown, hts, hK, hA, hlocks, hl0, hR0, hD0, hT0, hc1, hc2⟩ := h
  have hl0 : l = l0 := hl0
  have hD0 : D = D0 := hD0
  have hT0 : tys = t0 := hT0
  intro H locs ls hP hD hS hl
  subst hl0; subst hR0; subst hD0; subst hT0; subst hst
  have hPc := zP_l hP
  have hDc := zD_l hD
  have hKc := hK.sub (tys' := tys') is hsub
  have hFc : ∀ q, va_A wc H.size q → A q := fun q hq => by
    rcases hq with ⟨k, e, hk⟩ | hq
    · exact hDc.2 k (q, e) hk
    · exact hA q (Nat.le_trans hS.1 hq)
  refine va_calli (va_runV (As := As) (rest := st) ⟨hx, hb, rfl, hown, hts⟩ (hM H.size) (cwV n hts hV rfl rfl rfl hd0 hR) ⟨fun a U g mk q => by obtain ⟨q0, q1, qP, qK, qD⟩ := q; exact ⟨q0, q1, qP, va_K.moved (u := U) (U := U.calling g mk a) (Vm.Alike.refl U.vm) qK, qD⟩, va_recv hKc hPc hc he, fun U hU hW => ⟨rfl, by rw [hU], by rw [hU]; exact hPc, va_K.moved hW.alike hKc, hDc.weaken (fun _ _ _ _ => trivial)⟩⟩ rfl hn hl.1 rfl (lv_room hs8) hd ⟨hc1, hc2⟩) hS (fun q _ hq => hFc q hq) hFc (fun r u t H1 locs1 ht hvm hw1 hB hz1 hk1 hS1 => ?_)
  obtain ⟨hP1, hK1, hD1⟩ := hB
  rw [ht] at hP1
  obtain ⟨hP2, hD2⟩ := z_join hP hD hk1 hFc hP1 hD1
  exact kk r u hw1 H1 locs1 ls hP2 hD2 hS1 hl
end XL
end
section
/-! ===== the state between the law's two objects ===== -/
def gu (G : Nat → Nat) (k v : Nat) : Nat → Nat := fun i => if i = k then v else G i
theorem gu_s {G : Nat → Nat} {k v : Nat} : gu G k v k = v := by unfold gu; rw [if_pos rfl]
theorem gu_n {G : Nat → Nat} {k v i : Nat} (h : i ≠ k) : gu G k v i = G i := by unfold gu; rw [if_neg h]
def gs (G : Nat → Nat) (n : Nat) : Nat → Nat := fun i => if i + 1 < n then G (i + 1) else G i
theorem gs_s {G : Nat → Nat} {n i : Nat} (h : i + 1 < n) : gs G n i = G (i + 1) := by unfold gs; rw [if_pos h]
theorem gs_n {G : Nat → Nat} {n i : Nat} (h : ¬ i + 1 < n) : gs G n i = G i := by unfold gs; rw [if_neg h]
theorem gu_4 {G : Nat → Nat} {k v : Nat} (hG : ∀ i, G i < 4) (hv : v < 4) : ∀ i, gu G k v i < 4 := fun i => by
  by_cases h : i = k
  · subst h; rw [gu_s]; exact hv
  · rw [gu_n h]; exact hG i
theorem gs_4 {G : Nat → Nat} {n : Nat} (hG : ∀ i, G i < 4) : ∀ i, gs G n i < 4 := fun i => by
  by_cases h : i + 1 < n
  · rw [gs_s h]; exact hG _
  · rw [gs_n h]; exact hG i
/-- both objects hold the same text and the same probe -/
def LI (aX : Nat → Nat) (dB dS : ClassId) (aM : Nat → Nat) (dN : ClassId) (wx wm : va_W) : Prop := ∃ (G : Nat → Nat) (n m : Nat), n ≤ 24 ∧ m ≤ 12 ∧ (∀ i, G i < 4) ∧ XI aX dB dS G n m wx ∧ MI aM dN G n m wm
section ST
variable {aX aM : Nat → Nat} {dB dS dN : ClassId} {G : Nat → Nat} {n m : Nat} {bu sc la ra li kn : Int} {tx pr nx sh le ti fe wo bl gg lp ll : Nat → Int}
theorem xi_type {z : Int} (hn : n < 24) (h0 : 0 ≤ z) (htx : ∀ i, i < n → tx i = (G i : Int)) (hpr : ∀ i, i < m → pr i = (G (24 + i) : Int)) : XI aX dB dS (gu G n z.toNat) (n + 1) m (wX aX dB dS ((n + 1 : Nat) : Int) (m : Int) 0 sc la ra (zu tx n z) pr nx sh le ti fe wo bl) := by
  refine ⟨0, sc, la, ra, zu tx n z, pr, nx, sh, le, ti, fe, wo, bl, fun i hi => ?_, fun i hi => ?_, Or.inl rfl, rfl⟩
  · by_cases q : i = n
    · subst q; rw [zu_s, gu_s]; omega
    · rw [zu_n q, gu_n q]; exact htx i (by omega)
  · rw [gu_n (by omega)]; exact hpr i hi
theorem mi_type {z : Int} (hn : n < 24) (h0 : 0 ≤ z) (hg1 : ∀ i, i < n → gg i = (G i : Int)) (hg2 : ∀ i, i < m → gg (24 + i) = (G (24 + i) : Int)) : MI aM dN (gu G n z.toNat) (n + 1) m (wM aM dN ((n + 1 : Nat) : Int) (m : Int) li 0 (zu gg n z) lp ll) := by
  refine ⟨li, 0, zu gg n z, lp, ll, fun i hi => ?_, fun i hi => ?_, Or.inl rfl, rfl⟩
  · by_cases q : i = n
    · subst q; rw [zu_s, gu_s]; omega
    · rw [zu_n q, gu_n q]; exact hg1 i (by omega)
  · rw [zu_n (by omega), gu_n (by omega)]; exact hg2 i hi
theorem xi_ask {z : Int} (hn : n ≤ 24) (h0 : 0 ≤ z) (htx : ∀ i, i < n → tx i = (G i : Int)) (hpr : ∀ i, i < m → pr i = (G (24 + i) : Int)) (hb : Bu G n bu sc nx sh le ti fe wo) : XI aX dB dS (gu G (24 + m) z.toNat) n (m + 1) (wX aX dB dS (n : Int) ((m + 1 : Nat) : Int) bu sc la ra tx (zu pr m z) nx sh le ti fe wo bl) := by
  refine ⟨bu, sc, la, ra, tx, zu pr m z, nx, sh, le, ti, fe, wo, bl, fun i hi => ?_, fun i hi => ?_, bu_cong (fun i hi => (gu_n (by omega)).symm) hb, rfl⟩
  · rw [gu_n (by omega)]; exact htx i hi
  · by_cases q : i = m
    · subst q; rw [zu_s, gu_s]; omega
    · rw [zu_n q, gu_n (by omega)]; exact hpr i (by omega)
theorem mi_ask {z : Int} (hn : n ≤ 24) (h0 : 0 ≤ z) (hg1 : ∀ i, i < n → gg i = (G i : Int)) (hg2 : ∀ i, i < m → gg (24 + i) = (G (24 + i) : Int)) (hk : Kn G n li kn lp ll) : MI aM dN (gu G (24 + m) z.toNat) n (m + 1) (wM aM dN (n : Int) ((m + 1 : Nat) : Int) li kn (zu gg (24 + m) z) lp ll) := by
  refine ⟨li, kn, zu gg (24 + m) z, lp, ll, fun i hi => ?_, fun i hi => ?_, kn_cong (fun i hi => (gu_n (by omega)).symm) hk, rfl⟩
  · rw [zu_n (by omega), gu_n (by omega)]; exact hg1 i hi
  · by_cases q : i = m
    · subst q; rw [zu_s, gu_s]; omega
    · rw [zu_n (by omega), gu_n (by omega)]; exact hg2 i (by omega)
theorem xi_wipe (htx : ∀ i, i < n → tx i = (G i : Int)) (hb : Bu G n bu sc nx sh le ti fe wo) : XI aX dB dS G n 0 (wX aX dB dS (n : Int) 0 bu sc la ra tx pr nx sh le ti fe wo bl) :=
  ⟨bu, sc, la, ra, tx, pr, nx, sh, le, ti, fe, wo, bl, htx, fun i hi => by omega, hb, rfl⟩
theorem mi_wipe (hg1 : ∀ i, i < n → gg i = (G i : Int)) (hk : Kn G n li kn lp ll) : MI aM dN G n 0 (wM aM dN (n : Int) 0 li kn gg lp ll) :=
  ⟨li, kn, gg, lp, ll, hg1, fun i hi => by omega, hk, rfl⟩
theorem xi_shift {tx' : Nat → Int} (hn : n ≤ 24) (h0 : 0 < n) (htx : ∀ i, i < n → tx i = (G i : Int)) (hpr : ∀ i, i < m → pr i = (G (24 + i) : Int)) (h1 : ∀ i, i < n - 1 → tx' i = tx (i + 1)) : XI aX dB dS (gs G n) (n - 1) m (wX aX dB dS ((n : Int) - 1) (m : Int) 0 sc la ra tx' pr nx sh le ti fe wo bl) := by
  refine ⟨0, sc, la, ra, tx', pr, nx, sh, le, ti, fe, wo, bl, fun i hi => ?_, fun i hi => ?_, Or.inl rfl, ?_⟩
  · rw [h1 i hi, gs_s (by omega)]; exact htx (i + 1) (by omega)
  · rw [gs_n (by omega)]; exact hpr i hi
  · rw [show ((n - 1 : Nat) : Int) = (n : Int) - 1 by omega]
theorem mi_shift {tx' : Nat → Int} (hn : n ≤ 24) (h0 : 0 < n) (hg1 : ∀ i, i < n → gg i = (G i : Int)) (hg2 : ∀ i, i < m → gg (24 + i) = (G (24 + i) : Int)) (h1 : ∀ i, i < n - 1 → tx' i = gg (i + 1)) (h2 : ∀ i, n - 1 ≤ i → tx' i = gg i) : MI aM dN (gs G n) (n - 1) m (wM aM dN ((n : Int) - 1) (m : Int) li 0 tx' lp ll) := by
  refine ⟨li, 0, tx', lp, ll, fun i hi => ?_, fun i hi => ?_, Or.inl rfl, ?_⟩
  · rw [h1 i hi, gs_s (by omega)]; exact hg1 (i + 1) (by omega)
  · rw [gs_n (by omega), h2 _ (by omega)]; exact hg2 i hi
  · rw [show ((n - 1 : Nat) : Int) = (n : Int) - 1 by omega]
end ST
end
section
/-! ===== the law's thirteen cases ===== -/
set_option maxRecDepth 100000
abbrev JL (l : Launch) (D : va_G) (dB dS dN : ClassId) : XJ := (l, D, [(dB, .byte), (dS, .short), (dN, .int)])
abbrev lvL (b : Nat) (aX aM : Nat → Nat) (x : Int) : List (Nat × Value) := [(0, .ref b), (1, .ref (aX 0)), (2, .ref (aM 0)), (3, .int (iI x))]
theorem op_type {K : XK} {l : Launch} {D : va_G} {dB dS dN : ClassId} {aX aM : Nat → Nat} {b L : Nat} {xs : Nat → Int32} (h : xok K (JL l D dB dS dN) room_1 code R_law 4) (hs : xsc K b L xs) (hL : L ≤ 128) {i : Nat} (hi : i + 1 < L) {wx wm : va_W} (hI : LI aX dB dS aM dN wx wm)
    (hx : ∀ wx wm : va_W, LI aX dB dS aM dN wx wm → xw K (wx ++ wm) 319 (lvL b aX aM (i : Int)) []) : xw K (wx ++ wm) 100 (lvL b aX aM (i : Int)) [] := by
  obtain ⟨G, n, m, hn, hm, hG, ⟨bu, sc, la, ra, tx, pr, nx, sh, le, ti, fe, wo, bl, htx, hpr, hb, rfl⟩, ⟨li, kn, gg, lp, ll, hg1, hg2, hkn, rfl⟩⟩ := hI
  show xw K (_ ++ _) 100 [(0, .ref b), (1, .ref (aX 0)), (2, .ref (aM 0)), (3, .int (iI (i : Int)))] []
  obtain ⟨z, hze⟩ : ∃ z : Int, z = (xs (i + 1)).toInt := ⟨_, rfl⟩
  have hz : rng z := by rw [hze]; exact iI_rng _
  have hzx : xs (i + 1) = iI z := by rw [hze, iI_x]
  refine x_aload_n h dL_law_100 1 rfl ?_
  refine x_aload_n h dL_law_101 0 rfl ?_
  refine x_iload_n h dL_law_102 3 rfl ?_
  refine x_iconst h dL_law_103 ?_
  refine x_iadd h dL_law_104 ?_
  refine x_sld h hs (i + 1) (by omega) hi (by omega) dL_law_105 ?_
  refine x_int hzx ?_
  refine z_calli h [0, 1] rfl (cX_type l D dB dS aX (m : Int) bu sc la ra tx pr nx sh le ti fe wo bl n z hn hz) 1 (lw_V q77 q78 q79 q19 q80) (by decide +kernel) ⟨Nat.le_of_ble_eq_true rfl, Nat.le_of_ble_eq_true rfl⟩ (C := RX0) (ci := 0) rfl rfl rfl rfl (Nat.le_of_ble_eq_true rfl) dL_law_106 (fun r1 wr1 hr1 => ?_)
  refine x_aload_n h dL_law_109 2 rfl ?_
  refine x_aload_n h dL_law_110 0 rfl ?_
  refine x_iload_n h dL_law_111 3 rfl ?_
  refine x_iconst h dL_law_112 ?_
  refine x_iadd h dL_law_113 ?_
  refine x_sld h hs (i + 1) (by omega) hi (by omega) dL_law_114 ?_
  refine x_int hzx ?_
  refine x_swap ?_
  refine z_calli h [2] rfl (cM_type l D dN aM (m : Int) li kn gg lp ll n z hn hz) 1 (lw_V q198 q199 q200 q20 q201) (by decide +kernel) ⟨Nat.le_of_ble_eq_true rfl, Nat.le_of_ble_eq_true rfl⟩ (C := RX1) (ci := 1) rfl rfl rfl rfl (Nat.le_of_ble_eq_true rfl) dL_law_115 (fun r2 wr2 hr2 => ?_)
  refine x_swap ?_
  have hX0 := (⟨bu, sc, la, ra, tx, pr, nx, sh, le, ti, fe, wo, bl, htx, hpr, hb, rfl⟩ : XI aX dB dS G n m (wX aX dB dS (n : Int) (m : Int) bu sc la ra tx pr nx sh le ti fe wo bl))
  have hM0 := (⟨li, kn, gg, lp, ll, hg1, hg2, hkn, rfl⟩ : MI aM dN G n m (wM aM dN (n : Int) (m : Int) li kn gg lp ll))
  rcases hr1 with ⟨a1, rfl, rfl⟩ | ⟨a1, a2, rfl, rfl⟩ | ⟨a1, a2, a3, rfl, rfl⟩ <;> rcases hr2 with ⟨b1, rfl, rfl⟩ | ⟨b1, b2, rfl, rfl⟩ | ⟨b1, b2, b3, rfl, rfl⟩
  · exact x_ceq h 319 dL_law_118 (by decide) rfl (hx _ _ ⟨G, n, m, hn, hm, hG, hX0, hM0⟩)
  · omega
  · omega
  · omega
  · exact x_ceq h 319 dL_law_118 (by decide) rfl (hx _ _ ⟨G, n, m, hn, hm, hG, hX0, hM0⟩)
  · omega
  · omega
  · omega
  · exact x_ceq h 319 dL_law_118 (by decide) rfl (hx _ _ ⟨gu G n z.toNat, n + 1, m, by omega, hm, gu_4 hG (by omega), xi_type a1 a2 htx hpr, mi_type a1 a2 hg1 hg2⟩)
theorem op_shift {K : XK} {l : Launch} {D : va_G} {dB dS dN : ClassId} {aX aM : Nat → Nat} {b L : Nat} {xs : Nat → Int32} (h : xok K (JL l D dB dS dN) room_1 code R_law 4) (hs : xsc K b L xs) (hL : L ≤ 128) {i : Nat} (hi : i + 1 < L) {wx wm : va_W} (hI : LI aX dB dS aM dN wx wm)
    (hx : ∀ wx wm : va_W, LI aX dB dS aM dN wx wm → xw K (wx ++ wm) 319 (lvL b aX aM (i : Int)) []) : xw K (wx ++ wm) 123 (lvL b aX aM (i : Int)) [] := by
  obtain ⟨G, n, m, hn, hm, hG, ⟨bu, sc, la, ra, tx, pr, nx, sh, le, ti, fe, wo, bl, htx, hpr, hb, rfl⟩, ⟨li, kn, gg, lp, ll, hg1, hg2, hkn, rfl⟩⟩ := hI
  show xw K (_ ++ _) 123 [(0, .ref b), (1, .ref (aX 0)), (2, .ref (aM 0)), (3, .int (iI (i : Int)))] []
  refine x_aload_n h dL_law_123 1 rfl ?_
  refine z_calli h [0, 1] rfl (cX_shift l D dB dS aX (m : Int) bu sc la ra tx pr nx sh le ti fe wo bl n hn (fun i hi => by rw [htx i hi]; have := hG i; omega)) 0 (lw_V q81 q82 q83 q19 q84) (by decide +kernel) ⟨Nat.le_of_ble_eq_true rfl, Nat.le_of_ble_eq_true rfl⟩ (C := RX0) (ci := 0) rfl rfl rfl rfl (Nat.le_of_ble_eq_true rfl) dL_law_124 (fun r1 wr1 hr1 => ?_)
  refine x_aload_n h dL_law_127 2 rfl ?_
  refine x_swap ?_
  refine z_calli h [2] rfl (cM_shift l D dN aM (m : Int) li kn gg lp ll n hn (fun i hi => by rw [hg1 i hi]; have := hG i; omega)) 0 (lw_V q202 q203 q204 q20 q205) (by decide +kernel) ⟨Nat.le_of_ble_eq_true rfl, Nat.le_of_ble_eq_true rfl⟩ (C := RX1) (ci := 1) rfl rfl rfl rfl (Nat.le_of_ble_eq_true rfl) dL_law_128 (fun r2 wr2 hr2 => ?_)
  refine x_swap ?_
  have hX0 := (⟨bu, sc, la, ra, tx, pr, nx, sh, le, ti, fe, wo, bl, htx, hpr, hb, rfl⟩ : XI aX dB dS G n m (wX aX dB dS (n : Int) (m : Int) bu sc la ra tx pr nx sh le ti fe wo bl))
  have hM0 := (⟨li, kn, gg, lp, ll, hg1, hg2, hkn, rfl⟩ : MI aM dN G n m (wM aM dN (n : Int) (m : Int) li kn gg lp ll))
  rcases hr1 with ⟨a1, rfl, rfl⟩ | ⟨a1, rfl, tx1, a2, a3, rfl⟩ <;> rcases hr2 with ⟨b1, rfl, rfl⟩ | ⟨b1, rfl, gg1, b2, b3, rfl⟩
  · exact x_ceq h 319 dL_law_131 (by decide) rfl (hx _ _ ⟨G, n, m, hn, hm, hG, hX0, hM0⟩)
  · omega
  · omega
  · exact x_ceq h 319 dL_law_131 (by decide) rfl (hx _ _ ⟨gs G n, n - 1, m, by omega, hm, gs_4 hG, xi_shift hn a1 htx hpr a2, mi_shift hn a1 hg1 hg2 b2 b3⟩)
theorem op_ask {K : XK} {l : Launch} {D : va_G} {dB dS dN : ClassId} {aX aM : Nat → Nat} {b L : Nat} {xs : Nat → Int32} (h : xok K (JL l D dB dS dN) room_1 code R_law 4) (hs : xsc K b L xs) (hL : L ≤ 128) {i : Nat} (hi : i + 1 < L) {wx wm : va_W} (hI : LI aX dB dS aM dN wx wm)
    (hx : ∀ wx wm : va_W, LI aX dB dS aM dN wx wm → xw K (wx ++ wm) 319 (lvL b aX aM (i : Int)) []) : xw K (wx ++ wm) 136 (lvL b aX aM (i : Int)) [] := by
  obtain ⟨G, n, m, hn, hm, hG, ⟨bu, sc, la, ra, tx, pr, nx, sh, le, ti, fe, wo, bl, htx, hpr, hb, rfl⟩, ⟨li, kn, gg, lp, ll, hg1, hg2, hkn, rfl⟩⟩ := hI
  show xw K (_ ++ _) 136 [(0, .ref b), (1, .ref (aX 0)), (2, .ref (aM 0)), (3, .int (iI (i : Int)))] []
  obtain ⟨z, hze⟩ : ∃ z : Int, z = (xs (i + 1)).toInt := ⟨_, rfl⟩
  have hz : rng z := by rw [hze]; exact iI_rng _
  have hzx : xs (i + 1) = iI z := by rw [hze, iI_x]
  refine x_aload_n h dL_law_136 1 rfl ?_
  refine x_aload_n h dL_law_137 0 rfl ?_
  refine x_iload_n h dL_law_138 3 rfl ?_
  refine x_iconst h dL_law_139 ?_
  refine x_iadd h dL_law_140 ?_
  refine x_sld h hs (i + 1) (by omega) hi (by omega) dL_law_141 ?_
  refine x_int hzx ?_
  refine z_calli h [0, 1] rfl (cX_ask l D dB dS aX (n : Int) bu sc la ra tx pr nx sh le ti fe wo bl m z hm hz) 1 (lw_V q85 q86 q87 q19 q88) (by decide +kernel) ⟨Nat.le_of_ble_eq_true rfl, Nat.le_of_ble_eq_true rfl⟩ (C := RX0) (ci := 0) rfl rfl rfl rfl (Nat.le_of_ble_eq_true rfl) dL_law_142 (fun r1 wr1 hr1 => ?_)
  refine x_aload_n h dL_law_145 2 rfl ?_
  refine x_aload_n h dL_law_146 0 rfl ?_
  refine x_iload_n h dL_law_147 3 rfl ?_
  refine x_iconst h dL_law_148 ?_
  refine x_iadd h dL_law_149 ?_
  refine x_sld h hs (i + 1) (by omega) hi (by omega) dL_law_150 ?_
  refine x_int hzx ?_
  refine x_swap ?_
  refine z_calli h [2] rfl (cM_ask l D dN aM (n : Int) li kn gg lp ll m z hm hz) 1 (lw_V q206 q207 q208 q20 q209) (by decide +kernel) ⟨Nat.le_of_ble_eq_true rfl, Nat.le_of_ble_eq_true rfl⟩ (C := RX1) (ci := 1) rfl rfl rfl rfl (Nat.le_of_ble_eq_true rfl) dL_law_151 (fun r2 wr2 hr2 => ?_)
  refine x_swap ?_
  have hX0 := (⟨bu, sc, la, ra, tx, pr, nx, sh, le, ti, fe, wo, bl, htx, hpr, hb, rfl⟩ : XI aX dB dS G n m (wX aX dB dS (n : Int) (m : Int) bu sc la ra tx pr nx sh le ti fe wo bl))
  have hM0 := (⟨li, kn, gg, lp, ll, hg1, hg2, hkn, rfl⟩ : MI aM dN G n m (wM aM dN (n : Int) (m : Int) li kn gg lp ll))
  rcases hr1 with ⟨a1, rfl, rfl⟩ | ⟨a1, a2, rfl, rfl⟩ | ⟨a1, a2, a3, rfl, rfl⟩ <;> rcases hr2 with ⟨b1, rfl, rfl⟩ | ⟨b1, b2, rfl, rfl⟩ | ⟨b1, b2, b3, rfl, rfl⟩
  · exact x_ceq h 319 dL_law_154 (by decide) rfl (hx _ _ ⟨G, n, m, hn, hm, hG, hX0, hM0⟩)
  · omega
  · omega
  · omega
  · exact x_ceq h 319 dL_law_154 (by decide) rfl (hx _ _ ⟨G, n, m, hn, hm, hG, hX0, hM0⟩)
  · omega
  · omega
  · omega
  · exact x_ceq h 319 dL_law_154 (by decide) rfl (hx _ _ ⟨gu G (24 + m) z.toNat, n, m + 1, hn, by omega, gu_4 hG (by omega), xi_ask hn a2 htx hpr hb, mi_ask hn a2 hg1 hg2 hkn⟩)
theorem op_wipe {K : XK} {l : Launch} {D : va_G} {dB dS dN : ClassId} {aX aM : Nat → Nat} {b L : Nat} {xs : Nat → Int32} (h : xok K (JL l D dB dS dN) room_1 code R_law 4) (hs : xsc K b L xs) (hL : L ≤ 128) {i : Nat} (hi : i + 1 < L) {wx wm : va_W} (hI : LI aX dB dS aM dN wx wm)
    (hx : ∀ wx wm : va_W, LI aX dB dS aM dN wx wm → xw K (wx ++ wm) 319 (lvL b aX aM (i : Int)) []) : xw K (wx ++ wm) 159 (lvL b aX aM (i : Int)) [] := by
  obtain ⟨G, n, m, hn, hm, hG, ⟨bu, sc, la, ra, tx, pr, nx, sh, le, ti, fe, wo, bl, htx, hpr, hb, rfl⟩, ⟨li, kn, gg, lp, ll, hg1, hg2, hkn, rfl⟩⟩ := hI
  show xw K (_ ++ _) 159 [(0, .ref b), (1, .ref (aX 0)), (2, .ref (aM 0)), (3, .int (iI (i : Int)))] []
  refine x_aload_n h dL_law_159 1 rfl ?_
  refine z_calli h [0, 1] rfl (cX_wipe l D dB dS aX (n : Int) bu sc la ra tx pr nx sh le ti fe wo bl m) 0 (lw_V q89 q90 q91 q19 q92) (by decide +kernel) ⟨Nat.le_of_ble_eq_true rfl, Nat.le_of_ble_eq_true rfl⟩ (C := RX0) (ci := 0) rfl rfl rfl rfl (Nat.le_of_ble_eq_true rfl) dL_law_160 (fun r1 wr1 hr1 => ?_)
  refine x_aload_n h dL_law_163 2 rfl ?_
  refine x_swap ?_
  refine z_calli h [2] rfl (cM_wipe l D dN aM (n : Int) li kn gg lp ll m) 0 (lw_V q210 q211 q212 q20 q213) (by decide +kernel) ⟨Nat.le_of_ble_eq_true rfl, Nat.le_of_ble_eq_true rfl⟩ (C := RX1) (ci := 1) rfl rfl rfl rfl (Nat.le_of_ble_eq_true rfl) dL_law_164 (fun r2 wr2 hr2 => ?_)
  refine x_swap ?_
  obtain ⟨rfl, rfl⟩ := hr1
  obtain ⟨rfl, rfl⟩ := hr2
  exact x_ceq h 319 dL_law_167 (by decide) rfl (hx _ _ ⟨G, n, 0, hn, by omega, hG, xi_wipe htx hb, mi_wipe hg1 hkn⟩)
theorem op_count {K : XK} {l : Launch} {D : va_G} {dB dS dN : ClassId} {aX aM : Nat → Nat} {b L : Nat} {xs : Nat → Int32} (h : xok K (JL l D dB dS dN) room_1 code R_law 4) (hs : xsc K b L xs) (hL : L ≤ 128) {i : Nat} (hi : i + 1 < L) {wx wm : va_W} (hI : LI aX dB dS aM dN wx wm)
    (hx : ∀ wx wm : va_W, LI aX dB dS aM dN wx wm → xw K (wx ++ wm) 319 (lvL b aX aM (i : Int)) []) : xw K (wx ++ wm) 172 (lvL b aX aM (i : Int)) [] := by
  obtain ⟨G, n, m, hn, hm, hG, ⟨bu, sc, la, ra, tx, pr, nx, sh, le, ti, fe, wo, bl, htx, hpr, hb, rfl⟩, ⟨li, kn, gg, lp, ll, hg1, hg2, hkn, rfl⟩⟩ := hI
  show xw K (_ ++ _) 172 [(0, .ref b), (1, .ref (aX 0)), (2, .ref (aM 0)), (3, .int (iI (i : Int)))] []
  refine x_aload_n h dL_law_172 1 rfl ?_
  refine z_calli h [0, 1] rfl (cX_count l D dB dS aX bu sc la ra tx pr nx sh le ti fe wo bl G n m hn hm hG htx hpr hb) 0 (lw_V q93 q94 q95 q19 q96) (by decide +kernel) ⟨Nat.le_of_ble_eq_true rfl, Nat.le_of_ble_eq_true rfl⟩ (C := RX0) (ci := 0) rfl rfl rfl rfl (Nat.le_of_ble_eq_true rfl) dL_law_173 (fun r1 wr1 hr1 => ?_)
  refine x_aload_n h dL_law_176 2 rfl ?_
  refine x_swap ?_
  refine z_calli h [2] rfl (cM_count l D dN aM li kn gg lp ll G n m hn hm hG hg1 hg2 hkn) 0 (lw_V q214 q215 q216 q20 q217) (by decide +kernel) ⟨Nat.le_of_ble_eq_true rfl, Nat.le_of_ble_eq_true rfl⟩ (C := RX1) (ci := 1) rfl rfl rfl rfl (Nat.le_of_ble_eq_true rfl) dL_law_177 (fun r2 wr2 hr2 => ?_)
  refine x_swap ?_
  obtain ⟨hX2, hx2⟩ := hr1
  obtain ⟨hM2, hm2⟩ := hr2
  have he : r1 = r2 := by
    rcases hx2 with ⟨a1, a2⟩ | ⟨a1, a2⟩ <;> rcases hm2 with ⟨b1, b2⟩ | ⟨b1, b2⟩ <;> first | omega | rw [a2, b2]
  exact x_ceq h 319 dL_law_180 (by decide) he (hx _ _ ⟨G, n, m, hn, hm, hG, hX2, hM2⟩)
theorem op_place {K : XK} {l : Launch} {D : va_G} {dB dS dN : ClassId} {aX aM : Nat → Nat} {b L : Nat} {xs : Nat → Int32} (h : xok K (JL l D dB dS dN) room_1 code R_law 4) (hs : xsc K b L xs) (hL : L ≤ 128) {i : Nat} (hi : i + 1 < L) {wx wm : va_W} (hI : LI aX dB dS aM dN wx wm)
    (hx : ∀ wx wm : va_W, LI aX dB dS aM dN wx wm → xw K (wx ++ wm) 319 (lvL b aX aM (i : Int)) []) : xw K (wx ++ wm) 185 (lvL b aX aM (i : Int)) [] := by
  obtain ⟨G, n, m, hn, hm, hG, ⟨bu, sc, la, ra, tx, pr, nx, sh, le, ti, fe, wo, bl, htx, hpr, hb, rfl⟩, ⟨li, kn, gg, lp, ll, hg1, hg2, hkn, rfl⟩⟩ := hI
  show xw K (_ ++ _) 185 [(0, .ref b), (1, .ref (aX 0)), (2, .ref (aM 0)), (3, .int (iI (i : Int)))] []
  refine x_aload_n h dL_law_185 1 rfl ?_
  refine z_calli h [0, 1] rfl (cX_place l D dB dS aX bu sc la ra tx pr nx sh le ti fe wo bl G n m hn hm hG htx hpr hb) 0 (lw_V q129 q130 q131 q19 q132) (by decide +kernel) ⟨Nat.le_of_ble_eq_true rfl, Nat.le_of_ble_eq_true rfl⟩ (C := RX0) (ci := 0) rfl rfl rfl rfl (Nat.le_of_ble_eq_true rfl) dL_law_186 (fun r1 wr1 hr1 => ?_)
  refine x_aload_n h dL_law_189 2 rfl ?_
  refine x_swap ?_
  refine z_calli h [2] rfl (cM_place l D dN aM li kn gg lp ll G n m hn hm hG hg1 hg2 hkn) 0 (lw_V q226 q227 q228 q20 q229) (by decide +kernel) ⟨Nat.le_of_ble_eq_true rfl, Nat.le_of_ble_eq_true rfl⟩ (C := RX1) (ci := 1) rfl rfl rfl rfl (Nat.le_of_ble_eq_true rfl) dL_law_190 (fun r2 wr2 hr2 => ?_)
  refine x_swap ?_
  obtain ⟨hX2, hx2⟩ := hr1
  obtain ⟨hM2, hm2⟩ := hr2
  have he : r1 = r2 := by
    rcases hx2 with ⟨a1, a2⟩ | ⟨a1, y1, a2, a3⟩ <;> rcases hm2 with ⟨b1, b2⟩ | ⟨b1, y2, b2, b3⟩ <;> first | omega | rw [a2, b2, a3.uniq b3] | (rw [a2, b2]; done)
  exact x_ceq h 319 dL_law_193 (by decide) he (hx _ _ ⟨G, n, m, hn, hm, hG, hX2, hM2⟩)
theorem op_words {K : XK} {l : Launch} {D : va_G} {dB dS dN : ClassId} {aX aM : Nat → Nat} {b L : Nat} {xs : Nat → Int32} (h : xok K (JL l D dB dS dN) room_1 code R_law 4) (hs : xsc K b L xs) (hL : L ≤ 128) {i : Nat} (hi : i + 1 < L) {wx wm : va_W} (hI : LI aX dB dS aM dN wx wm)
    (hx : ∀ wx wm : va_W, LI aX dB dS aM dN wx wm → xw K (wx ++ wm) 319 (lvL b aX aM (i : Int)) []) : xw K (wx ++ wm) 198 (lvL b aX aM (i : Int)) [] := by
  obtain ⟨G, n, m, hn, hm, hG, ⟨bu, sc, la, ra, tx, pr, nx, sh, le, ti, fe, wo, bl, htx, hpr, hb, rfl⟩, ⟨li, kn, gg, lp, ll, hg1, hg2, hkn, rfl⟩⟩ := hI
  show xw K (_ ++ _) 198 [(0, .ref b), (1, .ref (aX 0)), (2, .ref (aM 0)), (3, .int (iI (i : Int)))] []
  refine x_aload_n h dL_law_198 1 rfl ?_
  refine z_calli h [0, 1] rfl (cX_words l D dB dS aX bu sc la ra tx pr nx sh le ti fe wo bl G n m hn hm hG htx hpr hb) 0 (lw_V q133 q134 q135 q19 q136) (by decide +kernel) ⟨Nat.le_of_ble_eq_true rfl, Nat.le_of_ble_eq_true rfl⟩ (C := RX0) (ci := 0) rfl rfl rfl rfl (Nat.le_of_ble_eq_true rfl) dL_law_199 (fun r1 wr1 hr1 => ?_)
  refine x_aload_n h dL_law_202 2 rfl ?_
  refine x_swap ?_
  refine z_calli h [2] rfl (cM_words l D dN aM li kn gg lp ll G n m hn hm hG hg1 hg2 hkn) 0 (lw_V q234 q235 q236 q20 q237) (by decide +kernel) ⟨Nat.le_of_ble_eq_true rfl, Nat.le_of_ble_eq_true rfl⟩ (C := RX1) (ci := 1) rfl rfl rfl rfl (Nat.le_of_ble_eq_true rfl) dL_law_203 (fun r2 wr2 hr2 => ?_)
  refine x_swap ?_
  obtain ⟨hX2, hx2⟩ := hr1
  obtain ⟨hM2, hm2⟩ := hr2
  have he : r1 = r2 := by
    rw [hx2, hm2]
  exact x_ceq h 319 dL_law_206 (by decide) he (hx _ _ ⟨G, n, m, hn, hm, hG, hX2, hM2⟩)
theorem op_longest {K : XK} {l : Launch} {D : va_G} {dB dS dN : ClassId} {aX aM : Nat → Nat} {b L : Nat} {xs : Nat → Int32} (h : xok K (JL l D dB dS dN) room_1 code R_law 4) (hs : xsc K b L xs) (hL : L ≤ 128) {i : Nat} (hi : i + 1 < L) {wx wm : va_W} (hI : LI aX dB dS aM dN wx wm)
    (hx : ∀ wx wm : va_W, LI aX dB dS aM dN wx wm → xw K (wx ++ wm) 319 (lvL b aX aM (i : Int)) []) : xw K (wx ++ wm) 211 (lvL b aX aM (i : Int)) [] := by
  obtain ⟨G, n, m, hn, hm, hG, ⟨bu, sc, la, ra, tx, pr, nx, sh, le, ti, fe, wo, bl, htx, hpr, hb, rfl⟩, ⟨li, kn, gg, lp, ll, hg1, hg2, hkn, rfl⟩⟩ := hI
  show xw K (_ ++ _) 211 [(0, .ref b), (1, .ref (aX 0)), (2, .ref (aM 0)), (3, .int (iI (i : Int)))] []
  obtain ⟨z, hze⟩ : ∃ z : Int, z = (xs (i + 1)).toInt := ⟨_, rfl⟩
  have hz : rng z := by rw [hze]; exact iI_rng _
  have hzx : xs (i + 1) = iI z := by rw [hze, iI_x]
  refine x_aload_n h dL_law_211 1 rfl ?_
  refine x_aload_n h dL_law_212 0 rfl ?_
  refine x_iload_n h dL_law_213 3 rfl ?_
  refine x_iconst h dL_law_214 ?_
  refine x_iadd h dL_law_215 ?_
  refine x_sld h hs (i + 1) (by omega) hi (by omega) dL_law_216 ?_
  refine x_int hzx ?_
  refine z_calli h [0, 1] rfl (cX_longest l D dB dS aX bu sc la ra tx pr nx sh le ti fe wo bl G n m hn hm hG htx hpr hb z hz) 1 (lw_V q137 q138 q139 q19 q140) (by decide +kernel) ⟨Nat.le_of_ble_eq_true rfl, Nat.le_of_ble_eq_true rfl⟩ (C := RX0) (ci := 0) rfl rfl rfl rfl (Nat.le_of_ble_eq_true rfl) dL_law_217 (fun r1 wr1 hr1 => ?_)
  refine x_aload_n h dL_law_220 2 rfl ?_
  refine x_aload_n h dL_law_221 0 rfl ?_
  refine x_iload_n h dL_law_222 3 rfl ?_
  refine x_iconst h dL_law_223 ?_
  refine x_iadd h dL_law_224 ?_
  refine x_sld h hs (i + 1) (by omega) hi (by omega) dL_law_225 ?_
  refine x_int hzx ?_
  refine x_swap ?_
  refine z_calli h [2] rfl (cM_longest l D dN aM li kn gg lp ll G n m hn hm hG hg1 hg2 hkn z hz) 1 (lw_V q242 q243 q244 q20 q245) (by decide +kernel) ⟨Nat.le_of_ble_eq_true rfl, Nat.le_of_ble_eq_true rfl⟩ (C := RX1) (ci := 1) rfl rfl rfl rfl (Nat.le_of_ble_eq_true rfl) dL_law_226 (fun r2 wr2 hr2 => ?_)
  refine x_swap ?_
  obtain ⟨hX2, hx2⟩ := hr1
  obtain ⟨hM2, hm2⟩ := hr2
  have he : r1 = r2 := by
    rcases hx2 with ⟨a1, a2⟩ | ⟨a1, a0, y1, a2, a3⟩ <;> rcases hm2 with ⟨b1, b2⟩ | ⟨b1, b0, y2, b2, b3⟩ <;> first | omega | rw [a2, b2, a3.uniq b3] | (rw [a2, b2]; done)
  exact x_ceq h 319 dL_law_229 (by decide) he (hx _ _ ⟨G, n, m, hn, hm, hG, hX2, hM2⟩)
theorem op_repeats {K : XK} {l : Launch} {D : va_G} {dB dS dN : ClassId} {aX aM : Nat → Nat} {b L : Nat} {xs : Nat → Int32} (h : xok K (JL l D dB dS dN) room_1 code R_law 4) (hs : xsc K b L xs) (hL : L ≤ 128) {i : Nat} (hi : i + 1 < L) {wx wm : va_W} (hI : LI aX dB dS aM dN wx wm)
    (hx : ∀ wx wm : va_W, LI aX dB dS aM dN wx wm → xw K (wx ++ wm) 319 (lvL b aX aM (i : Int)) []) : xw K (wx ++ wm) 234 (lvL b aX aM (i : Int)) [] := by
  obtain ⟨G, n, m, hn, hm, hG, ⟨bu, sc, la, ra, tx, pr, nx, sh, le, ti, fe, wo, bl, htx, hpr, hb, rfl⟩, ⟨li, kn, gg, lp, ll, hg1, hg2, hkn, rfl⟩⟩ := hI
  show xw K (_ ++ _) 234 [(0, .ref b), (1, .ref (aX 0)), (2, .ref (aM 0)), (3, .int (iI (i : Int)))] []
  refine x_aload_n h dL_law_234 1 rfl ?_
  refine z_calli h [0, 1] rfl (cX_repeats l D dB dS aX bu sc la ra tx pr nx sh le ti fe wo bl G n m hn hm hG htx hpr hb) 0 (lw_V q141 q142 q143 q19 q144) (by decide +kernel) ⟨Nat.le_of_ble_eq_true rfl, Nat.le_of_ble_eq_true rfl⟩ (C := RX0) (ci := 0) rfl rfl rfl rfl (Nat.le_of_ble_eq_true rfl) dL_law_235 (fun r1 wr1 hr1 => ?_)
  refine x_aload_n h dL_law_238 2 rfl ?_
  refine x_swap ?_
  refine z_calli h [2] rfl (cM_repeats l D dN aM li kn gg lp ll G n m hn hm hG hg1 hg2 hkn) 0 (lw_V q246 q247 q248 q20 q249) (by decide +kernel) ⟨Nat.le_of_ble_eq_true rfl, Nat.le_of_ble_eq_true rfl⟩ (C := RX1) (ci := 1) rfl rfl rfl rfl (Nat.le_of_ble_eq_true rfl) dL_law_239 (fun r2 wr2 hr2 => ?_)
  refine x_swap ?_
  obtain ⟨hX2, hx2⟩ := hr1
  obtain ⟨hM2, hm2⟩ := hr2
  have he : r1 = r2 := by
    obtain ⟨k, NX, SH, LE, EE, hS, a2⟩ := hx2
    rw [a2, hm2, repeats_of hS hG]
  exact x_ceq h 319 dL_law_242 (by decide) he (hx _ _ ⟨G, n, m, hn, hm, hG, hX2, hM2⟩)
theorem op_word {K : XK} {l : Launch} {D : va_G} {dB dS dN : ClassId} {aX aM : Nat → Nat} {b L : Nat} {xs : Nat → Int32} (h : xok K (JL l D dB dS dN) room_1 code R_law 4) (hs : xsc K b L xs) (hL : L ≤ 128) {i : Nat} (hi : i + 1 < L) {wx wm : va_W} (hI : LI aX dB dS aM dN wx wm)
    (hx : ∀ wx wm : va_W, LI aX dB dS aM dN wx wm → xw K (wx ++ wm) 319 (lvL b aX aM (i : Int)) []) : xw K (wx ++ wm) 247 (lvL b aX aM (i : Int)) [] := by
  obtain ⟨G, n, m, hn, hm, hG, ⟨bu, sc, la, ra, tx, pr, nx, sh, le, ti, fe, wo, bl, htx, hpr, hb, rfl⟩, ⟨li, kn, gg, lp, ll, hg1, hg2, hkn, rfl⟩⟩ := hI
  show xw K (_ ++ _) 247 [(0, .ref b), (1, .ref (aX 0)), (2, .ref (aM 0)), (3, .int (iI (i : Int)))] []
  obtain ⟨z, hze⟩ : ∃ z : Int, z = (xs (i + 1)).toInt := ⟨_, rfl⟩
  have hz : rng z := by rw [hze]; exact iI_rng _
  have hzx : xs (i + 1) = iI z := by rw [hze, iI_x]
  refine x_aload_n h dL_law_247 1 rfl ?_
  refine x_aload_n h dL_law_248 0 rfl ?_
  refine x_iload_n h dL_law_249 3 rfl ?_
  refine x_iconst h dL_law_250 ?_
  refine x_iadd h dL_law_251 ?_
  refine x_sld h hs (i + 1) (by omega) hi (by omega) dL_law_252 ?_
  refine x_int hzx ?_
  refine z_calli h [0, 1] rfl (cX_word l D dB dS aX bu sc la ra tx pr nx sh le ti fe wo bl G n m hn hm hG htx hpr hb z hz) 1 (lw_V q149 q150 q151 q19 q152) (by decide +kernel) ⟨Nat.le_of_ble_eq_true rfl, Nat.le_of_ble_eq_true rfl⟩ (C := RX0) (ci := 0) rfl rfl rfl rfl (Nat.le_of_ble_eq_true rfl) dL_law_253 (fun r1 wr1 hr1 => ?_)
  refine x_aload_n h dL_law_256 2 rfl ?_
  refine x_aload_n h dL_law_257 0 rfl ?_
  refine x_iload_n h dL_law_258 3 rfl ?_
  refine x_iconst h dL_law_259 ?_
  refine x_iadd h dL_law_260 ?_
  refine x_sld h hs (i + 1) (by omega) hi (by omega) dL_law_261 ?_
  refine x_int hzx ?_
  refine x_swap ?_
  refine z_calli h [2] rfl (cM_word l D dN aM li kn gg lp ll G n m hn hm hG hg1 hg2 hkn z hz) 1 (lw_V q258 q259 q260 q20 q261) (by decide +kernel) ⟨Nat.le_of_ble_eq_true rfl, Nat.le_of_ble_eq_true rfl⟩ (C := RX1) (ci := 1) rfl rfl rfl rfl (Nat.le_of_ble_eq_true rfl) dL_law_262 (fun r2 wr2 hr2 => ?_)
  refine x_swap ?_
  obtain ⟨hX2, hx2⟩ := hr1
  obtain ⟨hM2, hm2⟩ := hr2
  have he : r1 = r2 := by
    rcases hx2 with ⟨a1, a2⟩ | ⟨k1, e1, a1, y1, a2, a3⟩ <;> rcases hm2 with ⟨b1, b2⟩ | ⟨k2, e2, b1, y2, b2, b3⟩ <;> first | omega | (have ek : k1 = k2 := (by omega); subst ek; rw [a2, b2, a3.uniq b3]) | (rw [a2, b2]; done)
  exact x_ceq h 319 dL_law_265 (by decide) he (hx _ _ ⟨G, n, m, hn, hm, hG, hX2, hM2⟩)
theorem op_rank {K : XK} {l : Launch} {D : va_G} {dB dS dN : ClassId} {aX aM : Nat → Nat} {b L : Nat} {xs : Nat → Int32} (h : xok K (JL l D dB dS dN) room_1 code R_law 4) (hs : xsc K b L xs) (hL : L ≤ 128) {i : Nat} (hi : i + 1 < L) {wx wm : va_W} (hI : LI aX dB dS aM dN wx wm)
    (hx : ∀ wx wm : va_W, LI aX dB dS aM dN wx wm → xw K (wx ++ wm) 319 (lvL b aX aM (i : Int)) []) : xw K (wx ++ wm) 270 (lvL b aX aM (i : Int)) [] := by
  obtain ⟨G, n, m, hn, hm, hG, ⟨bu, sc, la, ra, tx, pr, nx, sh, le, ti, fe, wo, bl, htx, hpr, hb, rfl⟩, ⟨li, kn, gg, lp, ll, hg1, hg2, hkn, rfl⟩⟩ := hI
  show xw K (_ ++ _) 270 [(0, .ref b), (1, .ref (aX 0)), (2, .ref (aM 0)), (3, .int (iI (i : Int)))] []
  refine x_aload_n h dL_law_270 1 rfl ?_
  refine z_calli h [0, 1] rfl (cX_rank l D dB dS aX bu sc la ra tx pr nx sh le ti fe wo bl G n m hn hm hG htx hpr hb) 0 (lw_V q157 q158 q159 q19 q160) (by decide +kernel) ⟨Nat.le_of_ble_eq_true rfl, Nat.le_of_ble_eq_true rfl⟩ (C := RX0) (ci := 0) rfl rfl rfl rfl (Nat.le_of_ble_eq_true rfl) dL_law_271 (fun r1 wr1 hr1 => ?_)
  refine x_aload_n h dL_law_274 2 rfl ?_
  refine x_swap ?_
  refine z_calli h [2] rfl (cM_rank l D dN aM li kn gg lp ll G n m hn hm hG hg1 hg2 hkn) 0 (lw_V q270 q271 q272 q20 q273) (by decide +kernel) ⟨Nat.le_of_ble_eq_true rfl, Nat.le_of_ble_eq_true rfl⟩ (C := RX1) (ci := 1) rfl rfl rfl rfl (Nat.le_of_ble_eq_true rfl) dL_law_275 (fun r2 wr2 hr2 => ?_)
  refine x_swap ?_
  obtain ⟨hX2, hx2⟩ := hr1
  obtain ⟨hM2, hm2⟩ := hr2
  have he : r1 = r2 := by
    rcases hx2 with ⟨a1, a2⟩ | ⟨a1, a2⟩ <;> rcases hm2 with ⟨b1, b2⟩ | ⟨b1, b2⟩ <;> first | omega | rw [a2, b2]
  exact x_ceq h 319 dL_law_278 (by decide) he (hx _ _ ⟨G, n, m, hn, hm, hG, hX2, hM2⟩)
theorem op_common {K : XK} {l : Launch} {D : va_G} {dB dS dN : ClassId} {aX aM : Nat → Nat} {b L : Nat} {xs : Nat → Int32} (h : xok K (JL l D dB dS dN) room_1 code R_law 4) (hs : xsc K b L xs) (hL : L ≤ 128) {i : Nat} (hi : i + 1 < L) {wx wm : va_W} (hI : LI aX dB dS aM dN wx wm)
    (hx : ∀ wx wm : va_W, LI aX dB dS aM dN wx wm → xw K (wx ++ wm) 319 (lvL b aX aM (i : Int)) []) : xw K (wx ++ wm) 283 (lvL b aX aM (i : Int)) [] := by
  obtain ⟨G, n, m, hn, hm, hG, ⟨bu, sc, la, ra, tx, pr, nx, sh, le, ti, fe, wo, bl, htx, hpr, hb, rfl⟩, ⟨li, kn, gg, lp, ll, hg1, hg2, hkn, rfl⟩⟩ := hI
  show xw K (_ ++ _) 283 [(0, .ref b), (1, .ref (aX 0)), (2, .ref (aM 0)), (3, .int (iI (i : Int)))] []
  refine x_aload_n h dL_law_283 1 rfl ?_
  refine z_calli h [0, 1] rfl (cX_common l D dB dS aX bu sc la ra tx pr nx sh le ti fe wo bl G n m hn hm hG htx hpr hb) 0 (lw_V q161 q162 q163 q19 q164) (by decide +kernel) ⟨Nat.le_of_ble_eq_true rfl, Nat.le_of_ble_eq_true rfl⟩ (C := RX0) (ci := 0) rfl rfl rfl rfl (Nat.le_of_ble_eq_true rfl) dL_law_284 (fun r1 wr1 hr1 => ?_)
  refine x_aload_n h dL_law_287 2 rfl ?_
  refine x_swap ?_
  refine z_calli h [2] rfl (cM_common l D dN aM li kn gg lp ll G n m hn hm hG hg1 hg2 hkn) 0 (lw_V q274 q275 q276 q20 q277) (by decide +kernel) ⟨Nat.le_of_ble_eq_true rfl, Nat.le_of_ble_eq_true rfl⟩ (C := RX1) (ci := 1) rfl rfl rfl rfl (Nat.le_of_ble_eq_true rfl) dL_law_288 (fun r2 wr2 hr2 => ?_)
  refine x_swap ?_
  obtain ⟨hX2, hx2⟩ := hr1
  obtain ⟨hM2, hm2⟩ := hr2
  have he : r1 = r2 := by
    obtain ⟨y1, a2, a3⟩ := hx2
    obtain ⟨y2, b2, b3⟩ := hm2
    rw [a2, b2, a3.uniq b3]
  exact x_ceq h 319 dL_law_291 (by decide) he (hx _ _ ⟨G, n, m, hn, hm, hG, hX2, hM2⟩)
theorem op_unique {K : XK} {l : Launch} {D : va_G} {dB dS dN : ClassId} {aX aM : Nat → Nat} {b L : Nat} {xs : Nat → Int32} (h : xok K (JL l D dB dS dN) room_1 code R_law 4) (hs : xsc K b L xs) (hL : L ≤ 128) {i : Nat} (hi : i + 1 < L) {wx wm : va_W} (hI : LI aX dB dS aM dN wx wm)
    (hx : ∀ wx wm : va_W, LI aX dB dS aM dN wx wm → xw K (wx ++ wm) 319 (lvL b aX aM (i : Int)) []) : xw K (wx ++ wm) 296 (lvL b aX aM (i : Int)) [] := by
  obtain ⟨G, n, m, hn, hm, hG, ⟨bu, sc, la, ra, tx, pr, nx, sh, le, ti, fe, wo, bl, htx, hpr, hb, rfl⟩, ⟨li, kn, gg, lp, ll, hg1, hg2, hkn, rfl⟩⟩ := hI
  show xw K (_ ++ _) 296 [(0, .ref b), (1, .ref (aX 0)), (2, .ref (aM 0)), (3, .int (iI (i : Int)))] []
  obtain ⟨z, hze⟩ : ∃ z : Int, z = (xs (i + 1)).toInt := ⟨_, rfl⟩
  have hz : rng z := by rw [hze]; exact iI_rng _
  have hzx : xs (i + 1) = iI z := by rw [hze, iI_x]
  refine x_aload_n h dL_law_296 1 rfl ?_
  refine x_aload_n h dL_law_297 0 rfl ?_
  refine x_iload_n h dL_law_298 3 rfl ?_
  refine x_iconst h dL_law_299 ?_
  refine x_iadd h dL_law_300 ?_
  refine x_sld h hs (i + 1) (by omega) hi (by omega) dL_law_301 ?_
  refine x_int hzx ?_
  refine z_calli h [0, 1] rfl (cX_unique l D dB dS aX bu sc la ra tx pr nx sh le ti fe wo bl G n m hn hm hG htx hpr hb z hz) 1 (lw_V q165 q166 q167 q19 q168) (by decide +kernel) ⟨Nat.le_of_ble_eq_true rfl, Nat.le_of_ble_eq_true rfl⟩ (C := RX0) (ci := 0) rfl rfl rfl rfl (Nat.le_of_ble_eq_true rfl) dL_law_302 (fun r1 wr1 hr1 => ?_)
  refine x_aload_n h dL_law_305 2 rfl ?_
  refine x_aload_n h dL_law_306 0 rfl ?_
  refine x_iload_n h dL_law_307 3 rfl ?_
  refine x_iconst h dL_law_308 ?_
  refine x_iadd h dL_law_309 ?_
  refine x_sld h hs (i + 1) (by omega) hi (by omega) dL_law_310 ?_
  refine x_int hzx ?_
  refine x_swap ?_
  refine z_calli h [2] rfl (cM_unique l D dN aM li kn gg lp ll G n m hn hm hG hg1 hg2 hkn z hz) 1 (lw_V q278 q279 q280 q20 q281) (by decide +kernel) ⟨Nat.le_of_ble_eq_true rfl, Nat.le_of_ble_eq_true rfl⟩ (C := RX1) (ci := 1) rfl rfl rfl rfl (Nat.le_of_ble_eq_true rfl) dL_law_311 (fun r2 wr2 hr2 => ?_)
  refine x_swap ?_
  obtain ⟨hX2, hx2⟩ := hr1
  obtain ⟨hM2, hm2⟩ := hr2
  have he : r1 = r2 := by
    rcases hx2 with ⟨a1, a2⟩ | ⟨k1, e1, a1, y1, a2, a3⟩ <;> rcases hm2 with ⟨b1, b2⟩ | ⟨k2, e2, b1, y2, b2, b3⟩ <;> first | omega | (have ek : k1 = k2 := (by omega); subst ek; rw [a2, b2, a3.uniq b3]) | (rw [a2, b2]; done)
  exact x_ceq h 319 dL_law_314 (by decide) he (hx _ _ ⟨G, n, m, hn, hm, hG, hX2, hM2⟩)
end
section
/-! ===== the law's loop and its start ===== -/
set_option maxRecDepth 100000
theorem law_loop {K : XK} {l : Launch} {D : va_G} {dB dS dN : ClassId} {aX aM : Nat → Nat} {b L : Nat} {xs : Nat → Int32} (h : xok K (JL l D dB dS dN) room_1 code R_law 4) (hs : xsc K b L xs) (he : xen K b) (hL : L ≤ 128) :
    ∀ (f i : Nat) (x : Int) (wx wm : va_W), L < i + f → x = (i : Int) → i ≤ 130 → LI aX dB dS aM dN wx wm → xw K (wx ++ wm) 18 [(0, .ref b), (1, .ref (aX 0)), (2, .ref (aM 0)), (3, .int (iI x))] [] := by
  have hout : ∀ (lv : List (Nat × Value)) (wx wm : va_W), xw K (wx ++ wm) 325 lv [] := fun lv wx wm => by
    refine x_iconst h dL_law_325 ?_
    exact x_end h he dL_law_326
  intro f
  induction f with
  | zero =>
    intro i x wx wm hf hxx hi hI
    subst hxx
    refine x_iload_n h dL_law_18 3 rfl ?_
    refine x_aload_n h dL_law_19 0 rfl ?_
    refine x_slen h hs dL_law_20 ?_
    refine x_iconst h dL_law_21 ?_
    refine x_isub h dL_law_22 ?_
    refine x_icmp_gt h 325 dL_law_23 (by decide) (by omega) (by omega) (fun c_23 => hout _ _ _) (fun c_23 => ?_)
    omega
  | succ f ih =>
    intro i x wx wm hf hxx hi hI
    subst hxx
    refine x_iload_n h dL_law_18 3 rfl ?_
    refine x_aload_n h dL_law_19 0 rfl ?_
    refine x_slen h hs dL_law_20 ?_
    refine x_iconst h dL_law_21 ?_
    refine x_isub h dL_law_22 ?_
    refine x_icmp_gt h 325 dL_law_23 (by decide) (by omega) (by omega) (fun c_23 => hout _ _ _) (fun c_23 => ?_)
    have hiL : i + 1 < L := by omega
    have hx : ∀ wx wm : va_W, LI aX dB dS aM dN wx wm → xw K (wx ++ wm) 319 (lvL b aX aM (i : Int)) [] := by
      intro wx wm hI
      refine x_iinc h dL_law_319 3 rfl (by decide) [1, 2, 3, 0] [(0, .ref b), (1, .ref (aX 0)), (2, .ref (aM 0)), (3, .int (iI ((i : Int) + 2)))] rfl ?_
      refine x_goto h 18 dL_law_322 (by decide) ?_
      exact ih (i + 2) _ wx wm (by omega) (by omega) (by omega) hI
    refine x_aload_n h dL_law_26 0 rfl ?_
    refine x_iload_n h dL_law_27 3 rfl ?_
    refine x_sld h hs i rfl (by omega) (by omega) dL_law_28 ?_
    refine x_bipush h dL_law_29 (by decide) ?_
    refine x_iand h dL_law_31 ?_
    refine x_tsw h dL_law_32 319 (by decide) (hx wx wm hI) (fun j hj => ?_)
    rcases (show j = 0 ∨ j = 1 ∨ j = 2 ∨ j = 3 ∨ j = 4 ∨ j = 5 ∨ j = 6 ∨ j = 7 ∨ j = 8 ∨ j = 9 ∨ j = 10 ∨ j = 11 ∨ j = 12 by omega) with rfl | rfl | rfl | rfl | rfl | rfl | rfl | rfl | rfl | rfl | rfl | rfl | rfl
    · exact ⟨68, 100, rfl, by decide, op_type h hs hL hiL hI hx⟩
    · exact ⟨91, 123, rfl, by decide, op_shift h hs hL hiL hI hx⟩
    · exact ⟨104, 136, rfl, by decide, op_ask h hs hL hiL hI hx⟩
    · exact ⟨127, 159, rfl, by decide, op_wipe h hs hL hiL hI hx⟩
    · exact ⟨140, 172, rfl, by decide, op_count h hs hL hiL hI hx⟩
    · exact ⟨153, 185, rfl, by decide, op_place h hs hL hiL hI hx⟩
    · exact ⟨166, 198, rfl, by decide, op_words h hs hL hiL hI hx⟩
    · exact ⟨179, 211, rfl, by decide, op_longest h hs hL hiL hI hx⟩
    · exact ⟨202, 234, rfl, by decide, op_repeats h hs hL hiL hI hx⟩
    · exact ⟨215, 247, rfl, by decide, op_word h hs hL hiL hI hx⟩
    · exact ⟨238, 270, rfl, by decide, op_rank h hs hL hiL hI hx⟩
    · exact ⟨251, 283, rfl, by decide, op_common h hs hL hiL hI hx⟩
    · exact ⟨264, 296, rfl, by decide, op_unique h hs hL hiL hI hx⟩
set_option maxHeartbeats 4000000 in
theorem whole_start {p : Program} {e : Env} {s : State} {m : MethodId} {below : List Frame} {meth : Method} {c : Code} (l : Launch) {b L : Nat} {xs : Nat → Int32} (hL : L ≤ 128) (C0 : lw_At p s m meth c b L xs) : W p l e room_1 s m #[Value.ref b] below meth c s.heap [] 0 0 (lw_Z below #[Value.ref b] s) (entryFrame m ([Value.ref b] : List Value).toArray 4) := by
  obtain ⟨hx, hb, hr, hml, hown, hts0, hX, hbl, hlocks, hgv⟩ := id C0
  have hts : ∀ w ∈ lw_all, w.before #[Value.ref b] s = true := fun w h => hts0 w (lw_all_tbl h)
  have hA : ∀ q : Nat, s.heap.size ≤ q → (fun q : Nat => s.heap.size ≤ q) q := fun _ h => h
  have hbA : ¬ (fun q : Nat => s.heap.size ≤ q) b := Nat.not_le.mpr hbl
  obtain ⟨c0, iS0, hKn0⟩ := u_known (C := RX0) (T := TX0) (N := 15) (n := 15) hts in_X0 (hts _ q22)
  obtain ⟨c1, iS1, hKn1⟩ := u_known (C := RX1) (T := TX1) (N := 7) (n := 7) hts in_X1 (hts _ q170)
  obtain ⟨D, hKc⟩ : ∃ D : va_G, ∀ (k : Nat) (q : vw_C), vwCl[k]? = some q → u_Kn s q.1 q.2.1 q.2.2 (D.1 k) (D.2 k) := by
    refine ⟨(fun k => if k = 0 then c0 else c1, fun k => if k = 0 then iS0 else iS1), ?_⟩
    intro k q hq
    match k, hq with
    | 0, hq => cases hq; exact hKn0
    | 1, hq => cases hq; exact hKn1
    | k + 2, hq => simp [vwCl] at hq
  have hS : va_S (fun q : Nat => s.heap.size ≤ q) s.heap s.heap [] := va_S.rf
  have hK : va_K D vwCl [] s := ⟨hKc, fun k q h => by simp at h⟩
  have hP : va_P D vwCl [] s.heap := fun k q h => by simp at h
  have hD : va_D (fun q : Nat => s.heap.size ≤ q) [] := ⟨fun i j p q h => by simp at h, fun k q h => by simp at h⟩
  have hl := lv_entry ([.ref b]) (n := 4) (Nat.le_of_ble_eq_true rfl)
  rw [lg_entry_eq]
  generalize (lg_sl ([.ref b]) ++ List.replicate (4 - (lg_sl ([.ref b])).length) Slot.unset).toArray = ls at hl ⊢
  have hl : lv_has ls 4 [(0, .ref b)] := hl
  refine va_new (ci := 0) (fs := [.int 0, .null, .int 0, .null, .int 0, .int 0, .int 0, .null, .null, .null, .null, .null, .null, .null, .int 0]) (C := RX0) (T := TX0) (N := 15) hx hb hts in_X0 tyX0 tyX0_ok hown (hts _ q21) (hts _ q22) (hts _ q19) hK hP hD hS hA rfl (fun j hj => by rcases (show j = 0 ∨ j = 1 ∨ j = 2 ∨ j = 3 ∨ j = 4 ∨ j = 5 ∨ j = 6 ∨ j = 7 ∨ j = 8 ∨ j = 9 ∨ j = 10 ∨ j = 11 ∨ j = 12 ∨ j = 13 ∨ j = 14 by omega) with rfl | rfl | rfl | rfl | rfl | rfl | rfl | rfl | rfl | rfl | rfl | rfl | rfl | rfl | rfl <;> rfl) (Nat.le_of_ble_eq_true rfl) (Nat.le_of_ble_eq_true rfl) dL_law_0 (fun h0 H hP hD hS => ?_)
  have hP : va_P D vwCl ([(h0, .inr (0, [.int 0, .null, .int 0, .null, .int 0, .int 0, .int 0, .null, .null, .null, .null, .null, .null, .null, .int 0]))] ++ []) H := hP
  have hD : va_D (fun q : Nat => s.heap.size ≤ q) ([(h0, .inr (0, [.int 0, .null, .int 0, .null, .int 0, .int 0, .int 0, .null, .null, .null, .null, .null, .null, .null, .int 0]))] ++ []) := hD
  refine W.widen (k := 1) (n := 15) (Nat.le_of_ble_eq_true rfl) (Nat.le_of_ble_eq_true rfl) ?_
  refine lv_dup hx hb dL_law_3 rfl ?_
  have hPc := zP_l hP
  have hDc := zD_l hD
  have hKc := hK.sub (tys' := []) [] rfl
  have hFc := va_free (wc := [(h0, .inr (0, [.int 0, .null, .int 0, .null, .int 0, .int 0, .int 0, .null, .null, .null, .null, .null, .null, .null, .int 0]))]) hDc hS hA [0] rfl
  refine va_callv (va_runI (As := []) (rest := [.ref h0]) ⟨hx, hb, hml, hown, hts⟩ (cX_init l D h0 H.size) (cwI 0 hts (lw_meth q25) rfl rfl rfl (hts _ q19) (hts _ q23) (hts _ q24) rfl (by decide +kernel) ⟨Nat.le_of_ble_eq_true rfl, Nat.le_of_ble_eq_true rfl⟩) ⟨fun a U g mk q => by obtain ⟨q0, q1, qP, qK, qD⟩ := q; exact ⟨q0, q1, qP, va_K.moved (u := U) (U := U.calling g mk a) (Vm.Alike.refl U.vm) qK, qD⟩, fun U hU hW => ⟨rfl, by rw [hU], by rw [hU]; exact hPc, va_K.moved hW.alike hKc, hDc.weaken (fun _ _ _ _ => trivial)⟩⟩ rfl rfl hl.1 rfl (lv_room (Nat.le_of_ble_eq_true rfl)) dL_law_4 ⟨Nat.le_of_ble_eq_true rfl, Nat.le_of_ble_eq_true rfl⟩) hS (fun q _ h => hFc q h) hFc (fun uX t H1 locs ht hvm hw1 hB hz1 hk1 hS => ?_)
  obtain ⟨hP1, hK1, hD1⟩ := hB
  rw [ht] at hP1
  have hK1 := va_K.moved hvm.symm hK1
  obtain ⟨hP, hD⟩ := z_join hP hD hk1 hFc hP1 hD1
  have hP : va_P D vwCl (wX uX.1 uX.2.1 uX.2.2 0 0 0 0 0 0 z0 z0 z0 z0 z0 z0 z0 z0 z0) H1 := zP_l hP
  have hD : va_D (fun q : Nat => s.heap.size ≤ q) (wX uX.1 uX.2.1 uX.2.2 0 0 0 0 0 0 z0 z0 z0 z0 z0 z0 z0 z0 z0) := zD_l hD
  have hw1 : uX.1 0 = h0 := hw1
  refine W.widen (k := 10) (n := 551) (Nat.le_of_ble_eq_true rfl) (Nat.le_of_ble_eq_true rfl) ?_
  refine lv_astore_n (lv' := [(1, .ref h0), (0, .ref b)]) hx hb dL_law_7 rfl hl (by decide) rfl (fun ls hl => ?_)
  refine va_new (ci := 1) (fs := [.null, .int 0, .int 0, .null, .null, .int 0, .int 0]) (C := RX1) (T := TX1) (N := 7) hx hb hts in_X1 tyX1 tyX1_ok hown (hts _ q169) (hts _ q170) (hts _ q20) hK1 hP hD hS hA rfl (fun j hj => by rcases (show j = 0 ∨ j = 1 ∨ j = 2 ∨ j = 3 ∨ j = 4 ∨ j = 5 ∨ j = 6 by omega) with rfl | rfl | rfl | rfl | rfl | rfl | rfl <;> rfl) (Nat.le_of_ble_eq_true rfl) (Nat.le_of_ble_eq_true rfl) dL_law_8 (fun h1 H hP hD hS => ?_)
  have hP := zP_s hP
  have hD := zD_s hD
  refine W.widen (k := 11) (n := 558) (Nat.le_of_ble_eq_true rfl) (Nat.le_of_ble_eq_true rfl) ?_
  refine lv_dup hx hb dL_law_11 rfl ?_
  have hPc := zP_l hP
  have hDc := zD_l hD
  have hKc := hK.sub (tys' := []) [] rfl
  have hFc := va_free (wc := [(h1, .inr (1, [.null, .int 0, .int 0, .null, .null, .int 0, .int 0]))]) hDc hS hA [0] rfl
  refine va_callv (va_runI (As := []) (rest := [.ref h1]) ⟨hx, hb, hml, hown, hts⟩ (cM_init l D h1 H.size) (cwI 0 hts (lw_meth q173) rfl rfl rfl (hts _ q20) (hts _ q171) (hts _ q172) rfl (by decide +kernel) ⟨Nat.le_of_ble_eq_true rfl, Nat.le_of_ble_eq_true rfl⟩) ⟨fun a U g mk q => by obtain ⟨q0, q1, qP, qK, qD⟩ := q; exact ⟨q0, q1, qP, va_K.moved (u := U) (U := U.calling g mk a) (Vm.Alike.refl U.vm) qK, qD⟩, fun U hU hW => ⟨rfl, by rw [hU], by rw [hU]; exact hPc, va_K.moved hW.alike hKc, hDc.weaken (fun _ _ _ _ => trivial)⟩⟩ rfl rfl hl.1 rfl (lv_room (Nat.le_of_ble_eq_true rfl)) dL_law_12 ⟨Nat.le_of_ble_eq_true rfl, Nat.le_of_ble_eq_true rfl⟩) hS (fun q _ h => hFc q h) hFc (fun uM t H2 locs ht hvm hw2 hB hz1 hk1 hS => ?_)
  obtain ⟨hP1, hK2, hD1⟩ := hB
  rw [ht] at hP1
  have hK2 := va_K.moved hvm.symm hK2
  obtain ⟨hP, hD⟩ := z_join hP hD hk1 hFc hP1 hD1
  have hP := zP_s hP
  have hD := zD_s hD
  have hw2 : uM.1 0 = h1 := hw2
  refine W.widen (k := 600000) (n := 7290000) (Nat.le_of_ble_eq_true rfl) (Nat.le_of_ble_eq_true rfl) ?_
  refine lv_astore_n (lv' := [(2, .ref h1), (1, .ref h0), (0, .ref b)]) hx hb dL_law_15 rfl hl (by decide) rfl (fun ls hl => ?_)
  refine lv_iconst (v := iI 0) hx hb dL_law_16 (by decide) ?_
  refine lv_istore_n (lv' := [(3, .int (iI 0)), (2, .ref h1), (1, .ref h0), (0, .ref b)]) hx hb dL_law_17 rfl hl (by decide) rfl (fun ls hl => ?_)
  have hKL : va_K D vwCl [(uX.2.1, .byte), (uX.2.2, .short), (uM.2, .int)] s := hK1.app hK2
  have hLI : LI uX.1 uX.2.1 uX.2.2 uM.1 uM.2 (wX uX.1 uX.2.1 uX.2.2 0 0 0 0 0 0 z0 z0 z0 z0 z0 z0 z0 z0 z0) (wM uM.1 uM.2 0 0 0 0 z0 z0 z0) := ⟨fun _ => 0, 0, 0, by omega, by omega, fun _ => Nat.le_of_ble_eq_true rfl, ⟨0, 0, 0, 0, z0, z0, z0, z0, z0, z0, z0, z0, z0, fun i hi => by omega, fun i hi => by omega, Or.inl rfl, rfl⟩, ⟨0, 0, z0, z0, z0, fun i hi => by omega, fun i hi => by omega, Or.inl rfl, rfl⟩⟩
  have hgo := law_loop (K := (p, l, e, room_1, s, m, #[Value.ref b], below, meth, c, (600000, 7290000), lw_Z below #[Value.ref b] s, (fun q : Nat => s.heap.size ≤ q), D, [(uX.2.1, .byte), (uX.2.2, .short), (uM.2, .int)])) (l := l) (D := D) (dB := uX.2.1) (dS := uX.2.2) (dN := uM.2) (aX := uX.1) (aM := uM.1) (b := b) (L := L) (xs := xs)
    ⟨hx, hb, hml, hown, hts, hKL, hA, hlocks, rfl, rfl, rfl, rfl, Nat.le_refl _, Nat.le_refl _⟩ ⟨hX, hbl, hbA⟩ ⟨rfl, rfl, rfl, rfl, rfl, hr, fun _ h => h⟩ hL (L + 1) 0 0 _ _ (by omega) rfl (by omega) hLI H2 locs ls hP hD hS (by
      rw [hml, hw1, hw2]
      exact lv_sub hl [3, 2, 1, 0] rfl)
  exact hgo
end
section
set_option maxRecDepth 100000
set_option maxHeartbeats 4000000 in
theorem lw_walk (l : Launch) (b : Addr) (xs : List Int32) : MetFree l x (headSpec (Jvm.Cond.code x code maxLocals ret :: tables_1) room_1) (lw_P b xs) (fun _ _ _ _ _ => True) lw_Q := by
  refine MetFree.of_bodyS (code := code) (maxLocals := maxLocals) (ret := ret) (by decide) ?_ ?_
  · intro args s m h hn
    obtain ⟨meth, c, h1, h2, h3, h4, h5, h6, -, -⟩ := Cond.code_spec hn (atoms_spec (ws := Jvm.Cond.code x code maxLocals ret :: tables_1) h _ List.mem_cons_self)
    exact ⟨meth, c, h1, h2, h3, h4, h5, h6⟩
  · intro p e s m args below meth c s₁ B hml0 hP _
    obtain ⟨rfl, hx, hbd, hgv⟩ := hP
    obtain ⟨scr, harrAt, hlist, hof, hsmall⟩ := hx
    obtain ⟨hcb, hkn, -, -⟩ := State.arrayAt?_spec harrAt
    have hown : s.vm.findClass R_law = some m.cls := findClass_of_methodNamed B.named
    have hts0 : ∀ c ∈ (Jvm.Cond.code x code maxLocals ret :: tables_1), c.before #[Value.ref b] s = true := atoms_spec (ws := Jvm.Cond.code x code maxLocals ret :: tables_1) B.pre
    have hts : ∀ w ∈ lw_tbl, w.before #[Value.ref b] s = true := k2_hts_sels lw_privs (fun w hw => hts0 w (List.mem_cons_of_mem _ hw)) lw_privs_ok
    have hml : c.maxLocals = 4 := B.maxLocals_eq (hts0 _ List.mem_cons_self)
    have X₀ : Stand p l e room_1 s m #[Value.ref b] below meth c s₁ [] 0 0 := Stand.of_body B
    have hh0 : s₁.heap = s.heap := by rw [B.state]; rfl
    have hsz : scr.slots.size = xs.length := by rw [← Array.length_toList, hlist, List.length_map]
    have hval : ∀ j : Nat, j < xs.length → scr.slots[j]? = some (.int (xs.getD j 0)) := fun j hj => by
      rw [← Array.getElem?_toList, hlist]
      simp [hj]
    have hbl : b < s.heap.size := (Array.getElem?_eq_some_iff.mp hcb).1
    have hX : va_X b xs.length (fun j => xs.getD j 0) s s.heap := ⟨scr, hcb, hof, hkn, hsz, hval⟩
    have K : W p l e room_1 s m #[Value.ref b] below meth c s₁.heap [] 0 0 (lw_Z below #[Value.ref b] s) (entryFrame m ([Value.ref b] : List Value).toArray 4) := by
      rw [hh0]
      exact whole_start l hbd ⟨B.exec, B.bytes, B.returns, hml, hown, hts, hX, hbl, B.notSynchronized, hgv⟩
    obtain ⟨t, a1, o, b1, b2, b3⟩ := K s₁ rfl X₀
    exact ⟨t, o, a1, b1, b2, b3⟩
theorem lw_pre_spec {args : Array Value} {s : State} (h : (Jvm.Cond.and given_1 narrow_1).before args s = true) (hr : rest_1_c.before args s = true) : ∃ (b : Addr) (xs : List Int32), lw_P b xs args s := by
  have hs := flat_of_before _ h
  have hq := flat_of_before _ hr
  have hc : (Cond.count 1).before args s = true := hs _ (by decide +kernel)
  have harr : (Cond.arrayOf (.arg 0) .int).before args s = true := hs _ (by decide +kernel)
  have hle : (Cond.le (.length (.arg 0)) (.int 128)).before args s = true := hs _ (by decide +kernel)
  have hlen : (Cond.isInt (.length (.arg 0))).before args s = true := hq _ (by decide +kernel)
  have hall : (Cond.all (.arg 0) (.isInt (.elem (.arg 0) (.index 0)))).before args s = true := hq _ (by decide +kernel)
  obtain ⟨b, xs, hb, hx⟩ := State.ints_of_pre rfl harr hlen hall
  have hsm : xs.length < 2 ^ 31 := hx.choose_spec.2.2.2
  have hev : (Term.length (.arg 0)).eval args s none [] s = some (.int xs.length.toInt32) := hx.length_eval hb
  have hv := Cond.le_ints hev (show (Term.int 128).eval args s none [] s = some (.int 128) from rfl)
  have hd : xs.length.toInt32 ≤ 128 := by
    simpa [Cond.before, Cond.holds, hv] using hle
  have hN : xs.length ≤ 128 := (Int32.ofNat_le_ofNat hsm (by decide)).mp (show Int32.ofNat xs.length ≤ Int32.ofNat 128 from hd)
  exact ⟨b, xs, Cond.one_arg hc (show args[0]? = some (.ref b) from hb), hx, hN, h⟩
theorem lw_comes (l : Launch) : Comes l x (Jvm.Cond.code x code maxLocals ret :: tables_1) room_1 (fun tb e args s => Calls_1 tb e args s ∧ rest_1 tb e args s ∧ Pre_1 tb e args s)
    (fun _ _ args s o t => lw_Q args s o t) := by
  intro p e ha hc hk s m args below hf hfit hheap happ hpre
  obtain ⟨b, xs, hP⟩ := lw_pre_spec hpre.2.2 hpre.2.1
  obtain ⟨k, o, h1, h2, h3, hQ⟩ := lw_walk l b xs p e ha hc hk s m args below hf ((Spec.applies_iff_loose hf).mp happ).1 hP trivial
  exact ⟨k, o, h1, h2, h3, hQ⟩
theorem lw_frame {s t : State} {o : Outcome} {args : Array Value} (h : Framed s o t [] 600000 7290000) :
    Framed s o t (fieldLocs frame_1_writes args s ++ arrayLocs frame_1_arrays args s ++ staticLocs frame_1_statics s) 600000 7290000 := h
theorem lw_limb (L : Cond) (hL : ∀ (args : Array Value) (s t : State), L.after args s (.returned (some (.int 1))) t = true) :
    ArmFor flags0 classFile x code maxLocals ret World_1 tables_1 room_1 Calls_1 rest_1 Pre_1
      (fun tb e a s o t => postC L tb e a s o t ∧ Framed s o t (fieldLocs frame_1_writes a s ++ arrayLocs frame_1_arrays a s ++ staticLocs frame_1_statics s) 600000 7290000) := by
  intro l _ _ _ p e ha hc hk s m args below hf hfit hheap happ hpre
  obtain ⟨k, o, h1, h2, h3, rfl, hF⟩ := lw_comes l p e ha hc hk s m args below hf hfit hheap happ hpre
  exact ⟨k, _, h1, h2, h3, hL args s _, lw_frame hF⟩
theorem i_vc : Claimed_1_1 ∧ Claimed_1_2 := ⟨lw_limb limb_1_1 (fun args s t => by simp [limb_1_1, Cond.after, Cond.holds, Cond.value]), lw_limb limb_1_2 (fun args s t => Cond.after_iff.mpr (by
  first | (rw [show limb_1_2 = Cond.eq .result (.int 1) from rfl, Cond.eq_ints (x := 1) (y := 1) rfl rfl]; simp; done) | (simp [limb_1_2, Cond.value, Term.eval]; done)))⟩
end
